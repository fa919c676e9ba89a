section
-- ===== PART A: goes FIRST, ahead of the names: the tables' words, and 'selects' of the private methods out of them =====
/-- a private method of a class that the tables say can be made, by its rows of tables_1 -/
def lw_okq (q : MethodName × Nat) : Prop := (q.1.cls ≠ "java/lang/invoke/MethodHandle" ∧ q.1.cls ≠ "java/lang/invoke/VarHandle") ∧ Cond.instantiable q.1.cls q.2 ∈ tables_1 ∧ Cond.privateMethod q.1 ∈ tables_1 ∧ Cond.instanceMethod q.1 ∈ tables_1
set_option maxRecDepth 100000
theorem lw_t1 {w : Cond} (h : w ∈ tables_1_1) : w ∈ tables_1 := List.mem_append_left _ h
theorem lw_t2 {w : Cond} (h : w ∈ tables_1_2) : w ∈ tables_1 := List.mem_append_right _ h
theorem lw_p0 : lw_okq (⟨"PathFamilies", "sizeOf", "(I)I"⟩, 13) := ⟨⟨by decide +kernel, by decide +kernel⟩, lw_t1 (List.mem_of_getElem? (i := 4) rfl), lw_t1 (List.mem_of_getElem? (i := 59) rfl), lw_t1 (List.mem_of_getElem? (i := 60) rfl)⟩
theorem lw_p1 : lw_okq (⟨"PathFamilies", "badCell", "(I)Z"⟩, 13) := ⟨⟨by decide +kernel, by decide +kernel⟩, lw_t1 (List.mem_of_getElem? (i := 4) rfl), lw_t1 (List.mem_of_getElem? (i := 67) rfl), lw_t1 (List.mem_of_getElem? (i := 68) rfl)⟩
theorem lw_p2 : lw_okq (⟨"PathFamilies", "reopen", "()V"⟩, 13) := ⟨⟨by decide +kernel, by decide +kernel⟩, lw_t1 (List.mem_of_getElem? (i := 4) rfl), lw_t1 (List.mem_of_getElem? (i := 79) rfl), lw_t1 (List.mem_of_getElem? (i := 80) rfl)⟩
theorem lw_p3 : lw_okq (⟨"PathFamilies", "findWays", "(IZ)V"⟩, 13) := ⟨⟨by decide +kernel, by decide +kernel⟩, lw_t1 (List.mem_of_getElem? (i := 4) rfl), lw_t1 (List.mem_of_getElem? (i := 83) rfl), lw_t1 (List.mem_of_getElem? (i := 84) rfl)⟩
theorem lw_p4 : lw_okq (⟨"PathFamilies", "countWithout", "(II)I"⟩, 13) := ⟨⟨by decide +kernel, by decide +kernel⟩, lw_t1 (List.mem_of_getElem? (i := 4) rfl), lw_t1 (List.mem_of_getElem? (i := 91) rfl), lw_t1 (List.mem_of_getElem? (i := 92) rfl)⟩
theorem lw_p5 : lw_okq (⟨"PathFamilies", "count", "(IZ)I"⟩, 13) := ⟨⟨by decide +kernel, by decide +kernel⟩, lw_t1 (List.mem_of_getElem? (i := 4) rfl), lw_t1 (List.mem_of_getElem? (i := 95) rfl), lw_t1 (List.mem_of_getElem? (i := 96) rfl)⟩
theorem lw_p6 : lw_okq (⟨"PathFamilies", "fillMatrix", "(IZ)V"⟩, 13) := ⟨⟨by decide +kernel, by decide +kernel⟩, lw_t1 (List.mem_of_getElem? (i := 4) rfl), lw_t1 (List.mem_of_getElem? (i := 99) rfl), lw_t1 (List.mem_of_getElem? (i := 100) rfl)⟩
theorem lw_p7 : lw_okq (⟨"PathFamilies", "determinant", "(I)I"⟩, 13) := ⟨⟨by decide +kernel, by decide +kernel⟩, lw_t1 (List.mem_of_getElem? (i := 4) rfl), lw_t1 (List.mem_of_getElem? (i := 103) rfl), lw_t1 (List.mem_of_getElem? (i := 104) rfl)⟩
theorem lw_p8 : lw_okq (⟨"PathFamilies", "lastThree", "()I"⟩, 13) := ⟨⟨by decide +kernel, by decide +kernel⟩, lw_t1 (List.mem_of_getElem? (i := 4) rfl), lw_t1 (List.mem_of_getElem? (i := 107) rfl), lw_t1 (List.mem_of_getElem? (i := 108) rfl)⟩
theorem lw_p9 : lw_okq (⟨"PathFamilies", "two", "(IIII)I"⟩, 13) := ⟨⟨by decide +kernel, by decide +kernel⟩, lw_t1 (List.mem_of_getElem? (i := 4) rfl), lw_t1 (List.mem_of_getElem? (i := 111) rfl), lw_t1 (List.mem_of_getElem? (i := 112) rfl)⟩
theorem lw_p10 : lw_okq (⟨"PathFamilies", "allFour", "()I"⟩, 13) := ⟨⟨by decide +kernel, by decide +kernel⟩, lw_t1 (List.mem_of_getElem? (i := 4) rfl), lw_t1 (List.mem_of_getElem? (i := 115) rfl), lw_t1 (List.mem_of_getElem? (i := 116) rfl)⟩
theorem lw_p11 : lw_okq (⟨"PathFamilies", "findPath", "(II)I"⟩, 13) := ⟨⟨by decide +kernel, by decide +kernel⟩, lw_t1 (List.mem_of_getElem? (i := 4) rfl), lw_t1 (List.mem_of_getElem? (i := 139) rfl), lw_t1 (List.mem_of_getElem? (i := 140) rfl)⟩
theorem lw_p12 : lw_okq (⟨"PathFamilies", "countRight", "(II)I"⟩, 13) := ⟨⟨by decide +kernel, by decide +kernel⟩, lw_t1 (List.mem_of_getElem? (i := 4) rfl), lw_t1 (List.mem_of_getElem? (i := 143) rfl), lw_t1 (List.mem_of_getElem? (i := 144) rfl)⟩
theorem lw_p13 : lw_okq (⟨"PathFamilies", "mayRight", "(I)Z"⟩, 13) := ⟨⟨by decide +kernel, by decide +kernel⟩, lw_t1 (List.mem_of_getElem? (i := 4) rfl), lw_t1 (List.mem_of_getElem? (i := 147) rfl), lw_t1 (List.mem_of_getElem? (i := 148) rfl)⟩
theorem lw_p14 : lw_okq (⟨"PathFamiliesModel", "size", "(I)I"⟩, 15) := ⟨⟨by decide +kernel, by decide +kernel⟩, lw_t1 (List.mem_of_getElem? (i := 163) rfl), lw_t1 (List.mem_of_getElem? (i := 219) rfl), lw_t1 (List.mem_of_getElem? (i := 220) rfl)⟩
theorem lw_p15 : lw_okq (⟨"PathFamiliesModel", "unload", "()V"⟩, 15) := ⟨⟨by decide +kernel, by decide +kernel⟩, lw_t1 (List.mem_of_getElem? (i := 163) rfl), lw_t1 (List.mem_of_getElem? (i := 223) rfl), lw_t1 (List.mem_of_getElem? (i := 224) rfl)⟩
def lw_privs_1 : List (MethodName × Nat) := [(⟨"PathFamilies", "sizeOf", "(I)I"⟩, 13), (⟨"PathFamilies", "badCell", "(I)Z"⟩, 13), (⟨"PathFamilies", "reopen", "()V"⟩, 13), (⟨"PathFamilies", "findWays", "(IZ)V"⟩, 13), (⟨"PathFamilies", "countWithout", "(II)I"⟩, 13), (⟨"PathFamilies", "count", "(IZ)I"⟩, 13), (⟨"PathFamilies", "fillMatrix", "(IZ)V"⟩, 13), (⟨"PathFamilies", "determinant", "(I)I"⟩, 13), (⟨"PathFamilies", "lastThree", "()I"⟩, 13), (⟨"PathFamilies", "two", "(IIII)I"⟩, 13), (⟨"PathFamilies", "allFour", "()I"⟩, 13), (⟨"PathFamilies", "findPath", "(II)I"⟩, 13), (⟨"PathFamilies", "countRight", "(II)I"⟩, 13), (⟨"PathFamilies", "mayRight", "(I)Z"⟩, 13), (⟨"PathFamiliesModel", "size", "(I)I"⟩, 15), (⟨"PathFamiliesModel", "unload", "()V"⟩, 15)]
theorem lw_r1 : ∀ q ∈ lw_privs_1, lw_okq q := List.forall_mem_cons.mpr ⟨lw_p0, List.forall_mem_cons.mpr ⟨lw_p1, List.forall_mem_cons.mpr ⟨lw_p2, List.forall_mem_cons.mpr ⟨lw_p3, List.forall_mem_cons.mpr ⟨lw_p4, List.forall_mem_cons.mpr ⟨lw_p5, List.forall_mem_cons.mpr ⟨lw_p6, List.forall_mem_cons.mpr ⟨lw_p7, List.forall_mem_cons.mpr ⟨lw_p8, List.forall_mem_cons.mpr ⟨lw_p9, List.forall_mem_cons.mpr ⟨lw_p10, List.forall_mem_cons.mpr ⟨lw_p11, List.forall_mem_cons.mpr ⟨lw_p12, List.forall_mem_cons.mpr ⟨lw_p13, List.forall_mem_cons.mpr ⟨lw_p14, List.forall_mem_cons.mpr ⟨lw_p15, fun _ h => absurd h List.not_mem_nil⟩⟩⟩⟩⟩⟩⟩⟩⟩⟩⟩⟩⟩⟩⟩⟩
theorem lw_p16 : lw_okq (⟨"PathFamiliesModel", "noCell", "(I)Z"⟩, 15) := ⟨⟨by decide +kernel, by decide +kernel⟩, lw_t1 (List.mem_of_getElem? (i := 163) rfl), lw_t1 (List.mem_of_getElem? (i := 231) rfl), lw_t1 (List.mem_of_getElem? (i := 232) rfl)⟩
theorem lw_p17 : lw_okq (⟨"PathFamiliesModel", "ways", "(II)I"⟩, 15) := ⟨⟨by decide +kernel, by decide +kernel⟩, lw_t1 (List.mem_of_getElem? (i := 163) rfl), lw_t2 (List.mem_of_getElem? (i := 3) rfl), lw_t2 (List.mem_of_getElem? (i := 4) rfl)⟩
theorem lw_p18 : lw_okq (⟨"PathFamiliesModel", "begin", "()V"⟩, 15) := ⟨⟨by decide +kernel, by decide +kernel⟩, lw_t1 (List.mem_of_getElem? (i := 163) rfl), lw_t2 (List.mem_of_getElem? (i := 11) rfl), lw_t2 (List.mem_of_getElem? (i := 12) rfl)⟩
theorem lw_p19 : lw_okq (⟨"PathFamiliesModel", "step", "(II)V"⟩, 15) := ⟨⟨by decide +kernel, by decide +kernel⟩, lw_t1 (List.mem_of_getElem? (i := 163) rfl), lw_t2 (List.mem_of_getElem? (i := 15) rfl), lw_t2 (List.mem_of_getElem? (i := 16) rfl)⟩
theorem lw_p20 : lw_okq (⟨"PathFamiliesModel", "nextFamily", "(Z)Z"⟩, 15) := ⟨⟨by decide +kernel, by decide +kernel⟩, lw_t1 (List.mem_of_getElem? (i := 163) rfl), lw_t2 (List.mem_of_getElem? (i := 19) rfl), lw_t2 (List.mem_of_getElem? (i := 20) rfl)⟩
theorem lw_p21 : lw_okq (⟨"PathFamiliesModel", "goOn", "()V"⟩, 15) := ⟨⟨by decide +kernel, by decide +kernel⟩, lw_t1 (List.mem_of_getElem? (i := 163) rfl), lw_t2 (List.mem_of_getElem? (i := 23) rfl), lw_t2 (List.mem_of_getElem? (i := 24) rfl)⟩
theorem lw_p22 : lw_okq (⟨"PathFamiliesModel", "stepBack", "()V"⟩, 15) := ⟨⟨by decide +kernel, by decide +kernel⟩, lw_t1 (List.mem_of_getElem? (i := 163) rfl), lw_t2 (List.mem_of_getElem? (i := 27) rfl), lw_t2 (List.mem_of_getElem? (i := 28) rfl)⟩
theorem lw_p23 : lw_okq (⟨"PathFamiliesModel", "complete", "()Z"⟩, 15) := ⟨⟨by decide +kernel, by decide +kernel⟩, lw_t1 (List.mem_of_getElem? (i := 163) rfl), lw_t2 (List.mem_of_getElem? (i := 31) rfl), lw_t2 (List.mem_of_getElem? (i := 32) rfl)⟩
def lw_privs_2 : List (MethodName × Nat) := [(⟨"PathFamiliesModel", "noCell", "(I)Z"⟩, 15), (⟨"PathFamiliesModel", "ways", "(II)I"⟩, 15), (⟨"PathFamiliesModel", "begin", "()V"⟩, 15), (⟨"PathFamiliesModel", "step", "(II)V"⟩, 15), (⟨"PathFamiliesModel", "nextFamily", "(Z)Z"⟩, 15), (⟨"PathFamiliesModel", "goOn", "()V"⟩, 15), (⟨"PathFamiliesModel", "stepBack", "()V"⟩, 15), (⟨"PathFamiliesModel", "complete", "()Z"⟩, 15)]
theorem lw_r2 : ∀ q ∈ lw_privs_2, lw_okq q := List.forall_mem_cons.mpr ⟨lw_p16, List.forall_mem_cons.mpr ⟨lw_p17, List.forall_mem_cons.mpr ⟨lw_p18, List.forall_mem_cons.mpr ⟨lw_p19, List.forall_mem_cons.mpr ⟨lw_p20, List.forall_mem_cons.mpr ⟨lw_p21, List.forall_mem_cons.mpr ⟨lw_p22, List.forall_mem_cons.mpr ⟨lw_p23, fun _ h => absurd h List.not_mem_nil⟩⟩⟩⟩⟩⟩⟩⟩
def lw_privs : List (MethodName × Nat) := lw_privs_1 ++ (lw_privs_2)
def lw_tbl : List Cond := k2_sels lw_privs ++ tables_1
theorem lw_privs_ok : ∀ q ∈ lw_privs, lw_okq q := by
  show ∀ q ∈ lw_privs_1 ++ (lw_privs_2), lw_okq q
  exact List.forall_mem_append.mpr ⟨lw_r1, lw_r2⟩
-- ===== ONE list of words for every method: the tables' words that hold all through a run =====
def lw_all : List Cond := lw_tbl.filter goodWord
/-- a word of the tables by its place: claim/WORDS.tsv -/
theorem lw_w {w : Cond} (i : Nat) (h : lw_tbl[i]? = some w) (g : goodWord w = true) : w ∈ lw_all := List.mem_filter.mpr ⟨List.mem_of_getElem? h, g⟩
theorem lw_all_tbl {w : Cond} (h : w ∈ lw_all) : w ∈ lw_tbl := (List.mem_filter.mp h).1
theorem lw_self : GoodIn lw_all lw_all := fun w h => ⟨h, good_of_word (List.mem_filter.mp h).2⟩
/-- a class's field words, by their places -/
theorem lw_in (ws : List Cond) (ps : List Nat) (hp : ws = ps.filterMap (fun i => lw_tbl[i]?)) (hg : ws.all goodWord = true) : ∀ w ∈ ws, w ∈ lw_all := by
  intro w h
  have h1 := List.all_eq_true.mp hg w h
  rw [hp] at h
  obtain ⟨i, -, hi⟩ := List.mem_filterMap.mp h
  exact lw_w i hi h1
/-- the words of a contract for the method y with code b, L locals, answer r -/
abbrev ws_ (y : MethodName) (b : ByteArray) (L : Nat) (r : Option FieldType) : List Cond := Cond.code y b L r :: lw_all
theorem lw_meth {y : MethodName} {b : ByteArray} {L : Nat} {r : Option FieldType} (h : Cond.code y b L r ∈ lw_all) : GoodIn lw_all (ws_ y b L r) := by
  intro w hw
  rcases List.mem_cons.mp hw with e | e
  · rw [e]
    exact lw_self _ h
  · exact lw_self _ e
theorem lw_app {a c : List Cond} (ha : ∀ w ∈ a, w ∈ lw_all) (hc : GoodIn lw_all c) : GoodIn lw_all (a ++ c) := by
  intro w hw
  rcases List.mem_append.mp hw with e | e
  · exact lw_self w (ha w e)
  · exact hc w e
/-- what a call through an object asks: cwV n hts (lw_V ..) -/
theorem lw_V {own : String} {idx : Nat} {C : String} {y : MethodName} {b : ByteArray} {L : Nat} {r : Option FieldType} (h1 : Cond.methodLink own idx y ∈ lw_all) (h2 : Cond.instanceMethod y ∈ lw_all) (h3 : Cond.selects C y y ∈ lw_all) (h4 : Cond.initialized C ∈ lw_all) (h5 : Cond.code y b L r ∈ lw_all) : GoodIn lw_all (wsV own idx C y (ws_ y b L r)) := by
  refine lw_app ?_ (lw_meth h5)
  intro w hw
  simp only [List.mem_cons, List.not_mem_nil, or_false] at hw
  rcases hw with e | e | e | e
  · rw [e]; exact h1
  · rw [e]; exact h2
  · rw [e]; exact h3
  · rw [e]; exact h4
/-- what a static call asks: va_cwS n hts (lw_S ..) -/
theorem lw_S {own : String} {idx : Nat} {y : MethodName} {b : ByteArray} {L : Nat} {r : Option FieldType} (h1 : Cond.methodLink own idx y ∈ lw_all) (h2 : Cond.static y ∈ lw_all) (h3 : Cond.initialized y.cls ∈ lw_all) (h4 : Cond.code y b L r ∈ lw_all) : GoodIn lw_all (va_wsS own idx y (ws_ y b L r)) := by
  refine lw_app ?_ (lw_meth h4)
  intro w hw
  simp only [List.mem_cons, List.not_mem_nil, or_false] at hw
  rcases hw with e | e | e
  · rw [e]; exact h1
  · rw [e]; exact h2
  · rw [e]; exact h3
/-- the words of a contract for a method WITH HANDLERS (hh: its table) -/
abbrev wsW_ (y : MethodName) (b : ByteArray) (L : Nat) (r : Option FieldType) (hh : List (Nat × Nat × Nat × Nat)) : List Cond := Cond.codeWith y b L r hh :: lw_all
theorem lw_methW {y : MethodName} {b : ByteArray} {L : Nat} {r : Option FieldType} {hh : List (Nat × Nat × Nat × Nat)} (h : Cond.codeWith y b L r hh ∈ lw_all) : GoodIn lw_all (wsW_ y b L r hh) := by
  intro w hw
  rcases List.mem_cons.mp hw with e | e
  · rw [e]
    exact lw_self _ h
  · exact lw_self _ e
/-- any list of words by their places (lw_in), good -/
theorem lw_good {ws : List Cond} (h : ∀ w ∈ ws, w ∈ lw_all) : GoodIn lw_all ws := fun w hw => lw_self w (h w hw)
/-- what a call of a method with handlers asks: vx_cwVW n hts (lw_VW ..), vx_cwSW n hts (lw_SW ..) -/
theorem lw_VW {own : String} {idx : Nat} {C : String} {y : MethodName} {b : ByteArray} {L : Nat} {r : Option FieldType} {hh : List (Nat × Nat × Nat × Nat)} (h1 : Cond.methodLink own idx y ∈ lw_all) (h2 : Cond.instanceMethod y ∈ lw_all) (h3 : Cond.selects C y y ∈ lw_all) (h4 : Cond.initialized C ∈ lw_all) (h5 : Cond.codeWith y b L r hh ∈ lw_all) : GoodIn lw_all (wsV own idx C y (wsW_ y b L r hh)) := by
  refine lw_app ?_ (lw_methW h5)
  intro w hw
  simp only [List.mem_cons, List.not_mem_nil, or_false] at hw
  rcases hw with e | e | e | e
  · rw [e]; exact h1
  · rw [e]; exact h2
  · rw [e]; exact h3
  · rw [e]; exact h4
theorem lw_SW {own : String} {idx : Nat} {y : MethodName} {b : ByteArray} {L : Nat} {r : Option FieldType} {hh : List (Nat × Nat × Nat × Nat)} (h1 : Cond.methodLink own idx y ∈ lw_all) (h2 : Cond.static y ∈ lw_all) (h3 : Cond.initialized y.cls ∈ lw_all) (h4 : Cond.codeWith y b L r hh ∈ lw_all) : GoodIn lw_all (va_wsS own idx y (wsW_ y b L r hh)) := by
  refine lw_app ?_ (lw_methW h4)
  intro w hw
  simp only [List.mem_cons, List.not_mem_nil, or_false] at hw
  rcases hw with e | e | e
  · rw [e]; exact h1
  · rw [e]; exact h2
  · rw [e]; exact h3
/-- a word by its place in its run of the tables -/
theorem lw_at {r : List Cond} (hr : ∀ w ∈ r, w ∈ lw_tbl) {w : Cond} (i : Nat) (h : r[i]? = some w) : w ∈ lw_tbl := hr w (List.mem_of_getElem? h)
theorem lw_g {w : Cond} (h : w ∈ lw_tbl) (g : goodWord w = true) : w ∈ lw_all := List.mem_filter.mpr ⟨h, g⟩
theorem lw_ms : ∀ w ∈ k2_sels lw_privs, w ∈ lw_tbl := fun w h => show w ∈ k2_sels lw_privs ++ tables_1 from List.mem_append_left _ h
theorem lw_m1 : ∀ w ∈ tables_1_1, w ∈ lw_tbl := fun w h => show w ∈ k2_sels lw_privs ++ tables_1 from List.mem_append_right (k2_sels lw_privs) (show w ∈ tables_1 from List.mem_append_left _ h)
theorem lw_m2 : ∀ w ∈ tables_1_2, w ∈ lw_tbl := fun w h => show w ∈ k2_sels lw_privs ++ tables_1 from List.mem_append_right (k2_sels lw_privs) (show w ∈ tables_1 from List.mem_append_right _ h)
theorem qs0 : (Cond.selects "PathFamilies" ⟨"PathFamilies", "sizeOf", "(I)I"⟩ ⟨"PathFamilies", "sizeOf", "(I)I"⟩) ∈ lw_all := lw_g (lw_at lw_ms 0 rfl) rfl
theorem qs1 : (Cond.selects "PathFamilies" ⟨"PathFamilies", "badCell", "(I)Z"⟩ ⟨"PathFamilies", "badCell", "(I)Z"⟩) ∈ lw_all := lw_g (lw_at lw_ms 1 rfl) rfl
theorem qs2 : (Cond.selects "PathFamilies" ⟨"PathFamilies", "reopen", "()V"⟩ ⟨"PathFamilies", "reopen", "()V"⟩) ∈ lw_all := lw_g (lw_at lw_ms 2 rfl) rfl
theorem qs3 : (Cond.selects "PathFamilies" ⟨"PathFamilies", "findWays", "(IZ)V"⟩ ⟨"PathFamilies", "findWays", "(IZ)V"⟩) ∈ lw_all := lw_g (lw_at lw_ms 3 rfl) rfl
theorem qs4 : (Cond.selects "PathFamilies" ⟨"PathFamilies", "countWithout", "(II)I"⟩ ⟨"PathFamilies", "countWithout", "(II)I"⟩) ∈ lw_all := lw_g (lw_at lw_ms 4 rfl) rfl
theorem qs5 : (Cond.selects "PathFamilies" ⟨"PathFamilies", "count", "(IZ)I"⟩ ⟨"PathFamilies", "count", "(IZ)I"⟩) ∈ lw_all := lw_g (lw_at lw_ms 5 rfl) rfl
theorem qs6 : (Cond.selects "PathFamilies" ⟨"PathFamilies", "fillMatrix", "(IZ)V"⟩ ⟨"PathFamilies", "fillMatrix", "(IZ)V"⟩) ∈ lw_all := lw_g (lw_at lw_ms 6 rfl) rfl
theorem qs7 : (Cond.selects "PathFamilies" ⟨"PathFamilies", "determinant", "(I)I"⟩ ⟨"PathFamilies", "determinant", "(I)I"⟩) ∈ lw_all := lw_g (lw_at lw_ms 7 rfl) rfl
theorem qs8 : (Cond.selects "PathFamilies" ⟨"PathFamilies", "lastThree", "()I"⟩ ⟨"PathFamilies", "lastThree", "()I"⟩) ∈ lw_all := lw_g (lw_at lw_ms 8 rfl) rfl
theorem qs9 : (Cond.selects "PathFamilies" ⟨"PathFamilies", "two", "(IIII)I"⟩ ⟨"PathFamilies", "two", "(IIII)I"⟩) ∈ lw_all := lw_g (lw_at lw_ms 9 rfl) rfl
theorem qs10 : (Cond.selects "PathFamilies" ⟨"PathFamilies", "allFour", "()I"⟩ ⟨"PathFamilies", "allFour", "()I"⟩) ∈ lw_all := lw_g (lw_at lw_ms 10 rfl) rfl
theorem qs11 : (Cond.selects "PathFamilies" ⟨"PathFamilies", "findPath", "(II)I"⟩ ⟨"PathFamilies", "findPath", "(II)I"⟩) ∈ lw_all := lw_g (lw_at lw_ms 11 rfl) rfl
theorem qs12 : (Cond.selects "PathFamilies" ⟨"PathFamilies", "countRight", "(II)I"⟩ ⟨"PathFamilies", "countRight", "(II)I"⟩) ∈ lw_all := lw_g (lw_at lw_ms 12 rfl) rfl
theorem qs13 : (Cond.selects "PathFamilies" ⟨"PathFamilies", "mayRight", "(I)Z"⟩ ⟨"PathFamilies", "mayRight", "(I)Z"⟩) ∈ lw_all := lw_g (lw_at lw_ms 13 rfl) rfl
theorem qs14 : (Cond.selects "PathFamiliesModel" ⟨"PathFamiliesModel", "size", "(I)I"⟩ ⟨"PathFamiliesModel", "size", "(I)I"⟩) ∈ lw_all := lw_g (lw_at lw_ms 14 rfl) rfl
theorem qs15 : (Cond.selects "PathFamiliesModel" ⟨"PathFamiliesModel", "unload", "()V"⟩ ⟨"PathFamiliesModel", "unload", "()V"⟩) ∈ lw_all := lw_g (lw_at lw_ms 15 rfl) rfl
theorem qs16 : (Cond.selects "PathFamiliesModel" ⟨"PathFamiliesModel", "noCell", "(I)Z"⟩ ⟨"PathFamiliesModel", "noCell", "(I)Z"⟩) ∈ lw_all := lw_g (lw_at lw_ms 16 rfl) rfl
theorem qs17 : (Cond.selects "PathFamiliesModel" ⟨"PathFamiliesModel", "ways", "(II)I"⟩ ⟨"PathFamiliesModel", "ways", "(II)I"⟩) ∈ lw_all := lw_g (lw_at lw_ms 17 rfl) rfl
theorem qs18 : (Cond.selects "PathFamiliesModel" ⟨"PathFamiliesModel", "begin", "()V"⟩ ⟨"PathFamiliesModel", "begin", "()V"⟩) ∈ lw_all := lw_g (lw_at lw_ms 18 rfl) rfl
theorem qs19 : (Cond.selects "PathFamiliesModel" ⟨"PathFamiliesModel", "step", "(II)V"⟩ ⟨"PathFamiliesModel", "step", "(II)V"⟩) ∈ lw_all := lw_g (lw_at lw_ms 19 rfl) rfl
theorem qs20 : (Cond.selects "PathFamiliesModel" ⟨"PathFamiliesModel", "nextFamily", "(Z)Z"⟩ ⟨"PathFamiliesModel", "nextFamily", "(Z)Z"⟩) ∈ lw_all := lw_g (lw_at lw_ms 20 rfl) rfl
theorem qs21 : (Cond.selects "PathFamiliesModel" ⟨"PathFamiliesModel", "goOn", "()V"⟩ ⟨"PathFamiliesModel", "goOn", "()V"⟩) ∈ lw_all := lw_g (lw_at lw_ms 21 rfl) rfl
theorem qs22 : (Cond.selects "PathFamiliesModel" ⟨"PathFamiliesModel", "stepBack", "()V"⟩ ⟨"PathFamiliesModel", "stepBack", "()V"⟩) ∈ lw_all := lw_g (lw_at lw_ms 22 rfl) rfl
theorem qs23 : (Cond.selects "PathFamiliesModel" ⟨"PathFamiliesModel", "complete", "()Z"⟩ ⟨"PathFamiliesModel", "complete", "()Z"⟩) ∈ lw_all := lw_g (lw_at lw_ms 23 rfl) rfl
end
section
/-! java/lang/Object -/
set_option maxRecDepth 100000
def RJ0 : String := "java/lang/Object"
abbrev cJ0_init : ByteArray := object_method_1_code
def yJ0_init : MethodName := ⟨RJ0, "<init>", "()V"⟩
theorem dJ0_init_0 : decode cJ0_init 0 = .ok (.return_, 1) := by decide +kernel
theorem q33 : (Jvm.Cond.instanceMethod ({ cls := "java/lang/Object", name := "<init>", desc := "()V" } : Jvm.MethodName)) ∈ lw_all := lw_g (lw_at lw_m1 9 rfl) rfl
theorem q34 : (Jvm.Cond.code ({ cls := "java/lang/Object", name := "<init>", desc := "()V" } : Jvm.MethodName) object_method_1_code (1 : Nat) (Option.none : Option Jvm.ClassFile.FieldType)) ∈ lw_all := lw_g (lw_at lw_m1 10 rfl) rfl

theorem q75 : (Jvm.Cond.arrayClass Jvm.ClassFile.FieldType.boolean) ∈ lw_all := lw_g (lw_at lw_m1 51 rfl) rfl
set_option maxRecDepth 100000
theorem q76 : (Jvm.Cond.arrayClass Jvm.ClassFile.FieldType.int) ∈ lw_all := lw_g (lw_at lw_m1 52 rfl) rfl
theorem q77 : (Jvm.Cond.arrayClass Jvm.ClassFile.FieldType.byte) ∈ lw_all := lw_g (lw_at lw_m1 53 rfl) rfl

theorem q24 : (Jvm.Cond.initialized "PathFamiliesLaw") ∈ lw_all := lw_g (lw_at lw_m1 0 rfl) rfl
set_option maxRecDepth 100000
theorem q27 : (Jvm.Cond.classLink "PathFamiliesLaw" (7 : Nat) "PathFamilies") ∈ lw_all := lw_g (lw_at lw_m1 3 rfl) rfl
theorem q29 : (Jvm.Cond.methodLink "PathFamiliesLaw" (9 : Nat) ({ cls := "PathFamilies", name := "<init>", desc := "()V" } : Jvm.MethodName)) ∈ lw_all := lw_g (lw_at lw_m1 5 rfl) rfl
theorem q78 : (Jvm.Cond.methodLink "PathFamiliesLaw" (13 : Nat) ({ cls := "PathFamilies", name := "ends", desc := "(II)I" } : Jvm.MethodName)) ∈ lw_all := lw_g (lw_at lw_m1 54 rfl) rfl
theorem q86 : (Jvm.Cond.methodLink "PathFamiliesLaw" (18 : Nat) ({ cls := "PathFamilies", name := "block", desc := "(II)I" } : Jvm.MethodName)) ∈ lw_all := lw_g (lw_at lw_m1 62 rfl) rfl
theorem q94 : (Jvm.Cond.methodLink "PathFamiliesLaw" (22 : Nat) ({ cls := "PathFamilies", name := "weight", desc := "(II)I" } : Jvm.MethodName)) ∈ lw_all := lw_g (lw_at lw_m1 70 rfl) rfl
theorem q98 : (Jvm.Cond.methodLink "PathFamiliesLaw" (26 : Nat) ({ cls := "PathFamilies", name := "paths", desc := "(II)I" } : Jvm.MethodName)) ∈ lw_all := lw_g (lw_at lw_m1 74 rfl) rfl
theorem q110 : (Jvm.Cond.methodLink "PathFamiliesLaw" (30 : Nat) ({ cls := "PathFamilies", name := "families", desc := "()I" } : Jvm.MethodName)) ∈ lw_all := lw_g (lw_at lw_m1 86 rfl) rfl
theorem q142 : (Jvm.Cond.methodLink "PathFamiliesLaw" (35 : Nat) ({ cls := "PathFamilies", name := "sum", desc := "()I" } : Jvm.MethodName)) ∈ lw_all := lw_g (lw_at lw_m1 118 rfl) rfl
theorem q146 : (Jvm.Cond.methodLink "PathFamiliesLaw" (39 : Nat) ({ cls := "PathFamilies", name := "through", desc := "(I)I" } : Jvm.MethodName)) ∈ lw_all := lw_g (lw_at lw_m1 122 rfl) rfl
theorem q150 : (Jvm.Cond.methodLink "PathFamiliesLaw" (44 : Nat) ({ cls := "PathFamilies", name := "throughBoth", desc := "(II)I" } : Jvm.MethodName)) ∈ lw_all := lw_g (lw_at lw_m1 126 rfl) rfl
theorem q154 : (Jvm.Cond.methodLink "PathFamiliesLaw" (48 : Nat) ({ cls := "PathFamilies", name := "musts", desc := "()I" } : Jvm.MethodName)) ∈ lw_all := lw_g (lw_at lw_m1 130 rfl) rfl
theorem q158 : (Jvm.Cond.methodLink "PathFamiliesLaw" (52 : Nat) ({ cls := "PathFamilies", name := "load", desc := "(I)I" } : Jvm.MethodName)) ∈ lw_all := lw_g (lw_at lw_m1 134 rfl) rfl
theorem q174 : (Jvm.Cond.methodLink "PathFamiliesLaw" (56 : Nat) ({ cls := "PathFamilies", name := "cell", desc := "(II)I" } : Jvm.MethodName)) ∈ lw_all := lw_g (lw_at lw_m1 150 rfl) rfl
theorem q178 : (Jvm.Cond.methodLink "PathFamiliesLaw" (60 : Nat) ({ cls := "PathFamilies", name := "loadedWeight", desc := "()I" } : Jvm.MethodName)) ∈ lw_all := lw_g (lw_at lw_m1 154 rfl) rfl
theorem q182 : (Jvm.Cond.methodLink "PathFamiliesLaw" (64 : Nat) ({ cls := "PathFamilies", name := "rank", desc := "()I" } : Jvm.MethodName)) ∈ lw_all := lw_g (lw_at lw_m1 158 rfl) rfl
theorem q186 : (Jvm.Cond.classLink "PathFamiliesLaw" (10 : Nat) "PathFamiliesModel") ∈ lw_all := lw_g (lw_at lw_m1 162 rfl) rfl
theorem q188 : (Jvm.Cond.methodLink "PathFamiliesLaw" (12 : Nat) ({ cls := "PathFamiliesModel", name := "<init>", desc := "()V" } : Jvm.MethodName)) ∈ lw_all := lw_g (lw_at lw_m1 164 rfl) rfl
theorem q238 : (Jvm.Cond.methodLink "PathFamiliesLaw" (17 : Nat) ({ cls := "PathFamiliesModel", name := "ends", desc := "(II)I" } : Jvm.MethodName)) ∈ lw_all := lw_g (lw_at lw_m1 214 rfl) rfl
theorem q250 : (Jvm.Cond.methodLink "PathFamiliesLaw" (21 : Nat) ({ cls := "PathFamiliesModel", name := "block", desc := "(II)I" } : Jvm.MethodName)) ∈ lw_all := lw_g (lw_at lw_m1 226 rfl) rfl
theorem q258 : (Jvm.Cond.methodLink "PathFamiliesLaw" (25 : Nat) ({ cls := "PathFamiliesModel", name := "weight", desc := "(II)I" } : Jvm.MethodName)) ∈ lw_all := lw_g (lw_at lw_m1 234 rfl) rfl
theorem q262 : (Jvm.Cond.methodLink "PathFamiliesLaw" (29 : Nat) ({ cls := "PathFamiliesModel", name := "paths", desc := "(II)I" } : Jvm.MethodName)) ∈ lw_all := lw_g (lw_at lw_m1 238 rfl) rfl
theorem q270 : (Jvm.Cond.methodLink "PathFamiliesLaw" (34 : Nat) ({ cls := "PathFamiliesModel", name := "families", desc := "()I" } : Jvm.MethodName)) ∈ lw_all := lw_g (lw_at lw_m2 6 rfl) rfl
theorem q298 : (Jvm.Cond.methodLink "PathFamiliesLaw" (38 : Nat) ({ cls := "PathFamiliesModel", name := "sum", desc := "()I" } : Jvm.MethodName)) ∈ lw_all := lw_g (lw_at lw_m2 34 rfl) rfl
theorem q302 : (Jvm.Cond.methodLink "PathFamiliesLaw" (43 : Nat) ({ cls := "PathFamiliesModel", name := "through", desc := "(I)I" } : Jvm.MethodName)) ∈ lw_all := lw_g (lw_at lw_m2 38 rfl) rfl
theorem q310 : (Jvm.Cond.methodLink "PathFamiliesLaw" (47 : Nat) ({ cls := "PathFamiliesModel", name := "throughBoth", desc := "(II)I" } : Jvm.MethodName)) ∈ lw_all := lw_g (lw_at lw_m2 46 rfl) rfl
theorem q311 : (Jvm.Cond.methodLink "PathFamiliesLaw" (51 : Nat) ({ cls := "PathFamiliesModel", name := "musts", desc := "()I" } : Jvm.MethodName)) ∈ lw_all := lw_g (lw_at lw_m2 47 rfl) rfl
theorem q317 : (Jvm.Cond.methodLink "PathFamiliesLaw" (55 : Nat) ({ cls := "PathFamiliesModel", name := "load", desc := "(I)I" } : Jvm.MethodName)) ∈ lw_all := lw_g (lw_at lw_m2 53 rfl) rfl
theorem q321 : (Jvm.Cond.methodLink "PathFamiliesLaw" (59 : Nat) ({ cls := "PathFamiliesModel", name := "cell", desc := "(II)I" } : Jvm.MethodName)) ∈ lw_all := lw_g (lw_at lw_m2 57 rfl) rfl
theorem q325 : (Jvm.Cond.methodLink "PathFamiliesLaw" (63 : Nat) ({ cls := "PathFamiliesModel", name := "loadedWeight", desc := "()I" } : Jvm.MethodName)) ∈ lw_all := lw_g (lw_at lw_m2 61 rfl) rfl
theorem q329 : (Jvm.Cond.methodLink "PathFamiliesLaw" (67 : Nat) ({ cls := "PathFamiliesModel", name := "rank", desc := "()I" } : Jvm.MethodName)) ∈ lw_all := lw_g (lw_at lw_m2 65 rfl) rfl
end
section
set_option maxRecDepth 100000
/-! PathFamilies -/
def RX0 : String := "PathFamilies"
def TX0 : u_T := fun k => match k with
  | 0 => ("PathFamilies", "blocked", "[Z", true)
  | 1 => ("PathFamilies", "weights", "[I", true)
  | 2 => ("PathFamilies", "many", "I", false)
  | 3 => ("PathFamilies", "start", "[B", true)
  | 4 => ("PathFamilies", "goal", "[B", true)
  | 5 => ("PathFamilies", "closed", "[Z", true)
  | 6 => ("PathFamilies", "from", "[B", true)
  | 7 => ("PathFamilies", "ways", "[I", true)
  | 8 => ("PathFamilies", "matrix", "[I", true)
  | 9 => ("PathFamilies", "loaded", "Z", false)
  | 10 => ("PathFamilies", "number", "I", false)
  | 11 => ("PathFamilies", "size", "[B", true)
  | _ => ("PathFamilies", "path", "[B", true)
def tyX0 : Nat → FieldType := fun k => match k with
  | 0 => .array .boolean
  | 1 => .array .int
  | 2 => .int
  | 3 => .array .byte
  | 4 => .array .byte
  | 5 => .array .boolean
  | 6 => .array .byte
  | 7 => .array .int
  | 8 => .array .int
  | 9 => .boolean
  | 10 => .int
  | 11 => .array .byte
  | _ => .array .byte
abbrev wsX00 : List Cond := u_ws RX0 TX0 13
set_option maxRecDepth 100000 in
theorem nmX0 : ∀ a, a < 13 → ∀ b, b < 13 → a ≠ b → (TX0 a).2.1 ≠ (TX0 b).2.1 := by decide +kernel
set_option maxRecDepth 100000 in
theorem tyX0_ok : ∀ k, k < 13 → parseFieldDescriptor (TX0 k).2.2.1 = some (tyX0 k) := by decide +kernel
abbrev cX0_init : ByteArray := prog_1_method_1_code
def yX0_init : MethodName := ⟨RX0, "<init>", "()V"⟩
theorem dX0_init_0 : decode cX0_init 0 = .ok (.aload_n 0, 1) := by decide +kernel
theorem dX0_init_1 : decode cX0_init 1 = .ok (.invokespecial 1, 3) := by decide +kernel
theorem dX0_init_4 : decode cX0_init 4 = .ok (.aload_n 0, 1) := by decide +kernel
theorem dX0_init_5 : decode cX0_init 5 = .ok (.bipush 30, 2) := by decide +kernel
theorem dX0_init_7 : decode cX0_init 7 = .ok (.newarray .boolean, 2) := by decide +kernel
theorem dX0_init_9 : decode cX0_init 9 = .ok (.putfield 7, 3) := by decide +kernel
theorem dX0_init_12 : decode cX0_init 12 = .ok (.aload_n 0, 1) := by decide +kernel
theorem dX0_init_13 : decode cX0_init 13 = .ok (.bipush 30, 2) := by decide +kernel
theorem dX0_init_15 : decode cX0_init 15 = .ok (.newarray .int, 2) := by decide +kernel
theorem dX0_init_17 : decode cX0_init 17 = .ok (.putfield 13, 3) := by decide +kernel
theorem dX0_init_20 : decode cX0_init 20 = .ok (.aload_n 0, 1) := by decide +kernel
theorem dX0_init_21 : decode cX0_init 21 = .ok (.iconst 4, 1) := by decide +kernel
theorem dX0_init_22 : decode cX0_init 22 = .ok (.newarray .byte, 2) := by decide +kernel
theorem dX0_init_24 : decode cX0_init 24 = .ok (.putfield 17, 3) := by decide +kernel
theorem dX0_init_27 : decode cX0_init 27 = .ok (.aload_n 0, 1) := by decide +kernel
theorem dX0_init_28 : decode cX0_init 28 = .ok (.iconst 4, 1) := by decide +kernel
theorem dX0_init_29 : decode cX0_init 29 = .ok (.newarray .byte, 2) := by decide +kernel
theorem dX0_init_31 : decode cX0_init 31 = .ok (.putfield 21, 3) := by decide +kernel
theorem dX0_init_34 : decode cX0_init 34 = .ok (.aload_n 0, 1) := by decide +kernel
theorem dX0_init_35 : decode cX0_init 35 = .ok (.bipush 30, 2) := by decide +kernel
theorem dX0_init_37 : decode cX0_init 37 = .ok (.newarray .boolean, 2) := by decide +kernel
theorem dX0_init_39 : decode cX0_init 39 = .ok (.putfield 24, 3) := by decide +kernel
theorem dX0_init_42 : decode cX0_init 42 = .ok (.aload_n 0, 1) := by decide +kernel
theorem dX0_init_43 : decode cX0_init 43 = .ok (.iconst 4, 1) := by decide +kernel
theorem dX0_init_44 : decode cX0_init 44 = .ok (.newarray .byte, 2) := by decide +kernel
theorem dX0_init_46 : decode cX0_init 46 = .ok (.putfield 27, 3) := by decide +kernel
theorem dX0_init_49 : decode cX0_init 49 = .ok (.aload_n 0, 1) := by decide +kernel
theorem dX0_init_50 : decode cX0_init 50 = .ok (.bipush 30, 2) := by decide +kernel
theorem dX0_init_52 : decode cX0_init 52 = .ok (.newarray .int, 2) := by decide +kernel
theorem dX0_init_54 : decode cX0_init 54 = .ok (.putfield 30, 3) := by decide +kernel
theorem dX0_init_57 : decode cX0_init 57 = .ok (.aload_n 0, 1) := by decide +kernel
theorem dX0_init_58 : decode cX0_init 58 = .ok (.bipush 16, 2) := by decide +kernel
theorem dX0_init_60 : decode cX0_init 60 = .ok (.newarray .int, 2) := by decide +kernel
theorem dX0_init_62 : decode cX0_init 62 = .ok (.putfield 33, 3) := by decide +kernel
theorem dX0_init_65 : decode cX0_init 65 = .ok (.aload_n 0, 1) := by decide +kernel
theorem dX0_init_66 : decode cX0_init 66 = .ok (.iconst 4, 1) := by decide +kernel
theorem dX0_init_67 : decode cX0_init 67 = .ok (.newarray .byte, 2) := by decide +kernel
theorem dX0_init_69 : decode cX0_init 69 = .ok (.putfield 36, 3) := by decide +kernel
theorem dX0_init_72 : decode cX0_init 72 = .ok (.aload_n 0, 1) := by decide +kernel
theorem dX0_init_73 : decode cX0_init 73 = .ok (.bipush 40, 2) := by decide +kernel
theorem dX0_init_75 : decode cX0_init 75 = .ok (.newarray .byte, 2) := by decide +kernel
theorem dX0_init_77 : decode cX0_init 77 = .ok (.putfield 39, 3) := by decide +kernel
theorem dX0_init_80 : decode cX0_init 80 = .ok (.iconst 0, 1) := by decide +kernel
theorem dX0_init_81 : decode cX0_init 81 = .ok (.istore_n 1, 1) := by decide +kernel
theorem dX0_init_82 : decode cX0_init 82 = .ok (.iload_n 1, 1) := by decide +kernel
theorem dX0_init_83 : decode cX0_init 83 = .ok (.bipush 30, 2) := by decide +kernel
theorem dX0_init_85 : decode cX0_init 85 = .ok (.if_icmp .ge 16, 3) := by decide +kernel
theorem dX0_init_88 : decode cX0_init 88 = .ok (.aload_n 0, 1) := by decide +kernel
theorem dX0_init_89 : decode cX0_init 89 = .ok (.getfield 13, 3) := by decide +kernel
theorem dX0_init_92 : decode cX0_init 92 = .ok (.iload_n 1, 1) := by decide +kernel
theorem dX0_init_93 : decode cX0_init 93 = .ok (.iconst 1, 1) := by decide +kernel
theorem dX0_init_94 : decode cX0_init 94 = .ok (.iastore, 1) := by decide +kernel
theorem dX0_init_95 : decode cX0_init 95 = .ok (.iinc 1 1, 3) := by decide +kernel
theorem dX0_init_98 : decode cX0_init 98 = .ok (.goto (-16), 3) := by decide +kernel
theorem dX0_init_101 : decode cX0_init 101 = .ok (.aload_n 0, 1) := by decide +kernel
theorem dX0_init_102 : decode cX0_init 102 = .ok (.iconst 1, 1) := by decide +kernel
theorem dX0_init_103 : decode cX0_init 103 = .ok (.putfield 42, 3) := by decide +kernel
theorem dX0_init_106 : decode cX0_init 106 = .ok (.aload_n 0, 1) := by decide +kernel
theorem dX0_init_107 : decode cX0_init 107 = .ok (.getfield 17, 3) := by decide +kernel
theorem dX0_init_110 : decode cX0_init 110 = .ok (.iconst 0, 1) := by decide +kernel
theorem dX0_init_111 : decode cX0_init 111 = .ok (.iconst 0, 1) := by decide +kernel
theorem dX0_init_112 : decode cX0_init 112 = .ok (.bastore, 1) := by decide +kernel
theorem dX0_init_113 : decode cX0_init 113 = .ok (.aload_n 0, 1) := by decide +kernel
theorem dX0_init_114 : decode cX0_init 114 = .ok (.getfield 21, 3) := by decide +kernel
theorem dX0_init_117 : decode cX0_init 117 = .ok (.iconst 0, 1) := by decide +kernel
theorem dX0_init_118 : decode cX0_init 118 = .ok (.bipush 29, 2) := by decide +kernel
theorem dX0_init_120 : decode cX0_init 120 = .ok (.bastore, 1) := by decide +kernel
theorem dX0_init_121 : decode cX0_init 121 = .ok (.return_, 1) := by decide +kernel
abbrev cX0_ends : ByteArray := prog_1_method_4_code
def yX0_ends : MethodName := ⟨RX0, "ends", "(II)I"⟩
theorem dX0_ends_0 : decode cX0_ends 0 = .ok (.iload_n 1, 1) := by decide +kernel
theorem dX0_ends_1 : decode cX0_ends 1 = .ok (.iconst 1, 1) := by decide +kernel
theorem dX0_ends_2 : decode cX0_ends 2 = .ok (.if_icmp .lt 20, 3) := by decide +kernel
theorem dX0_ends_5 : decode cX0_ends 5 = .ok (.iload_n 1, 1) := by decide +kernel
theorem dX0_ends_6 : decode cX0_ends 6 = .ok (.bipush 31, 2) := by decide +kernel
theorem dX0_ends_8 : decode cX0_ends 8 = .ok (.if_icmp .gt 14, 3) := by decide +kernel
theorem dX0_ends_11 : decode cX0_ends 11 = .ok (.iload_n 2, 1) := by decide +kernel
theorem dX0_ends_12 : decode cX0_ends 12 = .ok (.iconst 1, 1) := by decide +kernel
theorem dX0_ends_13 : decode cX0_ends 13 = .ok (.if_icmp .lt 9, 3) := by decide +kernel
theorem dX0_ends_16 : decode cX0_ends 16 = .ok (.iload_n 2, 1) := by decide +kernel
theorem dX0_ends_17 : decode cX0_ends 17 = .ok (.bipush 31, 2) := by decide +kernel
theorem dX0_ends_19 : decode cX0_ends 19 = .ok (.if_icmp .le 5, 3) := by decide +kernel
theorem dX0_ends_22 : decode cX0_ends 22 = .ok (.iconst (-1), 1) := by decide +kernel
theorem dX0_ends_23 : decode cX0_ends 23 = .ok (.ireturn, 1) := by decide +kernel
theorem dX0_ends_24 : decode cX0_ends 24 = .ok (.aload_n 0, 1) := by decide +kernel
theorem dX0_ends_25 : decode cX0_ends 25 = .ok (.iload_n 1, 1) := by decide +kernel
theorem dX0_ends_26 : decode cX0_ends 26 = .ok (.invokevirtual 46, 3) := by decide +kernel
theorem dX0_ends_29 : decode cX0_ends 29 = .ok (.istore_n 3, 1) := by decide +kernel
theorem dX0_ends_30 : decode cX0_ends 30 = .ok (.aload_n 0, 1) := by decide +kernel
theorem dX0_ends_31 : decode cX0_ends 31 = .ok (.iload_n 2, 1) := by decide +kernel
theorem dX0_ends_32 : decode cX0_ends 32 = .ok (.invokevirtual 46, 3) := by decide +kernel
theorem dX0_ends_35 : decode cX0_ends 35 = .ok (.istore 4, 2) := by decide +kernel
theorem dX0_ends_37 : decode cX0_ends 37 = .ok (.iload_n 3, 1) := by decide +kernel
theorem dX0_ends_38 : decode cX0_ends 38 = .ok (.iload 4, 2) := by decide +kernel
theorem dX0_ends_40 : decode cX0_ends 40 = .ok (.if_icmp .ne 8, 3) := by decide +kernel
theorem dX0_ends_43 : decode cX0_ends 43 = .ok (.iload_n 3, 1) := by decide +kernel
theorem dX0_ends_44 : decode cX0_ends 44 = .ok (.iconst 4, 1) := by decide +kernel
theorem dX0_ends_45 : decode cX0_ends 45 = .ok (.if_icmp .le 5, 3) := by decide +kernel
theorem dX0_ends_48 : decode cX0_ends 48 = .ok (.iconst (-1), 1) := by decide +kernel
theorem dX0_ends_49 : decode cX0_ends 49 = .ok (.ireturn, 1) := by decide +kernel
theorem dX0_ends_50 : decode cX0_ends 50 = .ok (.iconst 0, 1) := by decide +kernel
theorem dX0_ends_51 : decode cX0_ends 51 = .ok (.istore 5, 2) := by decide +kernel
theorem dX0_ends_53 : decode cX0_ends 53 = .ok (.iconst 0, 1) := by decide +kernel
theorem dX0_ends_54 : decode cX0_ends 54 = .ok (.istore 6, 2) := by decide +kernel
theorem dX0_ends_56 : decode cX0_ends 56 = .ok (.iconst 0, 1) := by decide +kernel
theorem dX0_ends_57 : decode cX0_ends 57 = .ok (.istore 7, 2) := by decide +kernel
theorem dX0_ends_59 : decode cX0_ends 59 = .ok (.iload 7, 2) := by decide +kernel
theorem dX0_ends_61 : decode cX0_ends 61 = .ok (.iconst 5, 1) := by decide +kernel
theorem dX0_ends_62 : decode cX0_ends 62 = .ok (.if_icmp .ge 58, 3) := by decide +kernel
theorem dX0_ends_65 : decode cX0_ends 65 = .ok (.iload_n 1, 1) := by decide +kernel
theorem dX0_ends_66 : decode cX0_ends 66 = .ok (.iload 7, 2) := by decide +kernel
theorem dX0_ends_68 : decode cX0_ends 68 = .ok (.ishr, 1) := by decide +kernel
theorem dX0_ends_69 : decode cX0_ends 69 = .ok (.iconst 1, 1) := by decide +kernel
theorem dX0_ends_70 : decode cX0_ends 70 = .ok (.iand, 1) := by decide +kernel
theorem dX0_ends_71 : decode cX0_ends 71 = .ok (.iconst 1, 1) := by decide +kernel
theorem dX0_ends_72 : decode cX0_ends 72 = .ok (.if_icmp .ne 16, 3) := by decide +kernel
theorem dX0_ends_75 : decode cX0_ends 75 = .ok (.aload_n 0, 1) := by decide +kernel
theorem dX0_ends_76 : decode cX0_ends 76 = .ok (.getfield 17, 3) := by decide +kernel
theorem dX0_ends_79 : decode cX0_ends 79 = .ok (.iload 5, 2) := by decide +kernel
theorem dX0_ends_81 : decode cX0_ends 81 = .ok (.iload 7, 2) := by decide +kernel
theorem dX0_ends_83 : decode cX0_ends 83 = .ok (.i2b, 1) := by decide +kernel
theorem dX0_ends_84 : decode cX0_ends 84 = .ok (.bastore, 1) := by decide +kernel
theorem dX0_ends_85 : decode cX0_ends 85 = .ok (.iinc 5 1, 3) := by decide +kernel
theorem dX0_ends_88 : decode cX0_ends 88 = .ok (.iload_n 2, 1) := by decide +kernel
theorem dX0_ends_89 : decode cX0_ends 89 = .ok (.iload 7, 2) := by decide +kernel
theorem dX0_ends_91 : decode cX0_ends 91 = .ok (.ishr, 1) := by decide +kernel
theorem dX0_ends_92 : decode cX0_ends 92 = .ok (.iconst 1, 1) := by decide +kernel
theorem dX0_ends_93 : decode cX0_ends 93 = .ok (.iand, 1) := by decide +kernel
theorem dX0_ends_94 : decode cX0_ends 94 = .ok (.iconst 1, 1) := by decide +kernel
theorem dX0_ends_95 : decode cX0_ends 95 = .ok (.if_icmp .ne 19, 3) := by decide +kernel
theorem dX0_ends_98 : decode cX0_ends 98 = .ok (.aload_n 0, 1) := by decide +kernel
theorem dX0_ends_99 : decode cX0_ends 99 = .ok (.getfield 21, 3) := by decide +kernel
theorem dX0_ends_102 : decode cX0_ends 102 = .ok (.iload 6, 2) := by decide +kernel
theorem dX0_ends_104 : decode cX0_ends 104 = .ok (.bipush 25, 2) := by decide +kernel
theorem dX0_ends_106 : decode cX0_ends 106 = .ok (.iload 7, 2) := by decide +kernel
theorem dX0_ends_108 : decode cX0_ends 108 = .ok (.iadd, 1) := by decide +kernel
theorem dX0_ends_109 : decode cX0_ends 109 = .ok (.i2b, 1) := by decide +kernel
theorem dX0_ends_110 : decode cX0_ends 110 = .ok (.bastore, 1) := by decide +kernel
theorem dX0_ends_111 : decode cX0_ends 111 = .ok (.iinc 6 1, 3) := by decide +kernel
theorem dX0_ends_114 : decode cX0_ends 114 = .ok (.iinc 7 1, 3) := by decide +kernel
theorem dX0_ends_117 : decode cX0_ends 117 = .ok (.goto (-58), 3) := by decide +kernel
theorem dX0_ends_120 : decode cX0_ends 120 = .ok (.aload_n 0, 1) := by decide +kernel
theorem dX0_ends_121 : decode cX0_ends 121 = .ok (.iload_n 3, 1) := by decide +kernel
theorem dX0_ends_122 : decode cX0_ends 122 = .ok (.putfield 42, 3) := by decide +kernel
theorem dX0_ends_125 : decode cX0_ends 125 = .ok (.aload_n 0, 1) := by decide +kernel
theorem dX0_ends_126 : decode cX0_ends 126 = .ok (.iconst 0, 1) := by decide +kernel
theorem dX0_ends_127 : decode cX0_ends 127 = .ok (.putfield 50, 3) := by decide +kernel
theorem dX0_ends_130 : decode cX0_ends 130 = .ok (.aload_n 0, 1) := by decide +kernel
theorem dX0_ends_131 : decode cX0_ends 131 = .ok (.getfield 42, 3) := by decide +kernel
theorem dX0_ends_134 : decode cX0_ends 134 = .ok (.ireturn, 1) := by decide +kernel
abbrev cX0_sizeOf : ByteArray := prog_1_method_3_code
def yX0_sizeOf : MethodName := ⟨RX0, "sizeOf", "(I)I"⟩
theorem dX0_sizeOf_0 : decode cX0_sizeOf 0 = .ok (.iconst 0, 1) := by decide +kernel
theorem dX0_sizeOf_1 : decode cX0_sizeOf 1 = .ok (.istore_n 2, 1) := by decide +kernel
theorem dX0_sizeOf_2 : decode cX0_sizeOf 2 = .ok (.iconst 0, 1) := by decide +kernel
theorem dX0_sizeOf_3 : decode cX0_sizeOf 3 = .ok (.istore_n 3, 1) := by decide +kernel
theorem dX0_sizeOf_4 : decode cX0_sizeOf 4 = .ok (.iload_n 3, 1) := by decide +kernel
theorem dX0_sizeOf_5 : decode cX0_sizeOf 5 = .ok (.iconst 5, 1) := by decide +kernel
theorem dX0_sizeOf_6 : decode cX0_sizeOf 6 = .ok (.if_icmp .ge 17, 3) := by decide +kernel
theorem dX0_sizeOf_9 : decode cX0_sizeOf 9 = .ok (.iload_n 2, 1) := by decide +kernel
theorem dX0_sizeOf_10 : decode cX0_sizeOf 10 = .ok (.iload_n 1, 1) := by decide +kernel
theorem dX0_sizeOf_11 : decode cX0_sizeOf 11 = .ok (.iload_n 3, 1) := by decide +kernel
theorem dX0_sizeOf_12 : decode cX0_sizeOf 12 = .ok (.ishr, 1) := by decide +kernel
theorem dX0_sizeOf_13 : decode cX0_sizeOf 13 = .ok (.iconst 1, 1) := by decide +kernel
theorem dX0_sizeOf_14 : decode cX0_sizeOf 14 = .ok (.iand, 1) := by decide +kernel
theorem dX0_sizeOf_15 : decode cX0_sizeOf 15 = .ok (.iadd, 1) := by decide +kernel
theorem dX0_sizeOf_16 : decode cX0_sizeOf 16 = .ok (.istore_n 2, 1) := by decide +kernel
theorem dX0_sizeOf_17 : decode cX0_sizeOf 17 = .ok (.iinc 3 1, 3) := by decide +kernel
theorem dX0_sizeOf_20 : decode cX0_sizeOf 20 = .ok (.goto (-16), 3) := by decide +kernel
theorem dX0_sizeOf_23 : decode cX0_sizeOf 23 = .ok (.iload_n 2, 1) := by decide +kernel
theorem dX0_sizeOf_24 : decode cX0_sizeOf 24 = .ok (.ireturn, 1) := by decide +kernel
abbrev cX0_block : ByteArray := prog_1_method_5_code
def yX0_block : MethodName := ⟨RX0, "block", "(II)I"⟩
theorem dX0_block_0 : decode cX0_block 0 = .ok (.aload_n 0, 1) := by decide +kernel
theorem dX0_block_1 : decode cX0_block 1 = .ok (.iload_n 1, 1) := by decide +kernel
theorem dX0_block_2 : decode cX0_block 2 = .ok (.invokevirtual 54, 3) := by decide +kernel
theorem dX0_block_5 : decode cX0_block 5 = .ok (.ifCond .eq 5, 3) := by decide +kernel
theorem dX0_block_8 : decode cX0_block 8 = .ok (.iconst (-1), 1) := by decide +kernel
theorem dX0_block_9 : decode cX0_block 9 = .ok (.ireturn, 1) := by decide +kernel
theorem dX0_block_10 : decode cX0_block 10 = .ok (.aload_n 0, 1) := by decide +kernel
theorem dX0_block_11 : decode cX0_block 11 = .ok (.getfield 7, 3) := by decide +kernel
theorem dX0_block_14 : decode cX0_block 14 = .ok (.iload_n 1, 1) := by decide +kernel
theorem dX0_block_15 : decode cX0_block 15 = .ok (.baload, 1) := by decide +kernel
theorem dX0_block_16 : decode cX0_block 16 = .ok (.ifCond .eq 7, 3) := by decide +kernel
theorem dX0_block_19 : decode cX0_block 19 = .ok (.iconst 1, 1) := by decide +kernel
theorem dX0_block_20 : decode cX0_block 20 = .ok (.goto 4, 3) := by decide +kernel
theorem dX0_block_23 : decode cX0_block 23 = .ok (.iconst 0, 1) := by decide +kernel
theorem dX0_block_24 : decode cX0_block 24 = .ok (.istore_n 3, 1) := by decide +kernel
theorem dX0_block_25 : decode cX0_block 25 = .ok (.aload_n 0, 1) := by decide +kernel
theorem dX0_block_26 : decode cX0_block 26 = .ok (.getfield 7, 3) := by decide +kernel
theorem dX0_block_29 : decode cX0_block 29 = .ok (.iload_n 1, 1) := by decide +kernel
theorem dX0_block_30 : decode cX0_block 30 = .ok (.iload_n 2, 1) := by decide +kernel
theorem dX0_block_31 : decode cX0_block 31 = .ok (.ifCond .eq 7, 3) := by decide +kernel
theorem dX0_block_34 : decode cX0_block 34 = .ok (.iconst 1, 1) := by decide +kernel
theorem dX0_block_35 : decode cX0_block 35 = .ok (.goto 4, 3) := by decide +kernel
theorem dX0_block_38 : decode cX0_block 38 = .ok (.iconst 0, 1) := by decide +kernel
theorem dX0_block_39 : decode cX0_block 39 = .ok (.bastore, 1) := by decide +kernel
theorem dX0_block_40 : decode cX0_block 40 = .ok (.aload_n 0, 1) := by decide +kernel
theorem dX0_block_41 : decode cX0_block 41 = .ok (.iconst 0, 1) := by decide +kernel
theorem dX0_block_42 : decode cX0_block 42 = .ok (.putfield 50, 3) := by decide +kernel
theorem dX0_block_45 : decode cX0_block 45 = .ok (.iload_n 3, 1) := by decide +kernel
theorem dX0_block_46 : decode cX0_block 46 = .ok (.ireturn, 1) := by decide +kernel
abbrev cX0_badCell : ByteArray := prog_1_method_2_code
def yX0_badCell : MethodName := ⟨RX0, "badCell", "(I)Z"⟩
theorem dX0_badCell_0 : decode cX0_badCell 0 = .ok (.iload_n 1, 1) := by decide +kernel
theorem dX0_badCell_1 : decode cX0_badCell 1 = .ok (.ifCond .lt 9, 3) := by decide +kernel
theorem dX0_badCell_4 : decode cX0_badCell 4 = .ok (.iload_n 1, 1) := by decide +kernel
theorem dX0_badCell_5 : decode cX0_badCell 5 = .ok (.bipush 30, 2) := by decide +kernel
theorem dX0_badCell_7 : decode cX0_badCell 7 = .ok (.if_icmp .lt 7, 3) := by decide +kernel
theorem dX0_badCell_10 : decode cX0_badCell 10 = .ok (.iconst 1, 1) := by decide +kernel
theorem dX0_badCell_11 : decode cX0_badCell 11 = .ok (.goto 4, 3) := by decide +kernel
theorem dX0_badCell_14 : decode cX0_badCell 14 = .ok (.iconst 0, 1) := by decide +kernel
theorem dX0_badCell_15 : decode cX0_badCell 15 = .ok (.ireturn, 1) := by decide +kernel
abbrev cX0_weight : ByteArray := prog_1_method_6_code
def yX0_weight : MethodName := ⟨RX0, "weight", "(II)I"⟩
theorem dX0_weight_0 : decode cX0_weight 0 = .ok (.aload_n 0, 1) := by decide +kernel
theorem dX0_weight_1 : decode cX0_weight 1 = .ok (.iload_n 1, 1) := by decide +kernel
theorem dX0_weight_2 : decode cX0_weight 2 = .ok (.invokevirtual 54, 3) := by decide +kernel
theorem dX0_weight_5 : decode cX0_weight 5 = .ok (.ifCond .eq 5, 3) := by decide +kernel
theorem dX0_weight_8 : decode cX0_weight 8 = .ok (.iconst (-1), 1) := by decide +kernel
theorem dX0_weight_9 : decode cX0_weight 9 = .ok (.ireturn, 1) := by decide +kernel
theorem dX0_weight_10 : decode cX0_weight 10 = .ok (.aload_n 0, 1) := by decide +kernel
theorem dX0_weight_11 : decode cX0_weight 11 = .ok (.getfield 13, 3) := by decide +kernel
theorem dX0_weight_14 : decode cX0_weight 14 = .ok (.iload_n 1, 1) := by decide +kernel
theorem dX0_weight_15 : decode cX0_weight 15 = .ok (.iload_n 2, 1) := by decide +kernel
theorem dX0_weight_16 : decode cX0_weight 16 = .ok (.iastore, 1) := by decide +kernel
theorem dX0_weight_17 : decode cX0_weight 17 = .ok (.iconst 0, 1) := by decide +kernel
theorem dX0_weight_18 : decode cX0_weight 18 = .ok (.ireturn, 1) := by decide +kernel
abbrev cX0_paths : ByteArray := prog_1_method_16_code
def yX0_paths : MethodName := ⟨RX0, "paths", "(II)I"⟩
theorem dX0_paths_0 : decode cX0_paths 0 = .ok (.iload_n 1, 1) := by decide +kernel
theorem dX0_paths_1 : decode cX0_paths 1 = .ok (.ifCond .lt 23, 3) := by decide +kernel
theorem dX0_paths_4 : decode cX0_paths 4 = .ok (.iload_n 1, 1) := by decide +kernel
theorem dX0_paths_5 : decode cX0_paths 5 = .ok (.aload_n 0, 1) := by decide +kernel
theorem dX0_paths_6 : decode cX0_paths 6 = .ok (.getfield 42, 3) := by decide +kernel
theorem dX0_paths_9 : decode cX0_paths 9 = .ok (.if_icmp .ge 15, 3) := by decide +kernel
theorem dX0_paths_12 : decode cX0_paths 12 = .ok (.iload_n 2, 1) := by decide +kernel
theorem dX0_paths_13 : decode cX0_paths 13 = .ok (.ifCond .lt 11, 3) := by decide +kernel
theorem dX0_paths_16 : decode cX0_paths 16 = .ok (.iload_n 2, 1) := by decide +kernel
theorem dX0_paths_17 : decode cX0_paths 17 = .ok (.aload_n 0, 1) := by decide +kernel
theorem dX0_paths_18 : decode cX0_paths 18 = .ok (.getfield 42, 3) := by decide +kernel
theorem dX0_paths_21 : decode cX0_paths 21 = .ok (.if_icmp .lt 5, 3) := by decide +kernel
theorem dX0_paths_24 : decode cX0_paths 24 = .ok (.iconst (-1), 1) := by decide +kernel
theorem dX0_paths_25 : decode cX0_paths 25 = .ok (.ireturn, 1) := by decide +kernel
theorem dX0_paths_26 : decode cX0_paths 26 = .ok (.aload_n 0, 1) := by decide +kernel
theorem dX0_paths_27 : decode cX0_paths 27 = .ok (.invokevirtual 79, 3) := by decide +kernel
theorem dX0_paths_30 : decode cX0_paths 30 = .ok (.aload_n 0, 1) := by decide +kernel
theorem dX0_paths_31 : decode cX0_paths 31 = .ok (.aload_n 0, 1) := by decide +kernel
theorem dX0_paths_32 : decode cX0_paths 32 = .ok (.getfield 17, 3) := by decide +kernel
theorem dX0_paths_35 : decode cX0_paths 35 = .ok (.iload_n 1, 1) := by decide +kernel
theorem dX0_paths_36 : decode cX0_paths 36 = .ok (.baload, 1) := by decide +kernel
theorem dX0_paths_37 : decode cX0_paths 37 = .ok (.iconst 0, 1) := by decide +kernel
theorem dX0_paths_38 : decode cX0_paths 38 = .ok (.invokevirtual 58, 3) := by decide +kernel
theorem dX0_paths_41 : decode cX0_paths 41 = .ok (.aload_n 0, 1) := by decide +kernel
theorem dX0_paths_42 : decode cX0_paths 42 = .ok (.getfield 30, 3) := by decide +kernel
theorem dX0_paths_45 : decode cX0_paths 45 = .ok (.aload_n 0, 1) := by decide +kernel
theorem dX0_paths_46 : decode cX0_paths 46 = .ok (.getfield 21, 3) := by decide +kernel
theorem dX0_paths_49 : decode cX0_paths 49 = .ok (.iload_n 2, 1) := by decide +kernel
theorem dX0_paths_50 : decode cX0_paths 50 = .ok (.baload, 1) := by decide +kernel
theorem dX0_paths_51 : decode cX0_paths 51 = .ok (.iaload, 1) := by decide +kernel
theorem dX0_paths_52 : decode cX0_paths 52 = .ok (.ireturn, 1) := by decide +kernel
abbrev cX0_reopen : ByteArray := prog_1_method_14_code
def yX0_reopen : MethodName := ⟨RX0, "reopen", "()V"⟩
theorem dX0_reopen_0 : decode cX0_reopen 0 = .ok (.iconst 0, 1) := by decide +kernel
theorem dX0_reopen_1 : decode cX0_reopen 1 = .ok (.istore_n 1, 1) := by decide +kernel
theorem dX0_reopen_2 : decode cX0_reopen 2 = .ok (.iload_n 1, 1) := by decide +kernel
theorem dX0_reopen_3 : decode cX0_reopen 3 = .ok (.bipush 30, 2) := by decide +kernel
theorem dX0_reopen_5 : decode cX0_reopen 5 = .ok (.if_icmp .ge 16, 3) := by decide +kernel
theorem dX0_reopen_8 : decode cX0_reopen 8 = .ok (.aload_n 0, 1) := by decide +kernel
theorem dX0_reopen_9 : decode cX0_reopen 9 = .ok (.getfield 24, 3) := by decide +kernel
theorem dX0_reopen_12 : decode cX0_reopen 12 = .ok (.iload_n 1, 1) := by decide +kernel
theorem dX0_reopen_13 : decode cX0_reopen 13 = .ok (.iconst 0, 1) := by decide +kernel
theorem dX0_reopen_14 : decode cX0_reopen 14 = .ok (.bastore, 1) := by decide +kernel
theorem dX0_reopen_15 : decode cX0_reopen 15 = .ok (.iinc 1 1, 3) := by decide +kernel
theorem dX0_reopen_18 : decode cX0_reopen 18 = .ok (.goto (-16), 3) := by decide +kernel
theorem dX0_reopen_21 : decode cX0_reopen 21 = .ok (.iconst 0, 1) := by decide +kernel
theorem dX0_reopen_22 : decode cX0_reopen 22 = .ok (.istore_n 1, 1) := by decide +kernel
theorem dX0_reopen_23 : decode cX0_reopen 23 = .ok (.iload_n 1, 1) := by decide +kernel
theorem dX0_reopen_24 : decode cX0_reopen 24 = .ok (.aload_n 0, 1) := by decide +kernel
theorem dX0_reopen_25 : decode cX0_reopen 25 = .ok (.getfield 42, 3) := by decide +kernel
theorem dX0_reopen_28 : decode cX0_reopen 28 = .ok (.if_icmp .ge 21, 3) := by decide +kernel
theorem dX0_reopen_31 : decode cX0_reopen 31 = .ok (.aload_n 0, 1) := by decide +kernel
theorem dX0_reopen_32 : decode cX0_reopen 32 = .ok (.getfield 27, 3) := by decide +kernel
theorem dX0_reopen_35 : decode cX0_reopen 35 = .ok (.iload_n 1, 1) := by decide +kernel
theorem dX0_reopen_36 : decode cX0_reopen 36 = .ok (.aload_n 0, 1) := by decide +kernel
theorem dX0_reopen_37 : decode cX0_reopen 37 = .ok (.getfield 17, 3) := by decide +kernel
theorem dX0_reopen_40 : decode cX0_reopen 40 = .ok (.iload_n 1, 1) := by decide +kernel
theorem dX0_reopen_41 : decode cX0_reopen 41 = .ok (.baload, 1) := by decide +kernel
theorem dX0_reopen_42 : decode cX0_reopen 42 = .ok (.bastore, 1) := by decide +kernel
theorem dX0_reopen_43 : decode cX0_reopen 43 = .ok (.iinc 1 1, 3) := by decide +kernel
theorem dX0_reopen_46 : decode cX0_reopen 46 = .ok (.goto (-23), 3) := by decide +kernel
theorem dX0_reopen_49 : decode cX0_reopen 49 = .ok (.return_, 1) := by decide +kernel
abbrev cX0_findWays : ByteArray := prog_1_method_7_code
def yX0_findWays : MethodName := ⟨RX0, "findWays", "(IZ)V"⟩
theorem dX0_findWays_0 : decode cX0_findWays 0 = .ok (.iconst 0, 1) := by decide +kernel
theorem dX0_findWays_1 : decode cX0_findWays 1 = .ok (.istore_n 3, 1) := by decide +kernel
theorem dX0_findWays_2 : decode cX0_findWays 2 = .ok (.iload_n 3, 1) := by decide +kernel
theorem dX0_findWays_3 : decode cX0_findWays 3 = .ok (.bipush 30, 2) := by decide +kernel
theorem dX0_findWays_5 : decode cX0_findWays 5 = .ok (.if_icmp .ge 122, 3) := by decide +kernel
theorem dX0_findWays_8 : decode cX0_findWays 8 = .ok (.iload_n 3, 1) := by decide +kernel
theorem dX0_findWays_9 : decode cX0_findWays 9 = .ok (.iconst 5, 1) := by decide +kernel
theorem dX0_findWays_10 : decode cX0_findWays 10 = .ok (.irem, 1) := by decide +kernel
theorem dX0_findWays_11 : decode cX0_findWays 11 = .ok (.ifCond .le 14, 3) := by decide +kernel
theorem dX0_findWays_14 : decode cX0_findWays 14 = .ok (.aload_n 0, 1) := by decide +kernel
theorem dX0_findWays_15 : decode cX0_findWays 15 = .ok (.getfield 30, 3) := by decide +kernel
theorem dX0_findWays_18 : decode cX0_findWays 18 = .ok (.iload_n 3, 1) := by decide +kernel
theorem dX0_findWays_19 : decode cX0_findWays 19 = .ok (.iconst 1, 1) := by decide +kernel
theorem dX0_findWays_20 : decode cX0_findWays 20 = .ok (.isub, 1) := by decide +kernel
theorem dX0_findWays_21 : decode cX0_findWays 21 = .ok (.iaload, 1) := by decide +kernel
theorem dX0_findWays_22 : decode cX0_findWays 22 = .ok (.goto 4, 3) := by decide +kernel
theorem dX0_findWays_25 : decode cX0_findWays 25 = .ok (.iconst 0, 1) := by decide +kernel
theorem dX0_findWays_26 : decode cX0_findWays 26 = .ok (.istore 4, 2) := by decide +kernel
theorem dX0_findWays_28 : decode cX0_findWays 28 = .ok (.iload_n 3, 1) := by decide +kernel
theorem dX0_findWays_29 : decode cX0_findWays 29 = .ok (.iconst 5, 1) := by decide +kernel
theorem dX0_findWays_30 : decode cX0_findWays 30 = .ok (.if_icmp .lt 14, 3) := by decide +kernel
theorem dX0_findWays_33 : decode cX0_findWays 33 = .ok (.aload_n 0, 1) := by decide +kernel
theorem dX0_findWays_34 : decode cX0_findWays 34 = .ok (.getfield 30, 3) := by decide +kernel
theorem dX0_findWays_37 : decode cX0_findWays 37 = .ok (.iload_n 3, 1) := by decide +kernel
theorem dX0_findWays_38 : decode cX0_findWays 38 = .ok (.iconst 5, 1) := by decide +kernel
theorem dX0_findWays_39 : decode cX0_findWays 39 = .ok (.isub, 1) := by decide +kernel
theorem dX0_findWays_40 : decode cX0_findWays 40 = .ok (.iaload, 1) := by decide +kernel
theorem dX0_findWays_41 : decode cX0_findWays 41 = .ok (.goto 4, 3) := by decide +kernel
theorem dX0_findWays_44 : decode cX0_findWays 44 = .ok (.iconst 0, 1) := by decide +kernel
theorem dX0_findWays_45 : decode cX0_findWays 45 = .ok (.istore 5, 2) := by decide +kernel
theorem dX0_findWays_47 : decode cX0_findWays 47 = .ok (.iload_n 3, 1) := by decide +kernel
theorem dX0_findWays_48 : decode cX0_findWays 48 = .ok (.iload_n 1, 1) := by decide +kernel
theorem dX0_findWays_49 : decode cX0_findWays 49 = .ok (.if_icmp .ge 7, 3) := by decide +kernel
theorem dX0_findWays_52 : decode cX0_findWays 52 = .ok (.iconst 0, 1) := by decide +kernel
theorem dX0_findWays_53 : decode cX0_findWays 53 = .ok (.goto 17, 3) := by decide +kernel
theorem dX0_findWays_56 : decode cX0_findWays 56 = .ok (.iload_n 3, 1) := by decide +kernel
theorem dX0_findWays_57 : decode cX0_findWays 57 = .ok (.iload_n 1, 1) := by decide +kernel
theorem dX0_findWays_58 : decode cX0_findWays 58 = .ok (.if_icmp .ne 7, 3) := by decide +kernel
theorem dX0_findWays_61 : decode cX0_findWays 61 = .ok (.iconst 1, 1) := by decide +kernel
theorem dX0_findWays_62 : decode cX0_findWays 62 = .ok (.goto 8, 3) := by decide +kernel
theorem dX0_findWays_65 : decode cX0_findWays 65 = .ok (.iload 4, 2) := by decide +kernel
theorem dX0_findWays_67 : decode cX0_findWays 67 = .ok (.iload 5, 2) := by decide +kernel
theorem dX0_findWays_69 : decode cX0_findWays 69 = .ok (.iadd, 1) := by decide +kernel
theorem dX0_findWays_70 : decode cX0_findWays 70 = .ok (.istore 6, 2) := by decide +kernel
theorem dX0_findWays_72 : decode cX0_findWays 72 = .ok (.iload_n 2, 1) := by decide +kernel
theorem dX0_findWays_73 : decode cX0_findWays 73 = .ok (.ifCond .eq 12, 3) := by decide +kernel
theorem dX0_findWays_76 : decode cX0_findWays 76 = .ok (.aload_n 0, 1) := by decide +kernel
theorem dX0_findWays_77 : decode cX0_findWays 77 = .ok (.getfield 13, 3) := by decide +kernel
theorem dX0_findWays_80 : decode cX0_findWays 80 = .ok (.iload_n 3, 1) := by decide +kernel
theorem dX0_findWays_81 : decode cX0_findWays 81 = .ok (.iaload, 1) := by decide +kernel
theorem dX0_findWays_82 : decode cX0_findWays 82 = .ok (.goto 4, 3) := by decide +kernel
theorem dX0_findWays_85 : decode cX0_findWays 85 = .ok (.iconst 1, 1) := by decide +kernel
theorem dX0_findWays_86 : decode cX0_findWays 86 = .ok (.istore 7, 2) := by decide +kernel
theorem dX0_findWays_88 : decode cX0_findWays 88 = .ok (.aload_n 0, 1) := by decide +kernel
theorem dX0_findWays_89 : decode cX0_findWays 89 = .ok (.getfield 30, 3) := by decide +kernel
theorem dX0_findWays_92 : decode cX0_findWays 92 = .ok (.iload_n 3, 1) := by decide +kernel
theorem dX0_findWays_93 : decode cX0_findWays 93 = .ok (.aload_n 0, 1) := by decide +kernel
theorem dX0_findWays_94 : decode cX0_findWays 94 = .ok (.getfield 7, 3) := by decide +kernel
theorem dX0_findWays_97 : decode cX0_findWays 97 = .ok (.iload_n 3, 1) := by decide +kernel
theorem dX0_findWays_98 : decode cX0_findWays 98 = .ok (.baload, 1) := by decide +kernel
theorem dX0_findWays_99 : decode cX0_findWays 99 = .ok (.ifCond .ne 12, 3) := by decide +kernel
theorem dX0_findWays_102 : decode cX0_findWays 102 = .ok (.aload_n 0, 1) := by decide +kernel
theorem dX0_findWays_103 : decode cX0_findWays 103 = .ok (.getfield 24, 3) := by decide +kernel
theorem dX0_findWays_106 : decode cX0_findWays 106 = .ok (.iload_n 3, 1) := by decide +kernel
theorem dX0_findWays_107 : decode cX0_findWays 107 = .ok (.baload, 1) := by decide +kernel
theorem dX0_findWays_108 : decode cX0_findWays 108 = .ok (.ifCond .eq 7, 3) := by decide +kernel
theorem dX0_findWays_111 : decode cX0_findWays 111 = .ok (.iconst 0, 1) := by decide +kernel
theorem dX0_findWays_112 : decode cX0_findWays 112 = .ok (.goto 8, 3) := by decide +kernel
theorem dX0_findWays_115 : decode cX0_findWays 115 = .ok (.iload 6, 2) := by decide +kernel
theorem dX0_findWays_117 : decode cX0_findWays 117 = .ok (.iload 7, 2) := by decide +kernel
theorem dX0_findWays_119 : decode cX0_findWays 119 = .ok (.imul, 1) := by decide +kernel
theorem dX0_findWays_120 : decode cX0_findWays 120 = .ok (.iastore, 1) := by decide +kernel
end
section
set_option maxRecDepth 100000
theorem dX0_findWays_121 : decode cX0_findWays 121 = .ok (.iinc 3 1, 3) := by decide +kernel
theorem dX0_findWays_124 : decode cX0_findWays 124 = .ok (.goto (-122), 3) := by decide +kernel
theorem dX0_findWays_127 : decode cX0_findWays 127 = .ok (.return_, 1) := by decide +kernel
abbrev cX0_families : ByteArray := prog_1_method_17_code
def yX0_families : MethodName := ⟨RX0, "families", "()I"⟩
theorem dX0_families_0 : decode cX0_families 0 = .ok (.aload_n 0, 1) := by decide +kernel
theorem dX0_families_1 : decode cX0_families 1 = .ok (.iconst (-1), 1) := by decide +kernel
theorem dX0_families_2 : decode cX0_families 2 = .ok (.iconst (-1), 1) := by decide +kernel
theorem dX0_families_3 : decode cX0_families 3 = .ok (.invokevirtual 86, 3) := by decide +kernel
theorem dX0_families_6 : decode cX0_families 6 = .ok (.ireturn, 1) := by decide +kernel
abbrev cX0_countWithout : ByteArray := prog_1_method_15_code
def yX0_countWithout : MethodName := ⟨RX0, "countWithout", "(II)I"⟩
theorem dX0_countWithout_0 : decode cX0_countWithout 0 = .ok (.aload_n 0, 1) := by decide +kernel
theorem dX0_countWithout_1 : decode cX0_countWithout 1 = .ok (.invokevirtual 79, 3) := by decide +kernel
theorem dX0_countWithout_4 : decode cX0_countWithout 4 = .ok (.iload_n 1, 1) := by decide +kernel
theorem dX0_countWithout_5 : decode cX0_countWithout 5 = .ok (.ifCond .lt 10, 3) := by decide +kernel
theorem dX0_countWithout_8 : decode cX0_countWithout 8 = .ok (.aload_n 0, 1) := by decide +kernel
theorem dX0_countWithout_9 : decode cX0_countWithout 9 = .ok (.getfield 24, 3) := by decide +kernel
theorem dX0_countWithout_12 : decode cX0_countWithout 12 = .ok (.iload_n 1, 1) := by decide +kernel
theorem dX0_countWithout_13 : decode cX0_countWithout 13 = .ok (.iconst 1, 1) := by decide +kernel
theorem dX0_countWithout_14 : decode cX0_countWithout 14 = .ok (.bastore, 1) := by decide +kernel
theorem dX0_countWithout_15 : decode cX0_countWithout 15 = .ok (.iload_n 2, 1) := by decide +kernel
theorem dX0_countWithout_16 : decode cX0_countWithout 16 = .ok (.ifCond .lt 10, 3) := by decide +kernel
theorem dX0_countWithout_19 : decode cX0_countWithout 19 = .ok (.aload_n 0, 1) := by decide +kernel
theorem dX0_countWithout_20 : decode cX0_countWithout 20 = .ok (.getfield 24, 3) := by decide +kernel
theorem dX0_countWithout_23 : decode cX0_countWithout 23 = .ok (.iload_n 2, 1) := by decide +kernel
theorem dX0_countWithout_24 : decode cX0_countWithout 24 = .ok (.iconst 1, 1) := by decide +kernel
theorem dX0_countWithout_25 : decode cX0_countWithout 25 = .ok (.bastore, 1) := by decide +kernel
theorem dX0_countWithout_26 : decode cX0_countWithout 26 = .ok (.aload_n 0, 1) := by decide +kernel
theorem dX0_countWithout_27 : decode cX0_countWithout 27 = .ok (.iconst 0, 1) := by decide +kernel
theorem dX0_countWithout_28 : decode cX0_countWithout 28 = .ok (.iconst 0, 1) := by decide +kernel
theorem dX0_countWithout_29 : decode cX0_countWithout 29 = .ok (.invokevirtual 82, 3) := by decide +kernel
theorem dX0_countWithout_32 : decode cX0_countWithout 32 = .ok (.ireturn, 1) := by decide +kernel
abbrev cX0_count : ByteArray := prog_1_method_13_code
def yX0_count : MethodName := ⟨RX0, "count", "(IZ)I"⟩
theorem dX0_count_0 : decode cX0_count 0 = .ok (.aload_n 0, 1) := by decide +kernel
theorem dX0_count_1 : decode cX0_count 1 = .ok (.iload_n 1, 1) := by decide +kernel
theorem dX0_count_2 : decode cX0_count 2 = .ok (.iload_n 2, 1) := by decide +kernel
theorem dX0_count_3 : decode cX0_count 3 = .ok (.invokevirtual 73, 3) := by decide +kernel
theorem dX0_count_6 : decode cX0_count 6 = .ok (.aload_n 0, 1) := by decide +kernel
theorem dX0_count_7 : decode cX0_count 7 = .ok (.iload_n 1, 1) := by decide +kernel
theorem dX0_count_8 : decode cX0_count 8 = .ok (.invokevirtual 76, 3) := by decide +kernel
theorem dX0_count_11 : decode cX0_count 11 = .ok (.ireturn, 1) := by decide +kernel
abbrev cX0_fillMatrix : ByteArray := prog_1_method_8_code
def yX0_fillMatrix : MethodName := ⟨RX0, "fillMatrix", "(IZ)V"⟩
theorem dX0_fillMatrix_0 : decode cX0_fillMatrix 0 = .ok (.iload_n 1, 1) := by decide +kernel
theorem dX0_fillMatrix_1 : decode cX0_fillMatrix 1 = .ok (.istore_n 3, 1) := by decide +kernel
theorem dX0_fillMatrix_2 : decode cX0_fillMatrix 2 = .ok (.iload_n 3, 1) := by decide +kernel
theorem dX0_fillMatrix_3 : decode cX0_fillMatrix 3 = .ok (.aload_n 0, 1) := by decide +kernel
theorem dX0_fillMatrix_4 : decode cX0_fillMatrix 4 = .ok (.getfield 42, 3) := by decide +kernel
theorem dX0_fillMatrix_7 : decode cX0_fillMatrix 7 = .ok (.if_icmp .ge 61, 3) := by decide +kernel
theorem dX0_fillMatrix_10 : decode cX0_fillMatrix 10 = .ok (.aload_n 0, 1) := by decide +kernel
theorem dX0_fillMatrix_11 : decode cX0_fillMatrix 11 = .ok (.aload_n 0, 1) := by decide +kernel
theorem dX0_fillMatrix_12 : decode cX0_fillMatrix 12 = .ok (.getfield 27, 3) := by decide +kernel
theorem dX0_fillMatrix_15 : decode cX0_fillMatrix 15 = .ok (.iload_n 3, 1) := by decide +kernel
theorem dX0_fillMatrix_16 : decode cX0_fillMatrix 16 = .ok (.baload, 1) := by decide +kernel
theorem dX0_fillMatrix_17 : decode cX0_fillMatrix 17 = .ok (.iload_n 2, 1) := by decide +kernel
theorem dX0_fillMatrix_18 : decode cX0_fillMatrix 18 = .ok (.invokevirtual 58, 3) := by decide +kernel
theorem dX0_fillMatrix_21 : decode cX0_fillMatrix 21 = .ok (.iload_n 1, 1) := by decide +kernel
theorem dX0_fillMatrix_22 : decode cX0_fillMatrix 22 = .ok (.istore 4, 2) := by decide +kernel
theorem dX0_fillMatrix_24 : decode cX0_fillMatrix 24 = .ok (.iload 4, 2) := by decide +kernel
theorem dX0_fillMatrix_26 : decode cX0_fillMatrix 26 = .ok (.aload_n 0, 1) := by decide +kernel
theorem dX0_fillMatrix_27 : decode cX0_fillMatrix 27 = .ok (.getfield 42, 3) := by decide +kernel
theorem dX0_fillMatrix_30 : decode cX0_fillMatrix 30 = .ok (.if_icmp .ge 32, 3) := by decide +kernel
theorem dX0_fillMatrix_33 : decode cX0_fillMatrix 33 = .ok (.aload_n 0, 1) := by decide +kernel
theorem dX0_fillMatrix_34 : decode cX0_fillMatrix 34 = .ok (.getfield 33, 3) := by decide +kernel
theorem dX0_fillMatrix_37 : decode cX0_fillMatrix 37 = .ok (.iconst 4, 1) := by decide +kernel
theorem dX0_fillMatrix_38 : decode cX0_fillMatrix 38 = .ok (.iload_n 3, 1) := by decide +kernel
theorem dX0_fillMatrix_39 : decode cX0_fillMatrix 39 = .ok (.imul, 1) := by decide +kernel
theorem dX0_fillMatrix_40 : decode cX0_fillMatrix 40 = .ok (.iload 4, 2) := by decide +kernel
theorem dX0_fillMatrix_42 : decode cX0_fillMatrix 42 = .ok (.iadd, 1) := by decide +kernel
theorem dX0_fillMatrix_43 : decode cX0_fillMatrix 43 = .ok (.aload_n 0, 1) := by decide +kernel
theorem dX0_fillMatrix_44 : decode cX0_fillMatrix 44 = .ok (.getfield 30, 3) := by decide +kernel
theorem dX0_fillMatrix_47 : decode cX0_fillMatrix 47 = .ok (.aload_n 0, 1) := by decide +kernel
theorem dX0_fillMatrix_48 : decode cX0_fillMatrix 48 = .ok (.getfield 21, 3) := by decide +kernel
theorem dX0_fillMatrix_51 : decode cX0_fillMatrix 51 = .ok (.iload 4, 2) := by decide +kernel
theorem dX0_fillMatrix_53 : decode cX0_fillMatrix 53 = .ok (.baload, 1) := by decide +kernel
theorem dX0_fillMatrix_54 : decode cX0_fillMatrix 54 = .ok (.iaload, 1) := by decide +kernel
theorem dX0_fillMatrix_55 : decode cX0_fillMatrix 55 = .ok (.iastore, 1) := by decide +kernel
theorem dX0_fillMatrix_56 : decode cX0_fillMatrix 56 = .ok (.iinc 4 1, 3) := by decide +kernel
theorem dX0_fillMatrix_59 : decode cX0_fillMatrix 59 = .ok (.goto (-35), 3) := by decide +kernel
theorem dX0_fillMatrix_62 : decode cX0_fillMatrix 62 = .ok (.iinc 3 1, 3) := by decide +kernel
theorem dX0_fillMatrix_65 : decode cX0_fillMatrix 65 = .ok (.goto (-63), 3) := by decide +kernel
theorem dX0_fillMatrix_68 : decode cX0_fillMatrix 68 = .ok (.return_, 1) := by decide +kernel
abbrev cX0_determinant : ByteArray := prog_1_method_12_code
def yX0_determinant : MethodName := ⟨RX0, "determinant", "(I)I"⟩
theorem dX0_determinant_0 : decode cX0_determinant 0 = .ok (.iconst 0, 1) := by decide +kernel
theorem dX0_determinant_1 : decode cX0_determinant 1 = .ok (.istore_n 2, 1) := by decide +kernel
theorem dX0_determinant_2 : decode cX0_determinant 2 = .ok (.iload_n 2, 1) := by decide +kernel
theorem dX0_determinant_3 : decode cX0_determinant 3 = .ok (.bipush 16, 2) := by decide +kernel
theorem dX0_determinant_5 : decode cX0_determinant 5 = .ok (.if_icmp .ge 84, 3) := by decide +kernel
theorem dX0_determinant_8 : decode cX0_determinant 8 = .ok (.iload_n 2, 1) := by decide +kernel
theorem dX0_determinant_9 : decode cX0_determinant 9 = .ok (.iconst 2, 1) := by decide +kernel
theorem dX0_determinant_10 : decode cX0_determinant 10 = .ok (.ishr, 1) := by decide +kernel
theorem dX0_determinant_11 : decode cX0_determinant 11 = .ok (.istore_n 3, 1) := by decide +kernel
theorem dX0_determinant_12 : decode cX0_determinant 12 = .ok (.iload_n 2, 1) := by decide +kernel
theorem dX0_determinant_13 : decode cX0_determinant 13 = .ok (.iconst 3, 1) := by decide +kernel
theorem dX0_determinant_14 : decode cX0_determinant 14 = .ok (.iand, 1) := by decide +kernel
theorem dX0_determinant_15 : decode cX0_determinant 15 = .ok (.istore 4, 2) := by decide +kernel
theorem dX0_determinant_17 : decode cX0_determinant 17 = .ok (.iload_n 3, 1) := by decide +kernel
theorem dX0_determinant_18 : decode cX0_determinant 18 = .ok (.iload_n 1, 1) := by decide +kernel
theorem dX0_determinant_19 : decode cX0_determinant 19 = .ok (.if_icmp .lt 30, 3) := by decide +kernel
theorem dX0_determinant_22 : decode cX0_determinant 22 = .ok (.iload_n 3, 1) := by decide +kernel
theorem dX0_determinant_23 : decode cX0_determinant 23 = .ok (.aload_n 0, 1) := by decide +kernel
theorem dX0_determinant_24 : decode cX0_determinant 24 = .ok (.getfield 42, 3) := by decide +kernel
theorem dX0_determinant_27 : decode cX0_determinant 27 = .ok (.if_icmp .ge 22, 3) := by decide +kernel
theorem dX0_determinant_30 : decode cX0_determinant 30 = .ok (.iload 4, 2) := by decide +kernel
theorem dX0_determinant_32 : decode cX0_determinant 32 = .ok (.iload_n 1, 1) := by decide +kernel
theorem dX0_determinant_33 : decode cX0_determinant 33 = .ok (.if_icmp .lt 16, 3) := by decide +kernel
theorem dX0_determinant_36 : decode cX0_determinant 36 = .ok (.iload 4, 2) := by decide +kernel
theorem dX0_determinant_38 : decode cX0_determinant 38 = .ok (.aload_n 0, 1) := by decide +kernel
theorem dX0_determinant_39 : decode cX0_determinant 39 = .ok (.getfield 42, 3) := by decide +kernel
theorem dX0_determinant_42 : decode cX0_determinant 42 = .ok (.if_icmp .ge 7, 3) := by decide +kernel
theorem dX0_determinant_45 : decode cX0_determinant 45 = .ok (.iconst 1, 1) := by decide +kernel
theorem dX0_determinant_46 : decode cX0_determinant 46 = .ok (.goto 4, 3) := by decide +kernel
theorem dX0_determinant_49 : decode cX0_determinant 49 = .ok (.iconst 0, 1) := by decide +kernel
theorem dX0_determinant_50 : decode cX0_determinant 50 = .ok (.istore 5, 2) := by decide +kernel
theorem dX0_determinant_52 : decode cX0_determinant 52 = .ok (.aload_n 0, 1) := by decide +kernel
theorem dX0_determinant_53 : decode cX0_determinant 53 = .ok (.getfield 33, 3) := by decide +kernel
theorem dX0_determinant_56 : decode cX0_determinant 56 = .ok (.iload_n 2, 1) := by decide +kernel
theorem dX0_determinant_57 : decode cX0_determinant 57 = .ok (.iload 5, 2) := by decide +kernel
theorem dX0_determinant_59 : decode cX0_determinant 59 = .ok (.ifCond .eq 12, 3) := by decide +kernel
theorem dX0_determinant_62 : decode cX0_determinant 62 = .ok (.aload_n 0, 1) := by decide +kernel
theorem dX0_determinant_63 : decode cX0_determinant 63 = .ok (.getfield 33, 3) := by decide +kernel
theorem dX0_determinant_66 : decode cX0_determinant 66 = .ok (.iload_n 2, 1) := by decide +kernel
theorem dX0_determinant_67 : decode cX0_determinant 67 = .ok (.iaload, 1) := by decide +kernel
theorem dX0_determinant_68 : decode cX0_determinant 68 = .ok (.goto 14, 3) := by decide +kernel
theorem dX0_determinant_71 : decode cX0_determinant 71 = .ok (.iload_n 3, 1) := by decide +kernel
theorem dX0_determinant_72 : decode cX0_determinant 72 = .ok (.iload 4, 2) := by decide +kernel
theorem dX0_determinant_74 : decode cX0_determinant 74 = .ok (.if_icmp .ne 7, 3) := by decide +kernel
theorem dX0_determinant_77 : decode cX0_determinant 77 = .ok (.iconst 1, 1) := by decide +kernel
theorem dX0_determinant_78 : decode cX0_determinant 78 = .ok (.goto 4, 3) := by decide +kernel
theorem dX0_determinant_81 : decode cX0_determinant 81 = .ok (.iconst 0, 1) := by decide +kernel
theorem dX0_determinant_82 : decode cX0_determinant 82 = .ok (.iastore, 1) := by decide +kernel
theorem dX0_determinant_83 : decode cX0_determinant 83 = .ok (.iinc 2 1, 3) := by decide +kernel
theorem dX0_determinant_86 : decode cX0_determinant 86 = .ok (.goto (-84), 3) := by decide +kernel
theorem dX0_determinant_89 : decode cX0_determinant 89 = .ok (.iload_n 1, 1) := by decide +kernel
theorem dX0_determinant_90 : decode cX0_determinant 90 = .ok (.ifCond .le 10, 3) := by decide +kernel
theorem dX0_determinant_93 : decode cX0_determinant 93 = .ok (.aload_n 0, 1) := by decide +kernel
theorem dX0_determinant_94 : decode cX0_determinant 94 = .ok (.invokevirtual 66, 3) := by decide +kernel
theorem dX0_determinant_97 : decode cX0_determinant 97 = .ok (.goto 7, 3) := by decide +kernel
theorem dX0_determinant_100 : decode cX0_determinant 100 = .ok (.aload_n 0, 1) := by decide +kernel
theorem dX0_determinant_101 : decode cX0_determinant 101 = .ok (.invokevirtual 70, 3) := by decide +kernel
theorem dX0_determinant_104 : decode cX0_determinant 104 = .ok (.ireturn, 1) := by decide +kernel
abbrev cX0_lastThree : ByteArray := prog_1_method_10_code
def yX0_lastThree : MethodName := ⟨RX0, "lastThree", "()I"⟩
theorem dX0_lastThree_0 : decode cX0_lastThree 0 = .ok (.aload_n 0, 1) := by decide +kernel
theorem dX0_lastThree_1 : decode cX0_lastThree 1 = .ok (.iconst 2, 1) := by decide +kernel
theorem dX0_lastThree_2 : decode cX0_lastThree 2 = .ok (.iconst 3, 1) := by decide +kernel
theorem dX0_lastThree_3 : decode cX0_lastThree 3 = .ok (.iconst 2, 1) := by decide +kernel
theorem dX0_lastThree_4 : decode cX0_lastThree 4 = .ok (.iconst 3, 1) := by decide +kernel
theorem dX0_lastThree_5 : decode cX0_lastThree 5 = .ok (.invokevirtual 62, 3) := by decide +kernel
theorem dX0_lastThree_8 : decode cX0_lastThree 8 = .ok (.istore_n 1, 1) := by decide +kernel
theorem dX0_lastThree_9 : decode cX0_lastThree 9 = .ok (.aload_n 0, 1) := by decide +kernel
theorem dX0_lastThree_10 : decode cX0_lastThree 10 = .ok (.iconst 2, 1) := by decide +kernel
theorem dX0_lastThree_11 : decode cX0_lastThree 11 = .ok (.iconst 3, 1) := by decide +kernel
theorem dX0_lastThree_12 : decode cX0_lastThree 12 = .ok (.iconst 1, 1) := by decide +kernel
theorem dX0_lastThree_13 : decode cX0_lastThree 13 = .ok (.iconst 3, 1) := by decide +kernel
theorem dX0_lastThree_14 : decode cX0_lastThree 14 = .ok (.invokevirtual 62, 3) := by decide +kernel
theorem dX0_lastThree_17 : decode cX0_lastThree 17 = .ok (.istore_n 2, 1) := by decide +kernel
theorem dX0_lastThree_18 : decode cX0_lastThree 18 = .ok (.aload_n 0, 1) := by decide +kernel
theorem dX0_lastThree_19 : decode cX0_lastThree 19 = .ok (.iconst 2, 1) := by decide +kernel
theorem dX0_lastThree_20 : decode cX0_lastThree 20 = .ok (.iconst 3, 1) := by decide +kernel
theorem dX0_lastThree_21 : decode cX0_lastThree 21 = .ok (.iconst 1, 1) := by decide +kernel
theorem dX0_lastThree_22 : decode cX0_lastThree 22 = .ok (.iconst 2, 1) := by decide +kernel
theorem dX0_lastThree_23 : decode cX0_lastThree 23 = .ok (.invokevirtual 62, 3) := by decide +kernel
theorem dX0_lastThree_26 : decode cX0_lastThree 26 = .ok (.istore_n 3, 1) := by decide +kernel
theorem dX0_lastThree_27 : decode cX0_lastThree 27 = .ok (.aload_n 0, 1) := by decide +kernel
theorem dX0_lastThree_28 : decode cX0_lastThree 28 = .ok (.getfield 33, 3) := by decide +kernel
theorem dX0_lastThree_31 : decode cX0_lastThree 31 = .ok (.iconst 5, 1) := by decide +kernel
theorem dX0_lastThree_32 : decode cX0_lastThree 32 = .ok (.iaload, 1) := by decide +kernel
theorem dX0_lastThree_33 : decode cX0_lastThree 33 = .ok (.iload_n 1, 1) := by decide +kernel
theorem dX0_lastThree_34 : decode cX0_lastThree 34 = .ok (.imul, 1) := by decide +kernel
theorem dX0_lastThree_35 : decode cX0_lastThree 35 = .ok (.aload_n 0, 1) := by decide +kernel
theorem dX0_lastThree_36 : decode cX0_lastThree 36 = .ok (.getfield 33, 3) := by decide +kernel
theorem dX0_lastThree_39 : decode cX0_lastThree 39 = .ok (.bipush 6, 2) := by decide +kernel
theorem dX0_lastThree_41 : decode cX0_lastThree 41 = .ok (.iaload, 1) := by decide +kernel
theorem dX0_lastThree_42 : decode cX0_lastThree 42 = .ok (.iload_n 2, 1) := by decide +kernel
theorem dX0_lastThree_43 : decode cX0_lastThree 43 = .ok (.imul, 1) := by decide +kernel
theorem dX0_lastThree_44 : decode cX0_lastThree 44 = .ok (.isub, 1) := by decide +kernel
theorem dX0_lastThree_45 : decode cX0_lastThree 45 = .ok (.aload_n 0, 1) := by decide +kernel
theorem dX0_lastThree_46 : decode cX0_lastThree 46 = .ok (.getfield 33, 3) := by decide +kernel
theorem dX0_lastThree_49 : decode cX0_lastThree 49 = .ok (.bipush 7, 2) := by decide +kernel
theorem dX0_lastThree_51 : decode cX0_lastThree 51 = .ok (.iaload, 1) := by decide +kernel
theorem dX0_lastThree_52 : decode cX0_lastThree 52 = .ok (.iload_n 3, 1) := by decide +kernel
theorem dX0_lastThree_53 : decode cX0_lastThree 53 = .ok (.imul, 1) := by decide +kernel
theorem dX0_lastThree_54 : decode cX0_lastThree 54 = .ok (.iadd, 1) := by decide +kernel
theorem dX0_lastThree_55 : decode cX0_lastThree 55 = .ok (.ireturn, 1) := by decide +kernel
abbrev cX0_two : ByteArray := prog_1_method_9_code
def yX0_two : MethodName := ⟨RX0, "two", "(IIII)I"⟩
theorem dX0_two_0 : decode cX0_two 0 = .ok (.aload_n 0, 1) := by decide +kernel
theorem dX0_two_1 : decode cX0_two 1 = .ok (.getfield 33, 3) := by decide +kernel
theorem dX0_two_4 : decode cX0_two 4 = .ok (.iconst 4, 1) := by decide +kernel
theorem dX0_two_5 : decode cX0_two 5 = .ok (.iload_n 1, 1) := by decide +kernel
theorem dX0_two_6 : decode cX0_two 6 = .ok (.imul, 1) := by decide +kernel
theorem dX0_two_7 : decode cX0_two 7 = .ok (.iload_n 3, 1) := by decide +kernel
theorem dX0_two_8 : decode cX0_two 8 = .ok (.iadd, 1) := by decide +kernel
theorem dX0_two_9 : decode cX0_two 9 = .ok (.iaload, 1) := by decide +kernel
theorem dX0_two_10 : decode cX0_two 10 = .ok (.aload_n 0, 1) := by decide +kernel
theorem dX0_two_11 : decode cX0_two 11 = .ok (.getfield 33, 3) := by decide +kernel
theorem dX0_two_14 : decode cX0_two 14 = .ok (.iconst 4, 1) := by decide +kernel
theorem dX0_two_15 : decode cX0_two 15 = .ok (.iload_n 2, 1) := by decide +kernel
theorem dX0_two_16 : decode cX0_two 16 = .ok (.imul, 1) := by decide +kernel
theorem dX0_two_17 : decode cX0_two 17 = .ok (.iload 4, 2) := by decide +kernel
theorem dX0_two_19 : decode cX0_two 19 = .ok (.iadd, 1) := by decide +kernel
theorem dX0_two_20 : decode cX0_two 20 = .ok (.iaload, 1) := by decide +kernel
theorem dX0_two_21 : decode cX0_two 21 = .ok (.imul, 1) := by decide +kernel
theorem dX0_two_22 : decode cX0_two 22 = .ok (.aload_n 0, 1) := by decide +kernel
theorem dX0_two_23 : decode cX0_two 23 = .ok (.getfield 33, 3) := by decide +kernel
theorem dX0_two_26 : decode cX0_two 26 = .ok (.iconst 4, 1) := by decide +kernel
theorem dX0_two_27 : decode cX0_two 27 = .ok (.iload_n 1, 1) := by decide +kernel
theorem dX0_two_28 : decode cX0_two 28 = .ok (.imul, 1) := by decide +kernel
theorem dX0_two_29 : decode cX0_two 29 = .ok (.iload 4, 2) := by decide +kernel
theorem dX0_two_31 : decode cX0_two 31 = .ok (.iadd, 1) := by decide +kernel
theorem dX0_two_32 : decode cX0_two 32 = .ok (.iaload, 1) := by decide +kernel
theorem dX0_two_33 : decode cX0_two 33 = .ok (.aload_n 0, 1) := by decide +kernel
theorem dX0_two_34 : decode cX0_two 34 = .ok (.getfield 33, 3) := by decide +kernel
theorem dX0_two_37 : decode cX0_two 37 = .ok (.iconst 4, 1) := by decide +kernel
theorem dX0_two_38 : decode cX0_two 38 = .ok (.iload_n 2, 1) := by decide +kernel
theorem dX0_two_39 : decode cX0_two 39 = .ok (.imul, 1) := by decide +kernel
theorem dX0_two_40 : decode cX0_two 40 = .ok (.iload_n 3, 1) := by decide +kernel
theorem dX0_two_41 : decode cX0_two 41 = .ok (.iadd, 1) := by decide +kernel
theorem dX0_two_42 : decode cX0_two 42 = .ok (.iaload, 1) := by decide +kernel
theorem dX0_two_43 : decode cX0_two 43 = .ok (.imul, 1) := by decide +kernel
theorem dX0_two_44 : decode cX0_two 44 = .ok (.isub, 1) := by decide +kernel
theorem dX0_two_45 : decode cX0_two 45 = .ok (.ireturn, 1) := by decide +kernel
abbrev cX0_allFour : ByteArray := prog_1_method_11_code
def yX0_allFour : MethodName := ⟨RX0, "allFour", "()I"⟩
theorem dX0_allFour_0 : decode cX0_allFour 0 = .ok (.iconst 0, 1) := by decide +kernel
theorem dX0_allFour_1 : decode cX0_allFour 1 = .ok (.istore_n 1, 1) := by decide +kernel
theorem dX0_allFour_2 : decode cX0_allFour 2 = .ok (.iconst 0, 1) := by decide +kernel
theorem dX0_allFour_3 : decode cX0_allFour 3 = .ok (.istore_n 2, 1) := by decide +kernel
theorem dX0_allFour_4 : decode cX0_allFour 4 = .ok (.iload_n 2, 1) := by decide +kernel
theorem dX0_allFour_5 : decode cX0_allFour 5 = .ok (.bipush 16, 2) := by decide +kernel
theorem dX0_allFour_7 : decode cX0_allFour 7 = .ok (.if_icmp .ge 108, 3) := by decide +kernel
theorem dX0_allFour_10 : decode cX0_allFour 10 = .ok (.iload_n 2, 1) := by decide +kernel
theorem dX0_allFour_11 : decode cX0_allFour 11 = .ok (.iconst 2, 1) := by decide +kernel
theorem dX0_allFour_12 : decode cX0_allFour 12 = .ok (.ishr, 1) := by decide +kernel
theorem dX0_allFour_13 : decode cX0_allFour 13 = .ok (.istore_n 3, 1) := by decide +kernel
theorem dX0_allFour_14 : decode cX0_allFour 14 = .ok (.iload_n 2, 1) := by decide +kernel
theorem dX0_allFour_15 : decode cX0_allFour 15 = .ok (.iconst 3, 1) := by decide +kernel
theorem dX0_allFour_16 : decode cX0_allFour 16 = .ok (.iand, 1) := by decide +kernel
theorem dX0_allFour_17 : decode cX0_allFour 17 = .ok (.istore 4, 2) := by decide +kernel
theorem dX0_allFour_19 : decode cX0_allFour 19 = .ok (.iload_n 3, 1) := by decide +kernel
theorem dX0_allFour_20 : decode cX0_allFour 20 = .ok (.iload 4, 2) := by decide +kernel
theorem dX0_allFour_22 : decode cX0_allFour 22 = .ok (.if_icmp .ge 87, 3) := by decide +kernel
theorem dX0_allFour_25 : decode cX0_allFour 25 = .ok (.iload_n 3, 1) := by decide +kernel
theorem dX0_allFour_26 : decode cX0_allFour 26 = .ok (.ifCond .ne 17, 3) := by decide +kernel
theorem dX0_allFour_29 : decode cX0_allFour 29 = .ok (.iload 4, 2) := by decide +kernel
theorem dX0_allFour_31 : decode cX0_allFour 31 = .ok (.iconst 1, 1) := by decide +kernel
theorem dX0_allFour_32 : decode cX0_allFour 32 = .ok (.if_icmp .ne 7, 3) := by decide +kernel
theorem dX0_allFour_35 : decode cX0_allFour 35 = .ok (.iconst 2, 1) := by decide +kernel
theorem dX0_allFour_36 : decode cX0_allFour 36 = .ok (.goto 8, 3) := by decide +kernel
theorem dX0_allFour_39 : decode cX0_allFour 39 = .ok (.iconst 1, 1) := by decide +kernel
theorem dX0_allFour_40 : decode cX0_allFour 40 = .ok (.goto 4, 3) := by decide +kernel
theorem dX0_allFour_43 : decode cX0_allFour 43 = .ok (.iconst 0, 1) := by decide +kernel
theorem dX0_allFour_44 : decode cX0_allFour 44 = .ok (.istore 5, 2) := by decide +kernel
theorem dX0_allFour_46 : decode cX0_allFour 46 = .ok (.bipush 6, 2) := by decide +kernel
theorem dX0_allFour_48 : decode cX0_allFour 48 = .ok (.iload_n 3, 1) := by decide +kernel
theorem dX0_allFour_49 : decode cX0_allFour 49 = .ok (.isub, 1) := by decide +kernel
theorem dX0_allFour_50 : decode cX0_allFour 50 = .ok (.iload 4, 2) := by decide +kernel
theorem dX0_allFour_52 : decode cX0_allFour 52 = .ok (.isub, 1) := by decide +kernel
theorem dX0_allFour_53 : decode cX0_allFour 53 = .ok (.iload 5, 2) := by decide +kernel
theorem dX0_allFour_55 : decode cX0_allFour 55 = .ok (.isub, 1) := by decide +kernel
theorem dX0_allFour_56 : decode cX0_allFour 56 = .ok (.istore 6, 2) := by decide +kernel
theorem dX0_allFour_58 : decode cX0_allFour 58 = .ok (.aload_n 0, 1) := by decide +kernel
theorem dX0_allFour_59 : decode cX0_allFour 59 = .ok (.iconst 0, 1) := by decide +kernel
theorem dX0_allFour_60 : decode cX0_allFour 60 = .ok (.iconst 1, 1) := by decide +kernel
theorem dX0_allFour_61 : decode cX0_allFour 61 = .ok (.iload_n 3, 1) := by decide +kernel
theorem dX0_allFour_62 : decode cX0_allFour 62 = .ok (.iload 4, 2) := by decide +kernel
theorem dX0_allFour_64 : decode cX0_allFour 64 = .ok (.invokevirtual 62, 3) := by decide +kernel
theorem dX0_allFour_67 : decode cX0_allFour 67 = .ok (.istore 7, 2) := by decide +kernel
theorem dX0_allFour_69 : decode cX0_allFour 69 = .ok (.aload_n 0, 1) := by decide +kernel
theorem dX0_allFour_70 : decode cX0_allFour 70 = .ok (.iconst 2, 1) := by decide +kernel
theorem dX0_allFour_71 : decode cX0_allFour 71 = .ok (.iconst 3, 1) := by decide +kernel
theorem dX0_allFour_72 : decode cX0_allFour 72 = .ok (.iload 5, 2) := by decide +kernel
theorem dX0_allFour_74 : decode cX0_allFour 74 = .ok (.iload 6, 2) := by decide +kernel
theorem dX0_allFour_76 : decode cX0_allFour 76 = .ok (.invokevirtual 62, 3) := by decide +kernel
theorem dX0_allFour_79 : decode cX0_allFour 79 = .ok (.istore 8, 2) := by decide +kernel
theorem dX0_allFour_81 : decode cX0_allFour 81 = .ok (.iload_n 3, 1) := by decide +kernel
theorem dX0_allFour_82 : decode cX0_allFour 82 = .ok (.iload 4, 2) := by decide +kernel
theorem dX0_allFour_84 : decode cX0_allFour 84 = .ok (.iadd, 1) := by decide +kernel
theorem dX0_allFour_85 : decode cX0_allFour 85 = .ok (.iconst 1, 1) := by decide +kernel
theorem dX0_allFour_86 : decode cX0_allFour 86 = .ok (.iand, 1) := by decide +kernel
theorem dX0_allFour_87 : decode cX0_allFour 87 = .ok (.iconst 1, 1) := by decide +kernel
theorem dX0_allFour_88 : decode cX0_allFour 88 = .ok (.if_icmp .ne 13, 3) := by decide +kernel
theorem dX0_allFour_91 : decode cX0_allFour 91 = .ok (.iload_n 1, 1) := by decide +kernel
theorem dX0_allFour_92 : decode cX0_allFour 92 = .ok (.iload 7, 2) := by decide +kernel
theorem dX0_allFour_94 : decode cX0_allFour 94 = .ok (.iload 8, 2) := by decide +kernel
theorem dX0_allFour_96 : decode cX0_allFour 96 = .ok (.imul, 1) := by decide +kernel
theorem dX0_allFour_97 : decode cX0_allFour 97 = .ok (.iadd, 1) := by decide +kernel
theorem dX0_allFour_98 : decode cX0_allFour 98 = .ok (.goto 10, 3) := by decide +kernel
theorem dX0_allFour_101 : decode cX0_allFour 101 = .ok (.iload_n 1, 1) := by decide +kernel
theorem dX0_allFour_102 : decode cX0_allFour 102 = .ok (.iload 7, 2) := by decide +kernel
theorem dX0_allFour_104 : decode cX0_allFour 104 = .ok (.iload 8, 2) := by decide +kernel
theorem dX0_allFour_106 : decode cX0_allFour 106 = .ok (.imul, 1) := by decide +kernel
theorem dX0_allFour_107 : decode cX0_allFour 107 = .ok (.isub, 1) := by decide +kernel
theorem dX0_allFour_108 : decode cX0_allFour 108 = .ok (.istore_n 1, 1) := by decide +kernel
theorem dX0_allFour_109 : decode cX0_allFour 109 = .ok (.iinc 2 1, 3) := by decide +kernel
theorem dX0_allFour_112 : decode cX0_allFour 112 = .ok (.goto (-108), 3) := by decide +kernel
theorem dX0_allFour_115 : decode cX0_allFour 115 = .ok (.iload_n 1, 1) := by decide +kernel
theorem dX0_allFour_116 : decode cX0_allFour 116 = .ok (.ireturn, 1) := by decide +kernel
abbrev cX0_sum : ByteArray := prog_1_method_18_code
def yX0_sum : MethodName := ⟨RX0, "sum", "()I"⟩
theorem dX0_sum_0 : decode cX0_sum 0 = .ok (.aload_n 0, 1) := by decide +kernel
theorem dX0_sum_1 : decode cX0_sum 1 = .ok (.invokevirtual 79, 3) := by decide +kernel
theorem dX0_sum_4 : decode cX0_sum 4 = .ok (.aload_n 0, 1) := by decide +kernel
theorem dX0_sum_5 : decode cX0_sum 5 = .ok (.iconst 0, 1) := by decide +kernel
theorem dX0_sum_6 : decode cX0_sum 6 = .ok (.iconst 1, 1) := by decide +kernel
theorem dX0_sum_7 : decode cX0_sum 7 = .ok (.invokevirtual 82, 3) := by decide +kernel
theorem dX0_sum_10 : decode cX0_sum 10 = .ok (.ireturn, 1) := by decide +kernel
abbrev cX0_through : ByteArray := prog_1_method_19_code
def yX0_through : MethodName := ⟨RX0, "through", "(I)I"⟩
theorem dX0_through_0 : decode cX0_through 0 = .ok (.aload_n 0, 1) := by decide +kernel
theorem dX0_through_1 : decode cX0_through 1 = .ok (.iload_n 1, 1) := by decide +kernel
theorem dX0_through_2 : decode cX0_through 2 = .ok (.invokevirtual 54, 3) := by decide +kernel
theorem dX0_through_5 : decode cX0_through 5 = .ok (.ifCond .eq 5, 3) := by decide +kernel
theorem dX0_through_8 : decode cX0_through 8 = .ok (.iconst (-1), 1) := by decide +kernel
theorem dX0_through_9 : decode cX0_through 9 = .ok (.ireturn, 1) := by decide +kernel
theorem dX0_through_10 : decode cX0_through 10 = .ok (.aload_n 0, 1) := by decide +kernel
theorem dX0_through_11 : decode cX0_through 11 = .ok (.iconst (-1), 1) := by decide +kernel
theorem dX0_through_12 : decode cX0_through 12 = .ok (.iconst (-1), 1) := by decide +kernel
theorem dX0_through_13 : decode cX0_through 13 = .ok (.invokevirtual 86, 3) := by decide +kernel
theorem dX0_through_16 : decode cX0_through 16 = .ok (.aload_n 0, 1) := by decide +kernel
theorem dX0_through_17 : decode cX0_through 17 = .ok (.iload_n 1, 1) := by decide +kernel
theorem dX0_through_18 : decode cX0_through 18 = .ok (.iconst (-1), 1) := by decide +kernel
theorem dX0_through_19 : decode cX0_through 19 = .ok (.invokevirtual 86, 3) := by decide +kernel
theorem dX0_through_22 : decode cX0_through 22 = .ok (.isub, 1) := by decide +kernel
theorem dX0_through_23 : decode cX0_through 23 = .ok (.ireturn, 1) := by decide +kernel
abbrev cX0_throughBoth : ByteArray := prog_1_method_20_code
def yX0_throughBoth : MethodName := ⟨RX0, "throughBoth", "(II)I"⟩
theorem dX0_throughBoth_0 : decode cX0_throughBoth 0 = .ok (.aload_n 0, 1) := by decide +kernel
theorem dX0_throughBoth_1 : decode cX0_throughBoth 1 = .ok (.iload_n 1, 1) := by decide +kernel
theorem dX0_throughBoth_2 : decode cX0_throughBoth 2 = .ok (.invokevirtual 54, 3) := by decide +kernel
theorem dX0_throughBoth_5 : decode cX0_throughBoth 5 = .ok (.ifCond .ne 11, 3) := by decide +kernel
theorem dX0_throughBoth_8 : decode cX0_throughBoth 8 = .ok (.aload_n 0, 1) := by decide +kernel
theorem dX0_throughBoth_9 : decode cX0_throughBoth 9 = .ok (.iload_n 2, 1) := by decide +kernel
theorem dX0_throughBoth_10 : decode cX0_throughBoth 10 = .ok (.invokevirtual 54, 3) := by decide +kernel
theorem dX0_throughBoth_13 : decode cX0_throughBoth 13 = .ok (.ifCond .eq 5, 3) := by decide +kernel
theorem dX0_throughBoth_16 : decode cX0_throughBoth 16 = .ok (.iconst (-1), 1) := by decide +kernel
theorem dX0_throughBoth_17 : decode cX0_throughBoth 17 = .ok (.ireturn, 1) := by decide +kernel
theorem dX0_throughBoth_18 : decode cX0_throughBoth 18 = .ok (.aload_n 0, 1) := by decide +kernel
theorem dX0_throughBoth_19 : decode cX0_throughBoth 19 = .ok (.iconst (-1), 1) := by decide +kernel
theorem dX0_throughBoth_20 : decode cX0_throughBoth 20 = .ok (.iconst (-1), 1) := by decide +kernel
theorem dX0_throughBoth_21 : decode cX0_throughBoth 21 = .ok (.invokevirtual 86, 3) := by decide +kernel
theorem dX0_throughBoth_24 : decode cX0_throughBoth 24 = .ok (.aload_n 0, 1) := by decide +kernel
theorem dX0_throughBoth_25 : decode cX0_throughBoth 25 = .ok (.iload_n 1, 1) := by decide +kernel
theorem dX0_throughBoth_26 : decode cX0_throughBoth 26 = .ok (.iconst (-1), 1) := by decide +kernel
theorem dX0_throughBoth_27 : decode cX0_throughBoth 27 = .ok (.invokevirtual 86, 3) := by decide +kernel
theorem dX0_throughBoth_30 : decode cX0_throughBoth 30 = .ok (.isub, 1) := by decide +kernel
theorem dX0_throughBoth_31 : decode cX0_throughBoth 31 = .ok (.aload_n 0, 1) := by decide +kernel
theorem dX0_throughBoth_32 : decode cX0_throughBoth 32 = .ok (.iload_n 2, 1) := by decide +kernel
theorem dX0_throughBoth_33 : decode cX0_throughBoth 33 = .ok (.iconst (-1), 1) := by decide +kernel
theorem dX0_throughBoth_34 : decode cX0_throughBoth 34 = .ok (.invokevirtual 86, 3) := by decide +kernel
theorem dX0_throughBoth_37 : decode cX0_throughBoth 37 = .ok (.isub, 1) := by decide +kernel
theorem dX0_throughBoth_38 : decode cX0_throughBoth 38 = .ok (.aload_n 0, 1) := by decide +kernel
theorem dX0_throughBoth_39 : decode cX0_throughBoth 39 = .ok (.iload_n 1, 1) := by decide +kernel
theorem dX0_throughBoth_40 : decode cX0_throughBoth 40 = .ok (.iload_n 2, 1) := by decide +kernel
theorem dX0_throughBoth_41 : decode cX0_throughBoth 41 = .ok (.invokevirtual 86, 3) := by decide +kernel
theorem dX0_throughBoth_44 : decode cX0_throughBoth 44 = .ok (.iadd, 1) := by decide +kernel
theorem dX0_throughBoth_45 : decode cX0_throughBoth 45 = .ok (.ireturn, 1) := by decide +kernel
abbrev cX0_musts : ByteArray := prog_1_method_21_code
def yX0_musts : MethodName := ⟨RX0, "musts", "()I"⟩
theorem dX0_musts_0 : decode cX0_musts 0 = .ok (.aload_n 0, 1) := by decide +kernel
theorem dX0_musts_1 : decode cX0_musts 1 = .ok (.iconst (-1), 1) := by decide +kernel
theorem dX0_musts_2 : decode cX0_musts 2 = .ok (.iconst (-1), 1) := by decide +kernel
theorem dX0_musts_3 : decode cX0_musts 3 = .ok (.invokevirtual 86, 3) := by decide +kernel
theorem dX0_musts_6 : decode cX0_musts 6 = .ok (.istore_n 1, 1) := by decide +kernel
theorem dX0_musts_7 : decode cX0_musts 7 = .ok (.iconst 0, 1) := by decide +kernel
theorem dX0_musts_8 : decode cX0_musts 8 = .ok (.istore_n 2, 1) := by decide +kernel
theorem dX0_musts_9 : decode cX0_musts 9 = .ok (.iconst 0, 1) := by decide +kernel
theorem dX0_musts_10 : decode cX0_musts 10 = .ok (.istore_n 3, 1) := by decide +kernel
theorem dX0_musts_11 : decode cX0_musts 11 = .ok (.iload_n 3, 1) := by decide +kernel
theorem dX0_musts_12 : decode cX0_musts 12 = .ok (.bipush 30, 2) := by decide +kernel
end
section
set_option maxRecDepth 100000
theorem dX0_musts_14 : decode cX0_musts 14 = .ok (.if_icmp .ge 34, 3) := by decide +kernel
theorem dX0_musts_17 : decode cX0_musts 17 = .ok (.iload_n 1, 1) := by decide +kernel
theorem dX0_musts_18 : decode cX0_musts 18 = .ok (.ifCond .le 30, 3) := by decide +kernel
theorem dX0_musts_21 : decode cX0_musts 21 = .ok (.aload_n 0, 1) := by decide +kernel
theorem dX0_musts_22 : decode cX0_musts 22 = .ok (.iload_n 3, 1) := by decide +kernel
theorem dX0_musts_23 : decode cX0_musts 23 = .ok (.iconst (-1), 1) := by decide +kernel
theorem dX0_musts_24 : decode cX0_musts 24 = .ok (.invokevirtual 86, 3) := by decide +kernel
theorem dX0_musts_27 : decode cX0_musts 27 = .ok (.istore 4, 2) := by decide +kernel
theorem dX0_musts_29 : decode cX0_musts 29 = .ok (.iload 4, 2) := by decide +kernel
theorem dX0_musts_31 : decode cX0_musts 31 = .ok (.ifCond .ne 9, 3) := by decide +kernel
theorem dX0_musts_34 : decode cX0_musts 34 = .ok (.iload_n 2, 1) := by decide +kernel
theorem dX0_musts_35 : decode cX0_musts 35 = .ok (.iconst 1, 1) := by decide +kernel
theorem dX0_musts_36 : decode cX0_musts 36 = .ok (.iadd, 1) := by decide +kernel
theorem dX0_musts_37 : decode cX0_musts 37 = .ok (.goto 4, 3) := by decide +kernel
theorem dX0_musts_40 : decode cX0_musts 40 = .ok (.iload_n 2, 1) := by decide +kernel
theorem dX0_musts_41 : decode cX0_musts 41 = .ok (.istore_n 2, 1) := by decide +kernel
theorem dX0_musts_42 : decode cX0_musts 42 = .ok (.iinc 3 1, 3) := by decide +kernel
theorem dX0_musts_45 : decode cX0_musts 45 = .ok (.goto (-34), 3) := by decide +kernel
theorem dX0_musts_48 : decode cX0_musts 48 = .ok (.iload_n 2, 1) := by decide +kernel
theorem dX0_musts_49 : decode cX0_musts 49 = .ok (.ireturn, 1) := by decide +kernel
abbrev cX0_load : ByteArray := prog_1_method_25_code
def yX0_load : MethodName := ⟨RX0, "load", "(I)I"⟩
theorem dX0_load_0 : decode cX0_load 0 = .ok (.aload_n 0, 1) := by decide +kernel
theorem dX0_load_1 : decode cX0_load 1 = .ok (.iconst (-1), 1) := by decide +kernel
theorem dX0_load_2 : decode cX0_load 2 = .ok (.iconst (-1), 1) := by decide +kernel
theorem dX0_load_3 : decode cX0_load 3 = .ok (.invokevirtual 86, 3) := by decide +kernel
theorem dX0_load_6 : decode cX0_load 6 = .ok (.istore_n 2, 1) := by decide +kernel
theorem dX0_load_7 : decode cX0_load 7 = .ok (.iload_n 1, 1) := by decide +kernel
theorem dX0_load_8 : decode cX0_load 8 = .ok (.ifCond .lt 8, 3) := by decide +kernel
theorem dX0_load_11 : decode cX0_load 11 = .ok (.iload_n 1, 1) := by decide +kernel
theorem dX0_load_12 : decode cX0_load 12 = .ok (.iload_n 2, 1) := by decide +kernel
theorem dX0_load_13 : decode cX0_load 13 = .ok (.if_icmp .lt 6, 3) := by decide +kernel
theorem dX0_load_16 : decode cX0_load 16 = .ok (.bipush (-4), 2) := by decide +kernel
theorem dX0_load_18 : decode cX0_load 18 = .ok (.ireturn, 1) := by decide +kernel
theorem dX0_load_19 : decode cX0_load 19 = .ok (.aload_n 0, 1) := by decide +kernel
theorem dX0_load_20 : decode cX0_load 20 = .ok (.invokevirtual 79, 3) := by decide +kernel
theorem dX0_load_23 : decode cX0_load 23 = .ok (.iload_n 1, 1) := by decide +kernel
theorem dX0_load_24 : decode cX0_load 24 = .ok (.istore_n 3, 1) := by decide +kernel
theorem dX0_load_25 : decode cX0_load 25 = .ok (.iconst 0, 1) := by decide +kernel
theorem dX0_load_26 : decode cX0_load 26 = .ok (.istore 4, 2) := by decide +kernel
theorem dX0_load_28 : decode cX0_load 28 = .ok (.iload 4, 2) := by decide +kernel
theorem dX0_load_30 : decode cX0_load 30 = .ok (.aload_n 0, 1) := by decide +kernel
theorem dX0_load_31 : decode cX0_load 31 = .ok (.getfield 42, 3) := by decide +kernel
theorem dX0_load_34 : decode cX0_load 34 = .ok (.if_icmp .ge 17, 3) := by decide +kernel
theorem dX0_load_37 : decode cX0_load 37 = .ok (.aload_n 0, 1) := by decide +kernel
theorem dX0_load_38 : decode cX0_load 38 = .ok (.iload 4, 2) := by decide +kernel
theorem dX0_load_40 : decode cX0_load 40 = .ok (.iload_n 3, 1) := by decide +kernel
theorem dX0_load_41 : decode cX0_load 41 = .ok (.invokevirtual 96, 3) := by decide +kernel
theorem dX0_load_44 : decode cX0_load 44 = .ok (.istore_n 3, 1) := by decide +kernel
theorem dX0_load_45 : decode cX0_load 45 = .ok (.iinc 4 1, 3) := by decide +kernel
theorem dX0_load_48 : decode cX0_load 48 = .ok (.goto (-20), 3) := by decide +kernel
theorem dX0_load_51 : decode cX0_load 51 = .ok (.aload_n 0, 1) := by decide +kernel
theorem dX0_load_52 : decode cX0_load 52 = .ok (.iconst 1, 1) := by decide +kernel
theorem dX0_load_53 : decode cX0_load 53 = .ok (.putfield 50, 3) := by decide +kernel
theorem dX0_load_56 : decode cX0_load 56 = .ok (.aload_n 0, 1) := by decide +kernel
theorem dX0_load_57 : decode cX0_load 57 = .ok (.iload_n 1, 1) := by decide +kernel
theorem dX0_load_58 : decode cX0_load 58 = .ok (.putfield 99, 3) := by decide +kernel
theorem dX0_load_61 : decode cX0_load 61 = .ok (.iconst 0, 1) := by decide +kernel
theorem dX0_load_62 : decode cX0_load 62 = .ok (.ireturn, 1) := by decide +kernel
abbrev cX0_findPath : ByteArray := prog_1_method_24_code
def yX0_findPath : MethodName := ⟨RX0, "findPath", "(II)I"⟩
theorem dX0_findPath_0 : decode cX0_findPath 0 = .ok (.iload_n 2, 1) := by decide +kernel
theorem dX0_findPath_1 : decode cX0_findPath 1 = .ok (.istore_n 3, 1) := by decide +kernel
theorem dX0_findPath_2 : decode cX0_findPath 2 = .ok (.aload_n 0, 1) := by decide +kernel
theorem dX0_findPath_3 : decode cX0_findPath 3 = .ok (.getfield 17, 3) := by decide +kernel
theorem dX0_findPath_6 : decode cX0_findPath 6 = .ok (.iload_n 1, 1) := by decide +kernel
theorem dX0_findPath_7 : decode cX0_findPath 7 = .ok (.baload, 1) := by decide +kernel
theorem dX0_findPath_8 : decode cX0_findPath 8 = .ok (.istore 4, 2) := by decide +kernel
theorem dX0_findPath_10 : decode cX0_findPath 10 = .ok (.aload_n 0, 1) := by decide +kernel
theorem dX0_findPath_11 : decode cX0_findPath 11 = .ok (.getfield 36, 3) := by decide +kernel
theorem dX0_findPath_14 : decode cX0_findPath 14 = .ok (.iload_n 1, 1) := by decide +kernel
theorem dX0_findPath_15 : decode cX0_findPath 15 = .ok (.iconst 0, 1) := by decide +kernel
theorem dX0_findPath_16 : decode cX0_findPath 16 = .ok (.bastore, 1) := by decide +kernel
theorem dX0_findPath_17 : decode cX0_findPath 17 = .ok (.iconst 0, 1) := by decide +kernel
theorem dX0_findPath_18 : decode cX0_findPath 18 = .ok (.istore 5, 2) := by decide +kernel
theorem dX0_findPath_20 : decode cX0_findPath 20 = .ok (.iload 5, 2) := by decide +kernel
theorem dX0_findPath_22 : decode cX0_findPath 22 = .ok (.bipush 10, 2) := by decide +kernel
theorem dX0_findPath_24 : decode cX0_findPath 24 = .ok (.if_icmp .ge 108, 3) := by decide +kernel
theorem dX0_findPath_27 : decode cX0_findPath 27 = .ok (.aload_n 0, 1) := by decide +kernel
theorem dX0_findPath_28 : decode cX0_findPath 28 = .ok (.getfield 39, 3) := by decide +kernel
theorem dX0_findPath_31 : decode cX0_findPath 31 = .ok (.bipush 10, 2) := by decide +kernel
theorem dX0_findPath_33 : decode cX0_findPath 33 = .ok (.iload_n 1, 1) := by decide +kernel
theorem dX0_findPath_34 : decode cX0_findPath 34 = .ok (.imul, 1) := by decide +kernel
theorem dX0_findPath_35 : decode cX0_findPath 35 = .ok (.iload 5, 2) := by decide +kernel
theorem dX0_findPath_37 : decode cX0_findPath 37 = .ok (.iadd, 1) := by decide +kernel
theorem dX0_findPath_38 : decode cX0_findPath 38 = .ok (.iload 4, 2) := by decide +kernel
theorem dX0_findPath_40 : decode cX0_findPath 40 = .ok (.i2b, 1) := by decide +kernel
theorem dX0_findPath_41 : decode cX0_findPath 41 = .ok (.bastore, 1) := by decide +kernel
theorem dX0_findPath_42 : decode cX0_findPath 42 = .ok (.aload_n 0, 1) := by decide +kernel
theorem dX0_findPath_43 : decode cX0_findPath 43 = .ok (.getfield 36, 3) := by decide +kernel
theorem dX0_findPath_46 : decode cX0_findPath 46 = .ok (.iload_n 1, 1) := by decide +kernel
theorem dX0_findPath_47 : decode cX0_findPath 47 = .ok (.dup2, 1) := by decide +kernel
theorem dX0_findPath_48 : decode cX0_findPath 48 = .ok (.baload, 1) := by decide +kernel
theorem dX0_findPath_49 : decode cX0_findPath 49 = .ok (.iconst 1, 1) := by decide +kernel
theorem dX0_findPath_50 : decode cX0_findPath 50 = .ok (.iadd, 1) := by decide +kernel
theorem dX0_findPath_51 : decode cX0_findPath 51 = .ok (.i2b, 1) := by decide +kernel
theorem dX0_findPath_52 : decode cX0_findPath 52 = .ok (.bastore, 1) := by decide +kernel
theorem dX0_findPath_53 : decode cX0_findPath 53 = .ok (.iload 4, 2) := by decide +kernel
theorem dX0_findPath_55 : decode cX0_findPath 55 = .ok (.aload_n 0, 1) := by decide +kernel
theorem dX0_findPath_56 : decode cX0_findPath 56 = .ok (.getfield 21, 3) := by decide +kernel
theorem dX0_findPath_59 : decode cX0_findPath 59 = .ok (.iload_n 1, 1) := by decide +kernel
theorem dX0_findPath_60 : decode cX0_findPath 60 = .ok (.baload, 1) := by decide +kernel
theorem dX0_findPath_61 : decode cX0_findPath 61 = .ok (.if_icmp .ne 13, 3) := by decide +kernel
theorem dX0_findPath_64 : decode cX0_findPath 64 = .ok (.aload_n 0, 1) := by decide +kernel
theorem dX0_findPath_65 : decode cX0_findPath 65 = .ok (.getfield 24, 3) := by decide +kernel
theorem dX0_findPath_68 : decode cX0_findPath 68 = .ok (.iload 4, 2) := by decide +kernel
theorem dX0_findPath_70 : decode cX0_findPath 70 = .ok (.iconst 1, 1) := by decide +kernel
theorem dX0_findPath_71 : decode cX0_findPath 71 = .ok (.bastore, 1) := by decide +kernel
theorem dX0_findPath_72 : decode cX0_findPath 72 = .ok (.iload_n 3, 1) := by decide +kernel
theorem dX0_findPath_73 : decode cX0_findPath 73 = .ok (.ireturn, 1) := by decide +kernel
theorem dX0_findPath_74 : decode cX0_findPath 74 = .ok (.aload_n 0, 1) := by decide +kernel
theorem dX0_findPath_75 : decode cX0_findPath 75 = .ok (.iload_n 1, 1) := by decide +kernel
theorem dX0_findPath_76 : decode cX0_findPath 76 = .ok (.iload 4, 2) := by decide +kernel
theorem dX0_findPath_78 : decode cX0_findPath 78 = .ok (.invokevirtual 93, 3) := by decide +kernel
theorem dX0_findPath_81 : decode cX0_findPath 81 = .ok (.istore 6, 2) := by decide +kernel
theorem dX0_findPath_83 : decode cX0_findPath 83 = .ok (.aload_n 0, 1) := by decide +kernel
theorem dX0_findPath_84 : decode cX0_findPath 84 = .ok (.getfield 24, 3) := by decide +kernel
theorem dX0_findPath_87 : decode cX0_findPath 87 = .ok (.iload 4, 2) := by decide +kernel
theorem dX0_findPath_89 : decode cX0_findPath 89 = .ok (.iconst 1, 1) := by decide +kernel
theorem dX0_findPath_90 : decode cX0_findPath 90 = .ok (.bastore, 1) := by decide +kernel
theorem dX0_findPath_91 : decode cX0_findPath 91 = .ok (.iload_n 3, 1) := by decide +kernel
theorem dX0_findPath_92 : decode cX0_findPath 92 = .ok (.iload 6, 2) := by decide +kernel
theorem dX0_findPath_94 : decode cX0_findPath 94 = .ok (.if_icmp .ge 12, 3) := by decide +kernel
theorem dX0_findPath_97 : decode cX0_findPath 97 = .ok (.iload 4, 2) := by decide +kernel
theorem dX0_findPath_99 : decode cX0_findPath 99 = .ok (.iconst 5, 1) := by decide +kernel
theorem dX0_findPath_100 : decode cX0_findPath 100 = .ok (.iadd, 1) := by decide +kernel
theorem dX0_findPath_101 : decode cX0_findPath 101 = .ok (.istore 4, 2) := by decide +kernel
theorem dX0_findPath_103 : decode cX0_findPath 103 = .ok (.goto 14, 3) := by decide +kernel
theorem dX0_findPath_106 : decode cX0_findPath 106 = .ok (.iload_n 3, 1) := by decide +kernel
theorem dX0_findPath_107 : decode cX0_findPath 107 = .ok (.iload 6, 2) := by decide +kernel
theorem dX0_findPath_109 : decode cX0_findPath 109 = .ok (.isub, 1) := by decide +kernel
theorem dX0_findPath_110 : decode cX0_findPath 110 = .ok (.istore_n 3, 1) := by decide +kernel
theorem dX0_findPath_111 : decode cX0_findPath 111 = .ok (.iload 4, 2) := by decide +kernel
theorem dX0_findPath_113 : decode cX0_findPath 113 = .ok (.iconst 1, 1) := by decide +kernel
theorem dX0_findPath_114 : decode cX0_findPath 114 = .ok (.iadd, 1) := by decide +kernel
theorem dX0_findPath_115 : decode cX0_findPath 115 = .ok (.istore 4, 2) := by decide +kernel
theorem dX0_findPath_117 : decode cX0_findPath 117 = .ok (.aload_n 0, 1) := by decide +kernel
theorem dX0_findPath_118 : decode cX0_findPath 118 = .ok (.getfield 27, 3) := by decide +kernel
theorem dX0_findPath_121 : decode cX0_findPath 121 = .ok (.iload_n 1, 1) := by decide +kernel
theorem dX0_findPath_122 : decode cX0_findPath 122 = .ok (.iload 4, 2) := by decide +kernel
theorem dX0_findPath_124 : decode cX0_findPath 124 = .ok (.i2b, 1) := by decide +kernel
theorem dX0_findPath_125 : decode cX0_findPath 125 = .ok (.bastore, 1) := by decide +kernel
theorem dX0_findPath_126 : decode cX0_findPath 126 = .ok (.iinc 5 1, 3) := by decide +kernel
theorem dX0_findPath_129 : decode cX0_findPath 129 = .ok (.goto (-109), 3) := by decide +kernel
theorem dX0_findPath_132 : decode cX0_findPath 132 = .ok (.iload_n 3, 1) := by decide +kernel
theorem dX0_findPath_133 : decode cX0_findPath 133 = .ok (.ireturn, 1) := by decide +kernel
abbrev cX0_countRight : ByteArray := prog_1_method_23_code
def yX0_countRight : MethodName := ⟨RX0, "countRight", "(II)I"⟩
theorem dX0_countRight_0 : decode cX0_countRight 0 = .ok (.aload_n 0, 1) := by decide +kernel
theorem dX0_countRight_1 : decode cX0_countRight 1 = .ok (.iload_n 2, 1) := by decide +kernel
theorem dX0_countRight_2 : decode cX0_countRight 2 = .ok (.invokevirtual 90, 3) := by decide +kernel
theorem dX0_countRight_5 : decode cX0_countRight 5 = .ok (.ifCond .ne 5, 3) := by decide +kernel
theorem dX0_countRight_8 : decode cX0_countRight 8 = .ok (.iconst 0, 1) := by decide +kernel
theorem dX0_countRight_9 : decode cX0_countRight 9 = .ok (.ireturn, 1) := by decide +kernel
theorem dX0_countRight_10 : decode cX0_countRight 10 = .ok (.aload_n 0, 1) := by decide +kernel
theorem dX0_countRight_11 : decode cX0_countRight 11 = .ok (.getfield 27, 3) := by decide +kernel
theorem dX0_countRight_14 : decode cX0_countRight 14 = .ok (.iload_n 1, 1) := by decide +kernel
theorem dX0_countRight_15 : decode cX0_countRight 15 = .ok (.iload_n 2, 1) := by decide +kernel
theorem dX0_countRight_16 : decode cX0_countRight 16 = .ok (.iconst 5, 1) := by decide +kernel
theorem dX0_countRight_17 : decode cX0_countRight 17 = .ok (.iadd, 1) := by decide +kernel
theorem dX0_countRight_18 : decode cX0_countRight 18 = .ok (.i2b, 1) := by decide +kernel
theorem dX0_countRight_19 : decode cX0_countRight 19 = .ok (.bastore, 1) := by decide +kernel
theorem dX0_countRight_20 : decode cX0_countRight 20 = .ok (.aload_n 0, 1) := by decide +kernel
theorem dX0_countRight_21 : decode cX0_countRight 21 = .ok (.getfield 24, 3) := by decide +kernel
theorem dX0_countRight_24 : decode cX0_countRight 24 = .ok (.iload_n 2, 1) := by decide +kernel
theorem dX0_countRight_25 : decode cX0_countRight 25 = .ok (.iconst 1, 1) := by decide +kernel
theorem dX0_countRight_26 : decode cX0_countRight 26 = .ok (.bastore, 1) := by decide +kernel
theorem dX0_countRight_27 : decode cX0_countRight 27 = .ok (.aload_n 0, 1) := by decide +kernel
theorem dX0_countRight_28 : decode cX0_countRight 28 = .ok (.iload_n 1, 1) := by decide +kernel
theorem dX0_countRight_29 : decode cX0_countRight 29 = .ok (.iconst 0, 1) := by decide +kernel
theorem dX0_countRight_30 : decode cX0_countRight 30 = .ok (.invokevirtual 82, 3) := by decide +kernel
theorem dX0_countRight_33 : decode cX0_countRight 33 = .ok (.istore_n 3, 1) := by decide +kernel
theorem dX0_countRight_34 : decode cX0_countRight 34 = .ok (.aload_n 0, 1) := by decide +kernel
theorem dX0_countRight_35 : decode cX0_countRight 35 = .ok (.getfield 24, 3) := by decide +kernel
theorem dX0_countRight_38 : decode cX0_countRight 38 = .ok (.iload_n 2, 1) := by decide +kernel
theorem dX0_countRight_39 : decode cX0_countRight 39 = .ok (.iconst 0, 1) := by decide +kernel
theorem dX0_countRight_40 : decode cX0_countRight 40 = .ok (.bastore, 1) := by decide +kernel
theorem dX0_countRight_41 : decode cX0_countRight 41 = .ok (.aload_n 0, 1) := by decide +kernel
theorem dX0_countRight_42 : decode cX0_countRight 42 = .ok (.getfield 27, 3) := by decide +kernel
theorem dX0_countRight_45 : decode cX0_countRight 45 = .ok (.iload_n 1, 1) := by decide +kernel
theorem dX0_countRight_46 : decode cX0_countRight 46 = .ok (.iload_n 2, 1) := by decide +kernel
theorem dX0_countRight_47 : decode cX0_countRight 47 = .ok (.i2b, 1) := by decide +kernel
theorem dX0_countRight_48 : decode cX0_countRight 48 = .ok (.bastore, 1) := by decide +kernel
theorem dX0_countRight_49 : decode cX0_countRight 49 = .ok (.iload_n 3, 1) := by decide +kernel
theorem dX0_countRight_50 : decode cX0_countRight 50 = .ok (.ireturn, 1) := by decide +kernel
abbrev cX0_mayRight : ByteArray := prog_1_method_22_code
def yX0_mayRight : MethodName := ⟨RX0, "mayRight", "(I)Z"⟩
theorem dX0_mayRight_0 : decode cX0_mayRight 0 = .ok (.iload_n 1, 1) := by decide +kernel
theorem dX0_mayRight_1 : decode cX0_mayRight 1 = .ok (.iconst 5, 1) := by decide +kernel
theorem dX0_mayRight_2 : decode cX0_mayRight 2 = .ok (.iadd, 1) := by decide +kernel
theorem dX0_mayRight_3 : decode cX0_mayRight 3 = .ok (.bipush 30, 2) := by decide +kernel
theorem dX0_mayRight_5 : decode cX0_mayRight 5 = .ok (.if_icmp .ge 7, 3) := by decide +kernel
theorem dX0_mayRight_8 : decode cX0_mayRight 8 = .ok (.iconst 1, 1) := by decide +kernel
theorem dX0_mayRight_9 : decode cX0_mayRight 9 = .ok (.goto 4, 3) := by decide +kernel
theorem dX0_mayRight_12 : decode cX0_mayRight 12 = .ok (.iconst 0, 1) := by decide +kernel
theorem dX0_mayRight_13 : decode cX0_mayRight 13 = .ok (.ireturn, 1) := by decide +kernel
abbrev cX0_cell : ByteArray := prog_1_method_26_code
def yX0_cell : MethodName := ⟨RX0, "cell", "(II)I"⟩
theorem dX0_cell_0 : decode cX0_cell 0 = .ok (.aload_n 0, 1) := by decide +kernel
theorem dX0_cell_1 : decode cX0_cell 1 = .ok (.getfield 50, 3) := by decide +kernel
theorem dX0_cell_4 : decode cX0_cell 4 = .ok (.ifCond .eq 29, 3) := by decide +kernel
theorem dX0_cell_7 : decode cX0_cell 7 = .ok (.iload_n 1, 1) := by decide +kernel
theorem dX0_cell_8 : decode cX0_cell 8 = .ok (.ifCond .lt 25, 3) := by decide +kernel
theorem dX0_cell_11 : decode cX0_cell 11 = .ok (.iload_n 1, 1) := by decide +kernel
theorem dX0_cell_12 : decode cX0_cell 12 = .ok (.aload_n 0, 1) := by decide +kernel
theorem dX0_cell_13 : decode cX0_cell 13 = .ok (.getfield 42, 3) := by decide +kernel
theorem dX0_cell_16 : decode cX0_cell 16 = .ok (.if_icmp .ge 17, 3) := by decide +kernel
theorem dX0_cell_19 : decode cX0_cell 19 = .ok (.iload_n 2, 1) := by decide +kernel
theorem dX0_cell_20 : decode cX0_cell 20 = .ok (.ifCond .lt 13, 3) := by decide +kernel
theorem dX0_cell_23 : decode cX0_cell 23 = .ok (.iload_n 2, 1) := by decide +kernel
theorem dX0_cell_24 : decode cX0_cell 24 = .ok (.aload_n 0, 1) := by decide +kernel
theorem dX0_cell_25 : decode cX0_cell 25 = .ok (.getfield 36, 3) := by decide +kernel
theorem dX0_cell_28 : decode cX0_cell 28 = .ok (.iload_n 1, 1) := by decide +kernel
theorem dX0_cell_29 : decode cX0_cell 29 = .ok (.baload, 1) := by decide +kernel
theorem dX0_cell_30 : decode cX0_cell 30 = .ok (.if_icmp .lt 8, 3) := by decide +kernel
theorem dX0_cell_33 : decode cX0_cell 33 = .ok (.bipush (-4), 2) := by decide +kernel
theorem dX0_cell_35 : decode cX0_cell 35 = .ok (.goto 14, 3) := by decide +kernel
theorem dX0_cell_38 : decode cX0_cell 38 = .ok (.aload_n 0, 1) := by decide +kernel
theorem dX0_cell_39 : decode cX0_cell 39 = .ok (.getfield 39, 3) := by decide +kernel
theorem dX0_cell_42 : decode cX0_cell 42 = .ok (.bipush 10, 2) := by decide +kernel
theorem dX0_cell_44 : decode cX0_cell 44 = .ok (.iload_n 1, 1) := by decide +kernel
theorem dX0_cell_45 : decode cX0_cell 45 = .ok (.imul, 1) := by decide +kernel
theorem dX0_cell_46 : decode cX0_cell 46 = .ok (.iload_n 2, 1) := by decide +kernel
theorem dX0_cell_47 : decode cX0_cell 47 = .ok (.iadd, 1) := by decide +kernel
theorem dX0_cell_48 : decode cX0_cell 48 = .ok (.baload, 1) := by decide +kernel
theorem dX0_cell_49 : decode cX0_cell 49 = .ok (.ireturn, 1) := by decide +kernel
abbrev cX0_loadedWeight : ByteArray := prog_1_method_27_code
def yX0_loadedWeight : MethodName := ⟨RX0, "loadedWeight", "()I"⟩
theorem dX0_loadedWeight_0 : decode cX0_loadedWeight 0 = .ok (.aload_n 0, 1) := by decide +kernel
theorem dX0_loadedWeight_1 : decode cX0_loadedWeight 1 = .ok (.getfield 50, 3) := by decide +kernel
theorem dX0_loadedWeight_4 : decode cX0_loadedWeight 4 = .ok (.ifCond .ne 5, 3) := by decide +kernel
theorem dX0_loadedWeight_7 : decode cX0_loadedWeight 7 = .ok (.iconst 0, 1) := by decide +kernel
theorem dX0_loadedWeight_8 : decode cX0_loadedWeight 8 = .ok (.ireturn, 1) := by decide +kernel
theorem dX0_loadedWeight_9 : decode cX0_loadedWeight 9 = .ok (.iconst 1, 1) := by decide +kernel
theorem dX0_loadedWeight_10 : decode cX0_loadedWeight 10 = .ok (.istore_n 1, 1) := by decide +kernel
theorem dX0_loadedWeight_11 : decode cX0_loadedWeight 11 = .ok (.iconst 0, 1) := by decide +kernel
theorem dX0_loadedWeight_12 : decode cX0_loadedWeight 12 = .ok (.istore_n 2, 1) := by decide +kernel
theorem dX0_loadedWeight_13 : decode cX0_loadedWeight 13 = .ok (.iload_n 2, 1) := by decide +kernel
theorem dX0_loadedWeight_14 : decode cX0_loadedWeight 14 = .ok (.bipush 10, 2) := by decide +kernel
theorem dX0_loadedWeight_16 : decode cX0_loadedWeight 16 = .ok (.aload_n 0, 1) := by decide +kernel
theorem dX0_loadedWeight_17 : decode cX0_loadedWeight 17 = .ok (.getfield 42, 3) := by decide +kernel
theorem dX0_loadedWeight_20 : decode cX0_loadedWeight 20 = .ok (.imul, 1) := by decide +kernel
theorem dX0_loadedWeight_21 : decode cX0_loadedWeight 21 = .ok (.if_icmp .ge 39, 3) := by decide +kernel
theorem dX0_loadedWeight_24 : decode cX0_loadedWeight 24 = .ok (.iload_n 2, 1) := by decide +kernel
theorem dX0_loadedWeight_25 : decode cX0_loadedWeight 25 = .ok (.bipush 10, 2) := by decide +kernel
theorem dX0_loadedWeight_27 : decode cX0_loadedWeight 27 = .ok (.irem, 1) := by decide +kernel
theorem dX0_loadedWeight_28 : decode cX0_loadedWeight 28 = .ok (.aload_n 0, 1) := by decide +kernel
theorem dX0_loadedWeight_29 : decode cX0_loadedWeight 29 = .ok (.getfield 36, 3) := by decide +kernel
theorem dX0_loadedWeight_32 : decode cX0_loadedWeight 32 = .ok (.iload_n 2, 1) := by decide +kernel
theorem dX0_loadedWeight_33 : decode cX0_loadedWeight 33 = .ok (.bipush 10, 2) := by decide +kernel
theorem dX0_loadedWeight_35 : decode cX0_loadedWeight 35 = .ok (.idiv, 1) := by decide +kernel
theorem dX0_loadedWeight_36 : decode cX0_loadedWeight 36 = .ok (.baload, 1) := by decide +kernel
theorem dX0_loadedWeight_37 : decode cX0_loadedWeight 37 = .ok (.if_icmp .ge 17, 3) := by decide +kernel
theorem dX0_loadedWeight_40 : decode cX0_loadedWeight 40 = .ok (.iload_n 1, 1) := by decide +kernel
theorem dX0_loadedWeight_41 : decode cX0_loadedWeight 41 = .ok (.aload_n 0, 1) := by decide +kernel
theorem dX0_loadedWeight_42 : decode cX0_loadedWeight 42 = .ok (.getfield 13, 3) := by decide +kernel
theorem dX0_loadedWeight_45 : decode cX0_loadedWeight 45 = .ok (.aload_n 0, 1) := by decide +kernel
theorem dX0_loadedWeight_46 : decode cX0_loadedWeight 46 = .ok (.getfield 39, 3) := by decide +kernel
theorem dX0_loadedWeight_49 : decode cX0_loadedWeight 49 = .ok (.iload_n 2, 1) := by decide +kernel
theorem dX0_loadedWeight_50 : decode cX0_loadedWeight 50 = .ok (.baload, 1) := by decide +kernel
theorem dX0_loadedWeight_51 : decode cX0_loadedWeight 51 = .ok (.iaload, 1) := by decide +kernel
theorem dX0_loadedWeight_52 : decode cX0_loadedWeight 52 = .ok (.imul, 1) := by decide +kernel
theorem dX0_loadedWeight_53 : decode cX0_loadedWeight 53 = .ok (.istore_n 1, 1) := by decide +kernel
theorem dX0_loadedWeight_54 : decode cX0_loadedWeight 54 = .ok (.iinc 2 1, 3) := by decide +kernel
theorem dX0_loadedWeight_57 : decode cX0_loadedWeight 57 = .ok (.goto (-44), 3) := by decide +kernel
theorem dX0_loadedWeight_60 : decode cX0_loadedWeight 60 = .ok (.iload_n 1, 1) := by decide +kernel
theorem dX0_loadedWeight_61 : decode cX0_loadedWeight 61 = .ok (.ireturn, 1) := by decide +kernel
abbrev cX0_rank : ByteArray := prog_1_method_28_code
def yX0_rank : MethodName := ⟨RX0, "rank", "()I"⟩
theorem dX0_rank_0 : decode cX0_rank 0 = .ok (.aload_n 0, 1) := by decide +kernel
theorem dX0_rank_1 : decode cX0_rank 1 = .ok (.getfield 50, 3) := by decide +kernel
theorem dX0_rank_4 : decode cX0_rank 4 = .ok (.ifCond .eq 10, 3) := by decide +kernel
theorem dX0_rank_7 : decode cX0_rank 7 = .ok (.aload_n 0, 1) := by decide +kernel
theorem dX0_rank_8 : decode cX0_rank 8 = .ok (.getfield 99, 3) := by decide +kernel
theorem dX0_rank_11 : decode cX0_rank 11 = .ok (.goto 5, 3) := by decide +kernel
theorem dX0_rank_14 : decode cX0_rank 14 = .ok (.bipush (-4), 2) := by decide +kernel
theorem dX0_rank_16 : decode cX0_rank 16 = .ok (.ireturn, 1) := by decide +kernel
theorem q25 : (Jvm.Cond.initialized "PathFamilies") ∈ lw_all := lw_g (lw_at lw_m1 1 rfl) rfl
theorem q28 : (Jvm.Cond.instantiable "PathFamilies" (13 : Nat)) ∈ lw_all := lw_g (lw_at lw_m1 4 rfl) rfl
theorem q30 : (Jvm.Cond.instanceMethod ({ cls := "PathFamilies", name := "<init>", desc := "()V" } : Jvm.MethodName)) ∈ lw_all := lw_g (lw_at lw_m1 6 rfl) rfl
theorem q31 : (Jvm.Cond.code ({ cls := "PathFamilies", name := "<init>", desc := "()V" } : Jvm.MethodName) prog_1_method_1_code (2 : Nat) (Option.none : Option Jvm.ClassFile.FieldType)) ∈ lw_all := lw_g (lw_at lw_m1 7 rfl) rfl
theorem q32 : (Jvm.Cond.methodLink "PathFamilies" (1 : Nat) ({ cls := "java/lang/Object", name := "<init>", desc := "()V" } : Jvm.MethodName)) ∈ lw_all := lw_g (lw_at lw_m1 8 rfl) rfl
theorem q35 : (Jvm.Cond.fieldLink "PathFamilies" (7 : Nat) "PathFamilies" "blocked" "[Z") ∈ lw_all := lw_g (lw_at lw_m1 11 rfl) rfl
theorem q36 : (Jvm.Cond.fieldLink "PathFamilies" (13 : Nat) "PathFamilies" "weights" "[I") ∈ lw_all := lw_g (lw_at lw_m1 12 rfl) rfl
theorem q37 : (Jvm.Cond.fieldLink "PathFamilies" (42 : Nat) "PathFamilies" "many" "I") ∈ lw_all := lw_g (lw_at lw_m1 13 rfl) rfl
theorem q38 : (Jvm.Cond.fieldLink "PathFamilies" (17 : Nat) "PathFamilies" "start" "[B") ∈ lw_all := lw_g (lw_at lw_m1 14 rfl) rfl
theorem q39 : (Jvm.Cond.fieldLink "PathFamilies" (21 : Nat) "PathFamilies" "goal" "[B") ∈ lw_all := lw_g (lw_at lw_m1 15 rfl) rfl
theorem q40 : (Jvm.Cond.fieldLink "PathFamilies" (24 : Nat) "PathFamilies" "closed" "[Z") ∈ lw_all := lw_g (lw_at lw_m1 16 rfl) rfl
theorem q41 : (Jvm.Cond.fieldLink "PathFamilies" (27 : Nat) "PathFamilies" "from" "[B") ∈ lw_all := lw_g (lw_at lw_m1 17 rfl) rfl
theorem q42 : (Jvm.Cond.fieldLink "PathFamilies" (30 : Nat) "PathFamilies" "ways" "[I") ∈ lw_all := lw_g (lw_at lw_m1 18 rfl) rfl
theorem q43 : (Jvm.Cond.fieldLink "PathFamilies" (33 : Nat) "PathFamilies" "matrix" "[I") ∈ lw_all := lw_g (lw_at lw_m1 19 rfl) rfl
theorem q44 : (Jvm.Cond.fieldLink "PathFamilies" (50 : Nat) "PathFamilies" "loaded" "Z") ∈ lw_all := lw_g (lw_at lw_m1 20 rfl) rfl
theorem q45 : (Jvm.Cond.fieldLink "PathFamilies" (99 : Nat) "PathFamilies" "number" "I") ∈ lw_all := lw_g (lw_at lw_m1 21 rfl) rfl
theorem q46 : (Jvm.Cond.fieldLink "PathFamilies" (36 : Nat) "PathFamilies" "size" "[B") ∈ lw_all := lw_g (lw_at lw_m1 22 rfl) rfl
theorem q47 : (Jvm.Cond.fieldLink "PathFamilies" (39 : Nat) "PathFamilies" "path" "[B") ∈ lw_all := lw_g (lw_at lw_m1 23 rfl) rfl
theorem q48 : (Jvm.Cond.laysFinal "PathFamilies" "PathFamilies" "blocked" "[Z") ∈ lw_all := lw_g (lw_at lw_m1 24 rfl) rfl
theorem q49 : (Jvm.Cond.soleField "PathFamilies" "blocked") ∈ lw_all := lw_g (lw_at lw_m1 25 rfl) rfl
theorem q50 : (Jvm.Cond.laysFinal "PathFamilies" "PathFamilies" "weights" "[I") ∈ lw_all := lw_g (lw_at lw_m1 26 rfl) rfl
theorem q51 : (Jvm.Cond.soleField "PathFamilies" "weights") ∈ lw_all := lw_g (lw_at lw_m1 27 rfl) rfl
theorem q52 : (Jvm.Cond.lays "PathFamilies" "PathFamilies" "many" "I") ∈ lw_all := lw_g (lw_at lw_m1 28 rfl) rfl
theorem q53 : (Jvm.Cond.soleField "PathFamilies" "many") ∈ lw_all := lw_g (lw_at lw_m1 29 rfl) rfl
theorem q54 : (Jvm.Cond.laysFinal "PathFamilies" "PathFamilies" "start" "[B") ∈ lw_all := lw_g (lw_at lw_m1 30 rfl) rfl
theorem q55 : (Jvm.Cond.soleField "PathFamilies" "start") ∈ lw_all := lw_g (lw_at lw_m1 31 rfl) rfl
theorem q56 : (Jvm.Cond.laysFinal "PathFamilies" "PathFamilies" "goal" "[B") ∈ lw_all := lw_g (lw_at lw_m1 32 rfl) rfl
theorem q57 : (Jvm.Cond.soleField "PathFamilies" "goal") ∈ lw_all := lw_g (lw_at lw_m1 33 rfl) rfl
theorem q58 : (Jvm.Cond.laysFinal "PathFamilies" "PathFamilies" "closed" "[Z") ∈ lw_all := lw_g (lw_at lw_m1 34 rfl) rfl
theorem q59 : (Jvm.Cond.soleField "PathFamilies" "closed") ∈ lw_all := lw_g (lw_at lw_m1 35 rfl) rfl
theorem q60 : (Jvm.Cond.laysFinal "PathFamilies" "PathFamilies" "from" "[B") ∈ lw_all := lw_g (lw_at lw_m1 36 rfl) rfl
theorem q61 : (Jvm.Cond.soleField "PathFamilies" "from") ∈ lw_all := lw_g (lw_at lw_m1 37 rfl) rfl
theorem q62 : (Jvm.Cond.laysFinal "PathFamilies" "PathFamilies" "ways" "[I") ∈ lw_all := lw_g (lw_at lw_m1 38 rfl) rfl
theorem q63 : (Jvm.Cond.soleField "PathFamilies" "ways") ∈ lw_all := lw_g (lw_at lw_m1 39 rfl) rfl
theorem q64 : (Jvm.Cond.laysFinal "PathFamilies" "PathFamilies" "matrix" "[I") ∈ lw_all := lw_g (lw_at lw_m1 40 rfl) rfl
theorem q65 : (Jvm.Cond.soleField "PathFamilies" "matrix") ∈ lw_all := lw_g (lw_at lw_m1 41 rfl) rfl
theorem q66 : (Jvm.Cond.lays "PathFamilies" "PathFamilies" "loaded" "Z") ∈ lw_all := lw_g (lw_at lw_m1 42 rfl) rfl
theorem q67 : (Jvm.Cond.soleField "PathFamilies" "loaded") ∈ lw_all := lw_g (lw_at lw_m1 43 rfl) rfl
theorem q68 : (Jvm.Cond.lays "PathFamilies" "PathFamilies" "number" "I") ∈ lw_all := lw_g (lw_at lw_m1 44 rfl) rfl
theorem q69 : (Jvm.Cond.soleField "PathFamilies" "number") ∈ lw_all := lw_g (lw_at lw_m1 45 rfl) rfl
theorem q70 : (Jvm.Cond.laysFinal "PathFamilies" "PathFamilies" "size" "[B") ∈ lw_all := lw_g (lw_at lw_m1 46 rfl) rfl
theorem q71 : (Jvm.Cond.soleField "PathFamilies" "size") ∈ lw_all := lw_g (lw_at lw_m1 47 rfl) rfl
theorem q72 : (Jvm.Cond.laysFinal "PathFamilies" "PathFamilies" "path" "[B") ∈ lw_all := lw_g (lw_at lw_m1 48 rfl) rfl
theorem q73 : (Jvm.Cond.soleField "PathFamilies" "path") ∈ lw_all := lw_g (lw_at lw_m1 49 rfl) rfl
theorem q74 : (Jvm.Cond.superclass "PathFamilies" "java/lang/Object") ∈ lw_all := lw_g (lw_at lw_m1 50 rfl) rfl
theorem q79 : (Jvm.Cond.instanceMethod ({ cls := "PathFamilies", name := "ends", desc := "(II)I" } : Jvm.MethodName)) ∈ lw_all := lw_g (lw_at lw_m1 55 rfl) rfl
theorem q80 : (Jvm.Cond.selects "PathFamilies" ({ cls := "PathFamilies", name := "ends", desc := "(II)I" } : Jvm.MethodName) ({ cls := "PathFamilies", name := "ends", desc := "(II)I" } : Jvm.MethodName)) ∈ lw_all := lw_g (lw_at lw_m1 56 rfl) rfl
theorem q81 : (Jvm.Cond.code ({ cls := "PathFamilies", name := "ends", desc := "(II)I" } : Jvm.MethodName) prog_1_method_4_code (8 : Nat) (Option.some Jvm.ClassFile.FieldType.int)) ∈ lw_all := lw_g (lw_at lw_m1 57 rfl) rfl
theorem q82 : (Jvm.Cond.methodLink "PathFamilies" (46 : Nat) ({ cls := "PathFamilies", name := "sizeOf", desc := "(I)I" } : Jvm.MethodName)) ∈ lw_all := lw_g (lw_at lw_m1 58 rfl) rfl
theorem q83 : (Jvm.Cond.privateMethod ({ cls := "PathFamilies", name := "sizeOf", desc := "(I)I" } : Jvm.MethodName)) ∈ lw_tbl := lw_at lw_m1 59 rfl
theorem q84 : (Jvm.Cond.instanceMethod ({ cls := "PathFamilies", name := "sizeOf", desc := "(I)I" } : Jvm.MethodName)) ∈ lw_all := lw_g (lw_at lw_m1 60 rfl) rfl
theorem q85 : (Jvm.Cond.code ({ cls := "PathFamilies", name := "sizeOf", desc := "(I)I" } : Jvm.MethodName) prog_1_method_3_code (4 : Nat) (Option.some Jvm.ClassFile.FieldType.int)) ∈ lw_all := lw_g (lw_at lw_m1 61 rfl) rfl
theorem q87 : (Jvm.Cond.instanceMethod ({ cls := "PathFamilies", name := "block", desc := "(II)I" } : Jvm.MethodName)) ∈ lw_all := lw_g (lw_at lw_m1 63 rfl) rfl
theorem q88 : (Jvm.Cond.selects "PathFamilies" ({ cls := "PathFamilies", name := "block", desc := "(II)I" } : Jvm.MethodName) ({ cls := "PathFamilies", name := "block", desc := "(II)I" } : Jvm.MethodName)) ∈ lw_all := lw_g (lw_at lw_m1 64 rfl) rfl
theorem q89 : (Jvm.Cond.code ({ cls := "PathFamilies", name := "block", desc := "(II)I" } : Jvm.MethodName) prog_1_method_5_code (4 : Nat) (Option.some Jvm.ClassFile.FieldType.int)) ∈ lw_all := lw_g (lw_at lw_m1 65 rfl) rfl
theorem q90 : (Jvm.Cond.methodLink "PathFamilies" (54 : Nat) ({ cls := "PathFamilies", name := "badCell", desc := "(I)Z" } : Jvm.MethodName)) ∈ lw_all := lw_g (lw_at lw_m1 66 rfl) rfl
theorem q91 : (Jvm.Cond.privateMethod ({ cls := "PathFamilies", name := "badCell", desc := "(I)Z" } : Jvm.MethodName)) ∈ lw_tbl := lw_at lw_m1 67 rfl
theorem q92 : (Jvm.Cond.instanceMethod ({ cls := "PathFamilies", name := "badCell", desc := "(I)Z" } : Jvm.MethodName)) ∈ lw_all := lw_g (lw_at lw_m1 68 rfl) rfl
theorem q93 : (Jvm.Cond.code ({ cls := "PathFamilies", name := "badCell", desc := "(I)Z" } : Jvm.MethodName) prog_1_method_2_code (2 : Nat) (Option.some Jvm.ClassFile.FieldType.boolean)) ∈ lw_all := lw_g (lw_at lw_m1 69 rfl) rfl
theorem q95 : (Jvm.Cond.instanceMethod ({ cls := "PathFamilies", name := "weight", desc := "(II)I" } : Jvm.MethodName)) ∈ lw_all := lw_g (lw_at lw_m1 71 rfl) rfl
theorem q96 : (Jvm.Cond.selects "PathFamilies" ({ cls := "PathFamilies", name := "weight", desc := "(II)I" } : Jvm.MethodName) ({ cls := "PathFamilies", name := "weight", desc := "(II)I" } : Jvm.MethodName)) ∈ lw_all := lw_g (lw_at lw_m1 72 rfl) rfl
theorem q97 : (Jvm.Cond.code ({ cls := "PathFamilies", name := "weight", desc := "(II)I" } : Jvm.MethodName) prog_1_method_6_code (3 : Nat) (Option.some Jvm.ClassFile.FieldType.int)) ∈ lw_all := lw_g (lw_at lw_m1 73 rfl) rfl
theorem q99 : (Jvm.Cond.instanceMethod ({ cls := "PathFamilies", name := "paths", desc := "(II)I" } : Jvm.MethodName)) ∈ lw_all := lw_g (lw_at lw_m1 75 rfl) rfl
theorem q100 : (Jvm.Cond.selects "PathFamilies" ({ cls := "PathFamilies", name := "paths", desc := "(II)I" } : Jvm.MethodName) ({ cls := "PathFamilies", name := "paths", desc := "(II)I" } : Jvm.MethodName)) ∈ lw_all := lw_g (lw_at lw_m1 76 rfl) rfl
theorem q101 : (Jvm.Cond.code ({ cls := "PathFamilies", name := "paths", desc := "(II)I" } : Jvm.MethodName) prog_1_method_16_code (3 : Nat) (Option.some Jvm.ClassFile.FieldType.int)) ∈ lw_all := lw_g (lw_at lw_m1 77 rfl) rfl
theorem q102 : (Jvm.Cond.methodLink "PathFamilies" (79 : Nat) ({ cls := "PathFamilies", name := "reopen", desc := "()V" } : Jvm.MethodName)) ∈ lw_all := lw_g (lw_at lw_m1 78 rfl) rfl
theorem q103 : (Jvm.Cond.privateMethod ({ cls := "PathFamilies", name := "reopen", desc := "()V" } : Jvm.MethodName)) ∈ lw_tbl := lw_at lw_m1 79 rfl
theorem q104 : (Jvm.Cond.instanceMethod ({ cls := "PathFamilies", name := "reopen", desc := "()V" } : Jvm.MethodName)) ∈ lw_all := lw_g (lw_at lw_m1 80 rfl) rfl
theorem q105 : (Jvm.Cond.code ({ cls := "PathFamilies", name := "reopen", desc := "()V" } : Jvm.MethodName) prog_1_method_14_code (2 : Nat) (Option.none : Option Jvm.ClassFile.FieldType)) ∈ lw_all := lw_g (lw_at lw_m1 81 rfl) rfl
theorem q106 : (Jvm.Cond.methodLink "PathFamilies" (58 : Nat) ({ cls := "PathFamilies", name := "findWays", desc := "(IZ)V" } : Jvm.MethodName)) ∈ lw_all := lw_g (lw_at lw_m1 82 rfl) rfl
theorem q107 : (Jvm.Cond.privateMethod ({ cls := "PathFamilies", name := "findWays", desc := "(IZ)V" } : Jvm.MethodName)) ∈ lw_tbl := lw_at lw_m1 83 rfl
theorem q108 : (Jvm.Cond.instanceMethod ({ cls := "PathFamilies", name := "findWays", desc := "(IZ)V" } : Jvm.MethodName)) ∈ lw_all := lw_g (lw_at lw_m1 84 rfl) rfl
theorem q109 : (Jvm.Cond.code ({ cls := "PathFamilies", name := "findWays", desc := "(IZ)V" } : Jvm.MethodName) prog_1_method_7_code (8 : Nat) (Option.none : Option Jvm.ClassFile.FieldType)) ∈ lw_all := lw_g (lw_at lw_m1 85 rfl) rfl
theorem q111 : (Jvm.Cond.instanceMethod ({ cls := "PathFamilies", name := "families", desc := "()I" } : Jvm.MethodName)) ∈ lw_all := lw_g (lw_at lw_m1 87 rfl) rfl
theorem q112 : (Jvm.Cond.selects "PathFamilies" ({ cls := "PathFamilies", name := "families", desc := "()I" } : Jvm.MethodName) ({ cls := "PathFamilies", name := "families", desc := "()I" } : Jvm.MethodName)) ∈ lw_all := lw_g (lw_at lw_m1 88 rfl) rfl
theorem q113 : (Jvm.Cond.code ({ cls := "PathFamilies", name := "families", desc := "()I" } : Jvm.MethodName) prog_1_method_17_code (1 : Nat) (Option.some Jvm.ClassFile.FieldType.int)) ∈ lw_all := lw_g (lw_at lw_m1 89 rfl) rfl
theorem q114 : (Jvm.Cond.methodLink "PathFamilies" (86 : Nat) ({ cls := "PathFamilies", name := "countWithout", desc := "(II)I" } : Jvm.MethodName)) ∈ lw_all := lw_g (lw_at lw_m1 90 rfl) rfl
theorem q115 : (Jvm.Cond.privateMethod ({ cls := "PathFamilies", name := "countWithout", desc := "(II)I" } : Jvm.MethodName)) ∈ lw_tbl := lw_at lw_m1 91 rfl
theorem q116 : (Jvm.Cond.instanceMethod ({ cls := "PathFamilies", name := "countWithout", desc := "(II)I" } : Jvm.MethodName)) ∈ lw_all := lw_g (lw_at lw_m1 92 rfl) rfl
theorem q117 : (Jvm.Cond.code ({ cls := "PathFamilies", name := "countWithout", desc := "(II)I" } : Jvm.MethodName) prog_1_method_15_code (3 : Nat) (Option.some Jvm.ClassFile.FieldType.int)) ∈ lw_all := lw_g (lw_at lw_m1 93 rfl) rfl
theorem q118 : (Jvm.Cond.methodLink "PathFamilies" (82 : Nat) ({ cls := "PathFamilies", name := "count", desc := "(IZ)I" } : Jvm.MethodName)) ∈ lw_all := lw_g (lw_at lw_m1 94 rfl) rfl
theorem q119 : (Jvm.Cond.privateMethod ({ cls := "PathFamilies", name := "count", desc := "(IZ)I" } : Jvm.MethodName)) ∈ lw_tbl := lw_at lw_m1 95 rfl
theorem q120 : (Jvm.Cond.instanceMethod ({ cls := "PathFamilies", name := "count", desc := "(IZ)I" } : Jvm.MethodName)) ∈ lw_all := lw_g (lw_at lw_m1 96 rfl) rfl
theorem q121 : (Jvm.Cond.code ({ cls := "PathFamilies", name := "count", desc := "(IZ)I" } : Jvm.MethodName) prog_1_method_13_code (3 : Nat) (Option.some Jvm.ClassFile.FieldType.int)) ∈ lw_all := lw_g (lw_at lw_m1 97 rfl) rfl
theorem q122 : (Jvm.Cond.methodLink "PathFamilies" (73 : Nat) ({ cls := "PathFamilies", name := "fillMatrix", desc := "(IZ)V" } : Jvm.MethodName)) ∈ lw_all := lw_g (lw_at lw_m1 98 rfl) rfl
theorem q123 : (Jvm.Cond.privateMethod ({ cls := "PathFamilies", name := "fillMatrix", desc := "(IZ)V" } : Jvm.MethodName)) ∈ lw_tbl := lw_at lw_m1 99 rfl
theorem q124 : (Jvm.Cond.instanceMethod ({ cls := "PathFamilies", name := "fillMatrix", desc := "(IZ)V" } : Jvm.MethodName)) ∈ lw_all := lw_g (lw_at lw_m1 100 rfl) rfl
theorem q125 : (Jvm.Cond.code ({ cls := "PathFamilies", name := "fillMatrix", desc := "(IZ)V" } : Jvm.MethodName) prog_1_method_8_code (5 : Nat) (Option.none : Option Jvm.ClassFile.FieldType)) ∈ lw_all := lw_g (lw_at lw_m1 101 rfl) rfl
theorem q126 : (Jvm.Cond.methodLink "PathFamilies" (76 : Nat) ({ cls := "PathFamilies", name := "determinant", desc := "(I)I" } : Jvm.MethodName)) ∈ lw_all := lw_g (lw_at lw_m1 102 rfl) rfl
theorem q127 : (Jvm.Cond.privateMethod ({ cls := "PathFamilies", name := "determinant", desc := "(I)I" } : Jvm.MethodName)) ∈ lw_tbl := lw_at lw_m1 103 rfl
theorem q128 : (Jvm.Cond.instanceMethod ({ cls := "PathFamilies", name := "determinant", desc := "(I)I" } : Jvm.MethodName)) ∈ lw_all := lw_g (lw_at lw_m1 104 rfl) rfl
theorem q129 : (Jvm.Cond.code ({ cls := "PathFamilies", name := "determinant", desc := "(I)I" } : Jvm.MethodName) prog_1_method_12_code (6 : Nat) (Option.some Jvm.ClassFile.FieldType.int)) ∈ lw_all := lw_g (lw_at lw_m1 105 rfl) rfl
theorem q130 : (Jvm.Cond.methodLink "PathFamilies" (66 : Nat) ({ cls := "PathFamilies", name := "lastThree", desc := "()I" } : Jvm.MethodName)) ∈ lw_all := lw_g (lw_at lw_m1 106 rfl) rfl
theorem q131 : (Jvm.Cond.privateMethod ({ cls := "PathFamilies", name := "lastThree", desc := "()I" } : Jvm.MethodName)) ∈ lw_tbl := lw_at lw_m1 107 rfl
theorem q132 : (Jvm.Cond.instanceMethod ({ cls := "PathFamilies", name := "lastThree", desc := "()I" } : Jvm.MethodName)) ∈ lw_all := lw_g (lw_at lw_m1 108 rfl) rfl
theorem q133 : (Jvm.Cond.code ({ cls := "PathFamilies", name := "lastThree", desc := "()I" } : Jvm.MethodName) prog_1_method_10_code (4 : Nat) (Option.some Jvm.ClassFile.FieldType.int)) ∈ lw_all := lw_g (lw_at lw_m1 109 rfl) rfl
theorem q134 : (Jvm.Cond.methodLink "PathFamilies" (62 : Nat) ({ cls := "PathFamilies", name := "two", desc := "(IIII)I" } : Jvm.MethodName)) ∈ lw_all := lw_g (lw_at lw_m1 110 rfl) rfl
theorem q135 : (Jvm.Cond.privateMethod ({ cls := "PathFamilies", name := "two", desc := "(IIII)I" } : Jvm.MethodName)) ∈ lw_tbl := lw_at lw_m1 111 rfl
theorem q136 : (Jvm.Cond.instanceMethod ({ cls := "PathFamilies", name := "two", desc := "(IIII)I" } : Jvm.MethodName)) ∈ lw_all := lw_g (lw_at lw_m1 112 rfl) rfl
theorem q137 : (Jvm.Cond.code ({ cls := "PathFamilies", name := "two", desc := "(IIII)I" } : Jvm.MethodName) prog_1_method_9_code (5 : Nat) (Option.some Jvm.ClassFile.FieldType.int)) ∈ lw_all := lw_g (lw_at lw_m1 113 rfl) rfl
theorem q138 : (Jvm.Cond.methodLink "PathFamilies" (70 : Nat) ({ cls := "PathFamilies", name := "allFour", desc := "()I" } : Jvm.MethodName)) ∈ lw_all := lw_g (lw_at lw_m1 114 rfl) rfl
theorem q139 : (Jvm.Cond.privateMethod ({ cls := "PathFamilies", name := "allFour", desc := "()I" } : Jvm.MethodName)) ∈ lw_tbl := lw_at lw_m1 115 rfl
theorem q140 : (Jvm.Cond.instanceMethod ({ cls := "PathFamilies", name := "allFour", desc := "()I" } : Jvm.MethodName)) ∈ lw_all := lw_g (lw_at lw_m1 116 rfl) rfl
theorem q141 : (Jvm.Cond.code ({ cls := "PathFamilies", name := "allFour", desc := "()I" } : Jvm.MethodName) prog_1_method_11_code (9 : Nat) (Option.some Jvm.ClassFile.FieldType.int)) ∈ lw_all := lw_g (lw_at lw_m1 117 rfl) rfl
theorem q143 : (Jvm.Cond.instanceMethod ({ cls := "PathFamilies", name := "sum", desc := "()I" } : Jvm.MethodName)) ∈ lw_all := lw_g (lw_at lw_m1 119 rfl) rfl
theorem q144 : (Jvm.Cond.selects "PathFamilies" ({ cls := "PathFamilies", name := "sum", desc := "()I" } : Jvm.MethodName) ({ cls := "PathFamilies", name := "sum", desc := "()I" } : Jvm.MethodName)) ∈ lw_all := lw_g (lw_at lw_m1 120 rfl) rfl
theorem q145 : (Jvm.Cond.code ({ cls := "PathFamilies", name := "sum", desc := "()I" } : Jvm.MethodName) prog_1_method_18_code (1 : Nat) (Option.some Jvm.ClassFile.FieldType.int)) ∈ lw_all := lw_g (lw_at lw_m1 121 rfl) rfl
theorem q147 : (Jvm.Cond.instanceMethod ({ cls := "PathFamilies", name := "through", desc := "(I)I" } : Jvm.MethodName)) ∈ lw_all := lw_g (lw_at lw_m1 123 rfl) rfl
theorem q148 : (Jvm.Cond.selects "PathFamilies" ({ cls := "PathFamilies", name := "through", desc := "(I)I" } : Jvm.MethodName) ({ cls := "PathFamilies", name := "through", desc := "(I)I" } : Jvm.MethodName)) ∈ lw_all := lw_g (lw_at lw_m1 124 rfl) rfl
theorem q149 : (Jvm.Cond.code ({ cls := "PathFamilies", name := "through", desc := "(I)I" } : Jvm.MethodName) prog_1_method_19_code (2 : Nat) (Option.some Jvm.ClassFile.FieldType.int)) ∈ lw_all := lw_g (lw_at lw_m1 125 rfl) rfl
theorem q151 : (Jvm.Cond.instanceMethod ({ cls := "PathFamilies", name := "throughBoth", desc := "(II)I" } : Jvm.MethodName)) ∈ lw_all := lw_g (lw_at lw_m1 127 rfl) rfl
theorem q152 : (Jvm.Cond.selects "PathFamilies" ({ cls := "PathFamilies", name := "throughBoth", desc := "(II)I" } : Jvm.MethodName) ({ cls := "PathFamilies", name := "throughBoth", desc := "(II)I" } : Jvm.MethodName)) ∈ lw_all := lw_g (lw_at lw_m1 128 rfl) rfl
theorem q153 : (Jvm.Cond.code ({ cls := "PathFamilies", name := "throughBoth", desc := "(II)I" } : Jvm.MethodName) prog_1_method_20_code (3 : Nat) (Option.some Jvm.ClassFile.FieldType.int)) ∈ lw_all := lw_g (lw_at lw_m1 129 rfl) rfl
theorem q155 : (Jvm.Cond.instanceMethod ({ cls := "PathFamilies", name := "musts", desc := "()I" } : Jvm.MethodName)) ∈ lw_all := lw_g (lw_at lw_m1 131 rfl) rfl
theorem q156 : (Jvm.Cond.selects "PathFamilies" ({ cls := "PathFamilies", name := "musts", desc := "()I" } : Jvm.MethodName) ({ cls := "PathFamilies", name := "musts", desc := "()I" } : Jvm.MethodName)) ∈ lw_all := lw_g (lw_at lw_m1 132 rfl) rfl
theorem q157 : (Jvm.Cond.code ({ cls := "PathFamilies", name := "musts", desc := "()I" } : Jvm.MethodName) prog_1_method_21_code (5 : Nat) (Option.some Jvm.ClassFile.FieldType.int)) ∈ lw_all := lw_g (lw_at lw_m1 133 rfl) rfl
theorem q159 : (Jvm.Cond.instanceMethod ({ cls := "PathFamilies", name := "load", desc := "(I)I" } : Jvm.MethodName)) ∈ lw_all := lw_g (lw_at lw_m1 135 rfl) rfl
theorem q160 : (Jvm.Cond.selects "PathFamilies" ({ cls := "PathFamilies", name := "load", desc := "(I)I" } : Jvm.MethodName) ({ cls := "PathFamilies", name := "load", desc := "(I)I" } : Jvm.MethodName)) ∈ lw_all := lw_g (lw_at lw_m1 136 rfl) rfl
theorem q161 : (Jvm.Cond.code ({ cls := "PathFamilies", name := "load", desc := "(I)I" } : Jvm.MethodName) prog_1_method_25_code (5 : Nat) (Option.some Jvm.ClassFile.FieldType.int)) ∈ lw_all := lw_g (lw_at lw_m1 137 rfl) rfl
theorem q162 : (Jvm.Cond.methodLink "PathFamilies" (96 : Nat) ({ cls := "PathFamilies", name := "findPath", desc := "(II)I" } : Jvm.MethodName)) ∈ lw_all := lw_g (lw_at lw_m1 138 rfl) rfl
theorem q163 : (Jvm.Cond.privateMethod ({ cls := "PathFamilies", name := "findPath", desc := "(II)I" } : Jvm.MethodName)) ∈ lw_tbl := lw_at lw_m1 139 rfl
theorem q164 : (Jvm.Cond.instanceMethod ({ cls := "PathFamilies", name := "findPath", desc := "(II)I" } : Jvm.MethodName)) ∈ lw_all := lw_g (lw_at lw_m1 140 rfl) rfl
theorem q165 : (Jvm.Cond.code ({ cls := "PathFamilies", name := "findPath", desc := "(II)I" } : Jvm.MethodName) prog_1_method_24_code (7 : Nat) (Option.some Jvm.ClassFile.FieldType.int)) ∈ lw_all := lw_g (lw_at lw_m1 141 rfl) rfl
theorem q166 : (Jvm.Cond.methodLink "PathFamilies" (93 : Nat) ({ cls := "PathFamilies", name := "countRight", desc := "(II)I" } : Jvm.MethodName)) ∈ lw_all := lw_g (lw_at lw_m1 142 rfl) rfl
theorem q167 : (Jvm.Cond.privateMethod ({ cls := "PathFamilies", name := "countRight", desc := "(II)I" } : Jvm.MethodName)) ∈ lw_tbl := lw_at lw_m1 143 rfl
theorem q168 : (Jvm.Cond.instanceMethod ({ cls := "PathFamilies", name := "countRight", desc := "(II)I" } : Jvm.MethodName)) ∈ lw_all := lw_g (lw_at lw_m1 144 rfl) rfl
theorem q169 : (Jvm.Cond.code ({ cls := "PathFamilies", name := "countRight", desc := "(II)I" } : Jvm.MethodName) prog_1_method_23_code (4 : Nat) (Option.some Jvm.ClassFile.FieldType.int)) ∈ lw_all := lw_g (lw_at lw_m1 145 rfl) rfl
theorem q170 : (Jvm.Cond.methodLink "PathFamilies" (90 : Nat) ({ cls := "PathFamilies", name := "mayRight", desc := "(I)Z" } : Jvm.MethodName)) ∈ lw_all := lw_g (lw_at lw_m1 146 rfl) rfl
theorem q171 : (Jvm.Cond.privateMethod ({ cls := "PathFamilies", name := "mayRight", desc := "(I)Z" } : Jvm.MethodName)) ∈ lw_tbl := lw_at lw_m1 147 rfl
theorem q172 : (Jvm.Cond.instanceMethod ({ cls := "PathFamilies", name := "mayRight", desc := "(I)Z" } : Jvm.MethodName)) ∈ lw_all := lw_g (lw_at lw_m1 148 rfl) rfl
theorem q173 : (Jvm.Cond.code ({ cls := "PathFamilies", name := "mayRight", desc := "(I)Z" } : Jvm.MethodName) prog_1_method_22_code (2 : Nat) (Option.some Jvm.ClassFile.FieldType.boolean)) ∈ lw_all := lw_g (lw_at lw_m1 149 rfl) rfl
theorem q175 : (Jvm.Cond.instanceMethod ({ cls := "PathFamilies", name := "cell", desc := "(II)I" } : Jvm.MethodName)) ∈ lw_all := lw_g (lw_at lw_m1 151 rfl) rfl
theorem q176 : (Jvm.Cond.selects "PathFamilies" ({ cls := "PathFamilies", name := "cell", desc := "(II)I" } : Jvm.MethodName) ({ cls := "PathFamilies", name := "cell", desc := "(II)I" } : Jvm.MethodName)) ∈ lw_all := lw_g (lw_at lw_m1 152 rfl) rfl
theorem q177 : (Jvm.Cond.code ({ cls := "PathFamilies", name := "cell", desc := "(II)I" } : Jvm.MethodName) prog_1_method_26_code (3 : Nat) (Option.some Jvm.ClassFile.FieldType.int)) ∈ lw_all := lw_g (lw_at lw_m1 153 rfl) rfl
theorem q179 : (Jvm.Cond.instanceMethod ({ cls := "PathFamilies", name := "loadedWeight", desc := "()I" } : Jvm.MethodName)) ∈ lw_all := lw_g (lw_at lw_m1 155 rfl) rfl
theorem q180 : (Jvm.Cond.selects "PathFamilies" ({ cls := "PathFamilies", name := "loadedWeight", desc := "()I" } : Jvm.MethodName) ({ cls := "PathFamilies", name := "loadedWeight", desc := "()I" } : Jvm.MethodName)) ∈ lw_all := lw_g (lw_at lw_m1 156 rfl) rfl
theorem q181 : (Jvm.Cond.code ({ cls := "PathFamilies", name := "loadedWeight", desc := "()I" } : Jvm.MethodName) prog_1_method_27_code (3 : Nat) (Option.some Jvm.ClassFile.FieldType.int)) ∈ lw_all := lw_g (lw_at lw_m1 157 rfl) rfl
theorem q183 : (Jvm.Cond.instanceMethod ({ cls := "PathFamilies", name := "rank", desc := "()I" } : Jvm.MethodName)) ∈ lw_all := lw_g (lw_at lw_m1 159 rfl) rfl
theorem q184 : (Jvm.Cond.selects "PathFamilies" ({ cls := "PathFamilies", name := "rank", desc := "()I" } : Jvm.MethodName) ({ cls := "PathFamilies", name := "rank", desc := "()I" } : Jvm.MethodName)) ∈ lw_all := lw_g (lw_at lw_m1 160 rfl) rfl
theorem q185 : (Jvm.Cond.code ({ cls := "PathFamilies", name := "rank", desc := "()I" } : Jvm.MethodName) prog_1_method_28_code (1 : Nat) (Option.some Jvm.ClassFile.FieldType.int)) ∈ lw_all := lw_g (lw_at lw_m1 161 rfl) rfl
theorem in_X0 : ∀ w ∈ wsX00, w ∈ lw_all := lw_in wsX00 [48, 50, 52, 54, 56, 58, 60, 62, 64, 66, 68, 70, 72] (by decide +kernel) (by decide +kernel)
end
section
set_option maxRecDepth 100000
/-! PathFamiliesModel -/
def RX1 : String := "PathFamiliesModel"
def TX1 : u_T := fun k => match k with
  | 0 => ("PathFamiliesModel", "blocked", "[Z", false)
  | 1 => ("PathFamiliesModel", "weights", "[I", false)
  | 2 => ("PathFamiliesModel", "count", "I", false)
  | 3 => ("PathFamiliesModel", "starts", "[I", false)
  | 4 => ("PathFamiliesModel", "goals", "[I", false)
  | 5 => ("PathFamiliesModel", "gone", "I", false)
  | 6 => ("PathFamiliesModel", "walk", "[I", false)
  | 7 => ("PathFamiliesModel", "owner", "[I", false)
  | 8 => ("PathFamiliesModel", "tried", "[I", false)
  | 9 => ("PathFamiliesModel", "taken", "[Z", false)
  | 10 => ("PathFamiliesModel", "ways", "[I", false)
  | 11 => ("PathFamiliesModel", "rank", "I", false)
  | 12 => ("PathFamiliesModel", "loaded", "I", false)
  | 13 => ("PathFamiliesModel", "kept", "[I", false)
  | _ => ("PathFamiliesModel", "keptOwner", "[I", false)
def tyX1 : Nat → FieldType := fun k => match k with
  | 0 => .array .boolean
  | 1 => .array .int
  | 2 => .int
  | 3 => .array .int
  | 4 => .array .int
  | 5 => .int
  | 6 => .array .int
  | 7 => .array .int
  | 8 => .array .int
  | 9 => .array .boolean
  | 10 => .array .int
  | 11 => .int
  | 12 => .int
  | 13 => .array .int
  | _ => .array .int
abbrev wsX10 : List Cond := u_ws RX1 TX1 15
set_option maxRecDepth 100000 in
theorem nmX1 : ∀ a, a < 15 → ∀ b, b < 15 → a ≠ b → (TX1 a).2.1 ≠ (TX1 b).2.1 := by decide +kernel
set_option maxRecDepth 100000 in
theorem tyX1_ok : ∀ k, k < 15 → parseFieldDescriptor (TX1 k).2.2.1 = some (tyX1 k) := by decide +kernel
abbrev cX1_init : ByteArray := prog_3_method_1_code
def yX1_init : MethodName := ⟨RX1, "<init>", "()V"⟩
theorem dX1_init_0 : decode cX1_init 0 = .ok (.aload_n 0, 1) := by decide +kernel
theorem dX1_init_1 : decode cX1_init 1 = .ok (.invokespecial 1, 3) := by decide +kernel
theorem dX1_init_4 : decode cX1_init 4 = .ok (.aload_n 0, 1) := by decide +kernel
theorem dX1_init_5 : decode cX1_init 5 = .ok (.bipush 30, 2) := by decide +kernel
theorem dX1_init_7 : decode cX1_init 7 = .ok (.newarray .boolean, 2) := by decide +kernel
theorem dX1_init_9 : decode cX1_init 9 = .ok (.putfield 7, 3) := by decide +kernel
theorem dX1_init_12 : decode cX1_init 12 = .ok (.aload_n 0, 1) := by decide +kernel
theorem dX1_init_13 : decode cX1_init 13 = .ok (.bipush 30, 2) := by decide +kernel
theorem dX1_init_15 : decode cX1_init 15 = .ok (.newarray .int, 2) := by decide +kernel
theorem dX1_init_17 : decode cX1_init 17 = .ok (.putfield 13, 3) := by decide +kernel
theorem dX1_init_20 : decode cX1_init 20 = .ok (.aload_n 0, 1) := by decide +kernel
theorem dX1_init_21 : decode cX1_init 21 = .ok (.iconst 4, 1) := by decide +kernel
theorem dX1_init_22 : decode cX1_init 22 = .ok (.newarray .int, 2) := by decide +kernel
theorem dX1_init_24 : decode cX1_init 24 = .ok (.putfield 17, 3) := by decide +kernel
theorem dX1_init_27 : decode cX1_init 27 = .ok (.aload_n 0, 1) := by decide +kernel
theorem dX1_init_28 : decode cX1_init 28 = .ok (.iconst 4, 1) := by decide +kernel
theorem dX1_init_29 : decode cX1_init 29 = .ok (.newarray .int, 2) := by decide +kernel
theorem dX1_init_31 : decode cX1_init 31 = .ok (.putfield 20, 3) := by decide +kernel
theorem dX1_init_34 : decode cX1_init 34 = .ok (.aload_n 0, 1) := by decide +kernel
theorem dX1_init_35 : decode cX1_init 35 = .ok (.bipush 40, 2) := by decide +kernel
theorem dX1_init_37 : decode cX1_init 37 = .ok (.newarray .int, 2) := by decide +kernel
theorem dX1_init_39 : decode cX1_init 39 = .ok (.putfield 23, 3) := by decide +kernel
theorem dX1_init_42 : decode cX1_init 42 = .ok (.aload_n 0, 1) := by decide +kernel
theorem dX1_init_43 : decode cX1_init 43 = .ok (.bipush 40, 2) := by decide +kernel
theorem dX1_init_45 : decode cX1_init 45 = .ok (.newarray .int, 2) := by decide +kernel
theorem dX1_init_47 : decode cX1_init 47 = .ok (.putfield 26, 3) := by decide +kernel
theorem dX1_init_50 : decode cX1_init 50 = .ok (.aload_n 0, 1) := by decide +kernel
theorem dX1_init_51 : decode cX1_init 51 = .ok (.bipush 40, 2) := by decide +kernel
theorem dX1_init_53 : decode cX1_init 53 = .ok (.newarray .int, 2) := by decide +kernel
theorem dX1_init_55 : decode cX1_init 55 = .ok (.putfield 29, 3) := by decide +kernel
theorem dX1_init_58 : decode cX1_init 58 = .ok (.aload_n 0, 1) := by decide +kernel
theorem dX1_init_59 : decode cX1_init 59 = .ok (.bipush 30, 2) := by decide +kernel
theorem dX1_init_61 : decode cX1_init 61 = .ok (.newarray .boolean, 2) := by decide +kernel
theorem dX1_init_63 : decode cX1_init 63 = .ok (.putfield 32, 3) := by decide +kernel
theorem dX1_init_66 : decode cX1_init 66 = .ok (.aload_n 0, 1) := by decide +kernel
theorem dX1_init_67 : decode cX1_init 67 = .ok (.bipush 30, 2) := by decide +kernel
theorem dX1_init_69 : decode cX1_init 69 = .ok (.newarray .int, 2) := by decide +kernel
theorem dX1_init_71 : decode cX1_init 71 = .ok (.putfield 35, 3) := by decide +kernel
theorem dX1_init_74 : decode cX1_init 74 = .ok (.aload_n 0, 1) := by decide +kernel
theorem dX1_init_75 : decode cX1_init 75 = .ok (.bipush 40, 2) := by decide +kernel
theorem dX1_init_77 : decode cX1_init 77 = .ok (.newarray .int, 2) := by decide +kernel
theorem dX1_init_79 : decode cX1_init 79 = .ok (.putfield 38, 3) := by decide +kernel
theorem dX1_init_82 : decode cX1_init 82 = .ok (.aload_n 0, 1) := by decide +kernel
theorem dX1_init_83 : decode cX1_init 83 = .ok (.bipush 40, 2) := by decide +kernel
theorem dX1_init_85 : decode cX1_init 85 = .ok (.newarray .int, 2) := by decide +kernel
theorem dX1_init_87 : decode cX1_init 87 = .ok (.putfield 41, 3) := by decide +kernel
theorem dX1_init_90 : decode cX1_init 90 = .ok (.iconst 0, 1) := by decide +kernel
theorem dX1_init_91 : decode cX1_init 91 = .ok (.istore_n 1, 1) := by decide +kernel
theorem dX1_init_92 : decode cX1_init 92 = .ok (.iload_n 1, 1) := by decide +kernel
theorem dX1_init_93 : decode cX1_init 93 = .ok (.bipush 30, 2) := by decide +kernel
theorem dX1_init_95 : decode cX1_init 95 = .ok (.if_icmp .ge 16, 3) := by decide +kernel
theorem dX1_init_98 : decode cX1_init 98 = .ok (.aload_n 0, 1) := by decide +kernel
theorem dX1_init_99 : decode cX1_init 99 = .ok (.getfield 13, 3) := by decide +kernel
theorem dX1_init_102 : decode cX1_init 102 = .ok (.iload_n 1, 1) := by decide +kernel
theorem dX1_init_103 : decode cX1_init 103 = .ok (.iconst 1, 1) := by decide +kernel
theorem dX1_init_104 : decode cX1_init 104 = .ok (.iastore, 1) := by decide +kernel
theorem dX1_init_105 : decode cX1_init 105 = .ok (.iinc 1 1, 3) := by decide +kernel
theorem dX1_init_108 : decode cX1_init 108 = .ok (.goto (-16), 3) := by decide +kernel
theorem dX1_init_111 : decode cX1_init 111 = .ok (.aload_n 0, 1) := by decide +kernel
theorem dX1_init_112 : decode cX1_init 112 = .ok (.iconst 1, 1) := by decide +kernel
theorem dX1_init_113 : decode cX1_init 113 = .ok (.putfield 44, 3) := by decide +kernel
theorem dX1_init_116 : decode cX1_init 116 = .ok (.aload_n 0, 1) := by decide +kernel
theorem dX1_init_117 : decode cX1_init 117 = .ok (.getfield 17, 3) := by decide +kernel
theorem dX1_init_120 : decode cX1_init 120 = .ok (.iconst 0, 1) := by decide +kernel
theorem dX1_init_121 : decode cX1_init 121 = .ok (.iconst 0, 1) := by decide +kernel
theorem dX1_init_122 : decode cX1_init 122 = .ok (.iastore, 1) := by decide +kernel
theorem dX1_init_123 : decode cX1_init 123 = .ok (.aload_n 0, 1) := by decide +kernel
theorem dX1_init_124 : decode cX1_init 124 = .ok (.getfield 20, 3) := by decide +kernel
theorem dX1_init_127 : decode cX1_init 127 = .ok (.iconst 0, 1) := by decide +kernel
theorem dX1_init_128 : decode cX1_init 128 = .ok (.bipush 29, 2) := by decide +kernel
theorem dX1_init_130 : decode cX1_init 130 = .ok (.iastore, 1) := by decide +kernel
theorem dX1_init_131 : decode cX1_init 131 = .ok (.aload_n 0, 1) := by decide +kernel
theorem dX1_init_132 : decode cX1_init 132 = .ok (.bipush (-4), 2) := by decide +kernel
theorem dX1_init_134 : decode cX1_init 134 = .ok (.putfield 48, 3) := by decide +kernel
theorem dX1_init_137 : decode cX1_init 137 = .ok (.return_, 1) := by decide +kernel
abbrev cX1_ends : ByteArray := prog_3_method_4_code
def yX1_ends : MethodName := ⟨RX1, "ends", "(II)I"⟩
theorem dX1_ends_0 : decode cX1_ends 0 = .ok (.iload_n 1, 1) := by decide +kernel
theorem dX1_ends_1 : decode cX1_ends 1 = .ok (.iconst 1, 1) := by decide +kernel
theorem dX1_ends_2 : decode cX1_ends 2 = .ok (.if_icmp .lt 20, 3) := by decide +kernel
theorem dX1_ends_5 : decode cX1_ends 5 = .ok (.iload_n 1, 1) := by decide +kernel
theorem dX1_ends_6 : decode cX1_ends 6 = .ok (.bipush 31, 2) := by decide +kernel
theorem dX1_ends_8 : decode cX1_ends 8 = .ok (.if_icmp .gt 14, 3) := by decide +kernel
theorem dX1_ends_11 : decode cX1_ends 11 = .ok (.iload_n 2, 1) := by decide +kernel
theorem dX1_ends_12 : decode cX1_ends 12 = .ok (.iconst 1, 1) := by decide +kernel
theorem dX1_ends_13 : decode cX1_ends 13 = .ok (.if_icmp .lt 9, 3) := by decide +kernel
theorem dX1_ends_16 : decode cX1_ends 16 = .ok (.iload_n 2, 1) := by decide +kernel
theorem dX1_ends_17 : decode cX1_ends 17 = .ok (.bipush 31, 2) := by decide +kernel
theorem dX1_ends_19 : decode cX1_ends 19 = .ok (.if_icmp .le 5, 3) := by decide +kernel
theorem dX1_ends_22 : decode cX1_ends 22 = .ok (.iconst (-1), 1) := by decide +kernel
theorem dX1_ends_23 : decode cX1_ends 23 = .ok (.ireturn, 1) := by decide +kernel
theorem dX1_ends_24 : decode cX1_ends 24 = .ok (.aload_n 0, 1) := by decide +kernel
theorem dX1_ends_25 : decode cX1_ends 25 = .ok (.iload_n 1, 1) := by decide +kernel
theorem dX1_ends_26 : decode cX1_ends 26 = .ok (.invokevirtual 54, 3) := by decide +kernel
theorem dX1_ends_29 : decode cX1_ends 29 = .ok (.istore_n 3, 1) := by decide +kernel
theorem dX1_ends_30 : decode cX1_ends 30 = .ok (.iload_n 3, 1) := by decide +kernel
theorem dX1_ends_31 : decode cX1_ends 31 = .ok (.aload_n 0, 1) := by decide +kernel
theorem dX1_ends_32 : decode cX1_ends 32 = .ok (.iload_n 2, 1) := by decide +kernel
theorem dX1_ends_33 : decode cX1_ends 33 = .ok (.invokevirtual 54, 3) := by decide +kernel
theorem dX1_ends_36 : decode cX1_ends 36 = .ok (.if_icmp .ne 8, 3) := by decide +kernel
theorem dX1_ends_39 : decode cX1_ends 39 = .ok (.iload_n 3, 1) := by decide +kernel
theorem dX1_ends_40 : decode cX1_ends 40 = .ok (.iconst 4, 1) := by decide +kernel
theorem dX1_ends_41 : decode cX1_ends 41 = .ok (.if_icmp .le 5, 3) := by decide +kernel
theorem dX1_ends_44 : decode cX1_ends 44 = .ok (.iconst (-1), 1) := by decide +kernel
theorem dX1_ends_45 : decode cX1_ends 45 = .ok (.ireturn, 1) := by decide +kernel
theorem dX1_ends_46 : decode cX1_ends 46 = .ok (.aload_n 0, 1) := by decide +kernel
theorem dX1_ends_47 : decode cX1_ends 47 = .ok (.iload_n 3, 1) := by decide +kernel
theorem dX1_ends_48 : decode cX1_ends 48 = .ok (.putfield 44, 3) := by decide +kernel
theorem dX1_ends_51 : decode cX1_ends 51 = .ok (.iconst 0, 1) := by decide +kernel
theorem dX1_ends_52 : decode cX1_ends 52 = .ok (.istore 4, 2) := by decide +kernel
theorem dX1_ends_54 : decode cX1_ends 54 = .ok (.iconst 0, 1) := by decide +kernel
theorem dX1_ends_55 : decode cX1_ends 55 = .ok (.istore 5, 2) := by decide +kernel
theorem dX1_ends_57 : decode cX1_ends 57 = .ok (.iconst 0, 1) := by decide +kernel
theorem dX1_ends_58 : decode cX1_ends 58 = .ok (.istore 6, 2) := by decide +kernel
theorem dX1_ends_60 : decode cX1_ends 60 = .ok (.iload 6, 2) := by decide +kernel
theorem dX1_ends_62 : decode cX1_ends 62 = .ok (.iconst 5, 1) := by decide +kernel
theorem dX1_ends_63 : decode cX1_ends 63 = .ok (.if_icmp .ge 56, 3) := by decide +kernel
theorem dX1_ends_66 : decode cX1_ends 66 = .ok (.iload_n 1, 1) := by decide +kernel
theorem dX1_ends_67 : decode cX1_ends 67 = .ok (.iload 6, 2) := by decide +kernel
theorem dX1_ends_69 : decode cX1_ends 69 = .ok (.ishr, 1) := by decide +kernel
theorem dX1_ends_70 : decode cX1_ends 70 = .ok (.iconst 1, 1) := by decide +kernel
theorem dX1_ends_71 : decode cX1_ends 71 = .ok (.iand, 1) := by decide +kernel
theorem dX1_ends_72 : decode cX1_ends 72 = .ok (.iconst 1, 1) := by decide +kernel
theorem dX1_ends_73 : decode cX1_ends 73 = .ok (.if_icmp .ne 15, 3) := by decide +kernel
theorem dX1_ends_76 : decode cX1_ends 76 = .ok (.aload_n 0, 1) := by decide +kernel
theorem dX1_ends_77 : decode cX1_ends 77 = .ok (.getfield 17, 3) := by decide +kernel
theorem dX1_ends_80 : decode cX1_ends 80 = .ok (.iload 4, 2) := by decide +kernel
theorem dX1_ends_82 : decode cX1_ends 82 = .ok (.iload 6, 2) := by decide +kernel
theorem dX1_ends_84 : decode cX1_ends 84 = .ok (.iastore, 1) := by decide +kernel
theorem dX1_ends_85 : decode cX1_ends 85 = .ok (.iinc 4 1, 3) := by decide +kernel
theorem dX1_ends_88 : decode cX1_ends 88 = .ok (.iload_n 2, 1) := by decide +kernel
theorem dX1_ends_89 : decode cX1_ends 89 = .ok (.iload 6, 2) := by decide +kernel
theorem dX1_ends_91 : decode cX1_ends 91 = .ok (.ishr, 1) := by decide +kernel
theorem dX1_ends_92 : decode cX1_ends 92 = .ok (.iconst 1, 1) := by decide +kernel
theorem dX1_ends_93 : decode cX1_ends 93 = .ok (.iand, 1) := by decide +kernel
theorem dX1_ends_94 : decode cX1_ends 94 = .ok (.iconst 1, 1) := by decide +kernel
theorem dX1_ends_95 : decode cX1_ends 95 = .ok (.if_icmp .ne 18, 3) := by decide +kernel
theorem dX1_ends_98 : decode cX1_ends 98 = .ok (.aload_n 0, 1) := by decide +kernel
theorem dX1_ends_99 : decode cX1_ends 99 = .ok (.getfield 20, 3) := by decide +kernel
theorem dX1_ends_102 : decode cX1_ends 102 = .ok (.iload 5, 2) := by decide +kernel
theorem dX1_ends_104 : decode cX1_ends 104 = .ok (.bipush 25, 2) := by decide +kernel
theorem dX1_ends_106 : decode cX1_ends 106 = .ok (.iload 6, 2) := by decide +kernel
theorem dX1_ends_108 : decode cX1_ends 108 = .ok (.iadd, 1) := by decide +kernel
theorem dX1_ends_109 : decode cX1_ends 109 = .ok (.iastore, 1) := by decide +kernel
theorem dX1_ends_110 : decode cX1_ends 110 = .ok (.iinc 5 1, 3) := by decide +kernel
theorem dX1_ends_113 : decode cX1_ends 113 = .ok (.iinc 6 1, 3) := by decide +kernel
theorem dX1_ends_116 : decode cX1_ends 116 = .ok (.goto (-56), 3) := by decide +kernel
theorem dX1_ends_119 : decode cX1_ends 119 = .ok (.aload_n 0, 1) := by decide +kernel
theorem dX1_ends_120 : decode cX1_ends 120 = .ok (.invokevirtual 58, 3) := by decide +kernel
theorem dX1_ends_123 : decode cX1_ends 123 = .ok (.iload_n 3, 1) := by decide +kernel
theorem dX1_ends_124 : decode cX1_ends 124 = .ok (.ireturn, 1) := by decide +kernel
abbrev cX1_size : ByteArray := prog_3_method_2_code
def yX1_size : MethodName := ⟨RX1, "size", "(I)I"⟩
theorem dX1_size_0 : decode cX1_size 0 = .ok (.iconst 0, 1) := by decide +kernel
theorem dX1_size_1 : decode cX1_size 1 = .ok (.istore_n 2, 1) := by decide +kernel
theorem dX1_size_2 : decode cX1_size 2 = .ok (.iconst 0, 1) := by decide +kernel
theorem dX1_size_3 : decode cX1_size 3 = .ok (.istore_n 3, 1) := by decide +kernel
theorem dX1_size_4 : decode cX1_size 4 = .ok (.iload_n 3, 1) := by decide +kernel
theorem dX1_size_5 : decode cX1_size 5 = .ok (.iconst 5, 1) := by decide +kernel
theorem dX1_size_6 : decode cX1_size 6 = .ok (.if_icmp .ge 17, 3) := by decide +kernel
theorem dX1_size_9 : decode cX1_size 9 = .ok (.iload_n 2, 1) := by decide +kernel
theorem dX1_size_10 : decode cX1_size 10 = .ok (.iload_n 1, 1) := by decide +kernel
theorem dX1_size_11 : decode cX1_size 11 = .ok (.iload_n 3, 1) := by decide +kernel
theorem dX1_size_12 : decode cX1_size 12 = .ok (.ishr, 1) := by decide +kernel
theorem dX1_size_13 : decode cX1_size 13 = .ok (.iconst 1, 1) := by decide +kernel
theorem dX1_size_14 : decode cX1_size 14 = .ok (.iand, 1) := by decide +kernel
theorem dX1_size_15 : decode cX1_size 15 = .ok (.iadd, 1) := by decide +kernel
theorem dX1_size_16 : decode cX1_size 16 = .ok (.istore_n 2, 1) := by decide +kernel
theorem dX1_size_17 : decode cX1_size 17 = .ok (.iinc 3 1, 3) := by decide +kernel
theorem dX1_size_20 : decode cX1_size 20 = .ok (.goto (-16), 3) := by decide +kernel
theorem dX1_size_23 : decode cX1_size 23 = .ok (.iload_n 2, 1) := by decide +kernel
theorem dX1_size_24 : decode cX1_size 24 = .ok (.ireturn, 1) := by decide +kernel
abbrev cX1_unload : ByteArray := prog_3_method_3_code
def yX1_unload : MethodName := ⟨RX1, "unload", "()V"⟩
theorem dX1_unload_0 : decode cX1_unload 0 = .ok (.aload_n 0, 1) := by decide +kernel
theorem dX1_unload_1 : decode cX1_unload 1 = .ok (.bipush (-4), 2) := by decide +kernel
theorem dX1_unload_3 : decode cX1_unload 3 = .ok (.putfield 48, 3) := by decide +kernel
theorem dX1_unload_6 : decode cX1_unload 6 = .ok (.aload_n 0, 1) := by decide +kernel
theorem dX1_unload_7 : decode cX1_unload 7 = .ok (.iconst 0, 1) := by decide +kernel
theorem dX1_unload_8 : decode cX1_unload 8 = .ok (.putfield 51, 3) := by decide +kernel
theorem dX1_unload_11 : decode cX1_unload 11 = .ok (.return_, 1) := by decide +kernel
abbrev cX1_block : ByteArray := prog_3_method_6_code
def yX1_block : MethodName := ⟨RX1, "block", "(II)I"⟩
theorem dX1_block_0 : decode cX1_block 0 = .ok (.aload_n 0, 1) := by decide +kernel
theorem dX1_block_1 : decode cX1_block 1 = .ok (.iload_n 1, 1) := by decide +kernel
theorem dX1_block_2 : decode cX1_block 2 = .ok (.invokevirtual 61, 3) := by decide +kernel
theorem dX1_block_5 : decode cX1_block 5 = .ok (.ifCond .eq 5, 3) := by decide +kernel
theorem dX1_block_8 : decode cX1_block 8 = .ok (.iconst (-1), 1) := by decide +kernel
theorem dX1_block_9 : decode cX1_block 9 = .ok (.ireturn, 1) := by decide +kernel
theorem dX1_block_10 : decode cX1_block 10 = .ok (.aload_n 0, 1) := by decide +kernel
theorem dX1_block_11 : decode cX1_block 11 = .ok (.getfield 7, 3) := by decide +kernel
theorem dX1_block_14 : decode cX1_block 14 = .ok (.iload_n 1, 1) := by decide +kernel
theorem dX1_block_15 : decode cX1_block 15 = .ok (.baload, 1) := by decide +kernel
theorem dX1_block_16 : decode cX1_block 16 = .ok (.ifCond .eq 7, 3) := by decide +kernel
theorem dX1_block_19 : decode cX1_block 19 = .ok (.iconst 1, 1) := by decide +kernel
theorem dX1_block_20 : decode cX1_block 20 = .ok (.goto 4, 3) := by decide +kernel
theorem dX1_block_23 : decode cX1_block 23 = .ok (.iconst 0, 1) := by decide +kernel
theorem dX1_block_24 : decode cX1_block 24 = .ok (.istore_n 3, 1) := by decide +kernel
theorem dX1_block_25 : decode cX1_block 25 = .ok (.aload_n 0, 1) := by decide +kernel
theorem dX1_block_26 : decode cX1_block 26 = .ok (.getfield 7, 3) := by decide +kernel
theorem dX1_block_29 : decode cX1_block 29 = .ok (.iload_n 1, 1) := by decide +kernel
theorem dX1_block_30 : decode cX1_block 30 = .ok (.iload_n 2, 1) := by decide +kernel
theorem dX1_block_31 : decode cX1_block 31 = .ok (.ifCond .eq 7, 3) := by decide +kernel
theorem dX1_block_34 : decode cX1_block 34 = .ok (.iconst 1, 1) := by decide +kernel
theorem dX1_block_35 : decode cX1_block 35 = .ok (.goto 4, 3) := by decide +kernel
theorem dX1_block_38 : decode cX1_block 38 = .ok (.iconst 0, 1) := by decide +kernel
theorem dX1_block_39 : decode cX1_block 39 = .ok (.bastore, 1) := by decide +kernel
theorem dX1_block_40 : decode cX1_block 40 = .ok (.aload_n 0, 1) := by decide +kernel
theorem dX1_block_41 : decode cX1_block 41 = .ok (.invokevirtual 58, 3) := by decide +kernel
theorem dX1_block_44 : decode cX1_block 44 = .ok (.iload_n 3, 1) := by decide +kernel
theorem dX1_block_45 : decode cX1_block 45 = .ok (.ireturn, 1) := by decide +kernel
abbrev cX1_noCell : ByteArray := prog_3_method_5_code
def yX1_noCell : MethodName := ⟨RX1, "noCell", "(I)Z"⟩
theorem dX1_noCell_0 : decode cX1_noCell 0 = .ok (.iload_n 1, 1) := by decide +kernel
theorem dX1_noCell_1 : decode cX1_noCell 1 = .ok (.ifCond .lt 9, 3) := by decide +kernel
theorem dX1_noCell_4 : decode cX1_noCell 4 = .ok (.iload_n 1, 1) := by decide +kernel
theorem dX1_noCell_5 : decode cX1_noCell 5 = .ok (.bipush 29, 2) := by decide +kernel
theorem dX1_noCell_7 : decode cX1_noCell 7 = .ok (.if_icmp .le 7, 3) := by decide +kernel
theorem dX1_noCell_10 : decode cX1_noCell 10 = .ok (.iconst 1, 1) := by decide +kernel
theorem dX1_noCell_11 : decode cX1_noCell 11 = .ok (.goto 4, 3) := by decide +kernel
theorem dX1_noCell_14 : decode cX1_noCell 14 = .ok (.iconst 0, 1) := by decide +kernel
theorem dX1_noCell_15 : decode cX1_noCell 15 = .ok (.ireturn, 1) := by decide +kernel
abbrev cX1_weight : ByteArray := prog_3_method_7_code
def yX1_weight : MethodName := ⟨RX1, "weight", "(II)I"⟩
theorem dX1_weight_0 : decode cX1_weight 0 = .ok (.aload_n 0, 1) := by decide +kernel
theorem dX1_weight_1 : decode cX1_weight 1 = .ok (.iload_n 1, 1) := by decide +kernel
theorem dX1_weight_2 : decode cX1_weight 2 = .ok (.invokevirtual 61, 3) := by decide +kernel
theorem dX1_weight_5 : decode cX1_weight 5 = .ok (.ifCond .eq 5, 3) := by decide +kernel
theorem dX1_weight_8 : decode cX1_weight 8 = .ok (.iconst (-1), 1) := by decide +kernel
theorem dX1_weight_9 : decode cX1_weight 9 = .ok (.ireturn, 1) := by decide +kernel
theorem dX1_weight_10 : decode cX1_weight 10 = .ok (.aload_n 0, 1) := by decide +kernel
theorem dX1_weight_11 : decode cX1_weight 11 = .ok (.getfield 13, 3) := by decide +kernel
theorem dX1_weight_14 : decode cX1_weight 14 = .ok (.iload_n 1, 1) := by decide +kernel
theorem dX1_weight_15 : decode cX1_weight 15 = .ok (.iload_n 2, 1) := by decide +kernel
theorem dX1_weight_16 : decode cX1_weight 16 = .ok (.iastore, 1) := by decide +kernel
theorem dX1_weight_17 : decode cX1_weight 17 = .ok (.iconst 0, 1) := by decide +kernel
theorem dX1_weight_18 : decode cX1_weight 18 = .ok (.ireturn, 1) := by decide +kernel
abbrev cX1_paths : ByteArray := prog_3_method_9_code
def yX1_paths : MethodName := ⟨RX1, "paths", "(II)I"⟩
theorem dX1_paths_0 : decode cX1_paths 0 = .ok (.iload_n 1, 1) := by decide +kernel
theorem dX1_paths_1 : decode cX1_paths 1 = .ok (.ifCond .lt 23, 3) := by decide +kernel
theorem dX1_paths_4 : decode cX1_paths 4 = .ok (.iload_n 1, 1) := by decide +kernel
theorem dX1_paths_5 : decode cX1_paths 5 = .ok (.aload_n 0, 1) := by decide +kernel
theorem dX1_paths_6 : decode cX1_paths 6 = .ok (.getfield 44, 3) := by decide +kernel
theorem dX1_paths_9 : decode cX1_paths 9 = .ok (.if_icmp .ge 15, 3) := by decide +kernel
theorem dX1_paths_12 : decode cX1_paths 12 = .ok (.iload_n 2, 1) := by decide +kernel
theorem dX1_paths_13 : decode cX1_paths 13 = .ok (.ifCond .lt 11, 3) := by decide +kernel
theorem dX1_paths_16 : decode cX1_paths 16 = .ok (.iload_n 2, 1) := by decide +kernel
theorem dX1_paths_17 : decode cX1_paths 17 = .ok (.aload_n 0, 1) := by decide +kernel
theorem dX1_paths_18 : decode cX1_paths 18 = .ok (.getfield 44, 3) := by decide +kernel
theorem dX1_paths_21 : decode cX1_paths 21 = .ok (.if_icmp .lt 7, 3) := by decide +kernel
theorem dX1_paths_24 : decode cX1_paths 24 = .ok (.iconst (-1), 1) := by decide +kernel
theorem dX1_paths_25 : decode cX1_paths 25 = .ok (.goto 19, 3) := by decide +kernel
theorem dX1_paths_28 : decode cX1_paths 28 = .ok (.aload_n 0, 1) := by decide +kernel
theorem dX1_paths_29 : decode cX1_paths 29 = .ok (.aload_n 0, 1) := by decide +kernel
theorem dX1_paths_30 : decode cX1_paths 30 = .ok (.getfield 17, 3) := by decide +kernel
theorem dX1_paths_33 : decode cX1_paths 33 = .ok (.iload_n 1, 1) := by decide +kernel
theorem dX1_paths_34 : decode cX1_paths 34 = .ok (.iaload, 1) := by decide +kernel
theorem dX1_paths_35 : decode cX1_paths 35 = .ok (.aload_n 0, 1) := by decide +kernel
theorem dX1_paths_36 : decode cX1_paths 36 = .ok (.getfield 20, 3) := by decide +kernel
theorem dX1_paths_39 : decode cX1_paths 39 = .ok (.iload_n 2, 1) := by decide +kernel
theorem dX1_paths_40 : decode cX1_paths 40 = .ok (.iaload, 1) := by decide +kernel
theorem dX1_paths_41 : decode cX1_paths 41 = .ok (.invokevirtual 65, 3) := by decide +kernel
theorem dX1_paths_44 : decode cX1_paths 44 = .ok (.ireturn, 1) := by decide +kernel
abbrev cX1_ways : ByteArray := prog_3_method_8_code
def yX1_ways : MethodName := ⟨RX1, "ways", "(II)I"⟩
theorem dX1_ways_0 : decode cX1_ways 0 = .ok (.iconst 0, 1) := by decide +kernel
theorem dX1_ways_1 : decode cX1_ways 1 = .ok (.istore_n 3, 1) := by decide +kernel
theorem dX1_ways_2 : decode cX1_ways 2 = .ok (.iload_n 3, 1) := by decide +kernel
theorem dX1_ways_3 : decode cX1_ways 3 = .ok (.bipush 30, 2) := by decide +kernel
theorem dX1_ways_5 : decode cX1_ways 5 = .ok (.if_icmp .ge 86, 3) := by decide +kernel
theorem dX1_ways_8 : decode cX1_ways 8 = .ok (.aload_n 0, 1) := by decide +kernel
theorem dX1_ways_9 : decode cX1_ways 9 = .ok (.getfield 35, 3) := by decide +kernel
theorem dX1_ways_12 : decode cX1_ways 12 = .ok (.iload_n 3, 1) := by decide +kernel
theorem dX1_ways_13 : decode cX1_ways 13 = .ok (.iload_n 3, 1) := by decide +kernel
theorem dX1_ways_14 : decode cX1_ways 14 = .ok (.iload_n 1, 1) := by decide +kernel
theorem dX1_ways_15 : decode cX1_ways 15 = .ok (.if_icmp .ne 7, 3) := by decide +kernel
theorem dX1_ways_18 : decode cX1_ways 18 = .ok (.iconst 1, 1) := by decide +kernel
theorem dX1_ways_19 : decode cX1_ways 19 = .ok (.goto 4, 3) := by decide +kernel
theorem dX1_ways_22 : decode cX1_ways 22 = .ok (.iconst 0, 1) := by decide +kernel
theorem dX1_ways_23 : decode cX1_ways 23 = .ok (.iastore, 1) := by decide +kernel
theorem dX1_ways_24 : decode cX1_ways 24 = .ok (.iload_n 3, 1) := by decide +kernel
theorem dX1_ways_25 : decode cX1_ways 25 = .ok (.iconst 5, 1) := by decide +kernel
theorem dX1_ways_26 : decode cX1_ways 26 = .ok (.if_icmp .lt 20, 3) := by decide +kernel
theorem dX1_ways_29 : decode cX1_ways 29 = .ok (.aload_n 0, 1) := by decide +kernel
theorem dX1_ways_30 : decode cX1_ways 30 = .ok (.getfield 35, 3) := by decide +kernel
theorem dX1_ways_33 : decode cX1_ways 33 = .ok (.iload_n 3, 1) := by decide +kernel
theorem dX1_ways_34 : decode cX1_ways 34 = .ok (.dup2, 1) := by decide +kernel
theorem dX1_ways_35 : decode cX1_ways 35 = .ok (.iaload, 1) := by decide +kernel
theorem dX1_ways_36 : decode cX1_ways 36 = .ok (.aload_n 0, 1) := by decide +kernel
theorem dX1_ways_37 : decode cX1_ways 37 = .ok (.getfield 35, 3) := by decide +kernel
theorem dX1_ways_40 : decode cX1_ways 40 = .ok (.iload_n 3, 1) := by decide +kernel
theorem dX1_ways_41 : decode cX1_ways 41 = .ok (.iconst 5, 1) := by decide +kernel
theorem dX1_ways_42 : decode cX1_ways 42 = .ok (.isub, 1) := by decide +kernel
theorem dX1_ways_43 : decode cX1_ways 43 = .ok (.iaload, 1) := by decide +kernel
theorem dX1_ways_44 : decode cX1_ways 44 = .ok (.iadd, 1) := by decide +kernel
theorem dX1_ways_45 : decode cX1_ways 45 = .ok (.iastore, 1) := by decide +kernel
theorem dX1_ways_46 : decode cX1_ways 46 = .ok (.iload_n 3, 1) := by decide +kernel
theorem dX1_ways_47 : decode cX1_ways 47 = .ok (.iconst 5, 1) := by decide +kernel
theorem dX1_ways_48 : decode cX1_ways 48 = .ok (.irem, 1) := by decide +kernel
theorem dX1_ways_49 : decode cX1_ways 49 = .ok (.ifCond .le 20, 3) := by decide +kernel
theorem dX1_ways_52 : decode cX1_ways 52 = .ok (.aload_n 0, 1) := by decide +kernel
theorem dX1_ways_53 : decode cX1_ways 53 = .ok (.getfield 35, 3) := by decide +kernel
theorem dX1_ways_56 : decode cX1_ways 56 = .ok (.iload_n 3, 1) := by decide +kernel
theorem dX1_ways_57 : decode cX1_ways 57 = .ok (.dup2, 1) := by decide +kernel
theorem dX1_ways_58 : decode cX1_ways 58 = .ok (.iaload, 1) := by decide +kernel
theorem dX1_ways_59 : decode cX1_ways 59 = .ok (.aload_n 0, 1) := by decide +kernel
theorem dX1_ways_60 : decode cX1_ways 60 = .ok (.getfield 35, 3) := by decide +kernel
theorem dX1_ways_63 : decode cX1_ways 63 = .ok (.iload_n 3, 1) := by decide +kernel
theorem dX1_ways_64 : decode cX1_ways 64 = .ok (.iconst 1, 1) := by decide +kernel
theorem dX1_ways_65 : decode cX1_ways 65 = .ok (.isub, 1) := by decide +kernel
theorem dX1_ways_66 : decode cX1_ways 66 = .ok (.iaload, 1) := by decide +kernel
theorem dX1_ways_67 : decode cX1_ways 67 = .ok (.iadd, 1) := by decide +kernel
theorem dX1_ways_68 : decode cX1_ways 68 = .ok (.iastore, 1) := by decide +kernel
theorem dX1_ways_69 : decode cX1_ways 69 = .ok (.aload_n 0, 1) := by decide +kernel
theorem dX1_ways_70 : decode cX1_ways 70 = .ok (.getfield 7, 3) := by decide +kernel
theorem dX1_ways_73 : decode cX1_ways 73 = .ok (.iload_n 3, 1) := by decide +kernel
theorem dX1_ways_74 : decode cX1_ways 74 = .ok (.baload, 1) := by decide +kernel
theorem dX1_ways_75 : decode cX1_ways 75 = .ok (.ifCond .eq 10, 3) := by decide +kernel
theorem dX1_ways_78 : decode cX1_ways 78 = .ok (.aload_n 0, 1) := by decide +kernel
theorem dX1_ways_79 : decode cX1_ways 79 = .ok (.getfield 35, 3) := by decide +kernel
theorem dX1_ways_82 : decode cX1_ways 82 = .ok (.iload_n 3, 1) := by decide +kernel
theorem dX1_ways_83 : decode cX1_ways 83 = .ok (.iconst 0, 1) := by decide +kernel
theorem dX1_ways_84 : decode cX1_ways 84 = .ok (.iastore, 1) := by decide +kernel
theorem dX1_ways_85 : decode cX1_ways 85 = .ok (.iinc 3 1, 3) := by decide +kernel
theorem dX1_ways_88 : decode cX1_ways 88 = .ok (.goto (-86), 3) := by decide +kernel
theorem dX1_ways_91 : decode cX1_ways 91 = .ok (.aload_n 0, 1) := by decide +kernel
theorem dX1_ways_92 : decode cX1_ways 92 = .ok (.getfield 35, 3) := by decide +kernel
theorem dX1_ways_95 : decode cX1_ways 95 = .ok (.iload_n 2, 1) := by decide +kernel
theorem dX1_ways_96 : decode cX1_ways 96 = .ok (.iaload, 1) := by decide +kernel
theorem dX1_ways_97 : decode cX1_ways 97 = .ok (.ireturn, 1) := by decide +kernel
abbrev cX1_families : ByteArray := prog_3_method_16_code
def yX1_families : MethodName := ⟨RX1, "families", "()I"⟩
theorem dX1_families_0 : decode cX1_families 0 = .ok (.aload_n 0, 1) := by decide +kernel
theorem dX1_families_1 : decode cX1_families 1 = .ok (.invokevirtual 85, 3) := by decide +kernel
theorem dX1_families_4 : decode cX1_families 4 = .ok (.iconst 0, 1) := by decide +kernel
theorem dX1_families_5 : decode cX1_families 5 = .ok (.istore_n 1, 1) := by decide +kernel
theorem dX1_families_6 : decode cX1_families 6 = .ok (.aload_n 0, 1) := by decide +kernel
theorem dX1_families_7 : decode cX1_families 7 = .ok (.iconst 1, 1) := by decide +kernel
theorem dX1_families_8 : decode cX1_families 8 = .ok (.invokevirtual 88, 3) := by decide +kernel
theorem dX1_families_11 : decode cX1_families 11 = .ok (.istore_n 2, 1) := by decide +kernel
theorem dX1_families_12 : decode cX1_families 12 = .ok (.iload_n 2, 1) := by decide +kernel
theorem dX1_families_13 : decode cX1_families 13 = .ok (.ifCond .eq 15, 3) := by decide +kernel
theorem dX1_families_16 : decode cX1_families 16 = .ok (.iinc 1 1, 3) := by decide +kernel
theorem dX1_families_19 : decode cX1_families 19 = .ok (.aload_n 0, 1) := by decide +kernel
theorem dX1_families_20 : decode cX1_families 20 = .ok (.iconst 0, 1) := by decide +kernel
theorem dX1_families_21 : decode cX1_families 21 = .ok (.invokevirtual 88, 3) := by decide +kernel
theorem dX1_families_24 : decode cX1_families 24 = .ok (.istore_n 2, 1) := by decide +kernel
theorem dX1_families_25 : decode cX1_families 25 = .ok (.goto (-13), 3) := by decide +kernel
theorem dX1_families_28 : decode cX1_families 28 = .ok (.iload_n 1, 1) := by decide +kernel
theorem dX1_families_29 : decode cX1_families 29 = .ok (.ireturn, 1) := by decide +kernel
abbrev cX1_begin : ByteArray := prog_3_method_11_code
def yX1_begin : MethodName := ⟨RX1, "begin", "()V"⟩
theorem dX1_begin_0 : decode cX1_begin 0 = .ok (.aload_n 0, 1) := by decide +kernel
theorem dX1_begin_1 : decode cX1_begin 1 = .ok (.iconst 0, 1) := by decide +kernel
theorem dX1_begin_2 : decode cX1_begin 2 = .ok (.putfield 68, 3) := by decide +kernel
theorem dX1_begin_5 : decode cX1_begin 5 = .ok (.iconst 0, 1) := by decide +kernel
theorem dX1_begin_6 : decode cX1_begin 6 = .ok (.istore_n 1, 1) := by decide +kernel
theorem dX1_begin_7 : decode cX1_begin 7 = .ok (.iload_n 1, 1) := by decide +kernel
theorem dX1_begin_8 : decode cX1_begin 8 = .ok (.bipush 30, 2) := by decide +kernel
theorem dX1_begin_10 : decode cX1_begin 10 = .ok (.if_icmp .ge 16, 3) := by decide +kernel
theorem dX1_begin_13 : decode cX1_begin 13 = .ok (.aload_n 0, 1) := by decide +kernel
theorem dX1_begin_14 : decode cX1_begin 14 = .ok (.getfield 32, 3) := by decide +kernel
theorem dX1_begin_17 : decode cX1_begin 17 = .ok (.iload_n 1, 1) := by decide +kernel
theorem dX1_begin_18 : decode cX1_begin 18 = .ok (.iconst 0, 1) := by decide +kernel
theorem dX1_begin_19 : decode cX1_begin 19 = .ok (.bastore, 1) := by decide +kernel
theorem dX1_begin_20 : decode cX1_begin 20 = .ok (.iinc 1 1, 3) := by decide +kernel
theorem dX1_begin_23 : decode cX1_begin 23 = .ok (.goto (-16), 3) := by decide +kernel
theorem dX1_begin_26 : decode cX1_begin 26 = .ok (.aload_n 0, 1) := by decide +kernel
theorem dX1_begin_27 : decode cX1_begin 27 = .ok (.aload_n 0, 1) := by decide +kernel
end
section
set_option maxRecDepth 100000
theorem dX1_begin_28 : decode cX1_begin 28 = .ok (.getfield 17, 3) := by decide +kernel
theorem dX1_begin_31 : decode cX1_begin 31 = .ok (.iconst 0, 1) := by decide +kernel
theorem dX1_begin_32 : decode cX1_begin 32 = .ok (.iaload, 1) := by decide +kernel
theorem dX1_begin_33 : decode cX1_begin 33 = .ok (.iconst 0, 1) := by decide +kernel
theorem dX1_begin_34 : decode cX1_begin 34 = .ok (.invokevirtual 71, 3) := by decide +kernel
theorem dX1_begin_37 : decode cX1_begin 37 = .ok (.return_, 1) := by decide +kernel
abbrev cX1_step : ByteArray := prog_3_method_10_code
def yX1_step : MethodName := ⟨RX1, "step", "(II)V"⟩
theorem dX1_step_0 : decode cX1_step 0 = .ok (.aload_n 0, 1) := by decide +kernel
theorem dX1_step_1 : decode cX1_step 1 = .ok (.getfield 7, 3) := by decide +kernel
theorem dX1_step_4 : decode cX1_step 4 = .ok (.iload_n 1, 1) := by decide +kernel
theorem dX1_step_5 : decode cX1_step 5 = .ok (.baload, 1) := by decide +kernel
theorem dX1_step_6 : decode cX1_step 6 = .ok (.ifCond .ne 12, 3) := by decide +kernel
theorem dX1_step_9 : decode cX1_step 9 = .ok (.aload_n 0, 1) := by decide +kernel
theorem dX1_step_10 : decode cX1_step 10 = .ok (.getfield 32, 3) := by decide +kernel
theorem dX1_step_13 : decode cX1_step 13 = .ok (.iload_n 1, 1) := by decide +kernel
theorem dX1_step_14 : decode cX1_step 14 = .ok (.baload, 1) := by decide +kernel
theorem dX1_step_15 : decode cX1_step 15 = .ok (.ifCond .eq 4, 3) := by decide +kernel
theorem dX1_step_18 : decode cX1_step 18 = .ok (.return_, 1) := by decide +kernel
theorem dX1_step_19 : decode cX1_step 19 = .ok (.aload_n 0, 1) := by decide +kernel
theorem dX1_step_20 : decode cX1_step 20 = .ok (.getfield 23, 3) := by decide +kernel
theorem dX1_step_23 : decode cX1_step 23 = .ok (.aload_n 0, 1) := by decide +kernel
theorem dX1_step_24 : decode cX1_step 24 = .ok (.getfield 68, 3) := by decide +kernel
theorem dX1_step_27 : decode cX1_step 27 = .ok (.iload_n 1, 1) := by decide +kernel
theorem dX1_step_28 : decode cX1_step 28 = .ok (.iastore, 1) := by decide +kernel
theorem dX1_step_29 : decode cX1_step 29 = .ok (.aload_n 0, 1) := by decide +kernel
theorem dX1_step_30 : decode cX1_step 30 = .ok (.getfield 26, 3) := by decide +kernel
theorem dX1_step_33 : decode cX1_step 33 = .ok (.aload_n 0, 1) := by decide +kernel
theorem dX1_step_34 : decode cX1_step 34 = .ok (.getfield 68, 3) := by decide +kernel
theorem dX1_step_37 : decode cX1_step 37 = .ok (.iload_n 2, 1) := by decide +kernel
theorem dX1_step_38 : decode cX1_step 38 = .ok (.iastore, 1) := by decide +kernel
theorem dX1_step_39 : decode cX1_step 39 = .ok (.aload_n 0, 1) := by decide +kernel
theorem dX1_step_40 : decode cX1_step 40 = .ok (.getfield 29, 3) := by decide +kernel
theorem dX1_step_43 : decode cX1_step 43 = .ok (.aload_n 0, 1) := by decide +kernel
theorem dX1_step_44 : decode cX1_step 44 = .ok (.getfield 68, 3) := by decide +kernel
theorem dX1_step_47 : decode cX1_step 47 = .ok (.iconst 0, 1) := by decide +kernel
theorem dX1_step_48 : decode cX1_step 48 = .ok (.iastore, 1) := by decide +kernel
theorem dX1_step_49 : decode cX1_step 49 = .ok (.aload_n 0, 1) := by decide +kernel
theorem dX1_step_50 : decode cX1_step 50 = .ok (.getfield 32, 3) := by decide +kernel
theorem dX1_step_53 : decode cX1_step 53 = .ok (.iload_n 1, 1) := by decide +kernel
theorem dX1_step_54 : decode cX1_step 54 = .ok (.iconst 1, 1) := by decide +kernel
theorem dX1_step_55 : decode cX1_step 55 = .ok (.bastore, 1) := by decide +kernel
theorem dX1_step_56 : decode cX1_step 56 = .ok (.aload_n 0, 1) := by decide +kernel
theorem dX1_step_57 : decode cX1_step 57 = .ok (.dup, 1) := by decide +kernel
theorem dX1_step_58 : decode cX1_step 58 = .ok (.getfield 68, 3) := by decide +kernel
theorem dX1_step_61 : decode cX1_step 61 = .ok (.iconst 1, 1) := by decide +kernel
theorem dX1_step_62 : decode cX1_step 62 = .ok (.iadd, 1) := by decide +kernel
theorem dX1_step_63 : decode cX1_step 63 = .ok (.putfield 68, 3) := by decide +kernel
theorem dX1_step_66 : decode cX1_step 66 = .ok (.return_, 1) := by decide +kernel
abbrev cX1_nextFamily : ByteArray := prog_3_method_15_code
def yX1_nextFamily : MethodName := ⟨RX1, "nextFamily", "(Z)Z"⟩
theorem dX1_nextFamily_0 : decode cX1_nextFamily 0 = .ok (.iload_n 1, 1) := by decide +kernel
theorem dX1_nextFamily_1 : decode cX1_nextFamily 1 = .ok (.ifCond .ne 7, 3) := by decide +kernel
theorem dX1_nextFamily_4 : decode cX1_nextFamily 4 = .ok (.aload_n 0, 1) := by decide +kernel
theorem dX1_nextFamily_5 : decode cX1_nextFamily 5 = .ok (.invokevirtual 78, 3) := by decide +kernel
theorem dX1_nextFamily_8 : decode cX1_nextFamily 8 = .ok (.aload_n 0, 1) := by decide +kernel
theorem dX1_nextFamily_9 : decode cX1_nextFamily 9 = .ok (.getfield 68, 3) := by decide +kernel
theorem dX1_nextFamily_12 : decode cX1_nextFamily 12 = .ok (.ifCond .le 19, 3) := by decide +kernel
theorem dX1_nextFamily_15 : decode cX1_nextFamily 15 = .ok (.aload_n 0, 1) := by decide +kernel
theorem dX1_nextFamily_16 : decode cX1_nextFamily 16 = .ok (.invokevirtual 81, 3) := by decide +kernel
theorem dX1_nextFamily_19 : decode cX1_nextFamily 19 = .ok (.ifCond .eq 5, 3) := by decide +kernel
theorem dX1_nextFamily_22 : decode cX1_nextFamily 22 = .ok (.iconst 1, 1) := by decide +kernel
theorem dX1_nextFamily_23 : decode cX1_nextFamily 23 = .ok (.ireturn, 1) := by decide +kernel
theorem dX1_nextFamily_24 : decode cX1_nextFamily 24 = .ok (.aload_n 0, 1) := by decide +kernel
theorem dX1_nextFamily_25 : decode cX1_nextFamily 25 = .ok (.invokevirtual 78, 3) := by decide +kernel
theorem dX1_nextFamily_28 : decode cX1_nextFamily 28 = .ok (.goto (-20), 3) := by decide +kernel
theorem dX1_nextFamily_31 : decode cX1_nextFamily 31 = .ok (.iconst 0, 1) := by decide +kernel
theorem dX1_nextFamily_32 : decode cX1_nextFamily 32 = .ok (.ireturn, 1) := by decide +kernel
abbrev cX1_goOn : ByteArray := prog_3_method_13_code
def yX1_goOn : MethodName := ⟨RX1, "goOn", "()V"⟩
theorem dX1_goOn_0 : decode cX1_goOn 0 = .ok (.aload_n 0, 1) := by decide +kernel
theorem dX1_goOn_1 : decode cX1_goOn 1 = .ok (.getfield 23, 3) := by decide +kernel
theorem dX1_goOn_4 : decode cX1_goOn 4 = .ok (.aload_n 0, 1) := by decide +kernel
theorem dX1_goOn_5 : decode cX1_goOn 5 = .ok (.getfield 68, 3) := by decide +kernel
theorem dX1_goOn_8 : decode cX1_goOn 8 = .ok (.iconst 1, 1) := by decide +kernel
theorem dX1_goOn_9 : decode cX1_goOn 9 = .ok (.isub, 1) := by decide +kernel
theorem dX1_goOn_10 : decode cX1_goOn 10 = .ok (.iaload, 1) := by decide +kernel
theorem dX1_goOn_11 : decode cX1_goOn 11 = .ok (.istore_n 1, 1) := by decide +kernel
theorem dX1_goOn_12 : decode cX1_goOn 12 = .ok (.aload_n 0, 1) := by decide +kernel
theorem dX1_goOn_13 : decode cX1_goOn 13 = .ok (.getfield 26, 3) := by decide +kernel
theorem dX1_goOn_16 : decode cX1_goOn 16 = .ok (.aload_n 0, 1) := by decide +kernel
theorem dX1_goOn_17 : decode cX1_goOn 17 = .ok (.getfield 68, 3) := by decide +kernel
theorem dX1_goOn_20 : decode cX1_goOn 20 = .ok (.iconst 1, 1) := by decide +kernel
theorem dX1_goOn_21 : decode cX1_goOn 21 = .ok (.isub, 1) := by decide +kernel
theorem dX1_goOn_22 : decode cX1_goOn 22 = .ok (.iaload, 1) := by decide +kernel
theorem dX1_goOn_23 : decode cX1_goOn 23 = .ok (.istore_n 2, 1) := by decide +kernel
theorem dX1_goOn_24 : decode cX1_goOn 24 = .ok (.aload_n 0, 1) := by decide +kernel
theorem dX1_goOn_25 : decode cX1_goOn 25 = .ok (.getfield 29, 3) := by decide +kernel
theorem dX1_goOn_28 : decode cX1_goOn 28 = .ok (.aload_n 0, 1) := by decide +kernel
theorem dX1_goOn_29 : decode cX1_goOn 29 = .ok (.getfield 68, 3) := by decide +kernel
theorem dX1_goOn_32 : decode cX1_goOn 32 = .ok (.iconst 1, 1) := by decide +kernel
theorem dX1_goOn_33 : decode cX1_goOn 33 = .ok (.isub, 1) := by decide +kernel
theorem dX1_goOn_34 : decode cX1_goOn 34 = .ok (.iaload, 1) := by decide +kernel
theorem dX1_goOn_35 : decode cX1_goOn 35 = .ok (.istore_n 3, 1) := by decide +kernel
theorem dX1_goOn_36 : decode cX1_goOn 36 = .ok (.aload_n 0, 1) := by decide +kernel
theorem dX1_goOn_37 : decode cX1_goOn 37 = .ok (.getfield 29, 3) := by decide +kernel
theorem dX1_goOn_40 : decode cX1_goOn 40 = .ok (.aload_n 0, 1) := by decide +kernel
theorem dX1_goOn_41 : decode cX1_goOn 41 = .ok (.getfield 68, 3) := by decide +kernel
theorem dX1_goOn_44 : decode cX1_goOn 44 = .ok (.iconst 1, 1) := by decide +kernel
theorem dX1_goOn_45 : decode cX1_goOn 45 = .ok (.isub, 1) := by decide +kernel
theorem dX1_goOn_46 : decode cX1_goOn 46 = .ok (.iload_n 3, 1) := by decide +kernel
theorem dX1_goOn_47 : decode cX1_goOn 47 = .ok (.iconst 1, 1) := by decide +kernel
theorem dX1_goOn_48 : decode cX1_goOn 48 = .ok (.iadd, 1) := by decide +kernel
theorem dX1_goOn_49 : decode cX1_goOn 49 = .ok (.iastore, 1) := by decide +kernel
theorem dX1_goOn_50 : decode cX1_goOn 50 = .ok (.iload_n 3, 1) := by decide +kernel
theorem dX1_goOn_51 : decode cX1_goOn 51 = .ok (.iconst 2, 1) := by decide +kernel
theorem dX1_goOn_52 : decode cX1_goOn 52 = .ok (.if_icmp .ne 10, 3) := by decide +kernel
theorem dX1_goOn_55 : decode cX1_goOn 55 = .ok (.aload_n 0, 1) := by decide +kernel
theorem dX1_goOn_56 : decode cX1_goOn 56 = .ok (.invokevirtual 75, 3) := by decide +kernel
theorem dX1_goOn_59 : decode cX1_goOn 59 = .ok (.goto 88, 3) := by decide +kernel
theorem dX1_goOn_62 : decode cX1_goOn 62 = .ok (.iload_n 1, 1) := by decide +kernel
theorem dX1_goOn_63 : decode cX1_goOn 63 = .ok (.aload_n 0, 1) := by decide +kernel
theorem dX1_goOn_64 : decode cX1_goOn 64 = .ok (.getfield 20, 3) := by decide +kernel
theorem dX1_goOn_67 : decode cX1_goOn 67 = .ok (.iload_n 2, 1) := by decide +kernel
theorem dX1_goOn_68 : decode cX1_goOn 68 = .ok (.iaload, 1) := by decide +kernel
theorem dX1_goOn_69 : decode cX1_goOn 69 = .ok (.if_icmp .ne 35, 3) := by decide +kernel
theorem dX1_goOn_72 : decode cX1_goOn 72 = .ok (.iload_n 3, 1) := by decide +kernel
theorem dX1_goOn_73 : decode cX1_goOn 73 = .ok (.ifCond .ne 74, 3) := by decide +kernel
theorem dX1_goOn_76 : decode cX1_goOn 76 = .ok (.iload_n 2, 1) := by decide +kernel
theorem dX1_goOn_77 : decode cX1_goOn 77 = .ok (.iconst 1, 1) := by decide +kernel
theorem dX1_goOn_78 : decode cX1_goOn 78 = .ok (.iadd, 1) := by decide +kernel
theorem dX1_goOn_79 : decode cX1_goOn 79 = .ok (.aload_n 0, 1) := by decide +kernel
theorem dX1_goOn_80 : decode cX1_goOn 80 = .ok (.getfield 44, 3) := by decide +kernel
theorem dX1_goOn_83 : decode cX1_goOn 83 = .ok (.if_icmp .ge 64, 3) := by decide +kernel
theorem dX1_goOn_86 : decode cX1_goOn 86 = .ok (.aload_n 0, 1) := by decide +kernel
theorem dX1_goOn_87 : decode cX1_goOn 87 = .ok (.aload_n 0, 1) := by decide +kernel
theorem dX1_goOn_88 : decode cX1_goOn 88 = .ok (.getfield 17, 3) := by decide +kernel
theorem dX1_goOn_91 : decode cX1_goOn 91 = .ok (.iload_n 2, 1) := by decide +kernel
theorem dX1_goOn_92 : decode cX1_goOn 92 = .ok (.iconst 1, 1) := by decide +kernel
theorem dX1_goOn_93 : decode cX1_goOn 93 = .ok (.iadd, 1) := by decide +kernel
theorem dX1_goOn_94 : decode cX1_goOn 94 = .ok (.iaload, 1) := by decide +kernel
theorem dX1_goOn_95 : decode cX1_goOn 95 = .ok (.iload_n 2, 1) := by decide +kernel
theorem dX1_goOn_96 : decode cX1_goOn 96 = .ok (.iconst 1, 1) := by decide +kernel
theorem dX1_goOn_97 : decode cX1_goOn 97 = .ok (.iadd, 1) := by decide +kernel
theorem dX1_goOn_98 : decode cX1_goOn 98 = .ok (.invokevirtual 71, 3) := by decide +kernel
theorem dX1_goOn_101 : decode cX1_goOn 101 = .ok (.goto 46, 3) := by decide +kernel
theorem dX1_goOn_104 : decode cX1_goOn 104 = .ok (.iload_n 3, 1) := by decide +kernel
theorem dX1_goOn_105 : decode cX1_goOn 105 = .ok (.ifCond .ne 20, 3) := by decide +kernel
theorem dX1_goOn_108 : decode cX1_goOn 108 = .ok (.iload_n 1, 1) := by decide +kernel
theorem dX1_goOn_109 : decode cX1_goOn 109 = .ok (.bipush 25, 2) := by decide +kernel
theorem dX1_goOn_111 : decode cX1_goOn 111 = .ok (.if_icmp .ge 36, 3) := by decide +kernel
theorem dX1_goOn_114 : decode cX1_goOn 114 = .ok (.aload_n 0, 1) := by decide +kernel
theorem dX1_goOn_115 : decode cX1_goOn 115 = .ok (.iload_n 1, 1) := by decide +kernel
theorem dX1_goOn_116 : decode cX1_goOn 116 = .ok (.iconst 5, 1) := by decide +kernel
theorem dX1_goOn_117 : decode cX1_goOn 117 = .ok (.iadd, 1) := by decide +kernel
theorem dX1_goOn_118 : decode cX1_goOn 118 = .ok (.iload_n 2, 1) := by decide +kernel
theorem dX1_goOn_119 : decode cX1_goOn 119 = .ok (.invokevirtual 71, 3) := by decide +kernel
theorem dX1_goOn_122 : decode cX1_goOn 122 = .ok (.goto 25, 3) := by decide +kernel
theorem dX1_goOn_125 : decode cX1_goOn 125 = .ok (.iload_n 1, 1) := by decide +kernel
theorem dX1_goOn_126 : decode cX1_goOn 126 = .ok (.iconst 5, 1) := by decide +kernel
theorem dX1_goOn_127 : decode cX1_goOn 127 = .ok (.irem, 1) := by decide +kernel
theorem dX1_goOn_128 : decode cX1_goOn 128 = .ok (.aload_n 0, 1) := by decide +kernel
theorem dX1_goOn_129 : decode cX1_goOn 129 = .ok (.getfield 20, 3) := by decide +kernel
theorem dX1_goOn_132 : decode cX1_goOn 132 = .ok (.iload_n 2, 1) := by decide +kernel
theorem dX1_goOn_133 : decode cX1_goOn 133 = .ok (.iaload, 1) := by decide +kernel
theorem dX1_goOn_134 : decode cX1_goOn 134 = .ok (.iconst 5, 1) := by decide +kernel
theorem dX1_goOn_135 : decode cX1_goOn 135 = .ok (.irem, 1) := by decide +kernel
theorem dX1_goOn_136 : decode cX1_goOn 136 = .ok (.if_icmp .ge 11, 3) := by decide +kernel
theorem dX1_goOn_139 : decode cX1_goOn 139 = .ok (.aload_n 0, 1) := by decide +kernel
theorem dX1_goOn_140 : decode cX1_goOn 140 = .ok (.iload_n 1, 1) := by decide +kernel
theorem dX1_goOn_141 : decode cX1_goOn 141 = .ok (.iconst 1, 1) := by decide +kernel
theorem dX1_goOn_142 : decode cX1_goOn 142 = .ok (.iadd, 1) := by decide +kernel
theorem dX1_goOn_143 : decode cX1_goOn 143 = .ok (.iload_n 2, 1) := by decide +kernel
theorem dX1_goOn_144 : decode cX1_goOn 144 = .ok (.invokevirtual 71, 3) := by decide +kernel
theorem dX1_goOn_147 : decode cX1_goOn 147 = .ok (.return_, 1) := by decide +kernel
abbrev cX1_stepBack : ByteArray := prog_3_method_12_code
def yX1_stepBack : MethodName := ⟨RX1, "stepBack", "()V"⟩
theorem dX1_stepBack_0 : decode cX1_stepBack 0 = .ok (.aload_n 0, 1) := by decide +kernel
theorem dX1_stepBack_1 : decode cX1_stepBack 1 = .ok (.dup, 1) := by decide +kernel
theorem dX1_stepBack_2 : decode cX1_stepBack 2 = .ok (.getfield 68, 3) := by decide +kernel
theorem dX1_stepBack_5 : decode cX1_stepBack 5 = .ok (.iconst 1, 1) := by decide +kernel
theorem dX1_stepBack_6 : decode cX1_stepBack 6 = .ok (.isub, 1) := by decide +kernel
theorem dX1_stepBack_7 : decode cX1_stepBack 7 = .ok (.putfield 68, 3) := by decide +kernel
theorem dX1_stepBack_10 : decode cX1_stepBack 10 = .ok (.aload_n 0, 1) := by decide +kernel
theorem dX1_stepBack_11 : decode cX1_stepBack 11 = .ok (.getfield 32, 3) := by decide +kernel
theorem dX1_stepBack_14 : decode cX1_stepBack 14 = .ok (.aload_n 0, 1) := by decide +kernel
theorem dX1_stepBack_15 : decode cX1_stepBack 15 = .ok (.getfield 23, 3) := by decide +kernel
theorem dX1_stepBack_18 : decode cX1_stepBack 18 = .ok (.aload_n 0, 1) := by decide +kernel
theorem dX1_stepBack_19 : decode cX1_stepBack 19 = .ok (.getfield 68, 3) := by decide +kernel
theorem dX1_stepBack_22 : decode cX1_stepBack 22 = .ok (.iaload, 1) := by decide +kernel
theorem dX1_stepBack_23 : decode cX1_stepBack 23 = .ok (.iconst 0, 1) := by decide +kernel
theorem dX1_stepBack_24 : decode cX1_stepBack 24 = .ok (.bastore, 1) := by decide +kernel
theorem dX1_stepBack_25 : decode cX1_stepBack 25 = .ok (.return_, 1) := by decide +kernel
abbrev cX1_complete : ByteArray := prog_3_method_14_code
def yX1_complete : MethodName := ⟨RX1, "complete", "()Z"⟩
theorem dX1_complete_0 : decode cX1_complete 0 = .ok (.aload_n 0, 1) := by decide +kernel
theorem dX1_complete_1 : decode cX1_complete 1 = .ok (.getfield 23, 3) := by decide +kernel
theorem dX1_complete_4 : decode cX1_complete 4 = .ok (.aload_n 0, 1) := by decide +kernel
theorem dX1_complete_5 : decode cX1_complete 5 = .ok (.getfield 68, 3) := by decide +kernel
theorem dX1_complete_8 : decode cX1_complete 8 = .ok (.iconst 1, 1) := by decide +kernel
theorem dX1_complete_9 : decode cX1_complete 9 = .ok (.isub, 1) := by decide +kernel
theorem dX1_complete_10 : decode cX1_complete 10 = .ok (.iaload, 1) := by decide +kernel
theorem dX1_complete_11 : decode cX1_complete 11 = .ok (.aload_n 0, 1) := by decide +kernel
theorem dX1_complete_12 : decode cX1_complete 12 = .ok (.getfield 20, 3) := by decide +kernel
theorem dX1_complete_15 : decode cX1_complete 15 = .ok (.aload_n 0, 1) := by decide +kernel
theorem dX1_complete_16 : decode cX1_complete 16 = .ok (.getfield 44, 3) := by decide +kernel
theorem dX1_complete_19 : decode cX1_complete 19 = .ok (.iconst 1, 1) := by decide +kernel
theorem dX1_complete_20 : decode cX1_complete 20 = .ok (.isub, 1) := by decide +kernel
theorem dX1_complete_21 : decode cX1_complete 21 = .ok (.iaload, 1) := by decide +kernel
theorem dX1_complete_22 : decode cX1_complete 22 = .ok (.if_icmp .ne 41, 3) := by decide +kernel
theorem dX1_complete_25 : decode cX1_complete 25 = .ok (.aload_n 0, 1) := by decide +kernel
theorem dX1_complete_26 : decode cX1_complete 26 = .ok (.getfield 26, 3) := by decide +kernel
theorem dX1_complete_29 : decode cX1_complete 29 = .ok (.aload_n 0, 1) := by decide +kernel
theorem dX1_complete_30 : decode cX1_complete 30 = .ok (.getfield 68, 3) := by decide +kernel
theorem dX1_complete_33 : decode cX1_complete 33 = .ok (.iconst 1, 1) := by decide +kernel
theorem dX1_complete_34 : decode cX1_complete 34 = .ok (.isub, 1) := by decide +kernel
theorem dX1_complete_35 : decode cX1_complete 35 = .ok (.iaload, 1) := by decide +kernel
theorem dX1_complete_36 : decode cX1_complete 36 = .ok (.aload_n 0, 1) := by decide +kernel
theorem dX1_complete_37 : decode cX1_complete 37 = .ok (.getfield 44, 3) := by decide +kernel
theorem dX1_complete_40 : decode cX1_complete 40 = .ok (.iconst 1, 1) := by decide +kernel
theorem dX1_complete_41 : decode cX1_complete 41 = .ok (.isub, 1) := by decide +kernel
theorem dX1_complete_42 : decode cX1_complete 42 = .ok (.if_icmp .ne 21, 3) := by decide +kernel
theorem dX1_complete_45 : decode cX1_complete 45 = .ok (.aload_n 0, 1) := by decide +kernel
theorem dX1_complete_46 : decode cX1_complete 46 = .ok (.getfield 29, 3) := by decide +kernel
theorem dX1_complete_49 : decode cX1_complete 49 = .ok (.aload_n 0, 1) := by decide +kernel
theorem dX1_complete_50 : decode cX1_complete 50 = .ok (.getfield 68, 3) := by decide +kernel
theorem dX1_complete_53 : decode cX1_complete 53 = .ok (.iconst 1, 1) := by decide +kernel
theorem dX1_complete_54 : decode cX1_complete 54 = .ok (.isub, 1) := by decide +kernel
theorem dX1_complete_55 : decode cX1_complete 55 = .ok (.iaload, 1) := by decide +kernel
theorem dX1_complete_56 : decode cX1_complete 56 = .ok (.ifCond .ne 7, 3) := by decide +kernel
theorem dX1_complete_59 : decode cX1_complete 59 = .ok (.iconst 1, 1) := by decide +kernel
theorem dX1_complete_60 : decode cX1_complete 60 = .ok (.goto 4, 3) := by decide +kernel
theorem dX1_complete_63 : decode cX1_complete 63 = .ok (.iconst 0, 1) := by decide +kernel
theorem dX1_complete_64 : decode cX1_complete 64 = .ok (.ireturn, 1) := by decide +kernel
abbrev cX1_sum : ByteArray := prog_3_method_17_code
def yX1_sum : MethodName := ⟨RX1, "sum", "()I"⟩
theorem dX1_sum_0 : decode cX1_sum 0 = .ok (.aload_n 0, 1) := by decide +kernel
theorem dX1_sum_1 : decode cX1_sum 1 = .ok (.invokevirtual 85, 3) := by decide +kernel
theorem dX1_sum_4 : decode cX1_sum 4 = .ok (.iconst 0, 1) := by decide +kernel
theorem dX1_sum_5 : decode cX1_sum 5 = .ok (.istore_n 1, 1) := by decide +kernel
theorem dX1_sum_6 : decode cX1_sum 6 = .ok (.aload_n 0, 1) := by decide +kernel
theorem dX1_sum_7 : decode cX1_sum 7 = .ok (.iconst 1, 1) := by decide +kernel
theorem dX1_sum_8 : decode cX1_sum 8 = .ok (.invokevirtual 88, 3) := by decide +kernel
theorem dX1_sum_11 : decode cX1_sum 11 = .ok (.istore_n 2, 1) := by decide +kernel
theorem dX1_sum_12 : decode cX1_sum 12 = .ok (.iload_n 2, 1) := by decide +kernel
theorem dX1_sum_13 : decode cX1_sum 13 = .ok (.ifCond .eq 51, 3) := by decide +kernel
theorem dX1_sum_16 : decode cX1_sum 16 = .ok (.iconst 1, 1) := by decide +kernel
theorem dX1_sum_17 : decode cX1_sum 17 = .ok (.istore_n 3, 1) := by decide +kernel
theorem dX1_sum_18 : decode cX1_sum 18 = .ok (.iconst 0, 1) := by decide +kernel
theorem dX1_sum_19 : decode cX1_sum 19 = .ok (.istore 4, 2) := by decide +kernel
theorem dX1_sum_21 : decode cX1_sum 21 = .ok (.iload 4, 2) := by decide +kernel
theorem dX1_sum_23 : decode cX1_sum 23 = .ok (.aload_n 0, 1) := by decide +kernel
theorem dX1_sum_24 : decode cX1_sum 24 = .ok (.getfield 68, 3) := by decide +kernel
theorem dX1_sum_27 : decode cX1_sum 27 = .ok (.if_icmp .ge 24, 3) := by decide +kernel
theorem dX1_sum_30 : decode cX1_sum 30 = .ok (.iload_n 3, 1) := by decide +kernel
theorem dX1_sum_31 : decode cX1_sum 31 = .ok (.aload_n 0, 1) := by decide +kernel
theorem dX1_sum_32 : decode cX1_sum 32 = .ok (.getfield 13, 3) := by decide +kernel
theorem dX1_sum_35 : decode cX1_sum 35 = .ok (.aload_n 0, 1) := by decide +kernel
theorem dX1_sum_36 : decode cX1_sum 36 = .ok (.getfield 23, 3) := by decide +kernel
theorem dX1_sum_39 : decode cX1_sum 39 = .ok (.iload 4, 2) := by decide +kernel
theorem dX1_sum_41 : decode cX1_sum 41 = .ok (.iaload, 1) := by decide +kernel
theorem dX1_sum_42 : decode cX1_sum 42 = .ok (.iaload, 1) := by decide +kernel
theorem dX1_sum_43 : decode cX1_sum 43 = .ok (.imul, 1) := by decide +kernel
theorem dX1_sum_44 : decode cX1_sum 44 = .ok (.istore_n 3, 1) := by decide +kernel
theorem dX1_sum_45 : decode cX1_sum 45 = .ok (.iinc 4 1, 3) := by decide +kernel
theorem dX1_sum_48 : decode cX1_sum 48 = .ok (.goto (-27), 3) := by decide +kernel
theorem dX1_sum_51 : decode cX1_sum 51 = .ok (.iload_n 1, 1) := by decide +kernel
theorem dX1_sum_52 : decode cX1_sum 52 = .ok (.iload_n 3, 1) := by decide +kernel
theorem dX1_sum_53 : decode cX1_sum 53 = .ok (.iadd, 1) := by decide +kernel
theorem dX1_sum_54 : decode cX1_sum 54 = .ok (.istore_n 1, 1) := by decide +kernel
theorem dX1_sum_55 : decode cX1_sum 55 = .ok (.aload_n 0, 1) := by decide +kernel
theorem dX1_sum_56 : decode cX1_sum 56 = .ok (.iconst 0, 1) := by decide +kernel
theorem dX1_sum_57 : decode cX1_sum 57 = .ok (.invokevirtual 88, 3) := by decide +kernel
theorem dX1_sum_60 : decode cX1_sum 60 = .ok (.istore_n 2, 1) := by decide +kernel
theorem dX1_sum_61 : decode cX1_sum 61 = .ok (.goto (-49), 3) := by decide +kernel
theorem dX1_sum_64 : decode cX1_sum 64 = .ok (.iload_n 1, 1) := by decide +kernel
theorem dX1_sum_65 : decode cX1_sum 65 = .ok (.ireturn, 1) := by decide +kernel
abbrev cX1_through : ByteArray := prog_3_method_18_code
def yX1_through : MethodName := ⟨RX1, "through", "(I)I"⟩
theorem dX1_through_0 : decode cX1_through 0 = .ok (.aload_n 0, 1) := by decide +kernel
theorem dX1_through_1 : decode cX1_through 1 = .ok (.iload_n 1, 1) := by decide +kernel
theorem dX1_through_2 : decode cX1_through 2 = .ok (.iload_n 1, 1) := by decide +kernel
theorem dX1_through_3 : decode cX1_through 3 = .ok (.invokevirtual 92, 3) := by decide +kernel
theorem dX1_through_6 : decode cX1_through 6 = .ok (.ireturn, 1) := by decide +kernel
abbrev cX1_throughBoth : ByteArray := prog_3_method_19_code
def yX1_throughBoth : MethodName := ⟨RX1, "throughBoth", "(II)I"⟩
theorem dX1_throughBoth_0 : decode cX1_throughBoth 0 = .ok (.aload_n 0, 1) := by decide +kernel
theorem dX1_throughBoth_1 : decode cX1_throughBoth 1 = .ok (.iload_n 1, 1) := by decide +kernel
theorem dX1_throughBoth_2 : decode cX1_throughBoth 2 = .ok (.invokevirtual 61, 3) := by decide +kernel
theorem dX1_throughBoth_5 : decode cX1_throughBoth 5 = .ok (.ifCond .ne 11, 3) := by decide +kernel
theorem dX1_throughBoth_8 : decode cX1_throughBoth 8 = .ok (.aload_n 0, 1) := by decide +kernel
theorem dX1_throughBoth_9 : decode cX1_throughBoth 9 = .ok (.iload_n 2, 1) := by decide +kernel
theorem dX1_throughBoth_10 : decode cX1_throughBoth 10 = .ok (.invokevirtual 61, 3) := by decide +kernel
theorem dX1_throughBoth_13 : decode cX1_throughBoth 13 = .ok (.ifCond .eq 5, 3) := by decide +kernel
theorem dX1_throughBoth_16 : decode cX1_throughBoth 16 = .ok (.iconst (-1), 1) := by decide +kernel
theorem dX1_throughBoth_17 : decode cX1_throughBoth 17 = .ok (.ireturn, 1) := by decide +kernel
theorem dX1_throughBoth_18 : decode cX1_throughBoth 18 = .ok (.aload_n 0, 1) := by decide +kernel
theorem dX1_throughBoth_19 : decode cX1_throughBoth 19 = .ok (.invokevirtual 85, 3) := by decide +kernel
theorem dX1_throughBoth_22 : decode cX1_throughBoth 22 = .ok (.iconst 0, 1) := by decide +kernel
theorem dX1_throughBoth_23 : decode cX1_throughBoth 23 = .ok (.istore_n 3, 1) := by decide +kernel
theorem dX1_throughBoth_24 : decode cX1_throughBoth 24 = .ok (.aload_n 0, 1) := by decide +kernel
theorem dX1_throughBoth_25 : decode cX1_throughBoth 25 = .ok (.iconst 1, 1) := by decide +kernel
theorem dX1_throughBoth_26 : decode cX1_throughBoth 26 = .ok (.invokevirtual 88, 3) := by decide +kernel
theorem dX1_throughBoth_29 : decode cX1_throughBoth 29 = .ok (.istore 4, 2) := by decide +kernel
theorem dX1_throughBoth_31 : decode cX1_throughBoth 31 = .ok (.iload 4, 2) := by decide +kernel
theorem dX1_throughBoth_33 : decode cX1_throughBoth 33 = .ok (.ifCond .eq 34, 3) := by decide +kernel
theorem dX1_throughBoth_36 : decode cX1_throughBoth 36 = .ok (.aload_n 0, 1) := by decide +kernel
theorem dX1_throughBoth_37 : decode cX1_throughBoth 37 = .ok (.getfield 32, 3) := by decide +kernel
theorem dX1_throughBoth_40 : decode cX1_throughBoth 40 = .ok (.iload_n 1, 1) := by decide +kernel
theorem dX1_throughBoth_41 : decode cX1_throughBoth 41 = .ok (.baload, 1) := by decide +kernel
theorem dX1_throughBoth_42 : decode cX1_throughBoth 42 = .ok (.ifCond .eq 15, 3) := by decide +kernel
theorem dX1_throughBoth_45 : decode cX1_throughBoth 45 = .ok (.aload_n 0, 1) := by decide +kernel
theorem dX1_throughBoth_46 : decode cX1_throughBoth 46 = .ok (.getfield 32, 3) := by decide +kernel
theorem dX1_throughBoth_49 : decode cX1_throughBoth 49 = .ok (.iload_n 2, 1) := by decide +kernel
theorem dX1_throughBoth_50 : decode cX1_throughBoth 50 = .ok (.baload, 1) := by decide +kernel
theorem dX1_throughBoth_51 : decode cX1_throughBoth 51 = .ok (.ifCond .eq 6, 3) := by decide +kernel
theorem dX1_throughBoth_54 : decode cX1_throughBoth 54 = .ok (.iinc 3 1, 3) := by decide +kernel
theorem dX1_throughBoth_57 : decode cX1_throughBoth 57 = .ok (.aload_n 0, 1) := by decide +kernel
theorem dX1_throughBoth_58 : decode cX1_throughBoth 58 = .ok (.iconst 0, 1) := by decide +kernel
theorem dX1_throughBoth_59 : decode cX1_throughBoth 59 = .ok (.invokevirtual 88, 3) := by decide +kernel
theorem dX1_throughBoth_62 : decode cX1_throughBoth 62 = .ok (.istore 4, 2) := by decide +kernel
theorem dX1_throughBoth_64 : decode cX1_throughBoth 64 = .ok (.goto (-33), 3) := by decide +kernel
theorem dX1_throughBoth_67 : decode cX1_throughBoth 67 = .ok (.iload_n 3, 1) := by decide +kernel
theorem dX1_throughBoth_68 : decode cX1_throughBoth 68 = .ok (.ireturn, 1) := by decide +kernel
abbrev cX1_musts : ByteArray := prog_3_method_20_code
def yX1_musts : MethodName := ⟨RX1, "musts", "()I"⟩
theorem dX1_musts_0 : decode cX1_musts 0 = .ok (.aload_n 0, 1) := by decide +kernel
theorem dX1_musts_1 : decode cX1_musts 1 = .ok (.invokevirtual 95, 3) := by decide +kernel
theorem dX1_musts_4 : decode cX1_musts 4 = .ok (.istore_n 1, 1) := by decide +kernel
theorem dX1_musts_5 : decode cX1_musts 5 = .ok (.iconst 0, 1) := by decide +kernel
theorem dX1_musts_6 : decode cX1_musts 6 = .ok (.istore_n 2, 1) := by decide +kernel
theorem dX1_musts_7 : decode cX1_musts 7 = .ok (.iconst 0, 1) := by decide +kernel
theorem dX1_musts_8 : decode cX1_musts 8 = .ok (.istore_n 3, 1) := by decide +kernel
theorem dX1_musts_9 : decode cX1_musts 9 = .ok (.iload_n 3, 1) := by decide +kernel
theorem dX1_musts_10 : decode cX1_musts 10 = .ok (.bipush 30, 2) := by decide +kernel
theorem dX1_musts_12 : decode cX1_musts 12 = .ok (.if_icmp .ge 29, 3) := by decide +kernel
theorem dX1_musts_15 : decode cX1_musts 15 = .ok (.iload_n 1, 1) := by decide +kernel
theorem dX1_musts_16 : decode cX1_musts 16 = .ok (.ifCond .le 25, 3) := by decide +kernel
theorem dX1_musts_19 : decode cX1_musts 19 = .ok (.aload_n 0, 1) := by decide +kernel
theorem dX1_musts_20 : decode cX1_musts 20 = .ok (.iload_n 3, 1) := by decide +kernel
theorem dX1_musts_21 : decode cX1_musts 21 = .ok (.invokevirtual 99, 3) := by decide +kernel
theorem dX1_musts_24 : decode cX1_musts 24 = .ok (.istore 4, 2) := by decide +kernel
theorem dX1_musts_26 : decode cX1_musts 26 = .ok (.iload 4, 2) := by decide +kernel
theorem dX1_musts_28 : decode cX1_musts 28 = .ok (.iload_n 1, 1) := by decide +kernel
theorem dX1_musts_29 : decode cX1_musts 29 = .ok (.if_icmp .ne 6, 3) := by decide +kernel
theorem dX1_musts_32 : decode cX1_musts 32 = .ok (.iinc 2 1, 3) := by decide +kernel
theorem dX1_musts_35 : decode cX1_musts 35 = .ok (.iinc 3 1, 3) := by decide +kernel
theorem dX1_musts_38 : decode cX1_musts 38 = .ok (.goto (-29), 3) := by decide +kernel
theorem dX1_musts_41 : decode cX1_musts 41 = .ok (.iload_n 2, 1) := by decide +kernel
theorem dX1_musts_42 : decode cX1_musts 42 = .ok (.ireturn, 1) := by decide +kernel
abbrev cX1_load : ByteArray := prog_3_method_21_code
def yX1_load : MethodName := ⟨RX1, "load", "(I)I"⟩
theorem dX1_load_0 : decode cX1_load 0 = .ok (.iload_n 1, 1) := by decide +kernel
theorem dX1_load_1 : decode cX1_load 1 = .ok (.ifCond .ge 6, 3) := by decide +kernel
theorem dX1_load_4 : decode cX1_load 4 = .ok (.bipush (-4), 2) := by decide +kernel
theorem dX1_load_6 : decode cX1_load 6 = .ok (.ireturn, 1) := by decide +kernel
theorem dX1_load_7 : decode cX1_load 7 = .ok (.aload_n 0, 1) := by decide +kernel
theorem dX1_load_8 : decode cX1_load 8 = .ok (.invokevirtual 85, 3) := by decide +kernel
theorem dX1_load_11 : decode cX1_load 11 = .ok (.aload_n 0, 1) := by decide +kernel
theorem dX1_load_12 : decode cX1_load 12 = .ok (.iconst 1, 1) := by decide +kernel
theorem dX1_load_13 : decode cX1_load 13 = .ok (.invokevirtual 88, 3) := by decide +kernel
theorem dX1_load_16 : decode cX1_load 16 = .ok (.istore_n 2, 1) := by decide +kernel
theorem dX1_load_17 : decode cX1_load 17 = .ok (.iconst 0, 1) := by decide +kernel
theorem dX1_load_18 : decode cX1_load 18 = .ok (.istore_n 3, 1) := by decide +kernel
theorem dX1_load_19 : decode cX1_load 19 = .ok (.iload_n 3, 1) := by decide +kernel
theorem dX1_load_20 : decode cX1_load 20 = .ok (.iload_n 1, 1) := by decide +kernel
theorem dX1_load_21 : decode cX1_load 21 = .ok (.if_icmp .ge 19, 3) := by decide +kernel
theorem dX1_load_24 : decode cX1_load 24 = .ok (.iload_n 2, 1) := by decide +kernel
theorem dX1_load_25 : decode cX1_load 25 = .ok (.ifCond .eq 15, 3) := by decide +kernel
theorem dX1_load_28 : decode cX1_load 28 = .ok (.aload_n 0, 1) := by decide +kernel
theorem dX1_load_29 : decode cX1_load 29 = .ok (.iconst 0, 1) := by decide +kernel
theorem dX1_load_30 : decode cX1_load 30 = .ok (.invokevirtual 88, 3) := by decide +kernel
theorem dX1_load_33 : decode cX1_load 33 = .ok (.istore_n 2, 1) := by decide +kernel
theorem dX1_load_34 : decode cX1_load 34 = .ok (.iinc 3 1, 3) := by decide +kernel
theorem dX1_load_37 : decode cX1_load 37 = .ok (.goto (-18), 3) := by decide +kernel
theorem dX1_load_40 : decode cX1_load 40 = .ok (.iload_n 2, 1) := by decide +kernel
theorem dX1_load_41 : decode cX1_load 41 = .ok (.ifCond .ne 6, 3) := by decide +kernel
theorem dX1_load_44 : decode cX1_load 44 = .ok (.bipush (-4), 2) := by decide +kernel
theorem dX1_load_46 : decode cX1_load 46 = .ok (.ireturn, 1) := by decide +kernel
theorem dX1_load_47 : decode cX1_load 47 = .ok (.aload_n 0, 1) := by decide +kernel
end
section
set_option maxRecDepth 100000
theorem dX1_load_48 : decode cX1_load 48 = .ok (.iload_n 1, 1) := by decide +kernel
theorem dX1_load_49 : decode cX1_load 49 = .ok (.putfield 48, 3) := by decide +kernel
theorem dX1_load_52 : decode cX1_load 52 = .ok (.aload_n 0, 1) := by decide +kernel
theorem dX1_load_53 : decode cX1_load 53 = .ok (.aload_n 0, 1) := by decide +kernel
theorem dX1_load_54 : decode cX1_load 54 = .ok (.getfield 68, 3) := by decide +kernel
theorem dX1_load_57 : decode cX1_load 57 = .ok (.putfield 51, 3) := by decide +kernel
theorem dX1_load_60 : decode cX1_load 60 = .ok (.iconst 0, 1) := by decide +kernel
theorem dX1_load_61 : decode cX1_load 61 = .ok (.istore_n 3, 1) := by decide +kernel
theorem dX1_load_62 : decode cX1_load 62 = .ok (.iload_n 3, 1) := by decide +kernel
theorem dX1_load_63 : decode cX1_load 63 = .ok (.aload_n 0, 1) := by decide +kernel
theorem dX1_load_64 : decode cX1_load 64 = .ok (.getfield 68, 3) := by decide +kernel
theorem dX1_load_67 : decode cX1_load 67 = .ok (.if_icmp .ge 33, 3) := by decide +kernel
theorem dX1_load_70 : decode cX1_load 70 = .ok (.aload_n 0, 1) := by decide +kernel
theorem dX1_load_71 : decode cX1_load 71 = .ok (.getfield 38, 3) := by decide +kernel
theorem dX1_load_74 : decode cX1_load 74 = .ok (.iload_n 3, 1) := by decide +kernel
theorem dX1_load_75 : decode cX1_load 75 = .ok (.aload_n 0, 1) := by decide +kernel
theorem dX1_load_76 : decode cX1_load 76 = .ok (.getfield 23, 3) := by decide +kernel
theorem dX1_load_79 : decode cX1_load 79 = .ok (.iload_n 3, 1) := by decide +kernel
theorem dX1_load_80 : decode cX1_load 80 = .ok (.iaload, 1) := by decide +kernel
theorem dX1_load_81 : decode cX1_load 81 = .ok (.iastore, 1) := by decide +kernel
theorem dX1_load_82 : decode cX1_load 82 = .ok (.aload_n 0, 1) := by decide +kernel
theorem dX1_load_83 : decode cX1_load 83 = .ok (.getfield 41, 3) := by decide +kernel
theorem dX1_load_86 : decode cX1_load 86 = .ok (.iload_n 3, 1) := by decide +kernel
theorem dX1_load_87 : decode cX1_load 87 = .ok (.aload_n 0, 1) := by decide +kernel
theorem dX1_load_88 : decode cX1_load 88 = .ok (.getfield 26, 3) := by decide +kernel
theorem dX1_load_91 : decode cX1_load 91 = .ok (.iload_n 3, 1) := by decide +kernel
theorem dX1_load_92 : decode cX1_load 92 = .ok (.iaload, 1) := by decide +kernel
theorem dX1_load_93 : decode cX1_load 93 = .ok (.iastore, 1) := by decide +kernel
theorem dX1_load_94 : decode cX1_load 94 = .ok (.iinc 3 1, 3) := by decide +kernel
theorem dX1_load_97 : decode cX1_load 97 = .ok (.goto (-35), 3) := by decide +kernel
theorem dX1_load_100 : decode cX1_load 100 = .ok (.iconst 0, 1) := by decide +kernel
theorem dX1_load_101 : decode cX1_load 101 = .ok (.ireturn, 1) := by decide +kernel
abbrev cX1_cell : ByteArray := prog_3_method_22_code
def yX1_cell : MethodName := ⟨RX1, "cell", "(II)I"⟩
theorem dX1_cell_0 : decode cX1_cell 0 = .ok (.iconst 0, 1) := by decide +kernel
theorem dX1_cell_1 : decode cX1_cell 1 = .ok (.istore_n 3, 1) := by decide +kernel
theorem dX1_cell_2 : decode cX1_cell 2 = .ok (.iconst 0, 1) := by decide +kernel
theorem dX1_cell_3 : decode cX1_cell 3 = .ok (.istore 4, 2) := by decide +kernel
theorem dX1_cell_5 : decode cX1_cell 5 = .ok (.iload 4, 2) := by decide +kernel
theorem dX1_cell_7 : decode cX1_cell 7 = .ok (.aload_n 0, 1) := by decide +kernel
theorem dX1_cell_8 : decode cX1_cell 8 = .ok (.getfield 51, 3) := by decide +kernel
theorem dX1_cell_11 : decode cX1_cell 11 = .ok (.if_icmp .ge 36, 3) := by decide +kernel
theorem dX1_cell_14 : decode cX1_cell 14 = .ok (.aload_n 0, 1) := by decide +kernel
theorem dX1_cell_15 : decode cX1_cell 15 = .ok (.getfield 41, 3) := by decide +kernel
theorem dX1_cell_18 : decode cX1_cell 18 = .ok (.iload 4, 2) := by decide +kernel
theorem dX1_cell_20 : decode cX1_cell 20 = .ok (.iaload, 1) := by decide +kernel
theorem dX1_cell_21 : decode cX1_cell 21 = .ok (.iload_n 1, 1) := by decide +kernel
theorem dX1_cell_22 : decode cX1_cell 22 = .ok (.if_icmp .ne 19, 3) := by decide +kernel
theorem dX1_cell_25 : decode cX1_cell 25 = .ok (.iload_n 3, 1) := by decide +kernel
theorem dX1_cell_26 : decode cX1_cell 26 = .ok (.iload_n 2, 1) := by decide +kernel
theorem dX1_cell_27 : decode cX1_cell 27 = .ok (.if_icmp .ne 11, 3) := by decide +kernel
theorem dX1_cell_30 : decode cX1_cell 30 = .ok (.aload_n 0, 1) := by decide +kernel
theorem dX1_cell_31 : decode cX1_cell 31 = .ok (.getfield 38, 3) := by decide +kernel
theorem dX1_cell_34 : decode cX1_cell 34 = .ok (.iload 4, 2) := by decide +kernel
theorem dX1_cell_36 : decode cX1_cell 36 = .ok (.iaload, 1) := by decide +kernel
theorem dX1_cell_37 : decode cX1_cell 37 = .ok (.ireturn, 1) := by decide +kernel
theorem dX1_cell_38 : decode cX1_cell 38 = .ok (.iinc 3 1, 3) := by decide +kernel
theorem dX1_cell_41 : decode cX1_cell 41 = .ok (.iinc 4 1, 3) := by decide +kernel
theorem dX1_cell_44 : decode cX1_cell 44 = .ok (.goto (-39), 3) := by decide +kernel
theorem dX1_cell_47 : decode cX1_cell 47 = .ok (.bipush (-4), 2) := by decide +kernel
theorem dX1_cell_49 : decode cX1_cell 49 = .ok (.ireturn, 1) := by decide +kernel
abbrev cX1_loadedWeight : ByteArray := prog_3_method_23_code
def yX1_loadedWeight : MethodName := ⟨RX1, "loadedWeight", "()I"⟩
theorem dX1_loadedWeight_0 : decode cX1_loadedWeight 0 = .ok (.aload_n 0, 1) := by decide +kernel
theorem dX1_loadedWeight_1 : decode cX1_loadedWeight 1 = .ok (.getfield 51, 3) := by decide +kernel
theorem dX1_loadedWeight_4 : decode cX1_loadedWeight 4 = .ok (.ifCond .ne 5, 3) := by decide +kernel
theorem dX1_loadedWeight_7 : decode cX1_loadedWeight 7 = .ok (.iconst 0, 1) := by decide +kernel
theorem dX1_loadedWeight_8 : decode cX1_loadedWeight 8 = .ok (.ireturn, 1) := by decide +kernel
theorem dX1_loadedWeight_9 : decode cX1_loadedWeight 9 = .ok (.iconst 1, 1) := by decide +kernel
theorem dX1_loadedWeight_10 : decode cX1_loadedWeight 10 = .ok (.istore_n 1, 1) := by decide +kernel
theorem dX1_loadedWeight_11 : decode cX1_loadedWeight 11 = .ok (.iconst 0, 1) := by decide +kernel
theorem dX1_loadedWeight_12 : decode cX1_loadedWeight 12 = .ok (.istore_n 2, 1) := by decide +kernel
theorem dX1_loadedWeight_13 : decode cX1_loadedWeight 13 = .ok (.iload_n 2, 1) := by decide +kernel
theorem dX1_loadedWeight_14 : decode cX1_loadedWeight 14 = .ok (.aload_n 0, 1) := by decide +kernel
theorem dX1_loadedWeight_15 : decode cX1_loadedWeight 15 = .ok (.getfield 51, 3) := by decide +kernel
theorem dX1_loadedWeight_18 : decode cX1_loadedWeight 18 = .ok (.if_icmp .ge 23, 3) := by decide +kernel
theorem dX1_loadedWeight_21 : decode cX1_loadedWeight 21 = .ok (.iload_n 1, 1) := by decide +kernel
theorem dX1_loadedWeight_22 : decode cX1_loadedWeight 22 = .ok (.aload_n 0, 1) := by decide +kernel
theorem dX1_loadedWeight_23 : decode cX1_loadedWeight 23 = .ok (.getfield 13, 3) := by decide +kernel
theorem dX1_loadedWeight_26 : decode cX1_loadedWeight 26 = .ok (.aload_n 0, 1) := by decide +kernel
theorem dX1_loadedWeight_27 : decode cX1_loadedWeight 27 = .ok (.getfield 38, 3) := by decide +kernel
theorem dX1_loadedWeight_30 : decode cX1_loadedWeight 30 = .ok (.iload_n 2, 1) := by decide +kernel
theorem dX1_loadedWeight_31 : decode cX1_loadedWeight 31 = .ok (.iaload, 1) := by decide +kernel
theorem dX1_loadedWeight_32 : decode cX1_loadedWeight 32 = .ok (.iaload, 1) := by decide +kernel
theorem dX1_loadedWeight_33 : decode cX1_loadedWeight 33 = .ok (.imul, 1) := by decide +kernel
theorem dX1_loadedWeight_34 : decode cX1_loadedWeight 34 = .ok (.istore_n 1, 1) := by decide +kernel
theorem dX1_loadedWeight_35 : decode cX1_loadedWeight 35 = .ok (.iinc 2 1, 3) := by decide +kernel
theorem dX1_loadedWeight_38 : decode cX1_loadedWeight 38 = .ok (.goto (-25), 3) := by decide +kernel
theorem dX1_loadedWeight_41 : decode cX1_loadedWeight 41 = .ok (.iload_n 1, 1) := by decide +kernel
theorem dX1_loadedWeight_42 : decode cX1_loadedWeight 42 = .ok (.ireturn, 1) := by decide +kernel
abbrev cX1_rank : ByteArray := prog_3_method_24_code
def yX1_rank : MethodName := ⟨RX1, "rank", "()I"⟩
theorem dX1_rank_0 : decode cX1_rank 0 = .ok (.aload_n 0, 1) := by decide +kernel
theorem dX1_rank_1 : decode cX1_rank 1 = .ok (.getfield 48, 3) := by decide +kernel
theorem dX1_rank_4 : decode cX1_rank 4 = .ok (.ireturn, 1) := by decide +kernel
theorem q26 : (Jvm.Cond.initialized "PathFamiliesModel") ∈ lw_all := lw_g (lw_at lw_m1 2 rfl) rfl
theorem q187 : (Jvm.Cond.instantiable "PathFamiliesModel" (15 : Nat)) ∈ lw_all := lw_g (lw_at lw_m1 163 rfl) rfl
theorem q189 : (Jvm.Cond.instanceMethod ({ cls := "PathFamiliesModel", name := "<init>", desc := "()V" } : Jvm.MethodName)) ∈ lw_all := lw_g (lw_at lw_m1 165 rfl) rfl
theorem q190 : (Jvm.Cond.code ({ cls := "PathFamiliesModel", name := "<init>", desc := "()V" } : Jvm.MethodName) prog_3_method_1_code (2 : Nat) (Option.none : Option Jvm.ClassFile.FieldType)) ∈ lw_all := lw_g (lw_at lw_m1 166 rfl) rfl
theorem q191 : (Jvm.Cond.methodLink "PathFamiliesModel" (1 : Nat) ({ cls := "java/lang/Object", name := "<init>", desc := "()V" } : Jvm.MethodName)) ∈ lw_all := lw_g (lw_at lw_m1 167 rfl) rfl
theorem q192 : (Jvm.Cond.fieldLink "PathFamiliesModel" (7 : Nat) "PathFamiliesModel" "blocked" "[Z") ∈ lw_all := lw_g (lw_at lw_m1 168 rfl) rfl
theorem q193 : (Jvm.Cond.fieldLink "PathFamiliesModel" (13 : Nat) "PathFamiliesModel" "weights" "[I") ∈ lw_all := lw_g (lw_at lw_m1 169 rfl) rfl
theorem q194 : (Jvm.Cond.fieldLink "PathFamiliesModel" (44 : Nat) "PathFamiliesModel" "count" "I") ∈ lw_all := lw_g (lw_at lw_m1 170 rfl) rfl
theorem q195 : (Jvm.Cond.fieldLink "PathFamiliesModel" (17 : Nat) "PathFamiliesModel" "starts" "[I") ∈ lw_all := lw_g (lw_at lw_m1 171 rfl) rfl
theorem q196 : (Jvm.Cond.fieldLink "PathFamiliesModel" (20 : Nat) "PathFamiliesModel" "goals" "[I") ∈ lw_all := lw_g (lw_at lw_m1 172 rfl) rfl
theorem q197 : (Jvm.Cond.fieldLink "PathFamiliesModel" (68 : Nat) "PathFamiliesModel" "gone" "I") ∈ lw_all := lw_g (lw_at lw_m1 173 rfl) rfl
theorem q198 : (Jvm.Cond.fieldLink "PathFamiliesModel" (23 : Nat) "PathFamiliesModel" "walk" "[I") ∈ lw_all := lw_g (lw_at lw_m1 174 rfl) rfl
theorem q199 : (Jvm.Cond.fieldLink "PathFamiliesModel" (26 : Nat) "PathFamiliesModel" "owner" "[I") ∈ lw_all := lw_g (lw_at lw_m1 175 rfl) rfl
theorem q200 : (Jvm.Cond.fieldLink "PathFamiliesModel" (29 : Nat) "PathFamiliesModel" "tried" "[I") ∈ lw_all := lw_g (lw_at lw_m1 176 rfl) rfl
theorem q201 : (Jvm.Cond.fieldLink "PathFamiliesModel" (32 : Nat) "PathFamiliesModel" "taken" "[Z") ∈ lw_all := lw_g (lw_at lw_m1 177 rfl) rfl
theorem q202 : (Jvm.Cond.fieldLink "PathFamiliesModel" (35 : Nat) "PathFamiliesModel" "ways" "[I") ∈ lw_all := lw_g (lw_at lw_m1 178 rfl) rfl
theorem q203 : (Jvm.Cond.fieldLink "PathFamiliesModel" (48 : Nat) "PathFamiliesModel" "rank" "I") ∈ lw_all := lw_g (lw_at lw_m1 179 rfl) rfl
theorem q204 : (Jvm.Cond.fieldLink "PathFamiliesModel" (51 : Nat) "PathFamiliesModel" "loaded" "I") ∈ lw_all := lw_g (lw_at lw_m1 180 rfl) rfl
theorem q205 : (Jvm.Cond.fieldLink "PathFamiliesModel" (38 : Nat) "PathFamiliesModel" "kept" "[I") ∈ lw_all := lw_g (lw_at lw_m1 181 rfl) rfl
theorem q206 : (Jvm.Cond.fieldLink "PathFamiliesModel" (41 : Nat) "PathFamiliesModel" "keptOwner" "[I") ∈ lw_all := lw_g (lw_at lw_m1 182 rfl) rfl
theorem q207 : (Jvm.Cond.lays "PathFamiliesModel" "PathFamiliesModel" "blocked" "[Z") ∈ lw_all := lw_g (lw_at lw_m1 183 rfl) rfl
theorem q208 : (Jvm.Cond.soleField "PathFamiliesModel" "blocked") ∈ lw_all := lw_g (lw_at lw_m1 184 rfl) rfl
theorem q209 : (Jvm.Cond.lays "PathFamiliesModel" "PathFamiliesModel" "weights" "[I") ∈ lw_all := lw_g (lw_at lw_m1 185 rfl) rfl
theorem q210 : (Jvm.Cond.soleField "PathFamiliesModel" "weights") ∈ lw_all := lw_g (lw_at lw_m1 186 rfl) rfl
theorem q211 : (Jvm.Cond.lays "PathFamiliesModel" "PathFamiliesModel" "count" "I") ∈ lw_all := lw_g (lw_at lw_m1 187 rfl) rfl
theorem q212 : (Jvm.Cond.soleField "PathFamiliesModel" "count") ∈ lw_all := lw_g (lw_at lw_m1 188 rfl) rfl
theorem q213 : (Jvm.Cond.lays "PathFamiliesModel" "PathFamiliesModel" "starts" "[I") ∈ lw_all := lw_g (lw_at lw_m1 189 rfl) rfl
theorem q214 : (Jvm.Cond.soleField "PathFamiliesModel" "starts") ∈ lw_all := lw_g (lw_at lw_m1 190 rfl) rfl
theorem q215 : (Jvm.Cond.lays "PathFamiliesModel" "PathFamiliesModel" "goals" "[I") ∈ lw_all := lw_g (lw_at lw_m1 191 rfl) rfl
theorem q216 : (Jvm.Cond.soleField "PathFamiliesModel" "goals") ∈ lw_all := lw_g (lw_at lw_m1 192 rfl) rfl
theorem q217 : (Jvm.Cond.lays "PathFamiliesModel" "PathFamiliesModel" "gone" "I") ∈ lw_all := lw_g (lw_at lw_m1 193 rfl) rfl
theorem q218 : (Jvm.Cond.soleField "PathFamiliesModel" "gone") ∈ lw_all := lw_g (lw_at lw_m1 194 rfl) rfl
theorem q219 : (Jvm.Cond.lays "PathFamiliesModel" "PathFamiliesModel" "walk" "[I") ∈ lw_all := lw_g (lw_at lw_m1 195 rfl) rfl
theorem q220 : (Jvm.Cond.soleField "PathFamiliesModel" "walk") ∈ lw_all := lw_g (lw_at lw_m1 196 rfl) rfl
theorem q221 : (Jvm.Cond.lays "PathFamiliesModel" "PathFamiliesModel" "owner" "[I") ∈ lw_all := lw_g (lw_at lw_m1 197 rfl) rfl
theorem q222 : (Jvm.Cond.soleField "PathFamiliesModel" "owner") ∈ lw_all := lw_g (lw_at lw_m1 198 rfl) rfl
theorem q223 : (Jvm.Cond.lays "PathFamiliesModel" "PathFamiliesModel" "tried" "[I") ∈ lw_all := lw_g (lw_at lw_m1 199 rfl) rfl
theorem q224 : (Jvm.Cond.soleField "PathFamiliesModel" "tried") ∈ lw_all := lw_g (lw_at lw_m1 200 rfl) rfl
theorem q225 : (Jvm.Cond.lays "PathFamiliesModel" "PathFamiliesModel" "taken" "[Z") ∈ lw_all := lw_g (lw_at lw_m1 201 rfl) rfl
theorem q226 : (Jvm.Cond.soleField "PathFamiliesModel" "taken") ∈ lw_all := lw_g (lw_at lw_m1 202 rfl) rfl
theorem q227 : (Jvm.Cond.lays "PathFamiliesModel" "PathFamiliesModel" "ways" "[I") ∈ lw_all := lw_g (lw_at lw_m1 203 rfl) rfl
theorem q228 : (Jvm.Cond.soleField "PathFamiliesModel" "ways") ∈ lw_all := lw_g (lw_at lw_m1 204 rfl) rfl
theorem q229 : (Jvm.Cond.lays "PathFamiliesModel" "PathFamiliesModel" "rank" "I") ∈ lw_all := lw_g (lw_at lw_m1 205 rfl) rfl
theorem q230 : (Jvm.Cond.soleField "PathFamiliesModel" "rank") ∈ lw_all := lw_g (lw_at lw_m1 206 rfl) rfl
theorem q231 : (Jvm.Cond.lays "PathFamiliesModel" "PathFamiliesModel" "loaded" "I") ∈ lw_all := lw_g (lw_at lw_m1 207 rfl) rfl
theorem q232 : (Jvm.Cond.soleField "PathFamiliesModel" "loaded") ∈ lw_all := lw_g (lw_at lw_m1 208 rfl) rfl
theorem q233 : (Jvm.Cond.lays "PathFamiliesModel" "PathFamiliesModel" "kept" "[I") ∈ lw_all := lw_g (lw_at lw_m1 209 rfl) rfl
theorem q234 : (Jvm.Cond.soleField "PathFamiliesModel" "kept") ∈ lw_all := lw_g (lw_at lw_m1 210 rfl) rfl
theorem q235 : (Jvm.Cond.lays "PathFamiliesModel" "PathFamiliesModel" "keptOwner" "[I") ∈ lw_all := lw_g (lw_at lw_m1 211 rfl) rfl
theorem q236 : (Jvm.Cond.soleField "PathFamiliesModel" "keptOwner") ∈ lw_all := lw_g (lw_at lw_m1 212 rfl) rfl
theorem q237 : (Jvm.Cond.superclass "PathFamiliesModel" "java/lang/Object") ∈ lw_all := lw_g (lw_at lw_m1 213 rfl) rfl
theorem q239 : (Jvm.Cond.instanceMethod ({ cls := "PathFamiliesModel", name := "ends", desc := "(II)I" } : Jvm.MethodName)) ∈ lw_all := lw_g (lw_at lw_m1 215 rfl) rfl
theorem q240 : (Jvm.Cond.selects "PathFamiliesModel" ({ cls := "PathFamiliesModel", name := "ends", desc := "(II)I" } : Jvm.MethodName) ({ cls := "PathFamiliesModel", name := "ends", desc := "(II)I" } : Jvm.MethodName)) ∈ lw_all := lw_g (lw_at lw_m1 216 rfl) rfl
theorem q241 : (Jvm.Cond.code ({ cls := "PathFamiliesModel", name := "ends", desc := "(II)I" } : Jvm.MethodName) prog_3_method_4_code (7 : Nat) (Option.some Jvm.ClassFile.FieldType.int)) ∈ lw_all := lw_g (lw_at lw_m1 217 rfl) rfl
theorem q242 : (Jvm.Cond.methodLink "PathFamiliesModel" (54 : Nat) ({ cls := "PathFamiliesModel", name := "size", desc := "(I)I" } : Jvm.MethodName)) ∈ lw_all := lw_g (lw_at lw_m1 218 rfl) rfl
theorem q243 : (Jvm.Cond.privateMethod ({ cls := "PathFamiliesModel", name := "size", desc := "(I)I" } : Jvm.MethodName)) ∈ lw_tbl := lw_at lw_m1 219 rfl
theorem q244 : (Jvm.Cond.instanceMethod ({ cls := "PathFamiliesModel", name := "size", desc := "(I)I" } : Jvm.MethodName)) ∈ lw_all := lw_g (lw_at lw_m1 220 rfl) rfl
theorem q245 : (Jvm.Cond.code ({ cls := "PathFamiliesModel", name := "size", desc := "(I)I" } : Jvm.MethodName) prog_3_method_2_code (4 : Nat) (Option.some Jvm.ClassFile.FieldType.int)) ∈ lw_all := lw_g (lw_at lw_m1 221 rfl) rfl
theorem q246 : (Jvm.Cond.methodLink "PathFamiliesModel" (58 : Nat) ({ cls := "PathFamiliesModel", name := "unload", desc := "()V" } : Jvm.MethodName)) ∈ lw_all := lw_g (lw_at lw_m1 222 rfl) rfl
theorem q247 : (Jvm.Cond.privateMethod ({ cls := "PathFamiliesModel", name := "unload", desc := "()V" } : Jvm.MethodName)) ∈ lw_tbl := lw_at lw_m1 223 rfl
theorem q248 : (Jvm.Cond.instanceMethod ({ cls := "PathFamiliesModel", name := "unload", desc := "()V" } : Jvm.MethodName)) ∈ lw_all := lw_g (lw_at lw_m1 224 rfl) rfl
theorem q249 : (Jvm.Cond.code ({ cls := "PathFamiliesModel", name := "unload", desc := "()V" } : Jvm.MethodName) prog_3_method_3_code (1 : Nat) (Option.none : Option Jvm.ClassFile.FieldType)) ∈ lw_all := lw_g (lw_at lw_m1 225 rfl) rfl
theorem q251 : (Jvm.Cond.instanceMethod ({ cls := "PathFamiliesModel", name := "block", desc := "(II)I" } : Jvm.MethodName)) ∈ lw_all := lw_g (lw_at lw_m1 227 rfl) rfl
theorem q252 : (Jvm.Cond.selects "PathFamiliesModel" ({ cls := "PathFamiliesModel", name := "block", desc := "(II)I" } : Jvm.MethodName) ({ cls := "PathFamiliesModel", name := "block", desc := "(II)I" } : Jvm.MethodName)) ∈ lw_all := lw_g (lw_at lw_m1 228 rfl) rfl
theorem q253 : (Jvm.Cond.code ({ cls := "PathFamiliesModel", name := "block", desc := "(II)I" } : Jvm.MethodName) prog_3_method_6_code (4 : Nat) (Option.some Jvm.ClassFile.FieldType.int)) ∈ lw_all := lw_g (lw_at lw_m1 229 rfl) rfl
theorem q254 : (Jvm.Cond.methodLink "PathFamiliesModel" (61 : Nat) ({ cls := "PathFamiliesModel", name := "noCell", desc := "(I)Z" } : Jvm.MethodName)) ∈ lw_all := lw_g (lw_at lw_m1 230 rfl) rfl
theorem q255 : (Jvm.Cond.privateMethod ({ cls := "PathFamiliesModel", name := "noCell", desc := "(I)Z" } : Jvm.MethodName)) ∈ lw_tbl := lw_at lw_m1 231 rfl
theorem q256 : (Jvm.Cond.instanceMethod ({ cls := "PathFamiliesModel", name := "noCell", desc := "(I)Z" } : Jvm.MethodName)) ∈ lw_all := lw_g (lw_at lw_m1 232 rfl) rfl
theorem q257 : (Jvm.Cond.code ({ cls := "PathFamiliesModel", name := "noCell", desc := "(I)Z" } : Jvm.MethodName) prog_3_method_5_code (2 : Nat) (Option.some Jvm.ClassFile.FieldType.boolean)) ∈ lw_all := lw_g (lw_at lw_m1 233 rfl) rfl
theorem q259 : (Jvm.Cond.instanceMethod ({ cls := "PathFamiliesModel", name := "weight", desc := "(II)I" } : Jvm.MethodName)) ∈ lw_all := lw_g (lw_at lw_m1 235 rfl) rfl
theorem q260 : (Jvm.Cond.selects "PathFamiliesModel" ({ cls := "PathFamiliesModel", name := "weight", desc := "(II)I" } : Jvm.MethodName) ({ cls := "PathFamiliesModel", name := "weight", desc := "(II)I" } : Jvm.MethodName)) ∈ lw_all := lw_g (lw_at lw_m1 236 rfl) rfl
theorem q261 : (Jvm.Cond.code ({ cls := "PathFamiliesModel", name := "weight", desc := "(II)I" } : Jvm.MethodName) prog_3_method_7_code (3 : Nat) (Option.some Jvm.ClassFile.FieldType.int)) ∈ lw_all := lw_g (lw_at lw_m1 237 rfl) rfl
theorem q263 : (Jvm.Cond.instanceMethod ({ cls := "PathFamiliesModel", name := "paths", desc := "(II)I" } : Jvm.MethodName)) ∈ lw_all := lw_g (lw_at lw_m1 239 rfl) rfl
theorem q264 : (Jvm.Cond.selects "PathFamiliesModel" ({ cls := "PathFamiliesModel", name := "paths", desc := "(II)I" } : Jvm.MethodName) ({ cls := "PathFamiliesModel", name := "paths", desc := "(II)I" } : Jvm.MethodName)) ∈ lw_all := lw_g (lw_at lw_m2 0 rfl) rfl
theorem q265 : (Jvm.Cond.code ({ cls := "PathFamiliesModel", name := "paths", desc := "(II)I" } : Jvm.MethodName) prog_3_method_9_code (3 : Nat) (Option.some Jvm.ClassFile.FieldType.int)) ∈ lw_all := lw_g (lw_at lw_m2 1 rfl) rfl
theorem q266 : (Jvm.Cond.methodLink "PathFamiliesModel" (65 : Nat) ({ cls := "PathFamiliesModel", name := "ways", desc := "(II)I" } : Jvm.MethodName)) ∈ lw_all := lw_g (lw_at lw_m2 2 rfl) rfl
theorem q267 : (Jvm.Cond.privateMethod ({ cls := "PathFamiliesModel", name := "ways", desc := "(II)I" } : Jvm.MethodName)) ∈ lw_tbl := lw_at lw_m2 3 rfl
theorem q268 : (Jvm.Cond.instanceMethod ({ cls := "PathFamiliesModel", name := "ways", desc := "(II)I" } : Jvm.MethodName)) ∈ lw_all := lw_g (lw_at lw_m2 4 rfl) rfl
theorem q269 : (Jvm.Cond.code ({ cls := "PathFamiliesModel", name := "ways", desc := "(II)I" } : Jvm.MethodName) prog_3_method_8_code (4 : Nat) (Option.some Jvm.ClassFile.FieldType.int)) ∈ lw_all := lw_g (lw_at lw_m2 5 rfl) rfl
theorem q271 : (Jvm.Cond.instanceMethod ({ cls := "PathFamiliesModel", name := "families", desc := "()I" } : Jvm.MethodName)) ∈ lw_all := lw_g (lw_at lw_m2 7 rfl) rfl
theorem q272 : (Jvm.Cond.selects "PathFamiliesModel" ({ cls := "PathFamiliesModel", name := "families", desc := "()I" } : Jvm.MethodName) ({ cls := "PathFamiliesModel", name := "families", desc := "()I" } : Jvm.MethodName)) ∈ lw_all := lw_g (lw_at lw_m2 8 rfl) rfl
theorem q273 : (Jvm.Cond.code ({ cls := "PathFamiliesModel", name := "families", desc := "()I" } : Jvm.MethodName) prog_3_method_16_code (3 : Nat) (Option.some Jvm.ClassFile.FieldType.int)) ∈ lw_all := lw_g (lw_at lw_m2 9 rfl) rfl
theorem q274 : (Jvm.Cond.methodLink "PathFamiliesModel" (85 : Nat) ({ cls := "PathFamiliesModel", name := "begin", desc := "()V" } : Jvm.MethodName)) ∈ lw_all := lw_g (lw_at lw_m2 10 rfl) rfl
theorem q275 : (Jvm.Cond.privateMethod ({ cls := "PathFamiliesModel", name := "begin", desc := "()V" } : Jvm.MethodName)) ∈ lw_tbl := lw_at lw_m2 11 rfl
theorem q276 : (Jvm.Cond.instanceMethod ({ cls := "PathFamiliesModel", name := "begin", desc := "()V" } : Jvm.MethodName)) ∈ lw_all := lw_g (lw_at lw_m2 12 rfl) rfl
theorem q277 : (Jvm.Cond.code ({ cls := "PathFamiliesModel", name := "begin", desc := "()V" } : Jvm.MethodName) prog_3_method_11_code (2 : Nat) (Option.none : Option Jvm.ClassFile.FieldType)) ∈ lw_all := lw_g (lw_at lw_m2 13 rfl) rfl
theorem q278 : (Jvm.Cond.methodLink "PathFamiliesModel" (71 : Nat) ({ cls := "PathFamiliesModel", name := "step", desc := "(II)V" } : Jvm.MethodName)) ∈ lw_all := lw_g (lw_at lw_m2 14 rfl) rfl
theorem q279 : (Jvm.Cond.privateMethod ({ cls := "PathFamiliesModel", name := "step", desc := "(II)V" } : Jvm.MethodName)) ∈ lw_tbl := lw_at lw_m2 15 rfl
theorem q280 : (Jvm.Cond.instanceMethod ({ cls := "PathFamiliesModel", name := "step", desc := "(II)V" } : Jvm.MethodName)) ∈ lw_all := lw_g (lw_at lw_m2 16 rfl) rfl
theorem q281 : (Jvm.Cond.code ({ cls := "PathFamiliesModel", name := "step", desc := "(II)V" } : Jvm.MethodName) prog_3_method_10_code (3 : Nat) (Option.none : Option Jvm.ClassFile.FieldType)) ∈ lw_all := lw_g (lw_at lw_m2 17 rfl) rfl
theorem q282 : (Jvm.Cond.methodLink "PathFamiliesModel" (88 : Nat) ({ cls := "PathFamiliesModel", name := "nextFamily", desc := "(Z)Z" } : Jvm.MethodName)) ∈ lw_all := lw_g (lw_at lw_m2 18 rfl) rfl
theorem q283 : (Jvm.Cond.privateMethod ({ cls := "PathFamiliesModel", name := "nextFamily", desc := "(Z)Z" } : Jvm.MethodName)) ∈ lw_tbl := lw_at lw_m2 19 rfl
theorem q284 : (Jvm.Cond.instanceMethod ({ cls := "PathFamiliesModel", name := "nextFamily", desc := "(Z)Z" } : Jvm.MethodName)) ∈ lw_all := lw_g (lw_at lw_m2 20 rfl) rfl
theorem q285 : (Jvm.Cond.code ({ cls := "PathFamiliesModel", name := "nextFamily", desc := "(Z)Z" } : Jvm.MethodName) prog_3_method_15_code (2 : Nat) (Option.some Jvm.ClassFile.FieldType.boolean)) ∈ lw_all := lw_g (lw_at lw_m2 21 rfl) rfl
theorem q286 : (Jvm.Cond.methodLink "PathFamiliesModel" (78 : Nat) ({ cls := "PathFamiliesModel", name := "goOn", desc := "()V" } : Jvm.MethodName)) ∈ lw_all := lw_g (lw_at lw_m2 22 rfl) rfl
theorem q287 : (Jvm.Cond.privateMethod ({ cls := "PathFamiliesModel", name := "goOn", desc := "()V" } : Jvm.MethodName)) ∈ lw_tbl := lw_at lw_m2 23 rfl
theorem q288 : (Jvm.Cond.instanceMethod ({ cls := "PathFamiliesModel", name := "goOn", desc := "()V" } : Jvm.MethodName)) ∈ lw_all := lw_g (lw_at lw_m2 24 rfl) rfl
theorem q289 : (Jvm.Cond.code ({ cls := "PathFamiliesModel", name := "goOn", desc := "()V" } : Jvm.MethodName) prog_3_method_13_code (4 : Nat) (Option.none : Option Jvm.ClassFile.FieldType)) ∈ lw_all := lw_g (lw_at lw_m2 25 rfl) rfl
theorem q290 : (Jvm.Cond.methodLink "PathFamiliesModel" (75 : Nat) ({ cls := "PathFamiliesModel", name := "stepBack", desc := "()V" } : Jvm.MethodName)) ∈ lw_all := lw_g (lw_at lw_m2 26 rfl) rfl
theorem q291 : (Jvm.Cond.privateMethod ({ cls := "PathFamiliesModel", name := "stepBack", desc := "()V" } : Jvm.MethodName)) ∈ lw_tbl := lw_at lw_m2 27 rfl
theorem q292 : (Jvm.Cond.instanceMethod ({ cls := "PathFamiliesModel", name := "stepBack", desc := "()V" } : Jvm.MethodName)) ∈ lw_all := lw_g (lw_at lw_m2 28 rfl) rfl
theorem q293 : (Jvm.Cond.code ({ cls := "PathFamiliesModel", name := "stepBack", desc := "()V" } : Jvm.MethodName) prog_3_method_12_code (1 : Nat) (Option.none : Option Jvm.ClassFile.FieldType)) ∈ lw_all := lw_g (lw_at lw_m2 29 rfl) rfl
theorem q294 : (Jvm.Cond.methodLink "PathFamiliesModel" (81 : Nat) ({ cls := "PathFamiliesModel", name := "complete", desc := "()Z" } : Jvm.MethodName)) ∈ lw_all := lw_g (lw_at lw_m2 30 rfl) rfl
theorem q295 : (Jvm.Cond.privateMethod ({ cls := "PathFamiliesModel", name := "complete", desc := "()Z" } : Jvm.MethodName)) ∈ lw_tbl := lw_at lw_m2 31 rfl
theorem q296 : (Jvm.Cond.instanceMethod ({ cls := "PathFamiliesModel", name := "complete", desc := "()Z" } : Jvm.MethodName)) ∈ lw_all := lw_g (lw_at lw_m2 32 rfl) rfl
theorem q297 : (Jvm.Cond.code ({ cls := "PathFamiliesModel", name := "complete", desc := "()Z" } : Jvm.MethodName) prog_3_method_14_code (1 : Nat) (Option.some Jvm.ClassFile.FieldType.boolean)) ∈ lw_all := lw_g (lw_at lw_m2 33 rfl) rfl
theorem q299 : (Jvm.Cond.instanceMethod ({ cls := "PathFamiliesModel", name := "sum", desc := "()I" } : Jvm.MethodName)) ∈ lw_all := lw_g (lw_at lw_m2 35 rfl) rfl
theorem q300 : (Jvm.Cond.selects "PathFamiliesModel" ({ cls := "PathFamiliesModel", name := "sum", desc := "()I" } : Jvm.MethodName) ({ cls := "PathFamiliesModel", name := "sum", desc := "()I" } : Jvm.MethodName)) ∈ lw_all := lw_g (lw_at lw_m2 36 rfl) rfl
theorem q301 : (Jvm.Cond.code ({ cls := "PathFamiliesModel", name := "sum", desc := "()I" } : Jvm.MethodName) prog_3_method_17_code (5 : Nat) (Option.some Jvm.ClassFile.FieldType.int)) ∈ lw_all := lw_g (lw_at lw_m2 37 rfl) rfl
theorem q303 : (Jvm.Cond.instanceMethod ({ cls := "PathFamiliesModel", name := "through", desc := "(I)I" } : Jvm.MethodName)) ∈ lw_all := lw_g (lw_at lw_m2 39 rfl) rfl
theorem q304 : (Jvm.Cond.selects "PathFamiliesModel" ({ cls := "PathFamiliesModel", name := "through", desc := "(I)I" } : Jvm.MethodName) ({ cls := "PathFamiliesModel", name := "through", desc := "(I)I" } : Jvm.MethodName)) ∈ lw_all := lw_g (lw_at lw_m2 40 rfl) rfl
theorem q305 : (Jvm.Cond.code ({ cls := "PathFamiliesModel", name := "through", desc := "(I)I" } : Jvm.MethodName) prog_3_method_18_code (2 : Nat) (Option.some Jvm.ClassFile.FieldType.int)) ∈ lw_all := lw_g (lw_at lw_m2 41 rfl) rfl
theorem q306 : (Jvm.Cond.methodLink "PathFamiliesModel" (92 : Nat) ({ cls := "PathFamiliesModel", name := "throughBoth", desc := "(II)I" } : Jvm.MethodName)) ∈ lw_all := lw_g (lw_at lw_m2 42 rfl) rfl
theorem q307 : (Jvm.Cond.instanceMethod ({ cls := "PathFamiliesModel", name := "throughBoth", desc := "(II)I" } : Jvm.MethodName)) ∈ lw_all := lw_g (lw_at lw_m2 43 rfl) rfl
theorem q308 : (Jvm.Cond.selects "PathFamiliesModel" ({ cls := "PathFamiliesModel", name := "throughBoth", desc := "(II)I" } : Jvm.MethodName) ({ cls := "PathFamiliesModel", name := "throughBoth", desc := "(II)I" } : Jvm.MethodName)) ∈ lw_all := lw_g (lw_at lw_m2 44 rfl) rfl
theorem q309 : (Jvm.Cond.code ({ cls := "PathFamiliesModel", name := "throughBoth", desc := "(II)I" } : Jvm.MethodName) prog_3_method_19_code (5 : Nat) (Option.some Jvm.ClassFile.FieldType.int)) ∈ lw_all := lw_g (lw_at lw_m2 45 rfl) rfl
theorem q312 : (Jvm.Cond.instanceMethod ({ cls := "PathFamiliesModel", name := "musts", desc := "()I" } : Jvm.MethodName)) ∈ lw_all := lw_g (lw_at lw_m2 48 rfl) rfl
theorem q313 : (Jvm.Cond.selects "PathFamiliesModel" ({ cls := "PathFamiliesModel", name := "musts", desc := "()I" } : Jvm.MethodName) ({ cls := "PathFamiliesModel", name := "musts", desc := "()I" } : Jvm.MethodName)) ∈ lw_all := lw_g (lw_at lw_m2 49 rfl) rfl
theorem q314 : (Jvm.Cond.code ({ cls := "PathFamiliesModel", name := "musts", desc := "()I" } : Jvm.MethodName) prog_3_method_20_code (5 : Nat) (Option.some Jvm.ClassFile.FieldType.int)) ∈ lw_all := lw_g (lw_at lw_m2 50 rfl) rfl
theorem q315 : (Jvm.Cond.methodLink "PathFamiliesModel" (95 : Nat) ({ cls := "PathFamiliesModel", name := "families", desc := "()I" } : Jvm.MethodName)) ∈ lw_all := lw_g (lw_at lw_m2 51 rfl) rfl
theorem q316 : (Jvm.Cond.methodLink "PathFamiliesModel" (99 : Nat) ({ cls := "PathFamiliesModel", name := "through", desc := "(I)I" } : Jvm.MethodName)) ∈ lw_all := lw_g (lw_at lw_m2 52 rfl) rfl
theorem q318 : (Jvm.Cond.instanceMethod ({ cls := "PathFamiliesModel", name := "load", desc := "(I)I" } : Jvm.MethodName)) ∈ lw_all := lw_g (lw_at lw_m2 54 rfl) rfl
theorem q319 : (Jvm.Cond.selects "PathFamiliesModel" ({ cls := "PathFamiliesModel", name := "load", desc := "(I)I" } : Jvm.MethodName) ({ cls := "PathFamiliesModel", name := "load", desc := "(I)I" } : Jvm.MethodName)) ∈ lw_all := lw_g (lw_at lw_m2 55 rfl) rfl
theorem q320 : (Jvm.Cond.code ({ cls := "PathFamiliesModel", name := "load", desc := "(I)I" } : Jvm.MethodName) prog_3_method_21_code (4 : Nat) (Option.some Jvm.ClassFile.FieldType.int)) ∈ lw_all := lw_g (lw_at lw_m2 56 rfl) rfl
theorem q322 : (Jvm.Cond.instanceMethod ({ cls := "PathFamiliesModel", name := "cell", desc := "(II)I" } : Jvm.MethodName)) ∈ lw_all := lw_g (lw_at lw_m2 58 rfl) rfl
theorem q323 : (Jvm.Cond.selects "PathFamiliesModel" ({ cls := "PathFamiliesModel", name := "cell", desc := "(II)I" } : Jvm.MethodName) ({ cls := "PathFamiliesModel", name := "cell", desc := "(II)I" } : Jvm.MethodName)) ∈ lw_all := lw_g (lw_at lw_m2 59 rfl) rfl
theorem q324 : (Jvm.Cond.code ({ cls := "PathFamiliesModel", name := "cell", desc := "(II)I" } : Jvm.MethodName) prog_3_method_22_code (5 : Nat) (Option.some Jvm.ClassFile.FieldType.int)) ∈ lw_all := lw_g (lw_at lw_m2 60 rfl) rfl
theorem q326 : (Jvm.Cond.instanceMethod ({ cls := "PathFamiliesModel", name := "loadedWeight", desc := "()I" } : Jvm.MethodName)) ∈ lw_all := lw_g (lw_at lw_m2 62 rfl) rfl
theorem q327 : (Jvm.Cond.selects "PathFamiliesModel" ({ cls := "PathFamiliesModel", name := "loadedWeight", desc := "()I" } : Jvm.MethodName) ({ cls := "PathFamiliesModel", name := "loadedWeight", desc := "()I" } : Jvm.MethodName)) ∈ lw_all := lw_g (lw_at lw_m2 63 rfl) rfl
theorem q328 : (Jvm.Cond.code ({ cls := "PathFamiliesModel", name := "loadedWeight", desc := "()I" } : Jvm.MethodName) prog_3_method_23_code (3 : Nat) (Option.some Jvm.ClassFile.FieldType.int)) ∈ lw_all := lw_g (lw_at lw_m2 64 rfl) rfl
theorem q330 : (Jvm.Cond.instanceMethod ({ cls := "PathFamiliesModel", name := "rank", desc := "()I" } : Jvm.MethodName)) ∈ lw_all := lw_g (lw_at lw_m2 66 rfl) rfl
theorem q331 : (Jvm.Cond.selects "PathFamiliesModel" ({ cls := "PathFamiliesModel", name := "rank", desc := "()I" } : Jvm.MethodName) ({ cls := "PathFamiliesModel", name := "rank", desc := "()I" } : Jvm.MethodName)) ∈ lw_all := lw_g (lw_at lw_m2 67 rfl) rfl
theorem q332 : (Jvm.Cond.code ({ cls := "PathFamiliesModel", name := "rank", desc := "()I" } : Jvm.MethodName) prog_3_method_24_code (1 : Nat) (Option.some Jvm.ClassFile.FieldType.int)) ∈ lw_all := lw_g (lw_at lw_m2 68 rfl) rfl
theorem in_X1 : ∀ w ∈ wsX10, w ∈ lw_all := lw_in wsX10 [207, 209, 211, 213, 215, 217, 219, 221, 223, 225, 227, 229, 231, 233, 235] (by decide +kernel) (by decide +kernel)
end
section
set_option maxRecDepth 100000
/-! the law's own entry -/
abbrev cL_law : ByteArray := code
theorem dL_law_0 : decode cL_law 0 = .ok (.new 7, 3) := by decide +kernel
theorem dL_law_3 : decode cL_law 3 = .ok (.dup, 1) := by decide +kernel
theorem dL_law_4 : decode cL_law 4 = .ok (.invokespecial 9, 3) := by decide +kernel
theorem dL_law_7 : decode cL_law 7 = .ok (.astore_n 1, 1) := by decide +kernel
theorem dL_law_8 : decode cL_law 8 = .ok (.new 10, 3) := by decide +kernel
theorem dL_law_11 : decode cL_law 11 = .ok (.dup, 1) := by decide +kernel
theorem dL_law_12 : decode cL_law 12 = .ok (.invokespecial 12, 3) := by decide +kernel
theorem dL_law_15 : decode cL_law 15 = .ok (.astore_n 2, 1) := by decide +kernel
theorem dL_law_16 : decode cL_law 16 = .ok (.iconst 0, 1) := by decide +kernel
theorem dL_law_17 : decode cL_law 17 = .ok (.istore_n 3, 1) := by decide +kernel
theorem dL_law_18 : decode cL_law 18 = .ok (.iload_n 3, 1) := by decide +kernel
theorem dL_law_19 : decode cL_law 19 = .ok (.aload_n 0, 1) := by decide +kernel
theorem dL_law_20 : decode cL_law 20 = .ok (.arraylength, 1) := by decide +kernel
theorem dL_law_21 : decode cL_law 21 = .ok (.iconst 3, 1) := by decide +kernel
theorem dL_law_22 : decode cL_law 22 = .ok (.isub, 1) := by decide +kernel
theorem dL_law_23 : decode cL_law 23 = .ok (.if_icmp .gt 392, 3) := by decide +kernel
theorem dL_law_26 : decode cL_law 26 = .ok (.aload_n 0, 1) := by decide +kernel
theorem dL_law_27 : decode cL_law 27 = .ok (.iload_n 3, 1) := by decide +kernel
theorem dL_law_28 : decode cL_law 28 = .ok (.iaload, 1) := by decide +kernel
theorem dL_law_29 : decode cL_law 29 = .ok (.bipush 15, 2) := by decide +kernel
theorem dL_law_31 : decode cL_law 31 = .ok (.iand, 1) := by decide +kernel
theorem dL_law_32 : decode cL_law 32 = .ok (.tableswitch 377 0 12 #[68, 101, 134, 167, 200, 213, 226, 249, 282, 295, 318, 351, 364], 68) := by decide +kernel
theorem dL_law_100 : decode cL_law 100 = .ok (.aload_n 1, 1) := by decide +kernel
theorem dL_law_101 : decode cL_law 101 = .ok (.aload_n 0, 1) := by decide +kernel
theorem dL_law_102 : decode cL_law 102 = .ok (.iload_n 3, 1) := by decide +kernel
theorem dL_law_103 : decode cL_law 103 = .ok (.iconst 1, 1) := by decide +kernel
theorem dL_law_104 : decode cL_law 104 = .ok (.iadd, 1) := by decide +kernel
theorem dL_law_105 : decode cL_law 105 = .ok (.iaload, 1) := by decide +kernel
theorem dL_law_106 : decode cL_law 106 = .ok (.aload_n 0, 1) := by decide +kernel
theorem dL_law_107 : decode cL_law 107 = .ok (.iload_n 3, 1) := by decide +kernel
theorem dL_law_108 : decode cL_law 108 = .ok (.iconst 2, 1) := by decide +kernel
theorem dL_law_109 : decode cL_law 109 = .ok (.iadd, 1) := by decide +kernel
theorem dL_law_110 : decode cL_law 110 = .ok (.iaload, 1) := by decide +kernel
theorem dL_law_111 : decode cL_law 111 = .ok (.invokevirtual 13, 3) := by decide +kernel
theorem dL_law_114 : decode cL_law 114 = .ok (.aload_n 2, 1) := by decide +kernel
theorem dL_law_115 : decode cL_law 115 = .ok (.aload_n 0, 1) := by decide +kernel
theorem dL_law_116 : decode cL_law 116 = .ok (.iload_n 3, 1) := by decide +kernel
theorem dL_law_117 : decode cL_law 117 = .ok (.iconst 1, 1) := by decide +kernel
theorem dL_law_118 : decode cL_law 118 = .ok (.iadd, 1) := by decide +kernel
theorem dL_law_119 : decode cL_law 119 = .ok (.iaload, 1) := by decide +kernel
theorem dL_law_120 : decode cL_law 120 = .ok (.aload_n 0, 1) := by decide +kernel
theorem dL_law_121 : decode cL_law 121 = .ok (.iload_n 3, 1) := by decide +kernel
theorem dL_law_122 : decode cL_law 122 = .ok (.iconst 2, 1) := by decide +kernel
theorem dL_law_123 : decode cL_law 123 = .ok (.iadd, 1) := by decide +kernel
theorem dL_law_124 : decode cL_law 124 = .ok (.iaload, 1) := by decide +kernel
theorem dL_law_125 : decode cL_law 125 = .ok (.invokevirtual 17, 3) := by decide +kernel
theorem dL_law_128 : decode cL_law 128 = .ok (.if_icmp .eq 281, 3) := by decide +kernel
theorem dL_law_131 : decode cL_law 131 = .ok (.iconst 0, 1) := by decide +kernel
theorem dL_law_132 : decode cL_law 132 = .ok (.ireturn, 1) := by decide +kernel
theorem dL_law_133 : decode cL_law 133 = .ok (.aload_n 1, 1) := by decide +kernel
theorem dL_law_134 : decode cL_law 134 = .ok (.aload_n 0, 1) := by decide +kernel
theorem dL_law_135 : decode cL_law 135 = .ok (.iload_n 3, 1) := by decide +kernel
theorem dL_law_136 : decode cL_law 136 = .ok (.iconst 1, 1) := by decide +kernel
theorem dL_law_137 : decode cL_law 137 = .ok (.iadd, 1) := by decide +kernel
theorem dL_law_138 : decode cL_law 138 = .ok (.iaload, 1) := by decide +kernel
theorem dL_law_139 : decode cL_law 139 = .ok (.aload_n 0, 1) := by decide +kernel
theorem dL_law_140 : decode cL_law 140 = .ok (.iload_n 3, 1) := by decide +kernel
theorem dL_law_141 : decode cL_law 141 = .ok (.iconst 2, 1) := by decide +kernel
theorem dL_law_142 : decode cL_law 142 = .ok (.iadd, 1) := by decide +kernel
theorem dL_law_143 : decode cL_law 143 = .ok (.iaload, 1) := by decide +kernel
theorem dL_law_144 : decode cL_law 144 = .ok (.invokevirtual 18, 3) := by decide +kernel
theorem dL_law_147 : decode cL_law 147 = .ok (.aload_n 2, 1) := by decide +kernel
theorem dL_law_148 : decode cL_law 148 = .ok (.aload_n 0, 1) := by decide +kernel
theorem dL_law_149 : decode cL_law 149 = .ok (.iload_n 3, 1) := by decide +kernel
theorem dL_law_150 : decode cL_law 150 = .ok (.iconst 1, 1) := by decide +kernel
theorem dL_law_151 : decode cL_law 151 = .ok (.iadd, 1) := by decide +kernel
theorem dL_law_152 : decode cL_law 152 = .ok (.iaload, 1) := by decide +kernel
theorem dL_law_153 : decode cL_law 153 = .ok (.aload_n 0, 1) := by decide +kernel
theorem dL_law_154 : decode cL_law 154 = .ok (.iload_n 3, 1) := by decide +kernel
theorem dL_law_155 : decode cL_law 155 = .ok (.iconst 2, 1) := by decide +kernel
theorem dL_law_156 : decode cL_law 156 = .ok (.iadd, 1) := by decide +kernel
theorem dL_law_157 : decode cL_law 157 = .ok (.iaload, 1) := by decide +kernel
theorem dL_law_158 : decode cL_law 158 = .ok (.invokevirtual 21, 3) := by decide +kernel
theorem dL_law_161 : decode cL_law 161 = .ok (.if_icmp .eq 248, 3) := by decide +kernel
theorem dL_law_164 : decode cL_law 164 = .ok (.iconst 0, 1) := by decide +kernel
theorem dL_law_165 : decode cL_law 165 = .ok (.ireturn, 1) := by decide +kernel
theorem dL_law_166 : decode cL_law 166 = .ok (.aload_n 1, 1) := by decide +kernel
theorem dL_law_167 : decode cL_law 167 = .ok (.aload_n 0, 1) := by decide +kernel
theorem dL_law_168 : decode cL_law 168 = .ok (.iload_n 3, 1) := by decide +kernel
theorem dL_law_169 : decode cL_law 169 = .ok (.iconst 1, 1) := by decide +kernel
theorem dL_law_170 : decode cL_law 170 = .ok (.iadd, 1) := by decide +kernel
theorem dL_law_171 : decode cL_law 171 = .ok (.iaload, 1) := by decide +kernel
theorem dL_law_172 : decode cL_law 172 = .ok (.aload_n 0, 1) := by decide +kernel
theorem dL_law_173 : decode cL_law 173 = .ok (.iload_n 3, 1) := by decide +kernel
theorem dL_law_174 : decode cL_law 174 = .ok (.iconst 2, 1) := by decide +kernel
theorem dL_law_175 : decode cL_law 175 = .ok (.iadd, 1) := by decide +kernel
theorem dL_law_176 : decode cL_law 176 = .ok (.iaload, 1) := by decide +kernel
theorem dL_law_177 : decode cL_law 177 = .ok (.invokevirtual 22, 3) := by decide +kernel
theorem dL_law_180 : decode cL_law 180 = .ok (.aload_n 2, 1) := by decide +kernel
theorem dL_law_181 : decode cL_law 181 = .ok (.aload_n 0, 1) := by decide +kernel
theorem dL_law_182 : decode cL_law 182 = .ok (.iload_n 3, 1) := by decide +kernel
theorem dL_law_183 : decode cL_law 183 = .ok (.iconst 1, 1) := by decide +kernel
theorem dL_law_184 : decode cL_law 184 = .ok (.iadd, 1) := by decide +kernel
theorem dL_law_185 : decode cL_law 185 = .ok (.iaload, 1) := by decide +kernel
theorem dL_law_186 : decode cL_law 186 = .ok (.aload_n 0, 1) := by decide +kernel
theorem dL_law_187 : decode cL_law 187 = .ok (.iload_n 3, 1) := by decide +kernel
theorem dL_law_188 : decode cL_law 188 = .ok (.iconst 2, 1) := by decide +kernel
theorem dL_law_189 : decode cL_law 189 = .ok (.iadd, 1) := by decide +kernel
theorem dL_law_190 : decode cL_law 190 = .ok (.iaload, 1) := by decide +kernel
theorem dL_law_191 : decode cL_law 191 = .ok (.invokevirtual 25, 3) := by decide +kernel
theorem dL_law_194 : decode cL_law 194 = .ok (.if_icmp .eq 215, 3) := by decide +kernel
theorem dL_law_197 : decode cL_law 197 = .ok (.iconst 0, 1) := by decide +kernel
theorem dL_law_198 : decode cL_law 198 = .ok (.ireturn, 1) := by decide +kernel
theorem dL_law_199 : decode cL_law 199 = .ok (.aload_n 1, 1) := by decide +kernel
theorem dL_law_200 : decode cL_law 200 = .ok (.aload_n 0, 1) := by decide +kernel
theorem dL_law_201 : decode cL_law 201 = .ok (.iload_n 3, 1) := by decide +kernel
theorem dL_law_202 : decode cL_law 202 = .ok (.iconst 1, 1) := by decide +kernel
theorem dL_law_203 : decode cL_law 203 = .ok (.iadd, 1) := by decide +kernel
theorem dL_law_204 : decode cL_law 204 = .ok (.iaload, 1) := by decide +kernel
theorem dL_law_205 : decode cL_law 205 = .ok (.aload_n 0, 1) := by decide +kernel
theorem dL_law_206 : decode cL_law 206 = .ok (.iload_n 3, 1) := by decide +kernel
theorem dL_law_207 : decode cL_law 207 = .ok (.iconst 2, 1) := by decide +kernel
theorem dL_law_208 : decode cL_law 208 = .ok (.iadd, 1) := by decide +kernel
theorem dL_law_209 : decode cL_law 209 = .ok (.iaload, 1) := by decide +kernel
theorem dL_law_210 : decode cL_law 210 = .ok (.invokevirtual 26, 3) := by decide +kernel
theorem dL_law_213 : decode cL_law 213 = .ok (.aload_n 2, 1) := by decide +kernel
theorem dL_law_214 : decode cL_law 214 = .ok (.aload_n 0, 1) := by decide +kernel
theorem dL_law_215 : decode cL_law 215 = .ok (.iload_n 3, 1) := by decide +kernel
theorem dL_law_216 : decode cL_law 216 = .ok (.iconst 1, 1) := by decide +kernel
theorem dL_law_217 : decode cL_law 217 = .ok (.iadd, 1) := by decide +kernel
theorem dL_law_218 : decode cL_law 218 = .ok (.iaload, 1) := by decide +kernel
theorem dL_law_219 : decode cL_law 219 = .ok (.aload_n 0, 1) := by decide +kernel
theorem dL_law_220 : decode cL_law 220 = .ok (.iload_n 3, 1) := by decide +kernel
theorem dL_law_221 : decode cL_law 221 = .ok (.iconst 2, 1) := by decide +kernel
theorem dL_law_222 : decode cL_law 222 = .ok (.iadd, 1) := by decide +kernel
theorem dL_law_223 : decode cL_law 223 = .ok (.iaload, 1) := by decide +kernel
theorem dL_law_224 : decode cL_law 224 = .ok (.invokevirtual 29, 3) := by decide +kernel
theorem dL_law_227 : decode cL_law 227 = .ok (.if_icmp .eq 182, 3) := by decide +kernel
theorem dL_law_230 : decode cL_law 230 = .ok (.iconst 0, 1) := by decide +kernel
theorem dL_law_231 : decode cL_law 231 = .ok (.ireturn, 1) := by decide +kernel
theorem dL_law_232 : decode cL_law 232 = .ok (.aload_n 1, 1) := by decide +kernel
theorem dL_law_233 : decode cL_law 233 = .ok (.invokevirtual 30, 3) := by decide +kernel
theorem dL_law_236 : decode cL_law 236 = .ok (.aload_n 2, 1) := by decide +kernel
theorem dL_law_237 : decode cL_law 237 = .ok (.invokevirtual 34, 3) := by decide +kernel
theorem dL_law_240 : decode cL_law 240 = .ok (.if_icmp .eq 169, 3) := by decide +kernel
theorem dL_law_243 : decode cL_law 243 = .ok (.iconst 0, 1) := by decide +kernel
theorem dL_law_244 : decode cL_law 244 = .ok (.ireturn, 1) := by decide +kernel
theorem dL_law_245 : decode cL_law 245 = .ok (.aload_n 1, 1) := by decide +kernel
theorem dL_law_246 : decode cL_law 246 = .ok (.invokevirtual 35, 3) := by decide +kernel
theorem dL_law_249 : decode cL_law 249 = .ok (.aload_n 2, 1) := by decide +kernel
theorem dL_law_250 : decode cL_law 250 = .ok (.invokevirtual 38, 3) := by decide +kernel
theorem dL_law_253 : decode cL_law 253 = .ok (.if_icmp .eq 156, 3) := by decide +kernel
theorem dL_law_256 : decode cL_law 256 = .ok (.iconst 0, 1) := by decide +kernel
theorem dL_law_257 : decode cL_law 257 = .ok (.ireturn, 1) := by decide +kernel
theorem dL_law_258 : decode cL_law 258 = .ok (.aload_n 1, 1) := by decide +kernel
theorem dL_law_259 : decode cL_law 259 = .ok (.aload_n 0, 1) := by decide +kernel
theorem dL_law_260 : decode cL_law 260 = .ok (.iload_n 3, 1) := by decide +kernel
theorem dL_law_261 : decode cL_law 261 = .ok (.iconst 1, 1) := by decide +kernel
theorem dL_law_262 : decode cL_law 262 = .ok (.iadd, 1) := by decide +kernel
theorem dL_law_263 : decode cL_law 263 = .ok (.iaload, 1) := by decide +kernel
theorem dL_law_264 : decode cL_law 264 = .ok (.invokevirtual 39, 3) := by decide +kernel
theorem dL_law_267 : decode cL_law 267 = .ok (.aload_n 2, 1) := by decide +kernel
theorem dL_law_268 : decode cL_law 268 = .ok (.aload_n 0, 1) := by decide +kernel
theorem dL_law_269 : decode cL_law 269 = .ok (.iload_n 3, 1) := by decide +kernel
theorem dL_law_270 : decode cL_law 270 = .ok (.iconst 1, 1) := by decide +kernel
theorem dL_law_271 : decode cL_law 271 = .ok (.iadd, 1) := by decide +kernel
theorem dL_law_272 : decode cL_law 272 = .ok (.iaload, 1) := by decide +kernel
theorem dL_law_273 : decode cL_law 273 = .ok (.invokevirtual 43, 3) := by decide +kernel
theorem dL_law_276 : decode cL_law 276 = .ok (.if_icmp .eq 133, 3) := by decide +kernel
theorem dL_law_279 : decode cL_law 279 = .ok (.iconst 0, 1) := by decide +kernel
theorem dL_law_280 : decode cL_law 280 = .ok (.ireturn, 1) := by decide +kernel
theorem dL_law_281 : decode cL_law 281 = .ok (.aload_n 1, 1) := by decide +kernel
theorem dL_law_282 : decode cL_law 282 = .ok (.aload_n 0, 1) := by decide +kernel
theorem dL_law_283 : decode cL_law 283 = .ok (.iload_n 3, 1) := by decide +kernel
theorem dL_law_284 : decode cL_law 284 = .ok (.iconst 1, 1) := by decide +kernel
theorem dL_law_285 : decode cL_law 285 = .ok (.iadd, 1) := by decide +kernel
theorem dL_law_286 : decode cL_law 286 = .ok (.iaload, 1) := by decide +kernel
theorem dL_law_287 : decode cL_law 287 = .ok (.aload_n 0, 1) := by decide +kernel
theorem dL_law_288 : decode cL_law 288 = .ok (.iload_n 3, 1) := by decide +kernel
theorem dL_law_289 : decode cL_law 289 = .ok (.iconst 2, 1) := by decide +kernel
theorem dL_law_290 : decode cL_law 290 = .ok (.iadd, 1) := by decide +kernel
theorem dL_law_291 : decode cL_law 291 = .ok (.iaload, 1) := by decide +kernel
theorem dL_law_292 : decode cL_law 292 = .ok (.invokevirtual 44, 3) := by decide +kernel
theorem dL_law_295 : decode cL_law 295 = .ok (.aload_n 2, 1) := by decide +kernel
theorem dL_law_296 : decode cL_law 296 = .ok (.aload_n 0, 1) := by decide +kernel
theorem dL_law_297 : decode cL_law 297 = .ok (.iload_n 3, 1) := by decide +kernel
theorem dL_law_298 : decode cL_law 298 = .ok (.iconst 1, 1) := by decide +kernel
theorem dL_law_299 : decode cL_law 299 = .ok (.iadd, 1) := by decide +kernel
theorem dL_law_300 : decode cL_law 300 = .ok (.iaload, 1) := by decide +kernel
theorem dL_law_301 : decode cL_law 301 = .ok (.aload_n 0, 1) := by decide +kernel
theorem dL_law_302 : decode cL_law 302 = .ok (.iload_n 3, 1) := by decide +kernel
theorem dL_law_303 : decode cL_law 303 = .ok (.iconst 2, 1) := by decide +kernel
theorem dL_law_304 : decode cL_law 304 = .ok (.iadd, 1) := by decide +kernel
theorem dL_law_305 : decode cL_law 305 = .ok (.iaload, 1) := by decide +kernel
theorem dL_law_306 : decode cL_law 306 = .ok (.invokevirtual 47, 3) := by decide +kernel
theorem dL_law_309 : decode cL_law 309 = .ok (.if_icmp .eq 100, 3) := by decide +kernel
theorem dL_law_312 : decode cL_law 312 = .ok (.iconst 0, 1) := by decide +kernel
theorem dL_law_313 : decode cL_law 313 = .ok (.ireturn, 1) := by decide +kernel
theorem dL_law_314 : decode cL_law 314 = .ok (.aload_n 1, 1) := by decide +kernel
theorem dL_law_315 : decode cL_law 315 = .ok (.invokevirtual 48, 3) := by decide +kernel
theorem dL_law_318 : decode cL_law 318 = .ok (.aload_n 2, 1) := by decide +kernel
theorem dL_law_319 : decode cL_law 319 = .ok (.invokevirtual 51, 3) := by decide +kernel
theorem dL_law_322 : decode cL_law 322 = .ok (.if_icmp .eq 87, 3) := by decide +kernel
theorem dL_law_325 : decode cL_law 325 = .ok (.iconst 0, 1) := by decide +kernel
theorem dL_law_326 : decode cL_law 326 = .ok (.ireturn, 1) := by decide +kernel
theorem dL_law_327 : decode cL_law 327 = .ok (.aload_n 1, 1) := by decide +kernel
theorem dL_law_328 : decode cL_law 328 = .ok (.aload_n 0, 1) := by decide +kernel
theorem dL_law_329 : decode cL_law 329 = .ok (.iload_n 3, 1) := by decide +kernel
theorem dL_law_330 : decode cL_law 330 = .ok (.iconst 1, 1) := by decide +kernel
theorem dL_law_331 : decode cL_law 331 = .ok (.iadd, 1) := by decide +kernel
theorem dL_law_332 : decode cL_law 332 = .ok (.iaload, 1) := by decide +kernel
theorem dL_law_333 : decode cL_law 333 = .ok (.invokevirtual 52, 3) := by decide +kernel
theorem dL_law_336 : decode cL_law 336 = .ok (.aload_n 2, 1) := by decide +kernel
theorem dL_law_337 : decode cL_law 337 = .ok (.aload_n 0, 1) := by decide +kernel
theorem dL_law_338 : decode cL_law 338 = .ok (.iload_n 3, 1) := by decide +kernel
theorem dL_law_339 : decode cL_law 339 = .ok (.iconst 1, 1) := by decide +kernel
theorem dL_law_340 : decode cL_law 340 = .ok (.iadd, 1) := by decide +kernel
theorem dL_law_341 : decode cL_law 341 = .ok (.iaload, 1) := by decide +kernel
theorem dL_law_342 : decode cL_law 342 = .ok (.invokevirtual 55, 3) := by decide +kernel
theorem dL_law_345 : decode cL_law 345 = .ok (.if_icmp .eq 64, 3) := by decide +kernel
theorem dL_law_348 : decode cL_law 348 = .ok (.iconst 0, 1) := by decide +kernel
theorem dL_law_349 : decode cL_law 349 = .ok (.ireturn, 1) := by decide +kernel
theorem dL_law_350 : decode cL_law 350 = .ok (.aload_n 1, 1) := by decide +kernel
theorem dL_law_351 : decode cL_law 351 = .ok (.aload_n 0, 1) := by decide +kernel
theorem dL_law_352 : decode cL_law 352 = .ok (.iload_n 3, 1) := by decide +kernel
theorem dL_law_353 : decode cL_law 353 = .ok (.iconst 1, 1) := by decide +kernel
theorem dL_law_354 : decode cL_law 354 = .ok (.iadd, 1) := by decide +kernel
theorem dL_law_355 : decode cL_law 355 = .ok (.iaload, 1) := by decide +kernel
theorem dL_law_356 : decode cL_law 356 = .ok (.aload_n 0, 1) := by decide +kernel
theorem dL_law_357 : decode cL_law 357 = .ok (.iload_n 3, 1) := by decide +kernel
theorem dL_law_358 : decode cL_law 358 = .ok (.iconst 2, 1) := by decide +kernel
theorem dL_law_359 : decode cL_law 359 = .ok (.iadd, 1) := by decide +kernel
theorem dL_law_360 : decode cL_law 360 = .ok (.iaload, 1) := by decide +kernel
theorem dL_law_361 : decode cL_law 361 = .ok (.invokevirtual 56, 3) := by decide +kernel
theorem dL_law_364 : decode cL_law 364 = .ok (.aload_n 2, 1) := by decide +kernel
theorem dL_law_365 : decode cL_law 365 = .ok (.aload_n 0, 1) := by decide +kernel
theorem dL_law_366 : decode cL_law 366 = .ok (.iload_n 3, 1) := by decide +kernel
theorem dL_law_367 : decode cL_law 367 = .ok (.iconst 1, 1) := by decide +kernel
theorem dL_law_368 : decode cL_law 368 = .ok (.iadd, 1) := by decide +kernel
theorem dL_law_369 : decode cL_law 369 = .ok (.iaload, 1) := by decide +kernel
theorem dL_law_370 : decode cL_law 370 = .ok (.aload_n 0, 1) := by decide +kernel
theorem dL_law_371 : decode cL_law 371 = .ok (.iload_n 3, 1) := by decide +kernel
theorem dL_law_372 : decode cL_law 372 = .ok (.iconst 2, 1) := by decide +kernel
theorem dL_law_373 : decode cL_law 373 = .ok (.iadd, 1) := by decide +kernel
theorem dL_law_374 : decode cL_law 374 = .ok (.iaload, 1) := by decide +kernel
theorem dL_law_375 : decode cL_law 375 = .ok (.invokevirtual 59, 3) := by decide +kernel
theorem dL_law_378 : decode cL_law 378 = .ok (.if_icmp .eq 31, 3) := by decide +kernel
theorem dL_law_381 : decode cL_law 381 = .ok (.iconst 0, 1) := by decide +kernel
theorem dL_law_382 : decode cL_law 382 = .ok (.ireturn, 1) := by decide +kernel
theorem dL_law_383 : decode cL_law 383 = .ok (.aload_n 1, 1) := by decide +kernel
theorem dL_law_384 : decode cL_law 384 = .ok (.invokevirtual 60, 3) := by decide +kernel
theorem dL_law_387 : decode cL_law 387 = .ok (.aload_n 2, 1) := by decide +kernel
theorem dL_law_388 : decode cL_law 388 = .ok (.invokevirtual 63, 3) := by decide +kernel
theorem dL_law_391 : decode cL_law 391 = .ok (.if_icmp .eq 18, 3) := by decide +kernel
theorem dL_law_394 : decode cL_law 394 = .ok (.iconst 0, 1) := by decide +kernel
theorem dL_law_395 : decode cL_law 395 = .ok (.ireturn, 1) := by decide +kernel
theorem dL_law_396 : decode cL_law 396 = .ok (.aload_n 1, 1) := by decide +kernel
theorem dL_law_397 : decode cL_law 397 = .ok (.invokevirtual 64, 3) := by decide +kernel
theorem dL_law_400 : decode cL_law 400 = .ok (.aload_n 2, 1) := by decide +kernel
theorem dL_law_401 : decode cL_law 401 = .ok (.invokevirtual 67, 3) := by decide +kernel
theorem dL_law_404 : decode cL_law 404 = .ok (.if_icmp .eq 5, 3) := by decide +kernel
theorem dL_law_407 : decode cL_law 407 = .ok (.iconst 0, 1) := by decide +kernel
theorem dL_law_408 : decode cL_law 408 = .ok (.ireturn, 1) := by decide +kernel
theorem dL_law_409 : decode cL_law 409 = .ok (.iinc 3 3, 3) := by decide +kernel
theorem dL_law_412 : decode cL_law 412 = .ok (.goto (-394), 3) := by decide +kernel
theorem dL_law_415 : decode cL_law 415 = .ok (.iconst 1, 1) := by decide +kernel
theorem dL_law_416 : decode cL_law 416 = .ok (.ireturn, 1) := by decide +kernel
end
section
/-! PURE 1: sums over the paths of the board (cell k: column k / 5, row k % 5; steps k + 5 and k + 1), by a weight a of each cell -/
def pf_S (f : Nat → Int32) (k : Nat) : Int32 := (if 0 < k % 5 then f (k - 1) else 0) + (if 5 ≤ k then f (k - 5) else 0)
def pf_W (a : Nat → Int32) (s : Nat) (k : Nat) : Int32 := a k * ((if k = s then 1 else 0) + ((if _h : 0 < k % 5 then pf_W a s (k - 1) else 0) + (if _h : 5 ≤ k then pf_W a s (k - 5) else 0)))
termination_by k
decreasing_by
  · omega
  · omega
theorem pf_W_eq (a : Nat → Int32) (s k : Nat) : pf_W a s k = a k * ((if k = s then 1 else 0) + pf_S (pf_W a s) k) := by
  rw [pf_W]
  simp only [pf_S, dite_eq_ite]
theorem pf_S_congr {f g : Nat → Int32} {k : Nat} (h : ∀ j, j < k → f j = g j) : pf_S f k = pf_S g k := by
  have h1 : 0 < k % 5 → f (k - 1) = g (k - 1) := fun c => h _ (by omega)
  have h2 : 5 ≤ k → f (k - 5) = g (k - 5) := fun c => h _ (by omega)
  unfold pf_S
  by_cases c1 : 0 < k % 5
  · rw [if_pos c1, if_pos c1, h1 c1]
    by_cases c2 : 5 ≤ k
    · rw [if_pos c2, if_pos c2, h2 c2]
    · rw [if_neg c2, if_neg c2]
  · rw [if_neg c1, if_neg c1]
    by_cases c2 : 5 ≤ k
    · rw [if_pos c2, if_pos c2, h2 c2]
    · rw [if_neg c2, if_neg c2]
theorem pf_S_lin {f g h : Nat → Int32} {c : Int32} {k : Nat} (e : ∀ j, j < k → f j = g j + c * h j) : pf_S f k = pf_S g k + c * pf_S h k := by
  rw [pf_S_congr e]
  unfold pf_S
  by_cases c1 : 0 < k % 5
  · rw [if_pos c1, if_pos c1, if_pos c1]
    by_cases c2 : 5 ≤ k
    · rw [if_pos c2, if_pos c2, if_pos c2]
      grind
    · rw [if_neg c2, if_neg c2, if_neg c2]
      grind
  · rw [if_neg c1, if_neg c1, if_neg c1]
    by_cases c2 : 5 ≤ k
    · rw [if_pos c2, if_pos c2, if_pos c2]
      grind
    · rw [if_neg c2, if_neg c2, if_neg c2]
      grind
theorem pf_S_0 {f : Nat → Int32} {k : Nat} (e : ∀ j, j < k → f j = 0) : pf_S f k = 0 := by
  rw [pf_S_congr (g := fun _ => 0) e]
  unfold pf_S
  by_cases c1 : 0 < k % 5 <;> by_cases c2 : 5 ≤ k <;> simp [c1, c2]
theorem pf_W_congr {a b : Nat → Int32} {s : Nat} : ∀ k, (∀ j, j ≤ k → a j = b j) → pf_W a s k = pf_W b s k := by
  intro k
  induction k using Nat.strongRecOn with
  | ind k ih =>
    intro h
    rw [pf_W_eq a, pf_W_eq b, h k (Nat.le_refl k), pf_S_congr (fun j hj => ih j hj (fun i hi => h i (by omega)))]
theorem pf_W_lt {a : Nat → Int32} {s : Nat} : ∀ k, k < s → pf_W a s k = 0 := by
  intro k
  induction k using Nat.strongRecOn with
  | ind k ih =>
    intro h
    rw [pf_W_eq, if_neg (by omega), pf_S_0 (fun j hj => ih j hj (by omega))]
    simp
theorem pf_W_self {a : Nat → Int32} {s : Nat} : pf_W a s s = a s := by
  rw [pf_W_eq, if_pos rfl, pf_S_0 (fun j hj => pf_W_lt j hj)]
  simp
theorem pf_W_gt {a : Nat → Int32} {s k : Nat} (h : s < k) : pf_W a s k = a k * pf_S (pf_W a s) k := by
  rw [pf_W_eq, if_neg (by omega)]
  simp
/-- a path that may go through u: those that do are paths to u, then from u on -/
theorem pf_W_cut (a : Nat → Int32) (s u : Nat) : ∀ k, pf_W a s k = pf_W (upd a u 0) s k + ((if u = s then 1 else 0) + pf_S (pf_W a s) u) * pf_W a u k := by
  intro k
  induction k using Nat.strongRecOn with
  | ind k ih =>
    rcases Nat.lt_trichotomy k u with h | h | h
    · rw [pf_W_lt (s := u) k h, pf_W_congr (a := a) (b := upd a u 0) k (fun j hj => (pk_un (by omega)).symm)]
      simp
    · subst h
      rw [pf_W_self, pf_W_eq (upd a k 0), pk_us, pf_W_eq a s k]
      grind
    · rw [pf_W_gt (s := u) h, pf_W_eq a s k, pf_W_eq (upd a u 0) s k, pk_un (by omega), pf_S_lin ih]
      grind
theorem pf_S_one {u k : Nat} : pf_S (fun j => if j = u then (1 : Int32) else 0) k = (if k = u + 5 then 1 else 0) + (if u % 5 < 4 then (if k = u + 1 then 1 else 0) else 0) := by
  show (if 0 < k % 5 then (if k - 1 = u then (1 : Int32) else 0) else 0) + (if 5 ≤ k then (if k - 5 = u then (1 : Int32) else 0) else 0) = _
  by_cases c1 : 0 < k % 5
  · rw [if_pos c1]
    by_cases c2 : 5 ≤ k
    · rw [if_pos c2]
      by_cases e1 : k = u + 1
      · rw [if_pos (by omega), if_neg (by omega), if_neg (by omega), if_pos (by omega), if_pos e1]; rfl
      · by_cases e5 : k = u + 5
        · rw [if_neg (by omega), if_pos (by omega), if_pos e5, if_neg e1, ite_self]; rfl
        · rw [if_neg (by omega), if_neg (by omega), if_neg e5, if_neg e1, ite_self]
    · rw [if_neg c2, if_neg (show ¬ k = u + 5 by omega)]
      by_cases e1 : k = u + 1
      · rw [if_pos (by omega), if_pos (by omega), if_pos e1]; rfl
      · rw [if_neg (by omega), if_neg e1, ite_self]
  · rw [if_neg c1]
    have h0 : (if u % 5 < 4 then (if k = u + 1 then (1 : Int32) else 0) else 0) = 0 := by
      by_cases h4 : u % 5 < 4
      · rw [if_pos h4, if_neg (by omega)]
      · rw [if_neg h4]
    rw [h0]
    by_cases c2 : 5 ≤ k
    · rw [if_pos c2]
      by_cases e5 : k = u + 5
      · rw [if_pos (by omega), if_pos e5]; rfl
      · rw [if_neg (by omega), if_neg e5]
    · rw [if_neg c2, if_neg (by omega)]
/-- a path from u: its first step -/
theorem pf_W_first (a : Nat → Int32) (u : Nat) : ∀ k, pf_W a u k = a u * ((if k = u then 1 else 0) + (pf_W (upd a u 0) (u + 5) k + (if u % 5 < 4 then pf_W (upd a u 0) (u + 1) k else 0))) := by
  intro k
  induction k using Nat.strongRecOn with
  | ind k ih =>
    rcases Nat.lt_trichotomy k u with h | h | h
    · rw [pf_W_lt (s := u) k h, if_neg (by omega), pf_W_lt (s := u + 5) k (by omega), pf_W_lt (s := u + 1) k (by omega), ite_self]
      simp
    · subst h
      rw [pf_W_self, if_pos rfl, pf_W_lt (s := k + 5) k (by omega), pf_W_lt (s := k + 1) k (by omega), ite_self]
      simp
    · have e1 : pf_S (pf_W a u) k = a u * (pf_S (fun j => if j = u then (1 : Int32) else 0) k + (pf_S (pf_W (upd a u 0) (u + 5)) k + (if u % 5 < 4 then pf_S (pf_W (upd a u 0) (u + 1)) k else 0))) := by
        by_cases h4 : u % 5 < 4
        · have f1 : ∀ j, j < k → pf_W a u j = (fun j => a u * (if j = u then (1 : Int32) else 0) + a u * pf_W (upd a u 0) (u + 5) j) j + a u * pf_W (upd a u 0) (u + 1) j := by
            intro j hj
            rw [ih j hj, if_pos h4]
            grind
          have f2 : ∀ j, j < k → (fun j => a u * (if j = u then (1 : Int32) else 0) + a u * pf_W (upd a u 0) (u + 5) j) j = (fun j => 0 + a u * (if j = u then (1 : Int32) else 0)) j + a u * pf_W (upd a u 0) (u + 5) j := by
            intro j hj
            grind
          have f3 : ∀ j, j < k → (fun j => 0 + a u * (if j = u then (1 : Int32) else 0)) j = (fun _ => (0 : Int32)) j + a u * (fun j => if j = u then (1 : Int32) else 0) j := fun j hj => rfl
          rw [pf_S_lin f1, pf_S_lin f2, pf_S_lin f3, pf_S_0 (f := fun _ => (0 : Int32)) (fun _ _ => rfl), if_pos h4]
          grind
        · have f2 : ∀ j, j < k → pf_W a u j = (fun j => 0 + a u * (if j = u then (1 : Int32) else 0)) j + a u * pf_W (upd a u 0) (u + 5) j := by
            intro j hj
            rw [ih j hj, if_neg h4]
            grind
          have f3 : ∀ j, j < k → (fun j => 0 + a u * (if j = u then (1 : Int32) else 0)) j = (fun _ => (0 : Int32)) j + a u * (fun j => if j = u then (1 : Int32) else 0) j := fun j hj => rfl
          rw [pf_S_lin f2, pf_S_lin f3, pf_S_0 (f := fun _ => (0 : Int32)) (fun _ _ => rfl), if_neg h4]
          grind
      rw [pf_W_gt h, e1, pf_S_one, if_neg (show ¬ k = u by omega), pf_W_eq (upd a u 0) (u + 5) k, pf_W_eq (upd a u 0) (u + 1) k, pk_un (by omega)]
      clear ih e1
      generalize (if k = u + 5 then (1 : Int32) else 0) = p5
      generalize (if k = u + 1 then (1 : Int32) else 0) = p1
      generalize pf_S (pf_W (upd a u 0) (u + 5)) k = s5
      generalize pf_S (pf_W (upd a u 0) (u + 1)) k = s1
      generalize a u = au
      generalize a k = ak
      by_cases h4 : u % 5 < 4
      · rw [if_pos h4, if_pos h4, if_pos h4]
        clear h4 h
        grind
      · rw [if_neg h4, if_neg h4, if_neg h4]
        clear h4 h
        grind
/-- no path goes up -/
theorem pf_W_up {a : Nat → Int32} {s : Nat} : ∀ k, k % 5 < s % 5 → pf_W a s k = 0 := by
  intro k
  induction k using Nat.strongRecOn with
  | ind k ih =>
    intro h
    have h1 : (if 0 < k % 5 then pf_W a s (k - 1) else 0) = 0 := by
      by_cases c : 0 < k % 5
      · rw [if_pos c, ih (k - 1) (by omega) (by omega)]
      · rw [if_neg c]
    have h2 : (if 5 ≤ k then pf_W a s (k - 5) else 0) = 0 := by
      by_cases c : 5 ≤ k
      · rw [if_pos c, ih (k - 5) (by omega) (by omega)]
      · rw [if_neg c]
    rw [pf_W_eq, if_neg (by intro e; rw [e] at h; omega)]
    unfold pf_S
    rw [h1, h2]
    simp
/-- a set of cells that is closed to the paths from s -/
theorem pf_W_wall {a : Nat → Int32} {s : Nat} {Up : Nat → Prop} (hU : ∀ u, u < 30 → Up u → a u = 0 ∨ (u ≠ s ∧ (0 < u % 5 → Up (u - 1)) ∧ (5 ≤ u → Up (u - 5)))) : ∀ k, k < 30 → Up k → pf_W a s k = 0 := by
  intro k
  induction k using Nat.strongRecOn with
  | ind k ih =>
    intro hk h
    rcases hU k hk h with h0 | ⟨h0, h1, h2⟩
    · rw [pf_W_eq, h0]
      simp
    · have e1 : (if 0 < k % 5 then pf_W a s (k - 1) else 0) = 0 := by
        by_cases c : 0 < k % 5
        · rw [if_pos c, ih (k - 1) (by omega) (by omega) (h1 c)]
        · rw [if_neg c]
      have e2 : (if 5 ≤ k then pf_W a s (k - 5) else 0) = 0 := by
        by_cases c : 5 ≤ k
        · rw [if_pos c, ih (k - 5) (by omega) (by omega) (h2 c)]
        · rw [if_neg c]
      rw [pf_W_eq, if_neg h0]
      unfold pf_S
      rw [e1, e2]
      simp
end
section
/-! PURE 2: determinants of four rows, and how the determinant of sums over paths takes one step of one path -/
def pf_two (m : Nat → Nat → Int32) (r s c d : Nat) : Int32 := m r c * m s d - m r d * m s c
def pf_det (m : Nat → Nat → Int32) : Int32 := pf_two m 0 1 0 1 * pf_two m 2 3 2 3 - pf_two m 0 1 0 2 * pf_two m 2 3 1 3 + pf_two m 0 1 0 3 * pf_two m 2 3 1 2 + pf_two m 0 1 1 2 * pf_two m 2 3 0 3 - pf_two m 0 1 1 3 * pf_two m 2 3 0 2 + pf_two m 0 1 2 3 * pf_two m 2 3 0 1
def pf_d3 (m : Nat → Nat → Int32) : Int32 := m 1 1 * pf_two m 2 3 2 3 - m 1 2 * pf_two m 2 3 1 3 + m 1 3 * pf_two m 2 3 1 2
def pf_row (m : Nat → Nat → Int32) (i : Nat) (r : Nat → Int32) : Nat → Nat → Int32 := fun a b => if a = i then r b else m a b
theorem pf_row_s {m : Nat → Nat → Int32} {i : Nat} {r : Nat → Int32} {b : Nat} : pf_row m i r i b = r b := if_pos rfl
theorem pf_row_n {m : Nat → Nat → Int32} {i : Nat} {r : Nat → Int32} {a b : Nat} (h : ¬ a = i) : pf_row m i r a b = m a b := if_neg h
theorem pf_lt4 {i : Nat} (h : i < 4) : i = 0 ∨ i = 1 ∨ i = 2 ∨ i = 3 := by omega
theorem pf_det_congr {m m' : Nat → Nat → Int32} (h : ∀ a, a < 4 → ∀ b, b < 4 → m a b = m' a b) : pf_det m = pf_det m' := by
  unfold pf_det pf_two
  rw [h 0 (by decide) 0 (by decide), h 0 (by decide) 1 (by decide), h 0 (by decide) 2 (by decide), h 0 (by decide) 3 (by decide), h 1 (by decide) 0 (by decide), h 1 (by decide) 1 (by decide), h 1 (by decide) 2 (by decide), h 1 (by decide) 3 (by decide), h 2 (by decide) 0 (by decide), h 2 (by decide) 1 (by decide), h 2 (by decide) 2 (by decide), h 2 (by decide) 3 (by decide), h 3 (by decide) 0 (by decide), h 3 (by decide) 1 (by decide), h 3 (by decide) 2 (by decide), h 3 (by decide) 3 (by decide)]
set_option maxHeartbeats 4000000 in
theorem pf_det_add {m : Nat → Nat → Int32} {r r' : Nat → Int32} {i : Nat} (hi : i < 4) : pf_det (pf_row m i (fun b => r b + r' b)) = pf_det (pf_row m i r) + pf_det (pf_row m i r') := by
  rcases pf_lt4 hi with rfl | rfl | rfl | rfl <;> (simp only [pf_det, pf_two, pf_row, reduceIte, Nat.reduceEqDiff, Nat.succ_ne_self, Nat.one_ne_zero, Nat.zero_ne_one]; grind)
set_option maxHeartbeats 4000000 in
theorem pf_det_mul {m : Nat → Nat → Int32} {r : Nat → Int32} {c : Int32} {i : Nat} (hi : i < 4) : pf_det (pf_row m i (fun b => c * r b)) = c * pf_det (pf_row m i r) := by
  rcases pf_lt4 hi with rfl | rfl | rfl | rfl <;> (simp only [pf_det, pf_two, pf_row, reduceIte, Nat.reduceEqDiff, Nat.succ_ne_self, Nat.one_ne_zero, Nat.zero_ne_one]; grind)
set_option maxHeartbeats 4000000 in
/-- multiples of row i, added to the others, change nothing -/
theorem pf_det_ops {m : Nat → Nat → Int32} {r : Nat → Int32} {c : Nat → Int32} {i : Nat} (hi : i < 4) : pf_det (fun a b => if a = i then r b else m a b + c a * r b) = pf_det (pf_row m i r) := by
  rcases pf_lt4 hi with rfl | rfl | rfl | rfl <;> (simp only [pf_det, pf_two, pf_row, reduceIte, Nat.reduceEqDiff, Nat.succ_ne_self, Nat.one_ne_zero, Nat.zero_ne_one]; grind)
theorem pf_det_zcol {m : Nat → Nat → Int32} {j : Nat} (hj : j < 4) (h : ∀ a, a < 4 → m a j = 0) : pf_det m = 0 := by
  have h0 := h 0 (by decide)
  have h1 := h 1 (by decide)
  have h2 := h 2 (by decide)
  have h3 := h 3 (by decide)
  rcases pf_lt4 hj with rfl | rfl | rfl | rfl <;> (simp only [pf_det, pf_two, h0, h1, h2, h3]; grind)
theorem pf_det_zrow {m : Nat → Nat → Int32} {i : Nat} (hi : i < 4) (h : ∀ b, b < 4 → m i b = 0) : pf_det m = 0 := by
  have h0 := h 0 (by decide)
  have h1 := h 1 (by decide)
  have h2 := h 2 (by decide)
  have h3 := h 3 (by decide)
  rcases pf_lt4 hi with rfl | rfl | rfl | rfl <;> (simp only [pf_det, pf_two, h0, h1, h2, h3]; grind)
set_option maxHeartbeats 4000000 in
theorem pf_det_unit {m : Nat → Nat → Int32} {i : Nat} (hi : i < 4) (h : ∀ b, b < 4 → m i b = if b = i then 1 else 0) : pf_det m = pf_det (fun a b => if b = i then (if a = i then 1 else 0) else m a b) := by
  have h0 := h 0 (by decide)
  have h1 := h 1 (by decide)
  have h2 := h 2 (by decide)
  have h3 := h 3 (by decide)
  rcases pf_lt4 hi with rfl | rfl | rfl | rfl <;> (simp only [pf_det, pf_two, h0, h1, h2, h3, reduceIte, Nat.reduceEqDiff, Nat.succ_ne_self, Nat.one_ne_zero, Nat.zero_ne_one]; grind)
theorem pf_det_id : pf_det (fun a b => if a = b then 1 else 0) = 1 := by
  simp [pf_det, pf_two]
/-- the last three rows alone -/
theorem pf_det_d3 {m : Nat → Nat → Int32} (h : ∀ b, b < 4 → m 0 b = if b = 0 then 1 else 0) (hc : ∀ a, a < 4 → m a 0 = if a = 0 then 1 else 0) : pf_det m = pf_d3 m := by
  have h0 : m 0 0 = 1 := h 0 (by decide)
  have h1 : m 0 1 = 0 := h 1 (by decide)
  have h2 : m 0 2 = 0 := h 2 (by decide)
  have h3 : m 0 3 = 0 := h 3 (by decide)
  have c1 : m 1 0 = 0 := hc 1 (by decide)
  have c2 : m 2 0 = 0 := hc 2 (by decide)
  have c3 : m 3 0 = 0 := hc 3 (by decide)
  simp only [pf_det, pf_d3, pf_two, h0, h1, h2, h3, c1, c2, c3]
  grind
/-- the matrix with the rows and columns from i to n - 1 alive, the others' ones -/
def pf_M (n : Nat) (go : Nat → Nat) (i : Nat) (src : Nat → Nat) (a : Nat → Int32) : Nat → Nat → Int32 := fun r b => if (i ≤ r ∧ r < n) ∧ (i ≤ b ∧ b < n) then pf_W a (src r) (go b) else if r = b then 1 else 0
theorem pf_M_on {n : Nat} {go : Nat → Nat} {i : Nat} {src : Nat → Nat} {a : Nat → Int32} {r b : Nat} (h : (i ≤ r ∧ r < n) ∧ (i ≤ b ∧ b < n)) : pf_M n go i src a r b = pf_W a (src r) (go b) := if_pos h
theorem pf_M_off {n : Nat} {go : Nat → Nat} {i : Nat} {src : Nat → Nat} {a : Nat → Int32} {r b : Nat} (h : ¬ ((i ≤ r ∧ r < n) ∧ (i ≤ b ∧ b < n))) : pf_M n go i src a r b = if r = b then 1 else 0 := if_neg h
def pf_src (st : Nat → Nat) (i u : Nat) : Nat → Nat := fun k => if k = i then u else st k
theorem pf_M_congr {n : Nat} {go : Nat → Nat} {i : Nat} {src src' : Nat → Nat} {a a' : Nat → Int32} (hgo : ∀ k, k < n → go k < 30) (hs : ∀ k, i ≤ k → k < n → src k = src' k) (ha : ∀ k, k < 30 → a k = a' k) : pf_M n go i src a = pf_M n go i src' a' := by
  funext r b
  unfold pf_M
  by_cases h : (i ≤ r ∧ r < n) ∧ (i ≤ b ∧ b < n)
  · rw [if_pos h, if_pos h, hs r h.1.1 h.1.2]
    have := hgo b h.2.2
    exact pf_W_congr _ (fun j hj => ha j (by omega))
  · rw [if_neg h, if_neg h]
/-- one step of path i, at u -/
theorem pf_det_step {n : Nat} {go st : Nat → Nat} {i u : Nat} {a : Nat → Int32} (hi : i < n) (hn : n ≤ 4) :
    pf_det (pf_M n go i (pf_src st i u) a) = a u * (pf_det (pf_row (pf_M n go i st (upd a u 0)) i (fun b => if i ≤ b ∧ b < n then (if go b = u then 1 else 0) else 0)) + (pf_det (pf_M n go i (pf_src st i (u + 5)) (upd a u 0)) + (if u % 5 < 4 then pf_det (pf_M n go i (pf_src st i (u + 1)) (upd a u 0)) else 0))) := by
  have hi4 : i < 4 := by omega
  have key : ∀ v : Nat, pf_M n go i (pf_src st i v) (upd a u 0) = pf_row (pf_M n go i st (upd a u 0)) i (fun b => if i ≤ b ∧ b < n then pf_W (upd a u 0) v (go b) else 0) := by
    intro v
    funext r b
    show pf_M n go i (pf_src st i v) (upd a u 0) r b = if r = i then (if i ≤ b ∧ b < n then pf_W (upd a u 0) v (go b) else 0) else pf_M n go i st (upd a u 0) r b
    by_cases hr : r = i
    · subst hr
      rw [if_pos rfl]
      by_cases hb : r ≤ b ∧ b < n
      · rw [pf_M_on ⟨⟨Nat.le_refl r, hi⟩, hb⟩, if_pos hb, show pf_src st r v r = v from if_pos rfl]
      · rw [pf_M_off (fun q => hb q.2), if_neg hb, if_neg (by omega)]
    · rw [if_neg hr]
      by_cases hc : (i ≤ r ∧ r < n) ∧ (i ≤ b ∧ b < n)
      · rw [pf_M_on hc, pf_M_on hc, show pf_src st i v r = st r from if_neg hr]
      · rw [pf_M_off hc, pf_M_off hc]
  have e0 : pf_M n go i (pf_src st i u) a = fun r b => if r = i then (fun b => if i ≤ b ∧ b < n then pf_W a u (go b) else 0) b else pf_M n go i st (upd a u 0) r b + (fun r => if i < r ∧ r < n then ((if u = st r then 1 else 0) + pf_S (pf_W a (st r)) u) else 0) r * (fun b => if i ≤ b ∧ b < n then pf_W a u (go b) else 0) b := by
    funext r b
    by_cases hr : r = i
    · subst hr
      rw [if_pos rfl]
      unfold pf_M
      by_cases hb : r ≤ b ∧ b < n
      · rw [if_pos ⟨⟨Nat.le_refl r, hi⟩, hb⟩]
        show pf_W a (pf_src st r u r) (go b) = if r ≤ b ∧ b < n then pf_W a u (go b) else 0
        rw [if_pos hb]
        unfold pf_src
        rw [if_pos rfl]
      · rw [if_neg (fun q => hb q.2), if_neg (by omega)]
        show 0 = if r ≤ b ∧ b < n then pf_W a u (go b) else 0
        rw [if_neg hb]
    · rw [if_neg hr]
      show pf_M n go i (pf_src st i u) a r b = pf_M n go i st (upd a u 0) r b + (if i < r ∧ r < n then ((if u = st r then 1 else 0) + pf_S (pf_W a (st r)) u) else 0) * (if i ≤ b ∧ b < n then pf_W a u (go b) else 0)
      have es : pf_src st i u r = st r := by unfold pf_src; rw [if_neg hr]
      by_cases hrr : i ≤ r ∧ r < n
      · by_cases hb : i ≤ b ∧ b < n
        · rw [pf_M_on ⟨hrr, hb⟩, pf_M_on ⟨hrr, hb⟩, es, if_pos hb, if_pos (show i < r ∧ r < n by omega)]
          exact pf_W_cut a (st r) u (go b)
        · rw [pf_M_off (fun q => hb q.2), pf_M_off (fun q => hb q.2), if_neg hb]
          simp
      · rw [pf_M_off (fun q => hrr q.1), pf_M_off (fun q => hrr q.1), if_neg (show ¬ (i < r ∧ r < n) by omega)]
        simp
  rw [e0, pf_det_ops hi4]
  have e1 : (fun b => if i ≤ b ∧ b < n then pf_W a u (go b) else 0) = fun b => a u * (fun b => (fun b => if i ≤ b ∧ b < n then (if go b = u then (1 : Int32) else 0) else 0) b + (fun b => (fun b => if i ≤ b ∧ b < n then pf_W (upd a u 0) (u + 5) (go b) else 0) b + (fun b => if i ≤ b ∧ b < n then (if u % 5 < 4 then pf_W (upd a u 0) (u + 1) (go b) else 0) else 0) b) b) b := by
    funext b
    show (if i ≤ b ∧ b < n then pf_W a u (go b) else 0) = a u * ((if i ≤ b ∧ b < n then (if go b = u then (1 : Int32) else 0) else 0) + ((if i ≤ b ∧ b < n then pf_W (upd a u 0) (u + 5) (go b) else 0) + (if i ≤ b ∧ b < n then (if u % 5 < 4 then pf_W (upd a u 0) (u + 1) (go b) else 0) else 0)))
    by_cases hb : i ≤ b ∧ b < n
    · rw [if_pos hb, if_pos hb, if_pos hb, if_pos hb]
      exact pf_W_first a u (go b)
    · rw [if_neg hb, if_neg hb, if_neg hb, if_neg hb]
      simp
  rw [e1, pf_det_mul hi4, pf_det_add hi4, pf_det_add hi4, key (u + 5)]
  congr 3
  by_cases h4 : u % 5 < 4
  · rw [if_pos h4, key (u + 1)]
    congr 2
    funext b
    rw [if_pos h4]
  · rw [if_neg h4]
    refine pf_det_zrow hi4 (fun b _ => ?_)
    rw [pf_row_s]
    by_cases hb : i ≤ b ∧ b < n
    · rw [if_pos hb, if_neg h4]
    · rw [if_neg hb]
/-- a column of zeros: no live row reaches goal i -/
theorem pf_M_z {n : Nat} {go : Nat → Nat} {i : Nat} {src : Nat → Nat} {a : Nat → Int32} (hi : i < n) (hn : n ≤ 4) (h : ∀ r, i ≤ r → r < n → pf_W a (src r) (go i) = 0) : pf_det (pf_M n go i src a) = 0 := by
  refine pf_det_zcol (j := i) (by omega) (fun r _ => ?_)
  unfold pf_M
  by_cases hr : i ≤ r ∧ r < n
  · rw [if_pos ⟨hr, Nat.le_refl i, hi⟩]
    exact h r hr.1 hr.2
  · rw [if_neg (fun q => hr q.1), if_neg (by omega)]
end
section
/-! PURE 3: the determinant is the sum over families gone path by path, step by step (each cell at most once) -/
def pf_cz (T : Nat → Bool) : Nat → Nat
  | 0 => 0
  | m + 1 => pf_cz T m + (if T m = true then 0 else 1)
theorem pf_cz_0 {T : Nat → Bool} : ∀ m, pf_cz T m = 0 → ∀ k, k < m → T k = true := by
  intro m
  induction m with
  | zero => intro _ k hk; exact absurd hk (by omega)
  | succ m ih =>
    intro h k hk
    have h' : pf_cz T m + (if T m = true then 0 else 1) = 0 := h
    by_cases hm : T m = true
    · rw [if_pos hm] at h'
      by_cases hkm : k = m
      · rw [hkm]; exact hm
      · exact ih (by omega) k (by omega)
    · rw [if_neg hm] at h'
      exact absurd h' (by omega)
theorem pf_cz_ge {T : Nat → Bool} {u : Nat} {b : Bool} : ∀ m, m ≤ u → pf_cz (va_up T u b) m = pf_cz T m := by
  intro m
  induction m with
  | zero => intro _; rfl
  | succ m ih =>
    intro h
    show pf_cz (va_up T u b) m + (if va_up T u b m = true then 0 else 1) = pf_cz T m + (if T m = true then 0 else 1)
    rw [ih (by omega), show va_up T u b m = T m from if_neg (by omega)]
theorem pf_cz_up {T : Nat → Bool} {u : Nat} (hu : T u = false) : ∀ m, u < m → pf_cz (va_up T u true) m + 1 = pf_cz T m := by
  intro m
  induction m with
  | zero => intro h; exact absurd h (by omega)
  | succ m ih =>
    intro h
    show pf_cz (va_up T u true) m + (if va_up T u true m = true then 0 else 1) + 1 = pf_cz T m + (if T m = true then 0 else 1)
    by_cases hm : m = u
    · subst hm
      rw [pf_cz_ge m (Nat.le_refl m), if_pos (show va_up T m true m = true from if_pos rfl), hu, if_neg (by decide)]
    · rw [show va_up T u true m = T m from if_neg hm]
      have := ih (by omega)
      omega
theorem pf_cz_le {T : Nat → Bool} : ∀ m, pf_cz T m ≤ m := by
  intro m
  induction m with
  | zero => exact Nat.le_refl 0
  | succ m ih =>
    show pf_cz T m + (if T m = true then 0 else 1) ≤ m + 1
    by_cases h : T m = true
    · rw [if_pos h]; omega
    · rw [if_neg h]; omega
def pf_aT (T : Nat → Bool) (w : Nat → Int32) : Nat → Int32 := fun k => if T k = true then 0 else w k
theorem pf_aT_up {T : Nat → Bool} {w : Nat → Int32} {u : Nat} : upd (pf_aT T w) u 0 = pf_aT (va_up T u true) w := by
  funext k
  show (if k = u then 0 else pf_aT T w k) = if va_up T u true k = true then 0 else w k
  by_cases h : k = u
  · rw [if_pos h, if_pos (show va_up T u true k = true from if_pos h)]
  · rw [if_neg h, show va_up T u true k = T k from if_neg h]
    rfl
/-- the sum over all ways on, path i at v, of products of weights; T: cells that may not be used -/
def pf_G (n : Nat) (st go : Nat → Nat) (w : Nat → Int32) : Nat → Nat → Nat → (Nat → Bool) → Int32
  | 0, _, _, _ => 0
  | f + 1, i, v, T => if T v = true then 0 else w v * (if v = go i then (if i + 1 < n then pf_G n st go w f (i + 1) (st (i + 1)) (va_up T v true) else 1) else (if v < 25 then pf_G n st go w f i (v + 5) (va_up T v true) else 0) + (if v % 5 < go i % 5 then pf_G n st go w f i (v + 1) (va_up T v true) else 0))
/-- behind path i, which has come to u, no later path gets above it -/
def pf_Up (n : Nat) (st : Nat → Nat) (i u : Nat) (T : Nat → Bool) : Prop := ∃ Up : Nat → Prop, (∀ k, k < 30 → u / 5 ≤ k / 5 → k % 5 ≤ u % 5 → Up k) ∧ (∀ k, k < 30 → Up k → T k = true ∨ ((0 < k % 5 → Up (k - 1)) ∧ (5 ≤ k → Up (k - 5)))) ∧ (∀ r, i < r → r < n → Up (st r) → T (st r) = true)
theorem pf_Up_start {n : Nat} {st : Nat → Nat} {i : Nat} {T : Nat → Bool} (hst : ∀ k, k < n → st k < 5) (hs : ∀ j k, j < k → k < n → st j < st k) : pf_Up n st i (st i) T := by
  refine ⟨fun k => k % 5 ≤ st i % 5, fun k _ _ h => h, fun k _ h => Or.inr ⟨fun _ => ?_, fun _ => ?_⟩, fun r hr hn h => ?_⟩
  · show (k - 1) % 5 ≤ st i % 5
    have h' : k % 5 ≤ st i % 5 := h
    omega
  · show (k - 5) % 5 ≤ st i % 5
    have h' : k % 5 ≤ st i % 5 := h
    omega
  · have h' : st r % 5 ≤ st i % 5 := h
    have h1 := hs i r hr hn
    have h2 := hst r hn
    omega
theorem pf_Up_right {n : Nat} {st : Nat → Nat} {i u : Nat} {T T' : Nat → Bool} (h : pf_Up n st i u T) (hT : ∀ k, T k = true → T' k = true) : pf_Up n st i (u + 5) T' := by
  obtain ⟨Up, h1, h2, h3⟩ := h
  refine ⟨Up, fun k hk a b => h1 k hk (by omega) (by omega), fun k hk hu => ?_, fun r hr hn hu => hT _ (h3 r hr hn hu)⟩
  rcases h2 k hk hu with q | q
  · exact Or.inl (hT _ q)
  · exact Or.inr q
theorem pf_Up_down {n : Nat} {st : Nat → Nat} {i u : Nat} {T T' : Nat → Bool} (hst : ∀ k, k < n → st k < 5) (h : pf_Up n st i u T) (hu : u % 5 < 4) (hT : ∀ k, T k = true → T' k = true) (hT1 : T' (u + 1) = true) : pf_Up n st i (u + 1) T' := by
  obtain ⟨Up, h1, h2, h3⟩ := h
  refine ⟨fun k => Up k ∨ (u / 5 ≤ k / 5 ∧ k % 5 = u % 5 + 1), fun k hk a b => ?_, fun k hk hq => ?_, fun r hr hn hq => ?_⟩
  · by_cases c : k % 5 ≤ u % 5
    · exact Or.inl (h1 k hk (by omega) c)
    · exact Or.inr (by omega)
  · rcases hq with hq | ⟨c1, c2⟩
    · rcases h2 k hk hq with q | ⟨q1, q2⟩
      · exact Or.inl (hT _ q)
      · exact Or.inr ⟨fun a => Or.inl (q1 a), fun a => Or.inl (q2 a)⟩
    · by_cases c : k / 5 = u / 5
      · exact Or.inl (by rw [show k = u + 1 by omega]; exact hT1)
      · exact Or.inr ⟨fun a => Or.inl (h1 (k - 1) (by omega) (by omega) (by omega)), fun a => Or.inr (by omega)⟩
  · rcases hq with hq | ⟨c1, c2⟩
    · exact hT _ (h3 r hr hn hq)
    · have := hst r hn
      rw [show st r = u + 1 by omega]
      exact hT1
theorem pf_Up_wall {n : Nat} {st : Nat → Nat} {i u : Nat} {T : Nat → Bool} {w : Nat → Int32} (h : pf_Up n st i u T) {k : Nat} (hk : k < 30) (h1 : u / 5 ≤ k / 5) (h2 : k % 5 ≤ u % 5) {r : Nat} (hr : i < r) (hrn : r < n) : pf_W (pf_aT T w) (st r) k = 0 := by
  obtain ⟨Up, a1, a2, a3⟩ := h
  refine pf_W_wall (Up := Up) (fun q hq hu => ?_) k hk (a1 k hk h1 h2)
  by_cases e : q = st r
  · subst e
    exact Or.inl (if_pos (a3 r hr hrn hu))
  · rcases a2 q hq hu with b | b
    · exact Or.inl (if_pos b)
    · exact Or.inr ⟨e, b⟩
set_option maxHeartbeats 4000000 in
theorem pf_lgv {n : Nat} {st go : Nat → Nat} {w : Nat → Int32} (hn : n ≤ 4) (hst : ∀ k, k < n → st k < 5) (hgo : ∀ k, k < n → 25 ≤ go k ∧ go k < 30) (hs : ∀ j k, j < k → k < n → st j < st k) (hg : ∀ j k, j < k → k < n → go j < go k) :
    ∀ (f i u : Nat) (T : Nat → Bool), pf_cz T 30 ≤ f → i < n → u < 30 → pf_Up n st i u (va_up T u true) → pf_det (pf_M n go i (pf_src st i u) (pf_aT T w)) = pf_G n st go w f i u T := by
  have hz : ∀ (i v : Nat) (a : Nat → Int32), i < n → (∀ b, b < n → pf_W a v (go b) = 0) → pf_det (pf_M n go i (pf_src st i v) a) = 0 := by
    intro i v a hi h
    refine pf_det_zrow (i := i) (by omega) (fun b _ => ?_)
    unfold pf_M
    by_cases hb : i ≤ b ∧ b < n
    · rw [if_pos ⟨⟨Nat.le_refl i, hi⟩, hb⟩, show pf_src st i v i = v from if_pos rfl]
      exact h b hb.2
    · rw [if_neg (fun q => hb q.2), if_neg (by omega)]
  have hcl : ∀ (i u : Nat) (T : Nat → Bool), i < n → T u = true → pf_det (pf_M n go i (pf_src st i u) (pf_aT T w)) = 0 := by
    intro i u T hi h
    rw [pf_det_step hi hn, show pf_aT T w u = 0 from if_pos h]
    simp
  intro f
  induction f with
  | zero =>
    intro i u T hf hi hu _
    rw [hcl i u T hi (pf_cz_0 30 (by omega) u hu)]
    rfl
  | succ f ih =>
    intro i u T hf hi hu hUp
    by_cases hT : T u = true
    · rw [hcl i u T hi hT]
      show 0 = if T u = true then 0 else _
      rw [if_pos hT]
    · have hTf : T u = false := by simpa using hT
      have hcz : pf_cz (va_up T u true) 30 ≤ f := by
        have := pf_cz_up hTf 30 hu
        omega
      have hTu : va_up T u true u = true := if_pos rfl
      have hgi := hgo i hi
      have hsub : ∀ v k, va_up T u true k = true → va_up (va_up T u true) v true k = true := by
        intro v k h
        show (if k = v then true else va_up T u true k) = true
        by_cases c : k = v
        · rw [if_pos c]
        · rw [if_neg c]; exact h
      rw [pf_det_step hi hn, show pf_aT T w u = w u from if_neg hT, pf_aT_up]
      show _ = if T u = true then 0 else _
      rw [if_neg hT]
      have hR : pf_det (pf_M n go i (pf_src st i (u + 5)) (pf_aT (va_up T u true) w)) = if u < 25 then pf_G n st go w f i (u + 5) (va_up T u true) else 0 := by
        by_cases c : u < 25
        · rw [if_pos c]
          exact ih i (u + 5) (va_up T u true) hcz hi (by omega) (pf_Up_right hUp (hsub _))
        · rw [if_neg c]
          refine hz i _ _ hi (fun b hb => pf_W_lt _ ?_)
          have := hgo b hb
          omega
      have hDz : go i % 5 ≤ u % 5 → (if u % 5 < 4 then pf_det (pf_M n go i (pf_src st i (u + 1)) (pf_aT (va_up T u true) w)) else 0) = 0 := by
        intro c
        by_cases h4 : u % 5 < 4
        · rw [if_pos h4]
          refine pf_M_z hi hn (fun r hr hrn => ?_)
          by_cases e : r = i
          · subst e
            rw [show pf_src st r (u + 1) r = u + 1 from if_pos rfl]
            exact pf_W_up _ (by omega)
          · rw [show pf_src st i (u + 1) r = st r from if_neg e]
            exact pf_Up_wall hUp hgi.2 (by omega) c (by omega) hrn
        · rw [if_neg h4]
      by_cases hgu : u = go i
      · rw [if_pos hgu]
        rw [hDz (by rw [hgu]; exact Nat.le_refl _), hR, if_neg (by omega)]
        have hrow : ∀ b, b < 4 → pf_row (pf_M n go i st (pf_aT (va_up T u true) w)) i (fun b => if i ≤ b ∧ b < n then (if go b = u then 1 else 0) else 0) i b = if b = i then 1 else 0 := by
          intro b _
          rw [pf_row_s]
          by_cases hb : b = i
          · subst hb
            rw [if_pos ⟨Nat.le_refl b, hi⟩, if_pos hgu.symm, if_pos rfl]
          · rw [if_neg hb]
            by_cases hc : i ≤ b ∧ b < n
            · rw [if_pos hc, if_neg]
              have := hg i b (by omega) hc.2
              omega
            · rw [if_neg hc]
        rw [pf_det_unit (i := i) (by omega) hrow]
        by_cases hi1 : i + 1 < n
        · rw [if_pos hi1, ← ih (i + 1) (st (i + 1)) (va_up T u true) hcz hi1 (by have := hst (i + 1) hi1; omega) (pf_Up_start hst hs)]
          have : pf_det (fun a b => if b = i then (if a = i then 1 else 0) else pf_row (pf_M n go i st (pf_aT (va_up T u true) w)) i (fun b => if i ≤ b ∧ b < n then (if go b = u then 1 else 0) else 0) a b) = pf_det (pf_M n go (i + 1) (pf_src st (i + 1) (st (i + 1))) (pf_aT (va_up T u true) w)) := by
            refine pf_det_congr (fun r _ b hb4 => ?_)
            by_cases hb : b = i
            · subst hb
              rw [if_pos rfl, pf_M_off (by omega)]
            · rw [if_neg hb]
              by_cases hr : r = i
              · subst hr
                rw [hrow b hb4, if_neg hb, pf_M_off (by omega), if_neg (by omega)]
              · rw [pf_row_n hr]
                have es : pf_src st (i + 1) (st (i + 1)) r = st r := by
                  unfold pf_src
                  by_cases c : r = i + 1
                  · rw [if_pos c, c]
                  · rw [if_neg c]
                by_cases hc : (i ≤ r ∧ r < n) ∧ (i ≤ b ∧ b < n)
                · rw [pf_M_on hc, pf_M_on (by omega), es]
                · rw [pf_M_off hc, pf_M_off (by omega)]
          rw [this]
          simp
        · rw [if_neg hi1]
          have : pf_det (fun a b => if b = i then (if a = i then 1 else 0) else pf_row (pf_M n go i st (pf_aT (va_up T u true) w)) i (fun b => if i ≤ b ∧ b < n then (if go b = u then 1 else 0) else 0) a b) = pf_det (fun a b => if a = b then 1 else 0) := by
            refine pf_det_congr (fun r _ b hb4 => ?_)
            by_cases hb : b = i
            · subst hb
              rw [if_pos rfl]
            · rw [if_neg hb]
              by_cases hr : r = i
              · subst hr
                rw [hrow b hb4, if_neg hb, if_neg (by omega)]
              · rw [pf_row_n hr]
                unfold pf_M
                rw [if_neg (by omega)]
          rw [this, pf_det_id]
          simp
      · rw [if_neg hgu]
        have hE : pf_det (pf_row (pf_M n go i st (pf_aT (va_up T u true) w)) i (fun b => if i ≤ b ∧ b < n then (if go b = u then 1 else 0) else 0)) = 0 := by
          by_cases hc : u / 5 = 5 ∧ go i % 5 ≤ u % 5
          · refine pf_det_zcol (j := i) (by omega) (fun r _ => ?_)
            by_cases hr : r = i
            · subst hr
              rw [pf_row_s, if_pos ⟨Nat.le_refl r, hi⟩, if_neg (fun q => hgu q.symm)]
            · rw [pf_row_n hr]
              unfold pf_M
              by_cases hrr : (i ≤ r ∧ r < n) ∧ (i ≤ i ∧ i < n)
              · rw [if_pos hrr]
                exact pf_Up_wall hUp hgi.2 (by omega) hc.2 (by omega) hrr.1.2
              · rw [if_neg hrr, if_neg hr]
          · refine pf_det_zrow (i := i) (by omega) (fun b _ => ?_)
            rw [pf_row_s]
            by_cases hb : i ≤ b ∧ b < n
            · rw [if_pos hb, if_neg]
              intro q
              apply hc
              have h1 := hgo b hb.2
              by_cases e : b = i
              · subst e
                exact absurd q.symm hgu
              · have := hg i b (by omega) hb.2
                omega
            · rw [if_neg hb]
        rw [hE, hR]
        by_cases hd : u % 5 < go i % 5
        · rw [if_pos hd, if_pos (show u % 5 < 4 by omega), ih i (u + 1) (va_up T u true) hcz hi (by omega) (pf_Up_down hst hUp (by omega) (hsub _) (if_pos rfl))]
          simp
        · rw [if_neg hd, hDz (by omega)]
          simp
end
section
/-! PURE 5: the families as a list; the search that makes them one after the other -/
def pf_F (n : Nat) (st go : Nat → Nat) : Nat → Nat → Nat → (Nat → Bool) → List (List (Nat × Nat))
  | 0, _, _, _ => []
  | f + 1, i, v, T => if T v = true then [] else (if v = go i then (if i + 1 < n then pf_F n st go f (i + 1) (st (i + 1)) (va_up T v true) else [[]]) else (if v < 25 then pf_F n st go f i (v + 5) (va_up T v true) else []) ++ (if v % 5 < go i % 5 then pf_F n st go f i (v + 1) (va_up T v true) else [])).map (fun F => (v, i) :: F)
def pf_prod (w : Nat → Int32) : List (Nat × Nat) → Int32
  | [] => 1
  | q :: F => w q.1 * pf_prod w F
def pf_sum : List Int32 → Int32
  | [] => 0
  | x :: l => x + pf_sum l
theorem pf_sum_app : ∀ (a b : List Int32), pf_sum (a ++ b) = pf_sum a + pf_sum b := by
  intro a b
  induction a with
  | nil => simp [pf_sum]
  | cons x a ih =>
    show x + pf_sum (a ++ b) = x + pf_sum a + pf_sum b
    rw [ih]
    grind
theorem pf_prod_app (w : Nat → Int32) : ∀ (a b : List (Nat × Nat)), pf_prod w (a ++ b) = pf_prod w a * pf_prod w b := by
  intro a b
  induction a with
  | nil => simp [pf_prod]
  | cons x a ih =>
    show w x.1 * pf_prod w (a ++ b) = w x.1 * pf_prod w a * pf_prod w b
    rw [ih]
    grind
theorem pf_sum_map (w : Nat → Int32) (v i : Nat) : ∀ (L : List (List (Nat × Nat))), pf_sum ((L.map (fun F => (v, i) :: F)).map (pf_prod w)) = w v * pf_sum (L.map (pf_prod w)) := by
  intro L
  induction L with
  | nil => simp [pf_sum]
  | cons F L ih =>
    show w v * pf_prod w F + pf_sum ((L.map (fun F => (v, i) :: F)).map (pf_prod w)) = w v * (pf_prod w F + pf_sum (L.map (pf_prod w)))
    rw [ih]
    grind
theorem pf_G_F {n : Nat} {st go : Nat → Nat} {w : Nat → Int32} : ∀ (f i v : Nat) (T : Nat → Bool), pf_G n st go w f i v T = pf_sum ((pf_F n st go f i v T).map (pf_prod w)) := by
  intro f
  induction f with
  | zero => intro i v T; rfl
  | succ f ih =>
    intro i v T
    unfold pf_G pf_F
    by_cases hT : T v = true
    · rw [if_pos hT, if_pos hT]; rfl
    · rw [if_neg hT, if_neg hT, pf_sum_map]
      congr 1
      by_cases hg : v = go i
      · rw [if_pos hg, if_pos hg]
        by_cases hi : i + 1 < n
        · rw [if_pos hi, if_pos hi, ih]
        · rw [if_neg hi, if_neg hi]
          simp [pf_sum, pf_prod]
      · rw [if_neg hg, if_neg hg, List.map_append, pf_sum_app]
        congr 1
        · by_cases c : v < 25
          · rw [if_pos c, if_pos c, ih]
          · rw [if_neg c, if_neg c]; rfl
        · by_cases c : v % 5 < go i % 5
          · rw [if_pos c, if_pos c, ih]
          · rw [if_neg c, if_neg c]; rfl
theorem pf_F_len {n : Nat} {st go : Nat → Nat} : ∀ (f i v : Nat) (T : Nat → Bool), (pf_F n st go f i v T).length ≤ 2 ^ f := by
  intro f
  induction f with
  | zero => intro i v T; exact Nat.zero_le _
  | succ f ih =>
    intro i v T
    have h1 : 0 < 2 ^ f := Nat.pos_of_neZero _
    have h2 : 2 ^ (f + 1) = 2 ^ f + 2 ^ f := by rw [Nat.pow_succ]; omega
    unfold pf_F
    by_cases hT : T v = true
    · rw [if_pos hT]; exact Nat.zero_le _
    · rw [if_neg hT, List.length_map, h2]
      by_cases hg : v = go i
      · rw [if_pos hg]
        by_cases hi : i + 1 < n
        · rw [if_pos hi]
          have := ih (i + 1) (st (i + 1)) (va_up T v true)
          omega
        · rw [if_neg hi]
          show 1 ≤ _
          omega
      · rw [if_neg hg, List.length_append]
        have a1 : (if v < 25 then pf_F n st go f i (v + 5) (va_up T v true) else []).length ≤ 2 ^ f := by
          by_cases c : v < 25
          · rw [if_pos c]; exact ih _ _ _
          · rw [if_neg c]; exact Nat.zero_le _
        have a2 : (if v % 5 < go i % 5 then pf_F n st go f i (v + 1) (va_up T v true) else []).length ≤ 2 ^ f := by
          by_cases c : v % 5 < go i % 5
          · rw [if_pos c]; exact ih _ _ _
          · rw [if_neg c]; exact Nat.zero_le _
        omega
theorem pf_F_congr {n : Nat} {st go : Nat → Nat} (hst : ∀ k, k < n → st k < 30) (hgo : ∀ k, k < n → go k < 30) : ∀ (f i v : Nat) (T T' : Nat → Bool), i < n → v < 30 → (∀ k, k < 30 → T k = T' k) → pf_F n st go f i v T = pf_F n st go f i v T' := by
  intro f
  induction f with
  | zero => intros; rfl
  | succ f ih =>
    intro i v T T' hi hv h
    have hu : ∀ k, k < 30 → va_up T v true k = va_up T' v true k := by
      intro k hk
      show (if k = v then true else T k) = if k = v then true else T' k
      rw [h k hk]
    unfold pf_F
    rw [h v hv]
    by_cases hT : T' v = true
    · rw [if_pos hT, if_pos hT]
    · rw [if_neg hT, if_neg hT]
      congr 1
      by_cases hg : v = go i
      · rw [if_pos hg, if_pos hg]
        by_cases hi1 : i + 1 < n
        · rw [if_pos hi1, if_pos hi1, ih _ _ _ _ hi1 (hst _ hi1) hu]
        · rw [if_neg hi1, if_neg hi1]
      · rw [if_neg hg, if_neg hg]
        congr 1
        · by_cases c : v < 25
          · rw [if_pos c, if_pos c, ih _ _ _ _ hi (by omega) hu]
          · rw [if_neg c, if_neg c]
        · by_cases c : v % 5 < go i % 5
          · rw [if_pos c, if_pos c, ih _ _ _ _ hi (by omega) hu]
          · rw [if_neg c, if_neg c]
/-! the search: a stack of (cell, path, ways tried), the last first -/
abbrev pf_K : Type := List (Nat × Nat × Nat)
def pf_in (c : Nat) : pf_K → Bool
  | [] => false
  | q :: S => decide (c = q.1) || pf_in c S
def pf_fam (S : pf_K) : List (Nat × Nat) := (S.map (fun q => (q.1, q.2.1))).reverse
def pf_push (B : Nat → Bool) (c j : Nat) (S : pf_K) : pf_K := if B c = true ∨ pf_in c S = true then S else (c, j, 0) :: S
def pf_on (n : Nat) (st go : Nat → Nat) (B : Nat → Bool) : pf_K → pf_K
  | [] => []
  | (v, i, t) :: S => if t = 2 then S else if v = go i then (if t = 0 ∧ i + 1 < n then pf_push B (st (i + 1)) (i + 1) ((v, i, t + 1) :: S) else (v, i, t + 1) :: S) else if t = 0 then (if v < 25 then pf_push B (v + 5) i ((v, i, t + 1) :: S) else (v, i, t + 1) :: S) else (if v % 5 < go i % 5 then pf_push B (v + 1) i ((v, i, t + 1) :: S) else (v, i, t + 1) :: S)
def pf_done (n : Nat) (go : Nat → Nat) : pf_K → Bool
  | [] => false
  | (v, i, t) :: _ => decide (v = go (n - 1) ∧ i = n - 1 ∧ t = 0)
def pf_it (n : Nat) (st go : Nat → Nat) (B : Nat → Bool) : Nat → pf_K → pf_K
  | 0, S => S
  | m + 1, S => pf_it n st go B m (pf_on n st go B S)
def pf_em (n : Nat) (st go : Nat → Nat) (B : Nat → Bool) : Nat → pf_K → List (List (Nat × Nat))
  | 0, _ => []
  | m + 1, S => (if pf_done n go S = true then [pf_fam S] else []) ++ pf_em n st go B m (pf_on n st go B S)
/-- from S the search comes to S', and the complete families on its way are L -/
def pf_go (n : Nat) (st go : Nat → Nat) (B : Nat → Bool) (S : pf_K) (L : List (List (Nat × Nat))) (S' : pf_K) : Prop := ∃ m, pf_it n st go B m S = S' ∧ pf_em n st go B m S = L
theorem pf_go_rf {n : Nat} {st go : Nat → Nat} {B : Nat → Bool} {S : pf_K} : pf_go n st go B S [] S := ⟨0, rfl, rfl⟩
theorem pf_go_st {n : Nat} {st go : Nat → Nat} {B : Nat → Bool} {S S' : pf_K} {L : List (List (Nat × Nat))} (h : pf_go n st go B (pf_on n st go B S) L S') : pf_go n st go B S ((if pf_done n go S = true then [pf_fam S] else []) ++ L) S' := by
  obtain ⟨m, h1, h2⟩ := h
  refine ⟨m + 1, h1, ?_⟩
  show _ ++ pf_em n st go B m (pf_on n st go B S) = _
  rw [h2]
theorem pf_go_tr {n : Nat} {st go : Nat → Nat} {B : Nat → Bool} {S1 S2 S3 : pf_K} {L1 L2 : List (List (Nat × Nat))} (h1 : pf_go n st go B S1 L1 S2) (h2 : pf_go n st go B S2 L2 S3) : pf_go n st go B S1 (L1 ++ L2) S3 := by
  obtain ⟨m1, a1, b1⟩ := h1
  induction m1 generalizing S1 L1 with
  | zero =>
    have e1 : S1 = S2 := a1
    have e2 : [] = L1 := b1
    subst e1
    subst e2
    exact h2
  | succ m1 ih =>
    have e2 : (if pf_done n go S1 = true then [pf_fam S1] else []) ++ pf_em n st go B m1 (pf_on n st go B S1) = L1 := b1
    subst e2
    rw [List.append_assoc]
    exact pf_go_st (ih a1 rfl)
theorem pf_in_cons {v i t : Nat} {S : pf_K} (B : Nat → Bool) : (fun c => B c || pf_in c ((v, i, t) :: S)) = va_up (fun c => B c || pf_in c S) v true := by
  funext c
  show (B c || (decide (c = v) || pf_in c S)) = if c = v then true else (B c || pf_in c S)
  by_cases h : c = v
  · rw [if_pos h]
    simp [h]
  · rw [if_neg h]
    simp [h]
set_option maxHeartbeats 2000000 in
/-- the search over a stack makes the families behind it, and comes back to it -/
theorem pf_enum {n : Nat} {st go : Nat → Nat} {B : Nat → Bool} (hst : ∀ k, k < n → st k < 30) : ∀ (f i v : Nat) (S : pf_K), pf_cz (fun c => B c || pf_in c S) 30 ≤ f → i < n → v < 30 → pf_go n st go B (pf_push B v i S) ((pf_F n st go f i v (fun c => B c || pf_in c S)).map (fun F => pf_fam S ++ F)) S := by
  intro f
  induction f with
  | zero =>
    intro i v S hf hi hv
    have hT := pf_cz_0 30 (Nat.le_zero.mp hf) v hv
    have e : pf_push B v i S = S := if_pos (by simpa using hT)
    rw [e]
    exact pf_go_rf
  | succ f ih =>
    intro i v S hf hi hv
    by_cases hT : (B v || pf_in v S) = true
    · have e : pf_push B v i S = S := if_pos (by simpa using hT)
      rw [e]
      unfold pf_F
      rw [if_pos hT]
      exact pf_go_rf
    · have e : pf_push B v i S = (v, i, 0) :: S := if_neg (by simpa using hT)
      have hTf : (fun c => B c || pf_in c S) v = false := by simpa using hT
      have hcz : pf_cz (va_up (fun c => B c || pf_in c S) v true) 30 ≤ f := by
        have := pf_cz_up (T := fun c => B c || pf_in c S) hTf 30 hv
        omega
      have efam : ∀ t : Nat, pf_fam ((v, i, t) :: S) = pf_fam S ++ [(v, i)] := fun t => by simp [pf_fam]
      have emap : ∀ (t : Nat) (L : List (List (Nat × Nat))), L.map (fun F => pf_fam ((v, i, t) :: S) ++ F) = (L.map (fun F => (v, i) :: F)).map (fun F => pf_fam S ++ F) := by
        intro t L
        rw [List.map_map]
        congr 1
        funext F
        rw [efam]
        simp
      have h2 : pf_go n st go B ((v, i, 2) :: S) [] S := by
        have h := pf_go_st (S := (v, i, 2) :: S) (n := n) (st := st) (go := go) (B := B) (L := []) (S' := S) (by
          have e2 : pf_on n st go B ((v, i, 2) :: S) = S := by simp [pf_on]
          rw [e2]
          exact pf_go_rf)
        rw [show pf_done n go ((v, i, 2) :: S) = false from decide_eq_false (by simp), if_neg (by decide)] at h
        exact h
      have d1 : pf_done n go ((v, i, 1) :: S) = false := decide_eq_false (by simp)
      rw [e]
      unfold pf_F
      rw [if_neg hT]
      by_cases hg : v = go i
      · rw [if_pos hg]
        have h1 : pf_go n st go B ((v, i, 1) :: S) [] S := by
          have h := pf_go_st (S := (v, i, 1) :: S) (n := n) (st := st) (go := go) (B := B) (L := []) (S' := S) (by
            show pf_go n st go B (if (1 : Nat) = 2 then S else if v = go i then (if (1 : Nat) = 0 ∧ i + 1 < n then _ else (v, i, 1 + 1) :: S) else _) [] S
            rw [if_neg (by decide), if_pos hg, if_neg (by simp)]
            exact h2)
          rw [d1, if_neg (by decide)] at h
          exact h
        by_cases hi1 : i + 1 < n
        · have d0 : pf_done n go ((v, i, 0) :: S) = false := decide_eq_false (by intro q; have := q.2.1; omega)
          have hsub := ih (i + 1) (st (i + 1)) ((v, i, 1) :: S) (by rw [pf_in_cons]; exact hcz) hi1 (hst _ hi1)
          have h := pf_go_st (S := (v, i, 0) :: S) (n := n) (st := st) (go := go) (B := B) (S' := S) (by
            show pf_go n st go B (if (0 : Nat) = 2 then S else if v = go i then (if (0 : Nat) = 0 ∧ i + 1 < n then pf_push B (st (i + 1)) (i + 1) ((v, i, 0 + 1) :: S) else _) else _) _ S
            rw [if_neg (by decide), if_pos hg, if_pos ⟨rfl, hi1⟩]
            exact pf_go_tr hsub h1)
          rw [d0, if_neg (by decide), List.append_nil, List.nil_append, emap, pf_in_cons] at h
          rw [if_pos hi1]
          exact h
        · have d0 : pf_done n go ((v, i, 0) :: S) = true := decide_eq_true (by
            have : i = n - 1 := by omega
            exact ⟨by rw [← this]; exact hg, this, rfl⟩)
          have h := pf_go_st (S := (v, i, 0) :: S) (n := n) (st := st) (go := go) (B := B) (S' := S) (L := []) (by
            show pf_go n st go B (if (0 : Nat) = 2 then S else if v = go i then (if (0 : Nat) = 0 ∧ i + 1 < n then _ else (v, i, 0 + 1) :: S) else _) _ S
            rw [if_neg (by decide), if_pos hg, if_neg (fun q => hi1 q.2)]
            exact h1)
          rw [d0, if_pos rfl, efam] at h
          rw [if_neg hi1]
          exact h
      · rw [if_neg hg]
        have d0 : pf_done n go ((v, i, 0) :: S) = false := decide_eq_false (by
          intro q
          apply hg
          rw [q.2.1]
          exact q.1)
        have hR : pf_go n st go B (if v < 25 then pf_push B (v + 5) i ((v, i, 0 + 1) :: S) else (v, i, 0 + 1) :: S) ((if v < 25 then pf_F n st go f i (v + 5) (va_up (fun c => B c || pf_in c S) v true) else []).map (fun F => pf_fam ((v, i, 1) :: S) ++ F)) ((v, i, 1) :: S) := by
          by_cases c : v < 25
          · rw [if_pos c, if_pos c, ← pf_in_cons (i := i) (t := 1)]
            exact ih i (v + 5) ((v, i, 1) :: S) (by rw [pf_in_cons]; exact hcz) hi (by omega)
          · rw [if_neg c, if_neg c]
            exact pf_go_rf
        have hD : pf_go n st go B (if v % 5 < go i % 5 then pf_push B (v + 1) i ((v, i, 1 + 1) :: S) else (v, i, 1 + 1) :: S) ((if v % 5 < go i % 5 then pf_F n st go f i (v + 1) (va_up (fun c => B c || pf_in c S) v true) else []).map (fun F => pf_fam ((v, i, 2) :: S) ++ F)) ((v, i, 2) :: S) := by
          by_cases c : v % 5 < go i % 5
          · rw [if_pos c, if_pos c, ← pf_in_cons (i := i) (t := 2)]
            exact ih i (v + 1) ((v, i, 2) :: S) (by rw [pf_in_cons]; exact hcz) hi (by omega)
          · rw [if_neg c, if_neg c]
            exact pf_go_rf
        have h1 := pf_go_st (S := (v, i, 1) :: S) (n := n) (st := st) (go := go) (B := B) (S' := S) (by
          show pf_go n st go B (if (1 : Nat) = 2 then S else if v = go i then _ else if (1 : Nat) = 0 then _ else (if v % 5 < go i % 5 then pf_push B (v + 1) i ((v, i, 1 + 1) :: S) else (v, i, 1 + 1) :: S)) _ S
          rw [if_neg (by decide), if_neg hg, if_neg (by decide)]
          exact pf_go_tr hD h2)
        have h := pf_go_st (S := (v, i, 0) :: S) (n := n) (st := st) (go := go) (B := B) (S' := S) (by
          show pf_go n st go B (if (0 : Nat) = 2 then S else if v = go i then _ else if (0 : Nat) = 0 then (if v < 25 then pf_push B (v + 5) i ((v, i, 0 + 1) :: S) else (v, i, 0 + 1) :: S) else _) _ S
          rw [if_neg (by decide), if_neg hg, if_pos rfl]
          exact pf_go_tr hR h1)
        rw [d0, if_neg (show ¬ (false = true) by decide), d1, if_neg (show ¬ (false = true) by decide), List.nil_append, List.nil_append, List.append_nil, emap, emap] at h
        rw [List.map_append, List.map_append]
        exact h
end
section
/-! PURE 6: arguments, bits, the ends of paths -/
/-- an argument as a place below n -/
def ix (x : Int32) (n : Nat) : Option Nat := if x < 0 ∨ nI n ≤ x then none else some x.toNatClampNeg
theorem ix_lo {x : Int32} {n : Nat} (h : x < 0) : ix x n = none := if_pos (Or.inl h)
theorem ix_hi {x : Int32} {n : Nat} (h : nI n ≤ x) : ix x n = none := if_pos (Or.inr h)
theorem ix_in {j n : Nat} (h : j < n) (hn : n < 2 ^ 31) : ix (nI j) n = some j := by
  unfold ix
  rw [if_neg, nI_clamp (by omega)]
  rintro (q | q)
  · exact nI_pos (by omega) q
  · exact nI_ge h hn q
theorem pf_ix {x : Int32} {n : Nat} (h0 : ¬ x < 0) (h1 : ¬ nI n ≤ x) (hn : n < 2 ^ 31) : ∃ j : Nat, j < n ∧ x = nI j := by
  rcases pk_ix x hn with h | h | h
  · exact absurd h h0
  · exact absurd h h1
  · exact h
/-- how many of the first r bits are set -/
def pf_pc (j : Nat) : Nat → Nat
  | 0 => 0
  | r + 1 => pf_pc j r + j / 2 ^ r % 2
theorem pf_bit {j r : Nat} (hj : j < 32) (hr : r < 5) : (nI j >>> (nI r &&& 31)) &&& nI 1 = nI (j / 2 ^ r % 2) := by
  have h : ∀ a : Fin 32, ∀ b : Fin 5, (nI a.val >>> (nI b.val &&& 31)) &&& nI 1 = nI (a.val / 2 ^ b.val % 2) := by decide +kernel
  exact h ⟨j, hj⟩ ⟨r, hr⟩
theorem pf_pc_le (j : Nat) : ∀ r, pf_pc j r ≤ r := by
  intro r
  induction r with
  | zero => exact Nat.le_refl 0
  | succ r ih =>
    show pf_pc j r + j / 2 ^ r % 2 ≤ r + 1
    have : j / 2 ^ r % 2 < 2 := Nat.mod_lt _ (by decide)
    omega
/-- the places of the set bits, one behind the other -/
def pf_pos (f : Nat → Nat) (off j : Nat) : Nat → (Nat → Nat)
  | 0 => f
  | r + 1 => if j / 2 ^ r % 2 = 1 then va_up (pf_pos f off j r) (pf_pc j r) (off + r) else pf_pos f off j r
theorem pf_pos_1 {f : Nat → Nat} {off j r : Nat} (h : j / 2 ^ r % 2 = 1) : pf_pos f off j (r + 1) = va_up (pf_pos f off j r) (pf_pc j r) (off + r) := if_pos h
theorem pf_pos_0 {f : Nat → Nat} {off j r : Nat} (h : ¬ j / 2 ^ r % 2 = 1) : pf_pos f off j (r + 1) = pf_pos f off j r := if_neg h
theorem pf_pc_1 {j r : Nat} (h : j / 2 ^ r % 2 = 1) : pf_pc j (r + 1) = pf_pc j r + 1 := by
  show pf_pc j r + j / 2 ^ r % 2 = _
  rw [h]
theorem pf_pc_0 {j r : Nat} (h : ¬ j / 2 ^ r % 2 = 1) : pf_pc j (r + 1) = pf_pc j r := by
  show pf_pc j r + j / 2 ^ r % 2 = _
  have : j / 2 ^ r % 2 < 2 := Nat.mod_lt _ (by decide)
  omega
theorem pf_pos_ok {f : Nat → Nat} {off j : Nat} : ∀ r, (∀ k, k < pf_pc j r → off ≤ pf_pos f off j r k ∧ pf_pos f off j r k < off + r) ∧ (∀ k q, k < q → q < pf_pc j r → pf_pos f off j r k < pf_pos f off j r q) := by
  intro r
  induction r with
  | zero => exact ⟨fun k h => absurd h (Nat.not_lt_zero _), fun k q _ h => absurd h (Nat.not_lt_zero _)⟩
  | succ r ih =>
    obtain ⟨h1, h2⟩ := ih
    by_cases hb : j / 2 ^ r % 2 = 1
    · rw [pf_pos_1 hb, pf_pc_1 hb]
      refine ⟨fun k hk => ?_, fun k q hkq hq => ?_⟩
      · by_cases e : k = pf_pc j r
        · rw [show va_up (pf_pos f off j r) (pf_pc j r) (off + r) k = off + r from if_pos e]
          omega
        · rw [show va_up (pf_pos f off j r) (pf_pc j r) (off + r) k = pf_pos f off j r k from if_neg e]
          have := h1 k (by omega)
          omega
      · rw [show va_up (pf_pos f off j r) (pf_pc j r) (off + r) k = pf_pos f off j r k from if_neg (by omega)]
        by_cases e : q = pf_pc j r
        · rw [show va_up (pf_pos f off j r) (pf_pc j r) (off + r) q = off + r from if_pos e]
          have := h1 k (by omega)
          omega
        · rw [show va_up (pf_pos f off j r) (pf_pc j r) (off + r) q = pf_pos f off j r q from if_neg e]
          exact h2 k q hkq (by omega)
    · rw [pf_pos_0 hb, pf_pc_0 hb]
      refine ⟨fun k hk => ?_, h2⟩
      have := h1 k hk
      omega
/-- the ends, well formed -/
def pf_wf (n : Nat) (st go : Nat → Nat) : Prop := 1 ≤ n ∧ n ≤ 4 ∧ (∀ k, k < n → st k < 5) ∧ (∀ k, k < n → 25 ≤ go k ∧ go k < 30) ∧ (∀ j k, j < k → k < n → st j < st k) ∧ (∀ j k, j < k → k < n → go j < go k)
/-- whether two sets of ends are taken -/
def pf_eo (x y : Int32) : Bool := decide ((¬ x < nI 1 ∧ ¬ nI 31 < x) ∧ (¬ y < nI 1 ∧ ¬ nI 31 < y) ∧ pf_pc x.toNatClampNeg 5 = pf_pc y.toNatClampNeg 5 ∧ pf_pc x.toNatClampNeg 5 ≤ 4)
theorem pf_32 {x : Int32} (h0 : ¬ x < nI 1) (h1 : ¬ nI 31 < x) : ∃ j : Nat, 1 ≤ j ∧ j < 32 ∧ x = nI j := by
  rcases pk_ix x (n := 32) (by decide) with h | h | ⟨j, hj, rfl⟩
  · exact absurd (Int32.lt_trans h (by decide)) h0
  · exact absurd (Int32.lt_of_lt_of_le (by decide) h) h1
  · refine ⟨j, ?_, hj, rfl⟩
    rcases Nat.eq_zero_or_pos j with e | e
    · exact absurd (by rw [e]; decide) h0
    · exact e
theorem pf_eo_in {j k : Nat} (h1 : 1 ≤ j) (h2 : j < 32) (h3 : 1 ≤ k) (h4 : k < 32) : pf_eo (nI j) (nI k) = decide (pf_pc j 5 = pf_pc k 5 ∧ pf_pc j 5 ≤ 4) := by
  unfold pf_eo
  rw [nI_clamp (by omega), nI_clamp (by omega)]
  have a1 : ¬ nI j < nI 1 := nI_nlt h1 (by omega)
  have a2 : ¬ nI 31 < nI j := nI_nlt (by omega) (by decide)
  have a3 : ¬ nI k < nI 1 := nI_nlt h3 (by omega)
  have a4 : ¬ nI 31 < nI k := nI_nlt (by omega) (by decide)
  simp [a1, a2, a3, a4]
theorem pf_wf_ends {j k : Nat} {st go : Nat → Nat} (h1 : 1 ≤ j) (h2 : j < 32) (he : pf_pc j 5 = pf_pc k 5) (h4 : pf_pc j 5 ≤ 4) : pf_wf (pf_pc j 5) (pf_pos st 0 j 5) (pf_pos go 25 k 5) := by
  have a := pf_pos_ok (f := st) (off := 0) (j := j) 5
  have b := pf_pos_ok (f := go) (off := 25) (j := k) 5
  refine ⟨?_, h4, fun q hq => by have := (a.1 q hq).2; omega, fun q hq => by rw [he] at hq; have := b.1 q hq; omega, a.2, fun q r hqr hr => by rw [he] at hr; exact b.2 q r hqr hr⟩
  have h : ∀ q : Fin 32, 1 ≤ q.val → 1 ≤ pf_pc q.val 5 := by decide +kernel
  exact h ⟨j, h2⟩ h1
/-- one step of the sums, as the program takes it -/
theorem pf_W_java {a : Nat → Int32} {s k : Nat} {f : Nat → Int32} (h : ∀ j, j < k → f j = pf_W a s j) : a k * (if k < s then 0 else if k = s then 1 else (if 0 < k % 5 then f (k - 1) else 0) + (if 5 ≤ k then f (k - 5) else 0)) = pf_W a s k := by
  rw [pf_W_eq, ← pf_S_congr h]
  by_cases h1 : k < s
  · rw [if_pos h1, if_neg (by omega), pf_S_0 (fun j hj => by rw [h j hj]; exact pf_W_lt j (by omega))]
    simp
  · rw [if_neg h1]
    by_cases h2 : k = s
    · rw [if_pos h2, if_pos h2, pf_S_0 (fun j hj => by rw [h j hj]; exact pf_W_lt j (by omega))]
      simp
    · rw [if_neg h2, if_neg h2]
      unfold pf_S
      simp
def pf_w1 (wt : Bool) (w : Nat → Int32) : Nat → Int32 := fun k => if wt = true then w k else 1
/-- the weights of cells in a count: zero where one may not go -/
def pf_a (B C : Nat → Bool) (wt : Bool) (w : Nat → Int32) : Nat → Int32 := pf_aT (fun k => B k || C k) (pf_w1 wt w)
def pf_mx (mx : Nat → Int32) : Nat → Nat → Int32 := fun r b => mx (4 * r + b)
/-- the matrix with the rows and columns before i and from n on settled -/
def pf_Mx (n i : Nat) (mx : Nat → Int32) : Nat → Nat → Int32 := fun r b => if (i ≤ r ∧ r < n) ∧ (i ≤ b ∧ b < n) then mx (4 * r + b) else if r = b then 1 else 0
/-- the sum of allFour behind k rounds -/
def pf_af (m : Nat → Nat → Int32) : Nat → Int32
  | 0 => 0
  | k + 1 => if k / 4 < k % 4 then (if (k / 4 + k % 4) % 2 = 1 then pf_af m k + pf_two m 0 1 (k / 4) (k % 4) * pf_two m 2 3 (if k / 4 = 0 then (if k % 4 = 1 then 2 else 1) else 0) (6 - k / 4 - k % 4 - (if k / 4 = 0 then (if k % 4 = 1 then 2 else 1) else 0)) else pf_af m k - pf_two m 0 1 (k / 4) (k % 4) * pf_two m 2 3 (if k / 4 = 0 then (if k % 4 = 1 then 2 else 1) else 0) (6 - k / 4 - k % 4 - (if k / 4 = 0 then (if k % 4 = 1 then 2 else 1) else 0))) else pf_af m k
theorem pf_af_16 (m : Nat → Nat → Int32) : pf_af m 16 = pf_det m := by
  simp [pf_af, pf_det]
theorem pf_sh2 {k : Nat} (h : k < 16) : nI k >>> (nI 2 &&& 31) = nI (k / 4) := by
  have q : ∀ a : Fin 16, nI a.val >>> (nI 2 &&& 31) = nI (a.val / 4) := by decide +kernel
  exact q ⟨k, h⟩
theorem pf_an3 {k : Nat} (h : k < 16) : nI k &&& nI 3 = nI (k % 4) := by
  have q : ∀ a : Fin 16, nI a.val &&& nI 3 = nI (a.val % 4) := by decide +kernel
  exact q ⟨k, h⟩
theorem pf_an1 {k : Nat} (h : k < 16) : nI k &&& nI 1 = nI (k % 2) := by
  have q : ∀ a : Fin 16, nI a.val &&& nI 1 = nI (a.val % 2) := by decide +kernel
  exact q ⟨k, h⟩
/-- an optional cell as an argument: none is -1 -/
def pf_o : Option Nat → Int32
  | none => -1
  | some k => nI k
/-- the sum of countWithout -/
def pf_cw (n : Nat) (st go : Nat → Nat) (B : Nat → Bool) (p q : Option Nat) : Int32 := pf_det (pf_M n go 0 st (pf_aT (fun k => B k || (decide (some k = p) || decide (some k = q))) (fun _ => 1)))
end
section
/-! PURE 7: what the loops over the matrix leave -/
theorem pf_Mx_step {n i q : Nat} {mx m9 : Nat → Int32} (h : ∀ k, k < 16 → m9 k = if k < q then pf_Mx n i mx (k / 4) (k % 4) else mx k) (hq : q < 16) : ∀ k, k < 16 → upd m9 q (if (i ≤ q / 4 ∧ q / 4 < n) ∧ (i ≤ q % 4 ∧ q % 4 < n) then m9 q else if q / 4 = q % 4 then 1 else 0) k = if k < q + 1 then pf_Mx n i mx (k / 4) (k % 4) else mx k := by
  intro k hk
  by_cases e : k = q
  · subst e
    rw [pk_us, if_pos (show k < k + 1 by omega), h k hk, if_neg (show ¬ k < k by omega)]
    show _ = if (i ≤ k / 4 ∧ k / 4 < n) ∧ (i ≤ k % 4 ∧ k % 4 < n) then mx (4 * (k / 4) + k % 4) else if k / 4 = k % 4 then 1 else 0
    rw [show 4 * (k / 4) + k % 4 = k by omega]
  · rw [pk_un e, h k hk]
    by_cases c : k < q
    · rw [if_pos c, if_pos (by omega)]
    · rw [if_neg c, if_neg (by omega)]
theorem pf_Mx_end {n i : Nat} {mx m9 : Nat → Int32} (h : ∀ k, k < 16 → m9 k = if k < 16 then pf_Mx n i mx (k / 4) (k % 4) else mx k) : ∀ r, r < 4 → ∀ b, b < 4 → pf_mx m9 r b = pf_Mx n i mx r b := by
  intro r hr b hb
  show m9 (4 * r + b) = _
  rw [h _ (by omega), if_pos (by omega), show (4 * r + b) / 4 = r by omega, show (4 * r + b) % 4 = b by omega]
theorem pf_Mx_det {n i : Nat} {mx m9 : Nat → Int32} (h : ∀ k, k < 16 → m9 k = if k < 16 then pf_Mx n i mx (k / 4) (k % 4) else mx k) : pf_det (pf_mx m9) = pf_det (pf_Mx n i mx) := pf_det_congr (pf_Mx_end h)
theorem pf_Mx_d3 {n i : Nat} {mx m9 : Nat → Int32} (hi : 0 < i) (h : ∀ k, k < 16 → m9 k = if k < 16 then pf_Mx n i mx (k / 4) (k % 4) else mx k) : pf_d3 (pf_mx m9) = pf_det (pf_Mx n i mx) := by
  rw [← pf_Mx_det h]
  refine (pf_det_d3 (fun b hb => ?_) (fun r hr => ?_)).symm
  · rw [pf_Mx_end h 0 (by decide) b hb]
    unfold pf_Mx
    rw [if_neg (by omega)]
    by_cases c : b = 0
    · rw [if_pos c, if_pos c.symm]
    · rw [if_neg c, if_neg (fun q => c q.symm)]
  · rw [pf_Mx_end h r hr 0 (by decide)]
    unfold pf_Mx
    rw [if_neg (by omega)]
theorem pf_Mx_M {n i : Nat} {go fr : Nat → Nat} {a mx : Nat → Int32} (h : ∀ q c, i ≤ q → q < n → i ≤ c → c < n → mx (4 * q + c) = pf_W a (fr q) (go c)) : pf_Mx n i mx = pf_M n go i fr a := by
  funext r b
  unfold pf_Mx pf_M
  by_cases c : (i ≤ r ∧ r < n) ∧ (i ≤ b ∧ b < n)
  · rw [if_pos c, if_pos c, h r b c.1.1 c.1.2 c.2.1 c.2.2]
  · rw [if_neg c, if_neg c]
theorem pf_fill {n i r b : Nat} {go fr : Nat → Nat} {a mx : Nat → Int32} {v : Int32} (hn : n ≤ 4) (hb : b < n) (hv : v = pf_W a (fr r) (go b)) (h1 : ∀ q c, i ≤ q → q < r → i ≤ c → c < n → mx (4 * q + c) = pf_W a (fr q) (go c)) (h2 : ∀ c, i ≤ c → c < b → mx (4 * r + c) = pf_W a (fr r) (go c)) :
    (∀ q c, i ≤ q → q < r → i ≤ c → c < n → upd mx (4 * r + b) v (4 * q + c) = pf_W a (fr q) (go c)) ∧ (∀ c, i ≤ c → c < b + 1 → upd mx (4 * r + b) v (4 * r + c) = pf_W a (fr r) (go c)) := by
  refine ⟨fun q c hq hr hc hcn => ?_, fun c hc hcb => ?_⟩
  · rw [pk_un (by omega)]
    exact h1 q c hq hr hc hcn
  · by_cases e : c = b
    · subst e
      rw [pk_us]
      exact hv
    · rw [pk_un (by omega)]
      exact h2 c hc (by omega)
theorem pf_fillrow {n i r : Nat} {go fr : Nat → Nat} {a mx : Nat → Int32} (h1 : ∀ q c, i ≤ q → q < r → i ≤ c → c < n → mx (4 * q + c) = pf_W a (fr q) (go c)) (h2 : ∀ c, i ≤ c → c < n → mx (4 * r + c) = pf_W a (fr r) (go c)) : ∀ q c, i ≤ q → q < r + 1 → i ≤ c → c < n → mx (4 * q + c) = pf_W a (fr q) (go c) := by
  intro q c hq hr hc hcn
  by_cases e : q = r
  · subst e
    exact h2 c hc hcn
  · exact h1 q c hq (by omega) hc hcn
theorem pf_ways {B C : Nat → Bool} {wt : Bool} {w f : Nat → Int32} {s k : Nat} (h : ∀ j, j < k → f j = pf_W (pf_a B C wt w) s j) : ∀ j, j < k + 1 → upd f k (if (B k || C k) = true then 0 else (if k < s then 0 else if k = s then 1 else (if 0 < k % 5 then f (k - 1) else 0) + (if 5 ≤ k then f (k - 5) else 0)) * (if wt = true then w k else 1)) j = pf_W (pf_a B C wt w) s j := by
  intro j hj
  by_cases e : j = k
  · subst e
    rw [pk_us, ← pf_W_java h]
    show _ = (if (B j || C j) = true then 0 else (if wt = true then w j else 1)) * _
    by_cases c : (B j || C j) = true
    · rw [if_pos c, if_pos c]
      simp
    · rw [if_neg c, if_neg c]
      exact Int32.mul_comm _ _
  · rw [pk_un e]
    exact h j (by omega)
theorem pf_o_lt {p : Option Nat} (h : pf_o p < 0) (hp : ∀ k, p = some k → k < 30) : p = none := by
  cases p with
  | none => rfl
  | some k => exact absurd h (nI_pos (by have := hp k rfl; omega))
theorem pf_o_ge {p : Option Nat} (h : ¬ pf_o p < 0) (hp : ∀ k, p = some k → k < 30) : ∃ k, p = some k ∧ k < 30 := by
  cases p with
  | none => exact absurd (by decide) h
  | some k => exact ⟨k, rfl, hp k rfl⟩
theorem pf_cw_eq {n : Nat} {st go fr : Nat → Nat} {B C : Nat → Bool} {w : Nat → Int32} {p q : Option Nat} (hgo : ∀ k, k < n → go k < 30) (hf : ∀ k, k < n → fr k = st k) (hC : ∀ j, j < 30 → C j = (decide (some j = p) || decide (some j = q))) : pf_det (pf_M n go 0 fr (pf_a B C false w)) = pf_cw n st go B p q := by
  unfold pf_cw
  rw [pf_M_congr (src' := st) (a' := pf_aT (fun k => B k || (decide (some k = p) || decide (some k = q))) (fun _ => 1)) hgo (fun k _ h => hf k h) (fun k hk => ?_)]
  show (if (B k || C k) = true then 0 else (if false = true then w k else 1)) = if (B k || (decide (some k = p) || decide (some k = q))) = true then 0 else 1
  rw [hC k hk]
  rfl
end
section
/-! PURE 8: the n-th family, found by counts -/
theorem pf_sum_len : ∀ (L : List (List (Nat × Nat))), pf_sum (L.map (pf_prod (fun _ => 1))) = nI L.length := by
  have h1 : ∀ F : List (Nat × Nat), pf_prod (fun _ => 1) F = 1 := by
    intro F
    induction F with
    | nil => rfl
    | cons q F ih =>
      show 1 * pf_prod (fun _ => 1) F = 1
      rw [ih]; rfl
  intro L
  induction L with
  | nil => rfl
  | cons F L ih =>
    show pf_prod (fun _ => 1) F + pf_sum (L.map (pf_prod (fun _ => 1))) = nI (L.length + 1)
    rw [ih, h1, ← nI_1]
    exact Int32.add_comm _ _
theorem pf_lgv_len {n : Nat} {st go : Nat → Nat} (hwf : pf_wf n st go) {f i u : Nat} {T : Nat → Bool} (hcz : pf_cz T 30 ≤ f) (hi : i < n) (hu : u < 30) (hUp : pf_Up n st i u (va_up T u true)) : pf_det (pf_M n go i (pf_src st i u) (pf_aT T (fun _ => 1))) = nI (pf_F n st go f i u T).length := by
  rw [pf_lgv hwf.2.1 hwf.2.2.1 hwf.2.2.2.1 hwf.2.2.2.2.1 hwf.2.2.2.2.2 f i u T hcz hi hu hUp, pf_G_F, pf_sum_len]
theorem pf_Up_mono {n : Nat} {st : Nat → Nat} {i u : Nat} {T T' : Nat → Bool} (hst : ∀ k, k < n → st k < 5) (hT : ∀ k, k < 30 → T k = true → T' k = true) (h : pf_Up n st i u T) : pf_Up n st i u T' := by
  obtain ⟨Up, h1, h2, h3⟩ := h
  refine ⟨Up, h1, fun k hk hu => ?_, fun r hr hn hu => hT _ (by have := hst r hn; omega) (h3 r hr hn hu)⟩
  rcases h2 k hk hu with q | q
  · exact Or.inl (hT k hk q)
  · exact Or.inr q
theorem pf_cz_congr {T T' : Nat → Bool} : ∀ m, (∀ k, k < m → T k = T' k) → pf_cz T m = pf_cz T' m := by
  intro m
  induction m with
  | zero => intro _; rfl
  | succ m ih =>
    intro h
    show pf_cz T m + (if T m = true then 0 else 1) = pf_cz T' m + (if T' m = true then 0 else 1)
    rw [ih (fun k hk => h k (by omega)), h m (by omega)]
theorem pf_F_goal {n : Nat} {st go : Nat → Nat} {f i v e : Nat} {T : Nat → Bool} {G : List (Nat × Nat)} (hv : v = go i) (h : (pf_F n st go f i v T)[e]? = some G) : ∃ f', f = f' + 1 ∧ T v = false ∧ ∃ R, G = (v, i) :: R ∧ (i + 1 < n → (pf_F n st go f' (i + 1) (st (i + 1)) (va_up T v true))[e]? = some R) ∧ (¬ i + 1 < n → R = []) := by
  cases f with
  | zero => exact absurd h (by simp [pf_F])
  | succ f =>
    unfold pf_F at h
    by_cases hT : T v = true
    · rw [if_pos hT] at h
      exact absurd h (by simp)
    · rw [if_neg hT, if_pos hv, List.getElem?_map, Option.map_eq_some_iff] at h
      obtain ⟨R, h1, h2⟩ := h
      refine ⟨f, rfl, by simpa using hT, R, h2.symm, fun c => ?_, fun c => ?_⟩
      · rw [if_pos c] at h1
        exact h1
      · rw [if_neg c] at h1
        cases e with
        | zero => exact (Option.some.inj h1).symm
        | succ e => exact absurd h1 (by simp)
theorem pf_F_next {n : Nat} {st go : Nat → Nat} {f i v e : Nat} {T : Nat → Bool} {G : List (Nat × Nat)} (hv : v ≠ go i) (h : (pf_F n st go f i v T)[e]? = some G) : ∃ f', f = f' + 1 ∧ T v = false ∧ ∃ R, G = (v, i) :: R ∧ ((e < (if v < 25 then pf_F n st go f' i (v + 5) (va_up T v true) else []).length ∧ v < 25 ∧ (pf_F n st go f' i (v + 5) (va_up T v true))[e]? = some R) ∨ ((if v < 25 then pf_F n st go f' i (v + 5) (va_up T v true) else []).length ≤ e ∧ v % 5 < go i % 5 ∧ (pf_F n st go f' i (v + 1) (va_up T v true))[e - (if v < 25 then pf_F n st go f' i (v + 5) (va_up T v true) else []).length]? = some R)) := by
  cases f with
  | zero => exact absurd h (by simp [pf_F])
  | succ f =>
    unfold pf_F at h
    by_cases hT : T v = true
    · rw [if_pos hT] at h
      exact absurd h (by simp)
    · rw [if_neg hT, if_neg hv, List.getElem?_map, Option.map_eq_some_iff] at h
      obtain ⟨R, h1, h2⟩ := h
      refine ⟨f, rfl, by simpa using hT, R, h2.symm, ?_⟩
      by_cases hl : e < (if v < 25 then pf_F n st go f i (v + 5) (va_up T v true) else []).length
      · refine Or.inl ⟨hl, ?_⟩
        rw [List.getElem?_append_left hl] at h1
        by_cases c : v < 25
        · rw [if_pos c] at h1
          exact ⟨c, h1⟩
        · rw [if_neg c] at h1
          exact absurd h1 (by simp)
      · refine Or.inr ⟨by omega, ?_⟩
        rw [List.getElem?_append_right (by omega)] at h1
        by_cases c : v % 5 < go i % 5
        · rw [if_pos c] at h1
          exact ⟨c, h1⟩
        · rw [if_neg c] at h1
          exact absurd h1 (by simp)
/-- the first m cells of path i -/
def pf_seg (pa : Nat → Nat) (i : Nat) : Nat → List (Nat × Nat)
  | 0 => []
  | m + 1 => pf_seg pa i m ++ [(pa (10 * i + m), i)]
/-- the first i paths -/
def pf_lay (sz pa : Nat → Nat) : Nat → List (Nat × Nat)
  | 0 => []
  | i + 1 => pf_lay sz pa i ++ pf_seg pa i (sz i)
theorem pf_seg_congr {pa pa' : Nat → Nat} {i : Nat} : ∀ m, (∀ j, j < m → pa (10 * i + j) = pa' (10 * i + j)) → pf_seg pa i m = pf_seg pa' i m := by
  intro m
  induction m with
  | zero => intro _; rfl
  | succ m ih =>
    intro h
    show pf_seg pa i m ++ [(pa (10 * i + m), i)] = pf_seg pa' i m ++ [(pa' (10 * i + m), i)]
    rw [ih (fun j hj => h j (by omega)), h m (by omega)]
theorem pf_lay_congr {sz sz' pa pa' : Nat → Nat} : ∀ i, (∀ k, k < i → sz k = sz' k) → (∀ k, k < i → sz k ≤ 10) → (∀ q, q < 10 * i → pa q = pa' q) → pf_lay sz pa i = pf_lay sz' pa' i := by
  intro i
  induction i with
  | zero => intro _ _ _; rfl
  | succ i ih =>
    intro h1 h2 h3
    show pf_lay sz pa i ++ pf_seg pa i (sz i) = pf_lay sz' pa' i ++ pf_seg pa' i (sz' i)
    rw [ih (fun k hk => h1 k (by omega)) (fun k hk => h2 k (by omega)) (fun q hq => h3 q (by omega)), ← h1 i (by omega), pf_seg_congr (sz i) (fun j hj => h3 _ (by have := h2 i (by omega); omega))]
/-- all families -/
def pf_L (n : Nat) (st go : Nat → Nat) (B : Nat → Bool) : List (List (Nat × Nat)) := pf_F n st go 30 0 (st 0) B
theorem pf_L_len {n : Nat} {st go : Nat → Nat} {B : Nat → Bool} : (pf_L n st go B).length < 2 ^ 31 := Nat.lt_of_le_of_lt (pf_F_len 30 0 (st 0) B) (by decide)
theorem pf_F_lt {n : Nat} {st go : Nat → Nat} {f i v : Nat} {T : Nat → Bool} (h : f ≤ 30) : (pf_F n st go f i v T).length < 2 ^ 31 := Nat.lt_of_le_of_lt (Nat.le_trans (pf_F_len f i v T) (Nat.pow_le_pow_right (by decide) h)) (by decide)
def pf_at (L : List (List (Nat × Nat))) (x : Int32) : Option (List (Nat × Nat)) := if x < 0 then none else L[x.toNatClampNeg]?
theorem pf_at_lo {L : List (List (Nat × Nat))} {x : Int32} (h : x < 0) : pf_at L x = none := if_pos h
theorem pf_at_hi {L : List (List (Nat × Nat))} {x : Int32} (hl : L.length < 2 ^ 31) (h0 : ¬ x < 0) (h : ¬ x < nI L.length) : pf_at L x = none := by
  obtain ⟨j, hj, rfl⟩ := nI_of h0
  unfold pf_at
  rw [if_neg h0, nI_clamp hj]
  exact List.getElem?_eq_none (Nat.not_lt.mp (fun q => h (nI_lt q hl)))
theorem pf_at_in {L : List (List (Nat × Nat))} {j : Nat} (hl : L.length < 2 ^ 31) (h : j < L.length) : pf_at L (nI j) = L[j]? := by
  unfold pf_at
  rw [if_neg (nI_pos (by omega)), nI_clamp (by omega)]
/-- the sum of all families -/
theorem pf_det_all {n : Nat} {st go : Nat → Nat} {B : Nat → Bool} {w : Nat → Int32} (hwf : pf_wf n st go) : pf_det (pf_M n go 0 st (pf_aT B w)) = pf_sum ((pf_L n st go B).map (pf_prod w)) := by
  have e : pf_src st 0 (st 0) = st := by
    funext k
    unfold pf_src
    by_cases h : k = 0
    · rw [if_pos h, h]
    · rw [if_neg h]
  have h := pf_lgv (w := w) hwf.2.1 hwf.2.2.1 hwf.2.2.2.1 hwf.2.2.2.2.1 hwf.2.2.2.2.2 30 0 (st 0) B (pf_cz_le 30) hwf.1 (by have := hwf.2.2.1 0 hwf.1; omega) (pf_Up_start hwf.2.2.1 hwf.2.2.2.2.1)
  rw [e, pf_G_F] at h
  exact h
/-- whether a family goes through a cell -/
def pf_has (c : Nat) (F : List (Nat × Nat)) : Bool := F.any (fun q => decide (q.1 = c))
def pf_hit (p : Option Nat) (F : List (Nat × Nat)) : Bool := match p with
  | none => false
  | some c => pf_has c F
theorem pf_prod_w {p q : Option Nat} : ∀ F : List (Nat × Nat), pf_prod (fun k => if (decide (some k = p) || decide (some k = q)) = true then 0 else 1) F = if (!pf_hit p F && !pf_hit q F) = true then 1 else 0 := by
  have hc : ∀ (p : Option Nat) (v i : Nat) (F : List (Nat × Nat)), pf_hit p ((v, i) :: F) = (decide (some v = p) || pf_hit p F) := by
    intro p v i F
    cases p with
    | none => simp [pf_hit]
    | some c => simp [pf_hit, pf_has]
  intro F
  induction F with
  | nil => cases p <;> cases q <;> rfl
  | cons a F ih =>
    obtain ⟨v, i⟩ := a
    show (if (decide (some v = p) || decide (some v = q)) = true then 0 else 1) * pf_prod _ F = _
    rw [ih, hc, hc]
    by_cases h1 : some v = p <;> by_cases h2 : some v = q <;> simp [h1, h2]
theorem pf_sum_count {P : List (Nat × Nat) → Bool} : ∀ L : List (List (Nat × Nat)), pf_sum (L.map (fun F => if P F = true then 1 else 0)) = nI (L.countP P) := by
  intro L
  induction L with
  | nil => rfl
  | cons F L ih =>
    show (if P F = true then 1 else 0) + pf_sum (L.map (fun F => if P F = true then 1 else 0)) = _
    rw [ih]
    by_cases h : P F = true
    · rw [if_pos h, List.countP_cons_of_pos h, ← nI_1]
      exact Int32.add_comm _ _
    · rw [if_neg h, List.countP_cons_of_neg h]
      simp
theorem pf_cw_count {n : Nat} {st go : Nat → Nat} {B : Nat → Bool} (hwf : pf_wf n st go) (p q : Option Nat) : pf_cw n st go B p q = nI ((pf_L n st go B).countP (fun F => !pf_hit p F && !pf_hit q F)) := by
  unfold pf_cw
  rw [show pf_aT (fun k => B k || (decide (some k = p) || decide (some k = q))) (fun _ => 1) = pf_aT B (fun k => if (decide (some k = p) || decide (some k = q)) = true then 0 else 1) from by
    funext k
    show (if (B k || (decide (some k = p) || decide (some k = q))) = true then (0 : Int32) else 1) = if B k = true then 0 else (if (decide (some k = p) || decide (some k = q)) = true then 0 else 1)
    by_cases h : B k = true
    · rw [if_pos h, h, Bool.true_or, if_pos rfl]
    · rw [if_neg h, show B k = false by simpa using h, Bool.false_or]]
  rw [pf_det_all hwf, ← pf_sum_count]
  congr 2
  funext F
  exact pf_prod_w F
theorem pf_cw_all {n : Nat} {st go : Nat → Nat} {B : Nat → Bool} (hwf : pf_wf n st go) : pf_cw n st go B none none = nI (pf_L n st go B).length := by
  rw [pf_cw_count hwf]
  congr 1
  exact List.countP_eq_length.mpr (fun F _ => rfl)
end
section
/-! PURE 9: finding a path by counts: the loop of findPath, the loop of load -/
def pf_or (B C : Nat → Bool) : Nat → Bool := fun c => B c || C c
/-- path i has gone q cells and is at v; e families are to be left before, f is fuel -/
def pf_fp (n : Nat) (st go : Nat → Nat) (B : Nat → Bool) (i : Nat) (sz0 pa0 : Nat → Nat) (F : List (Nat × Nat)) (q v e f : Nat) (C : Nat → Bool) (fr sz pa : Nat → Nat) : Prop :=
  (q + st i = v / 5 + v % 5 ∧ v < 30 ∧ sz i = q) ∧ ((∀ k, k ≠ i → sz k = sz0 k) ∧ (∀ p, p < 10 * i → pa p = pa0 p) ∧ (∀ j, j < q → pa (10 * i + j) < 30)) ∧ (∃ G, F = pf_seg pa i q ++ G ∧ (pf_F n st go f i v (pf_or B C))[e]? = some G) ∧ (pf_cz (pf_or B C) 30 ≤ f ∧ f ≤ 30) ∧ pf_Up n st i v (va_up (pf_or B C) v true) ∧ (fr i = v ∧ ∀ k, i < k → k < n → fr k = st k)
/-- path i is found -/
def pf_fq (n : Nat) (st go : Nat → Nat) (B : Nat → Bool) (i : Nat) (sz0 pa0 : Nat → Nat) (F : List (Nat × Nat)) (e f : Nat) (C : Nat → Bool) (fr sz pa : Nat → Nat) : Prop :=
  (pf_cz (pf_or B C) 30 ≤ f ∧ f ≤ 30) ∧ (sz i ≤ 10 ∧ ∀ j, j < sz i → pa (10 * i + j) < 30) ∧ ((∀ k, k ≠ i → sz k = sz0 k) ∧ (∀ p, p < 10 * i → pa p = pa0 p)) ∧ (∀ k, i < k → k < n → fr k = st k) ∧ (i + 1 < n → ∃ G, F = pf_seg pa i (sz i) ++ G ∧ (pf_F n st go f (i + 1) (st (i + 1)) (pf_or B C))[e]? = some G) ∧ (¬ i + 1 < n → F = pf_seg pa i (sz i))
theorem pf_lt_of_get {n : Nat} {st go : Nat → Nat} {f i v e : Nat} {T : Nat → Bool} {G : List (Nat × Nat)} (hf : f ≤ 30) (h : (pf_F n st go f i v T)[e]? = some G) : e < 2 ^ 31 := Nat.lt_trans (List.getElem?_eq_some_iff.mp h).1 (pf_F_lt hf)
theorem pf_fp_e {n : Nat} {st go : Nat → Nat} {B : Nat → Bool} {i : Nat} {sz0 pa0 : Nat → Nat} {F : List (Nat × Nat)} {q v e f : Nat} {C : Nat → Bool} {fr sz pa : Nat → Nat} (h : pf_fp n st go B i sz0 pa0 F q v e f C fr sz pa) : e < 2 ^ 31 := by
  obtain ⟨-, -, ⟨G, -, h⟩, ⟨-, hf⟩, -, -⟩ := h
  exact pf_lt_of_get hf h
theorem pf_fp_0 {n : Nat} {st go : Nat → Nat} {B : Nat → Bool} {i : Nat} {F : List (Nat × Nat)} {e f : Nat} {C : Nat → Bool} {fr sz pa : Nat → Nat} (hwf : pf_wf n st go) (hi : i < n) (hF : (pf_F n st go f i (st i) (pf_or B C))[e]? = some F) (hcz : pf_cz (pf_or B C) 30 ≤ f) (hf : f ≤ 30) (hfr : ∀ k, i ≤ k → k < n → fr k = st k) : pf_fp n st go B i sz pa F 0 (st i) e f C fr (va_up sz i 0) pa := by
  have h5 := hwf.2.2.1 i hi
  exact ⟨⟨by omega, by omega, if_pos rfl⟩, ⟨fun k hk => if_neg hk, fun _ _ => rfl, fun j hj => absurd hj (Nat.not_lt_zero j)⟩, ⟨F, rfl, hF⟩, ⟨hcz, hf⟩, pf_Up_start hwf.2.2.1 hwf.2.2.2.2.1, hfr i (Nat.le_refl i) hi, fun k hk hn => hfr k (by omega) hn⟩
theorem pf_or_up {B C C9 : Nat → Bool} {v : Nat} (hC : ∀ c, c < 30 → C9 c = va_up C v true c) : ∀ k, k < 30 → pf_or B C9 k = va_up (pf_or B C) v true k := by
  intro k hk
  show (B k || C9 k) = if k = v then true else (B k || C k)
  rw [hC k hk]
  show (B k || (if k = v then true else C k)) = _
  by_cases h : k = v
  · rw [if_pos h, if_pos h, Bool.or_true]
  · rw [if_neg h, if_neg h]
theorem pf_seg_up {pa : Nat → Nat} {i q v : Nat} : pf_seg (va_up pa (10 * i + q) v) i (q + 1) = pf_seg pa i q ++ [(v, i)] := by
  show pf_seg (va_up pa (10 * i + q) v) i q ++ [(va_up pa (10 * i + q) v (10 * i + q), i)] = _
  rw [pf_seg_congr (pa' := pa) q (fun j hj => if_neg (by omega)), show va_up pa (10 * i + q) v (10 * i + q) = v from if_pos rfl]
theorem pf_fp_goal {n : Nat} {st go : Nat → Nat} {B : Nat → Bool} {i : Nat} {sz0 pa0 : Nat → Nat} {F : List (Nat × Nat)} {q v e f : Nat} {C C9 : Nat → Bool} {fr sz pa : Nat → Nat} (hwf : pf_wf n st go) (hi : i < n) (h : pf_fp n st go B i sz0 pa0 F q v e f C fr sz pa) (hv : v = go i) (hC : ∀ c, c < 30 → C9 c = va_up C v true c) : ∃ f', pf_fq n st go B i sz0 pa0 F e f' C9 fr (va_up sz i (sz i + 1)) (va_up pa (10 * i + q) v) := by
  obtain ⟨⟨h1, h2, h3⟩, ⟨h4, h5, h6⟩, ⟨G, h7, h8⟩, ⟨h9, h10⟩, h11, h12, h13⟩ := h
  obtain ⟨f', rfl, hT, R, hR, hR1, hR2⟩ := pf_F_goal hv h8
  have hcz : pf_cz (pf_or B C9) 30 ≤ f' := by
    rw [pf_cz_congr 30 (pf_or_up hC)]
    have := pf_cz_up hT 30 h2
    omega
  have hs : va_up sz i (sz i + 1) i = q + 1 := by
    show (if i = i then sz i + 1 else sz i) = q + 1
    rw [if_pos rfl, h3]
  have hq : q ≤ 9 := by omega
  refine ⟨f', ⟨hcz, by omega⟩, ⟨by rw [hs]; omega, fun j hj => ?_⟩, ⟨fun k hk => (if_neg hk).trans (h4 k hk), fun p hp => (if_neg (by omega)).trans (h5 p hp)⟩, h13, fun c => ⟨R, ?_, ?_⟩, fun c => ?_⟩
  · rw [hs] at hj
    show (if 10 * i + j = 10 * i + q then v else pa (10 * i + j)) < 30
    by_cases e : j = q
    · rw [if_pos (by omega)]; exact h2
    · rw [if_neg (by omega)]; exact h6 j (by omega)
  · rw [hs, pf_seg_up, h7, hR, List.append_assoc]; rfl
  · rw [pf_F_congr (fun k hk => by have := hwf.2.2.1 k hk; omega) (fun k hk => (hwf.2.2.2.1 k hk).2) f' (i + 1) (st (i + 1)) _ _ c (by have := hwf.2.2.1 (i + 1) c; omega) (pf_or_up hC)]
    exact hR1 c
  · rw [hs, pf_seg_up, h7, hR, hR2 c]
set_option maxHeartbeats 2000000 in
theorem pf_fp_next {n : Nat} {st go : Nat → Nat} {B : Nat → Bool} {i : Nat} {sz0 pa0 : Nat → Nat} {F : List (Nat × Nat)} {q v e f : Nat} {C : Nat → Bool} {fr sz pa : Nat → Nat} {w : Nat → Int32} (hwf : pf_wf n st go) (hi : i < n) (h : pf_fp n st go B i sz0 pa0 F q v e f C fr sz pa) (hv : v ≠ go i) :
    ∃ f' m, C v = false ∧ m < 2 ^ 31 ∧ (if v < 25 then pf_det (pf_M n go i (va_up fr i (v + 5)) (pf_a B (va_up C v true) false w)) else 0) = nI m ∧ (∀ C9 f9, (∀ c, c < 30 → C9 c = va_up C v true c) → (∀ k, k < n → f9 k = fr k) → (e < m → v < 25 ∧ pf_fp n st go B i sz0 pa0 F (q + 1) (v + 5) e f' C9 (va_up f9 i (v + 5)) (va_up sz i (sz i + 1)) (va_up pa (10 * i + q) v)) ∧ (m ≤ e → v % 5 < 4 ∧ pf_fp n st go B i sz0 pa0 F (q + 1) (v + 1) (e - m) f' C9 (va_up f9 i (v + 1)) (va_up sz i (sz i + 1)) (va_up pa (10 * i + q) v))) := by
  obtain ⟨⟨h1, h2, h3⟩, ⟨h4, h5, h6⟩, ⟨G, h7, h8⟩, ⟨h9, h10⟩, h11, h12, h13⟩ := h
  obtain ⟨f', rfl, hT, R, hR, hRD⟩ := pf_F_next hv h8
  have hgi := hwf.2.2.2.1 i hi
  have hst30 : ∀ k, k < n → st k < 30 := fun k hk => by have := hwf.2.2.1 k hk; omega
  have hgo30 : ∀ k, k < n → go k < 30 := fun k hk => (hwf.2.2.2.1 k hk).2
  have hcz : pf_cz (va_up (pf_or B C) v true) 30 ≤ f' := by
    have := pf_cz_up hT 30 h2
    omega
  have hCv : C v = false := by
    have h : (B v || C v) = false := hT
    simp at h
    exact h.2
  have hsub : ∀ u k, va_up (pf_or B C) v true k = true → va_up (va_up (pf_or B C) v true) u true k = true := by
    intro u k h
    show (if k = u then true else va_up (pf_or B C) v true k) = true
    by_cases c : k = u
    · rw [if_pos c]
    · rw [if_neg c]; exact h
  have hs : va_up sz i (sz i + 1) i = q + 1 := by
    show (if i = i then sz i + 1 else sz i) = q + 1
    rw [if_pos rfl, h3]
  have hdet : (if v < 25 then pf_det (pf_M n go i (va_up fr i (v + 5)) (pf_a B (va_up C v true) false w)) else 0) = nI (if v < 25 then pf_F n st go f' i (v + 5) (va_up (pf_or B C) v true) else []).length := by
    by_cases c : v < 25
    · rw [if_pos c, if_pos c, ← pf_lgv_len hwf hcz hi (by omega) (pf_Up_right h11 (hsub _))]
      rw [pf_M_congr (src' := pf_src st i (v + 5)) (a' := pf_aT (va_up (pf_or B C) v true) (fun _ => 1)) hgo30 (fun k hk hkn => ?_) (fun k hk => ?_)]
      · show (if k = i then v + 5 else fr k) = if k = i then v + 5 else st k
        by_cases e : k = i
        · rw [if_pos e, if_pos e]
        · rw [if_neg e, if_neg e, h13 k (by omega) hkn]
      · show (if (B k || va_up C v true k) = true then 0 else (if false = true then w k else 1)) = if va_up (pf_or B C) v true k = true then 0 else 1
        rw [← pf_or_up (B := B) (C9 := va_up C v true) (fun _ _ => rfl) k hk]
        rfl
    · rw [if_neg c, if_neg c]; rfl
  refine ⟨f', _, hCv, ?_, hdet, ?_⟩
  · by_cases c : v < 25
    · rw [if_pos c]; exact pf_F_lt (by omega)
    · rw [if_neg c]; decide
  · intro C9 f9 hC hf9
    have hor := pf_or_up (B := B) hC
    have hcz9 : pf_cz (pf_or B C9) 30 ≤ f' := by rw [pf_cz_congr 30 hor]; exact hcz
    have hpa : ∀ j, j < q + 1 → va_up pa (10 * i + q) v (10 * i + j) < 30 := by
      intro j hj
      show (if 10 * i + j = 10 * i + q then v else pa (10 * i + j)) < 30
      by_cases e : j = q
      · rw [if_pos (by omega)]; exact h2
      · rw [if_neg (by omega)]; exact h6 j (by omega)
    have hfr : ∀ u k, i < k → k < n → va_up f9 i u k = st k := by
      intro u k hk hkn
      show (if k = i then u else f9 k) = st k
      rw [if_neg (by omega), hf9 k hkn]; exact h13 k hk hkn
    have hFe : F = pf_seg (va_up pa (10 * i + q) v) i (q + 1) ++ R := by
      rw [pf_seg_up, h7, hR, List.append_assoc]; rfl
    refine ⟨fun hl => ?_, fun hl => ?_⟩
    · rcases hRD with ⟨a1, a2, a3⟩ | ⟨a1, -, -⟩
      · refine ⟨a2, ⟨by omega, by omega, hs⟩, ⟨fun k hk => (if_neg hk).trans (h4 k hk), fun p hp => (if_neg (by omega)).trans (h5 p hp), hpa⟩, ⟨R, hFe, ?_⟩, ⟨hcz9, by omega⟩, ?_, if_pos rfl, hfr _⟩
        · rw [pf_F_congr hst30 hgo30 f' i (v + 5) _ _ hi (by omega) hor]; exact a3
        · refine pf_Up_mono hwf.2.2.1 (fun k hk hq => ?_) (pf_Up_right (T' := va_up (va_up (pf_or B C) v true) (v + 5) true) h11 (hsub _))
          show (if k = v + 5 then true else pf_or B C9 k) = true
          rw [hor k hk]; exact hq
      · exact absurd hl (by omega)
    · rcases hRD with ⟨a1, -, -⟩ | ⟨a1, a2, a3⟩
      · exact absurd hl (by omega)
      · have hv4 : v % 5 < 4 := by omega
        refine ⟨hv4, ⟨by omega, by omega, hs⟩, ⟨fun k hk => (if_neg hk).trans (h4 k hk), fun p hp => (if_neg (by omega)).trans (h5 p hp), hpa⟩, ⟨R, hFe, ?_⟩, ⟨hcz9, by omega⟩, ?_, if_pos rfl, hfr _⟩
        · rw [pf_F_congr hst30 hgo30 f' i (v + 1) _ _ hi (by omega) hor]; exact a3
        · refine pf_Up_mono hwf.2.2.1 (fun k hk hq => ?_) (pf_Up_down (T' := va_up (va_up (pf_or B C) v true) (v + 1) true) hwf.2.2.1 h11 hv4 (hsub _) (if_pos rfl))
          show (if k = v + 1 then true else pf_or B C9 k) = true
          rw [hor k hk]; exact hq
/-- load: the first i paths are found -/
def pf_ld (n : Nat) (st go : Nat → Nat) (B : Nat → Bool) (F : List (Nat × Nat)) (i e f : Nat) (C : Nat → Bool) (fr sz pa : Nat → Nat) : Prop :=
  i ≤ n ∧ e < 2 ^ 31 ∧ (∀ k, k < i → sz k ≤ 10 ∧ ∀ j, j < sz k → pa (10 * k + j) < 30) ∧ (∀ k, i ≤ k → k < n → fr k = st k) ∧ (i < n → (pf_cz (pf_or B C) 30 ≤ f ∧ f ≤ 30) ∧ ∃ G, F = pf_lay sz pa i ++ G ∧ (pf_F n st go f i (st i) (pf_or B C))[e]? = some G) ∧ (¬ i < n → F = pf_lay sz pa i)
theorem pf_ld_0 {n : Nat} {st go : Nat → Nat} {B : Nat → Bool} {F : List (Nat × Nat)} {e : Nat} {C : Nat → Bool} {fr sz pa : Nat → Nat} (hwf : pf_wf n st go) (hF : (pf_L n st go B)[e]? = some F) (hC : ∀ j, j < 30 → C j = false) (hfr : ∀ k, k < n → fr k = st k) : pf_ld n st go B F 0 e 30 C fr sz pa := by
  refine ⟨Nat.zero_le n, pf_lt_of_get (Nat.le_refl 30) hF, fun k hk => absurd hk (Nat.not_lt_zero k), fun k _ hk => hfr k hk, fun h0 => ⟨⟨pf_cz_le 30, Nat.le_refl 30⟩, F, rfl, ?_⟩, fun h => absurd hwf.1 (by omega)⟩
  rw [pf_F_congr (fun k hk => by have := hwf.2.2.1 k hk; omega) (fun k hk => (hwf.2.2.2.1 k hk).2) 30 0 (st 0) _ B h0 (by have := hwf.2.2.1 0 h0; omega) (fun k hk => ?_)]
  · exact hF
  · show (B k || C k) = B k
    rw [hC k hk, Bool.or_false]
theorem pf_ld_s {n : Nat} {st go : Nat → Nat} {B : Nat → Bool} {F G : List (Nat × Nat)} {i e f e' f' : Nat} {C C' : Nat → Bool} {fr sz pa fr' sz' pa' : Nat → Nat} (h : pf_ld n st go B F i e f C fr sz pa) (hi : i < n) (hG : F = pf_lay sz pa i ++ G) (he : e' < 2 ^ 31) (hq : pf_fq n st go B i sz pa G e' f' C' fr' sz' pa') : pf_ld n st go B F (i + 1) e' f' C' fr' sz' pa' := by
  obtain ⟨-, -, h3, h4, h5, -⟩ := h
  obtain ⟨⟨q1, q2⟩, ⟨q3, q4⟩, ⟨q5, q6⟩, q7, q8, q9⟩ := hq
  have hl : pf_lay sz' pa' (i + 1) = pf_lay sz pa i ++ pf_seg pa' i (sz' i) := by
    show pf_lay sz' pa' i ++ pf_seg pa' i (sz' i) = _
    rw [pf_lay_congr (sz' := sz) (pa' := pa) i (fun k hk => q5 k (by omega)) (fun k hk => by rw [q5 k (by omega)]; exact (h3 k hk).1) (fun p hp => q6 p hp)]
  refine ⟨hi, he, fun k hk => ?_, fun k hk hn => q7 k hk hn, fun hn => ⟨⟨q1, q2⟩, ?_⟩, fun hn => ?_⟩
  · by_cases e : k = i
    · subst e
      exact ⟨q3, q4⟩
    · have hk' : k < i := by omega
      rw [q5 k e]
      refine ⟨(h3 k hk').1, fun j hj => ?_⟩
      have hs := (h3 k hk').1
      rw [q6 _ (by omega)]
      exact (h3 k hk').2 j hj
  · obtain ⟨G', g1, g2⟩ := q8 hn
    exact ⟨G', by rw [hl, hG, g1, List.append_assoc], g2⟩
  · rw [hl, hG, q9 hn]
end
section
/-! PURE 10: the model's arrays as a stack -/
def pf_kok (n : Nat) : pf_K → Prop
  | [] => True
  | q :: S => (q.1 < 30 ∧ q.2.1 < n ∧ q.2.2 ≤ 2) ∧ pf_in q.1 S = false ∧ pf_kok n S
theorem pf_in_up {v i t : Nat} {S : pf_K} : (fun c => pf_in c ((v, i, t) :: S)) = va_up (fun c => pf_in c S) v true := by
  funext c
  show (decide (c = v) || pf_in c S) = if c = v then true else pf_in c S
  by_cases h : c = v
  · rw [if_pos h]; simp [h]
  · rw [if_neg h]; simp [h]
theorem pf_kok_cz {n : Nat} : ∀ S : pf_K, pf_kok n S → S.length + pf_cz (fun c => pf_in c S) 30 = 30 := by
  intro S
  induction S with
  | nil => intro _; rfl
  | cons q S ih =>
    obtain ⟨v, i, t⟩ := q
    intro h
    obtain ⟨⟨h1, -, -⟩, h2, h3⟩ := h
    have := ih h3
    have h4 := pf_cz_up (T := fun c => pf_in c S) (u := v) h2 30 h1
    rw [pf_in_up, List.length_cons]
    omega
theorem pf_kok_len {n : Nat} {S : pf_K} (h : pf_kok n S) : S.length ≤ 30 := by
  have := pf_kok_cz S h
  omega
def pf_rep (wk ow tr : Nat → Nat) : pf_K → Prop
  | [] => True
  | q :: S => (wk S.length = q.1 ∧ ow S.length = q.2.1 ∧ tr S.length = q.2.2) ∧ pf_rep wk ow tr S
theorem pf_rep_congr {wk ow tr wk' ow' tr' : Nat → Nat} : ∀ S : pf_K, (∀ k, k < S.length → wk' k = wk k ∧ ow' k = ow k ∧ tr' k = tr k) → pf_rep wk ow tr S → pf_rep wk' ow' tr' S := by
  intro S
  induction S with
  | nil => intro _ _; trivial
  | cons q S ih =>
    intro h hr
    have h0 := h S.length (by rw [List.length_cons]; omega)
    exact ⟨⟨h0.1.trans hr.1.1, h0.2.1.trans hr.1.2.1, h0.2.2.trans hr.1.2.2⟩, ih (fun k hk => h k (by rw [List.length_cons]; omega)) hr.2⟩
/-- the model's search stands at the stack S -/
def pf_mm (n : Nat) (S : pf_K) (g : Nat) (wk ow tr : Nat → Nat) (tk : Nat → Bool) : Prop := g = S.length ∧ pf_rep wk ow tr S ∧ (∀ c, c < 30 → tk c = pf_in c S) ∧ pf_kok n S
theorem pf_mm_len {n : Nat} {S : pf_K} {g : Nat} {wk ow tr : Nat → Nat} {tk : Nat → Bool} (h : pf_mm n S g wk ow tr tk) : g ≤ 30 := by
  rw [h.1]; exact pf_kok_len h.2.2.2
theorem pf_mm_top {n v i t : Nat} {S : pf_K} {g : Nat} {wk ow tr : Nat → Nat} {tk : Nat → Bool} (h : pf_mm n ((v, i, t) :: S) g wk ow tr tk) : (g = S.length + 1 ∧ wk (g - 1) = v ∧ ow (g - 1) = i ∧ tr (g - 1) = t) ∧ (v < 30 ∧ i < n ∧ t ≤ 2) := by
  obtain ⟨h1, ⟨h2, -⟩, -, ⟨h3, -, -⟩⟩ := h
  have e : g = S.length + 1 := h1
  subst e
  exact ⟨⟨rfl, h2.1, h2.2.1, h2.2.2⟩, h3⟩
theorem pf_mm_push {n c j : Nat} {B : Nat → Bool} {S : pf_K} {g : Nat} {wk ow tr : Nat → Nat} {tk : Nat → Bool} (h : pf_mm n S g wk ow tr tk) (hc : c < 30) (hj : j < n) (hB : B c = false) (ht : tk c = false) : pf_mm n (pf_push B c j S) (g + 1) (va_up wk g c) (va_up ow g j) (va_up tr g 0) (va_up tk c true) := by
  obtain ⟨h1, h2, h3, h4⟩ := h
  have hin : pf_in c S = false := by rw [← h3 c hc]; exact ht
  rw [show pf_push B c j S = (c, j, 0) :: S from if_neg (by rw [hB, hin]; simp)]
  subst h1
  refine ⟨rfl, ⟨⟨if_pos rfl, if_pos rfl, if_pos rfl⟩, pf_rep_congr S (fun k hk => ⟨if_neg (by omega), if_neg (by omega), if_neg (by omega)⟩) h2⟩, fun q hq => ?_, ⟨hc, hj, Nat.zero_le 2⟩, hin, h4⟩
  have e := congrFun (pf_in_up (v := c) (i := j) (t := 0) (S := S)) q
  rw [e]
  show (if q = c then true else tk q) = if q = c then true else pf_in q S
  rw [h3 q hq]
theorem pf_mm_skip {n c j : Nat} {B : Nat → Bool} {S : pf_K} {g : Nat} {wk ow tr : Nat → Nat} {tk : Nat → Bool} (h : pf_mm n S g wk ow tr tk) (hc : c < 30) (hB : B c = true ∨ tk c = true) : pf_push B c j S = S := by
  refine if_pos ?_
  rw [← h.2.2.1 c hc]; exact hB
theorem pf_mm_pop {n v i t : Nat} {S : pf_K} {g : Nat} {wk ow tr tr' : Nat → Nat} {tk : Nat → Bool} (h : pf_mm n ((v, i, t) :: S) g wk ow tr tk) (ht : ∀ k, k < S.length → tr' k = tr k) : pf_mm n S (g - 1) wk ow tr' (va_up tk v false) := by
  obtain ⟨h1, ⟨h2, h2'⟩, h3, ⟨h4, h5, h6⟩⟩ := h
  have e : g = S.length + 1 := h1
  subst e
  refine ⟨rfl, pf_rep_congr S (fun k hk => ⟨rfl, rfl, ht k hk⟩) h2', fun q hq => ?_, h6⟩
  show (if q = v then false else tk q) = pf_in q S
  by_cases e : q = v
  · rw [if_pos e, e]; exact h5.symm
  · rw [if_neg e, h3 q hq]
    show (decide (q = v) || pf_in q S) = pf_in q S
    simp [e]
theorem pf_mm_try {n v i t : Nat} {S : pf_K} {g : Nat} {wk ow tr : Nat → Nat} {tk : Nat → Bool} (h : pf_mm n ((v, i, t) :: S) g wk ow tr tk) (ht : t ≤ 1) : pf_mm n ((v, i, t + 1) :: S) g wk ow (va_up tr (g - 1) (t + 1)) tk := by
  obtain ⟨h1, ⟨h2, h2'⟩, h3, ⟨h4, h5, h6⟩⟩ := h
  have e : g = S.length + 1 := h1
  subst e
  exact ⟨rfl, ⟨⟨h2.1, h2.2.1, if_pos rfl⟩, pf_rep_congr S (fun k hk => ⟨rfl, rfl, if_neg (by omega)⟩) h2'⟩, h3, ⟨⟨h4.1, h4.2.1, Nat.succ_le_succ ht⟩, h5, h6⟩⟩
theorem pf_mm_nil {n g : Nat} {S : pf_K} {wk ow tr : Nat → Nat} {tk : Nat → Bool} (h : pf_mm n S g wk ow tr tk) (h0 : g = 0) : S = [] := List.eq_nil_of_length_eq_zero (by rw [← h.1, h0])
theorem pf_mm_cons {n g : Nat} {S : pf_K} {wk ow tr : Nat → Nat} {tk : Nat → Bool} (h : pf_mm n S g wk ow tr tk) (h0 : 0 < g) : ∃ v i t S', S = (v, i, t) :: S' := by
  cases S with
  | nil => exact absurd h.1 (by simp; omega)
  | cons q S => exact ⟨q.1, q.2.1, q.2.2, S, rfl⟩
/-- the first k cells and their paths -/
def pf_tak (wk ow : Nat → Nat) : Nat → List (Nat × Nat)
  | 0 => []
  | k + 1 => pf_tak wk ow k ++ [(wk k, ow k)]
theorem pf_tak_rep {wk ow tr : Nat → Nat} : ∀ S : pf_K, pf_rep wk ow tr S → pf_tak wk ow S.length = pf_fam S := by
  intro S
  induction S with
  | nil => intro _; rfl
  | cons q S ih =>
    intro h
    show pf_tak wk ow S.length ++ [(wk S.length, ow S.length)] = pf_fam (q :: S)
    rw [ih h.2, h.1.1, h.1.2.1]
    simp [pf_fam]
theorem pf_mm_tak {n g : Nat} {S : pf_K} {wk ow tr : Nat → Nat} {tk : Nat → Bool} (h : pf_mm n S g wk ow tr tk) : pf_tak wk ow g = pf_fam S := by
  rw [h.1]; exact pf_tak_rep S h.2.1
theorem pf_tak_congr {wk ow wk' ow' : Nat → Nat} : ∀ k, (∀ j, j < k → wk j = wk' j ∧ ow j = ow' j) → pf_tak wk ow k = pf_tak wk' ow' k := by
  intro k
  induction k with
  | zero => intro _; rfl
  | succ k ih =>
    intro h
    show pf_tak wk ow k ++ [(wk k, ow k)] = pf_tak wk' ow' k ++ [(wk' k, ow' k)]
    rw [ih (fun j hj => h j (by omega)), (h k (by omega)).1, (h k (by omega)).2]
theorem pf_rep_lt {n : Nat} {wk ow tr : Nat → Nat} : ∀ S : pf_K, pf_rep wk ow tr S → pf_kok n S → ∀ k, k < S.length → wk k < 30 := by
  intro S
  induction S with
  | nil => intro _ _ k hk; exact absurd hk (Nat.not_lt_zero k)
  | cons q S ih =>
    intro h hk k hl
    by_cases e : k = S.length
    · rw [e, h.1.1]; exact hk.1.1
    · exact ih h.2 hk.2.2 k (by rw [List.length_cons] at hl; omega)
theorem pf_mm_lt {n g : Nat} {S : pf_K} {wk ow tr : Nat → Nat} {tk : Nat → Bool} (h : pf_mm n S g wk ow tr tk) : ∀ k, k < g → wk k < 30 := by
  intro k hk
  rw [h.1] at hk
  exact pf_rep_lt S h.2.1 h.2.2.2 k hk
theorem pf_has_fam {c : Nat} : ∀ S : pf_K, pf_has c (pf_fam S) = pf_in c S := by
  intro S
  induction S with
  | nil => rfl
  | cons q S ih =>
    have e : pf_fam (q :: S) = pf_fam S ++ [(q.1, q.2.1)] := by simp [pf_fam]
    unfold pf_has at ih ⊢
    rw [e, List.any_append, ih]
    show (pf_in c S || (decide (q.1 = c) || false)) = (decide (c = q.1) || pf_in c S)
    rw [Bool.or_false, Bool.or_comm]
    congr 1
    by_cases h : q.1 = c
    · simp [h]
    · have h' : ¬ c = q.1 := fun e => h e.symm
      simp [h, h']
theorem pf_em_nil {n : Nat} {st go : Nat → Nat} {B : Nat → Bool} : ∀ m, pf_em n st go B m [] = [] := by
  intro m
  induction m with
  | zero => rfl
  | succ m ih =>
    show (if false = true then _ else []) ++ pf_em n st go B m [] = []
    rw [ih]; rfl
/-- what nextFamily leaves: L is what is to come -/
def pf_nx (n : Nat) (st go : Nat → Nat) (B : Nat → Bool) (L : List (List (Nat × Nat))) (b : Bool) (S : pf_K) : Prop := match L with
  | [] => b = false ∧ S = []
  | X :: L' => b = true ∧ S ≠ [] ∧ pf_fam S = X ∧ pf_go n st go B (pf_on n st go B S) L' []
theorem pf_nx_t {n : Nat} {st go : Nat → Nat} {B : Nat → Bool} {L : List (List (Nat × Nat))} {b : Bool} {S : pf_K} (h : pf_nx n st go B L b S) (hb : b = true) : ∃ L', L = pf_fam S :: L' ∧ S ≠ [] ∧ pf_go n st go B (pf_on n st go B S) L' [] := by
  cases L with
  | nil => exact absurd (h.1.symm.trans hb) (by decide)
  | cons X L' => exact ⟨L', by rw [h.2.2.1], h.2.1, h.2.2.2⟩
theorem pf_nx_f {n : Nat} {st go : Nat → Nat} {B : Nat → Bool} {L : List (List (Nat × Nat))} {b : Bool} {S : pf_K} (h : pf_nx n st go B L b S) (hb : b = false) : L = [] := by
  cases L with
  | nil => rfl
  | cons X L' => exact absurd (h.1.symm.trans hb) (by decide)
theorem pf_begin {n : Nat} {st go : Nat → Nat} {B : Nat → Bool} (hwf : pf_wf n st go) : pf_go n st go B (pf_push B (st 0) 0 []) (pf_L n st go B) [] := by
  have h0 := hwf.2.2.1 0 hwf.1
  have h := pf_enum (n := n) (st := st) (go := go) (B := B) (fun k hk => by have := hwf.2.2.1 k hk; omega) 30 0 (st 0) [] (pf_cz_le 30) hwf.1 (by omega)
  have e1 : (fun c => B c || pf_in c []) = B := by funext c; exact Bool.or_false _
  have e2 : (fun F => pf_fam [] ++ F) = (id : List (Nat × Nat) → List (Nat × Nat)) := rfl
  rw [e1, e2, List.map_id] at h
  exact h
/-- the cells from a place on -/
def pf_tkf (wk ow : Nat → Nat) : Nat → Nat → List (Nat × Nat)
  | _, 0 => []
  | k, m + 1 => (wk k, ow k) :: pf_tkf wk ow (k + 1) m
theorem pf_tkf_snoc {wk ow : Nat → Nat} : ∀ m k, pf_tkf wk ow k (m + 1) = pf_tkf wk ow k m ++ [(wk (k + m), ow (k + m))] := by
  intro m
  induction m with
  | zero => intro k; rfl
  | succ m ih =>
    intro k
    show (wk k, ow k) :: pf_tkf wk ow (k + 1) (m + 1) = (wk k, ow k) :: pf_tkf wk ow (k + 1) m ++ _
    rw [ih (k + 1), show k + 1 + m = k + (m + 1) by omega]
    rfl
theorem pf_tkf_tak {wk ow : Nat → Nat} : ∀ m, pf_tkf wk ow 0 m = pf_tak wk ow m := by
  intro m
  induction m with
  | zero => rfl
  | succ m ih =>
    rw [pf_tkf_snoc, ih, Nat.zero_add]
    rfl
/-- the cell that is asked for, in a family -/
def pf_cl (x y : Int32) : List (Nat × Nat) → Nat → Int32
  | [], _ => -4
  | q :: F, b => if nI q.2 = x then (if nI b = y then nI q.1 else pf_cl x y F (b + 1)) else pf_cl x y F b
theorem pf_no30 {x : Int32} (h : ¬ x ≤ nI 29) : nI 30 ≤ x := by
  rcases pk_ix x (n := 30) (by decide) with q | q | ⟨j, hj, rfl⟩
  · exact absurd (Int32.le_of_lt (Int32.lt_trans q (by decide))) h
  · exact q
  · exact absurd (nI_le (by omega) (by decide)) h
theorem pf_no29 {x : Int32} (h : x ≤ nI 29) : ¬ nI 30 ≤ x := fun q => absurd (Int32.le_trans q h) (by decide)
theorem pf_drop_cons {α : Type} {L L' : List α} {X : α} {k : Nat} (h : L.drop k = X :: L') : L[k]? = some X ∧ L.drop (k + 1) = L' := by
  constructor
  · have := congrArg (fun l => l[0]?) h
    simpa using this
  · rw [← List.drop_drop, h]; rfl
end
section
set_option maxRecDepth 100000
abbrev vwCl : List vw_C := [(RX0, TX0, 13), (RX1, TX1, 15)]
def b2 (b : Bool) : Int32 := if b = true then 1 else 0
def bz (B : Nat → Bool) : Nat → Int32 := fun k => b2 (B k)
def nz (N : Nat → Nat) : Nat → Int32 := fun k => nI (N k)
theorem b2_t : b2 true = 1 := rfl
theorem b2_f : b2 false = 0 := rfl
theorem b2_1 : (1 : Int32) = b2 true := rfl
theorem b2_0 : (0 : Int32) = b2 false := rfl
theorem b2_eq0 {b : Bool} (h : b2 b = 0) : b = false := by cases b; rfl; exact absurd h (by decide)
theorem b2_ne0 {b : Bool} (h : ¬ b2 b = 0) : b = true := by cases b; exact absurd rfl h; rfl
theorem b2_nar (b : Bool) : narrow .boolean (.int (b2 b)) = .int (b2 b) := by cases b <;> rfl
theorem b2_fit (b : Bool) : fits .boolean (.int (b2 b)) = true := by cases b <;> rfl
theorem b2_vn (b : Bool) : vp_nar .boolean (b2 b) = b2 b := by cases b <;> rfl
theorem bz_up (B : Nat → Bool) (k : Nat) (b : Bool) : upd (bz B) k (b2 b) = bz (va_up B k b) := by
  funext j
  show (if j = k then b2 b else b2 (B j)) = b2 (if j = k then b else B j)
  by_cases h : j = k
  · rw [if_pos h, if_pos h]
  · rw [if_neg h, if_neg h]
theorem nz_up (N : Nat → Nat) (k v : Nat) : upd (nz N) k (nI v) = nz (va_up N k v) := by
  funext j
  show (if j = k then nI v else nI (N j)) = nI (if j = k then v else N j)
  by_cases h : j = k
  · rw [if_pos h, if_pos h]
  · rw [if_neg h, if_neg h]
theorem nI_lt128 {P : Nat → Prop} {v : Nat} (hv : v < 128) (h : ∀ k, k < 128 → P k) : P v := h v hv
theorem nI_byte {v : Nat} (hv : v < 128) : (nI v).toInt8.toInt32 = nI v := by
  have h : ∀ k : Fin 128, (nI k.val).toInt8.toInt32 = nI k.val := by decide +kernel
  exact h ⟨v, hv⟩
theorem nI_vb {v : Nat} (hv : v < 128) : vp_nar .byte (nI v) = nI v := by rw [vp_nar_byte]; exact nI_byte hv
/-- a world at a heap -/
def wd (D : va_G) (A : Nat → Prop) (H0 : Heap) (ws : va_W) (H : Heap) (locs : List Loc) : Prop := va_P D vwCl ws H ∧ va_D A ws ∧ va_S A H0 H locs
/-- a contract's start and its end -/
abbrev pcW (D : va_G) (tys : List (ClassId × FieldType)) (hz : Nat) (ws : va_W) : State → Prop := fun U => U.heap.size = hz ∧ va_P D vwCl ws U.heap ∧ va_K D vwCl tys U ∧ va_D (fun _ => True) ws
abbrev bW (D : va_G) (tys : List (ClassId × FieldType)) (A : Nat → Prop) (ws : va_W) (t : State) : Prop := va_P D vwCl ws t.heap ∧ va_K D vwCl tys t ∧ va_D A ws
def w0 (a : Nat → Nat) (cA : Nat → ClassId) (B : Nat → Bool) (w : Nat → Int32) (n : Nat) (st : Nat → Nat) (go : Nat → Nat) (C : Nat → Bool) (fr : Nat → Nat) (wy : Nat → Int32) (mx : Nat → Int32) (ld : Bool) (nu : Int32) (sz : Nat → Nat) (pa : Nat → Nat) : va_W := [(a 0, .inr (0, [.ref (a 1), .ref (a 2), .int (nI n), .ref (a 3), .ref (a 4), .ref (a 5), .ref (a 6), .ref (a 7), .ref (a 8), .int (b2 ld), .int nu, .ref (a 9), .ref (a 10)])), (a 1, .inl (cA 1, 30, .inl (bz B))), (a 2, .inl (cA 2, 30, .inl w)), (a 3, .inl (cA 3, 4, .inl (nz st))), (a 4, .inl (cA 4, 4, .inl (nz go))), (a 5, .inl (cA 5, 30, .inl (bz C))), (a 6, .inl (cA 6, 4, .inl (nz fr))), (a 7, .inl (cA 7, 30, .inl wy)), (a 8, .inl (cA 8, 16, .inl mx)), (a 9, .inl (cA 9, 4, .inl (nz sz))), (a 10, .inl (cA 10, 40, .inl (nz pa)))]
def t0 (cA : Nat → ClassId) : List (ClassId × FieldType) := [(cA 1, .boolean), (cA 2, .int), (cA 3, .byte), (cA 4, .byte), (cA 5, .boolean), (cA 6, .byte), (cA 7, .int), (cA 8, .int), (cA 9, .byte), (cA 10, .byte)]
def x0E (p : Program) (s : State) (m : MethodId) (c : Code) (cc : ByteArray) (args : Array Value) (dC : Nat → ClassId) (dI : Nat → Nat → Nat) (cA : Nat → ClassId) : Prop := p.tables.exec = Jvm.exec ∧ c.code = cc ∧ (∀ w ∈ lw_all, w.before args s = true) ∧ s.vm.findClass RX0 = some m.cls ∧ va_K (dC, dI) vwCl (t0 cA) s
def w1 (a : Nat → Nat) (cA : Nat → ClassId) (B : Nat → Bool) (w : Nat → Int32) (n : Nat) (st : Nat → Nat) (go : Nat → Nat) (g : Nat) (wk : Nat → Nat) (ow : Nat → Nat) (tr : Nat → Nat) (tk : Nat → Bool) (wy : Nat → Int32) (rk : Int32) (ld : Nat) (kp : Nat → Nat) (ko : Nat → Nat) : va_W := [(a 0, .inr (1, [.ref (a 1), .ref (a 2), .int (nI n), .ref (a 3), .ref (a 4), .int (nI g), .ref (a 5), .ref (a 6), .ref (a 7), .ref (a 8), .ref (a 9), .int rk, .int (nI ld), .ref (a 10), .ref (a 11)])), (a 1, .inl (cA 1, 30, .inl (bz B))), (a 2, .inl (cA 2, 30, .inl w)), (a 3, .inl (cA 3, 4, .inl (nz st))), (a 4, .inl (cA 4, 4, .inl (nz go))), (a 5, .inl (cA 5, 40, .inl (nz wk))), (a 6, .inl (cA 6, 40, .inl (nz ow))), (a 7, .inl (cA 7, 40, .inl (nz tr))), (a 8, .inl (cA 8, 30, .inl (bz tk))), (a 9, .inl (cA 9, 30, .inl wy)), (a 10, .inl (cA 10, 40, .inl (nz kp))), (a 11, .inl (cA 11, 40, .inl (nz ko)))]
def t1 (cA : Nat → ClassId) : List (ClassId × FieldType) := [(cA 1, .boolean), (cA 2, .int), (cA 3, .int), (cA 4, .int), (cA 5, .int), (cA 6, .int), (cA 7, .int), (cA 8, .boolean), (cA 9, .int), (cA 10, .int), (cA 11, .int)]
def x1E (p : Program) (s : State) (m : MethodId) (c : Code) (cc : ByteArray) (args : Array Value) (dC : Nat → ClassId) (dI : Nat → Nat → Nat) (cA : Nat → ClassId) : Prop := p.tables.exec = Jvm.exec ∧ c.code = cc ∧ (∀ w ∈ lw_all, w.before args s = true) ∧ s.vm.findClass RX1 = some m.cls ∧ va_K (dC, dI) vwCl (t1 cA) s
section VX
variable {p : Program} {l : Launch} {e : Env} {R : Room} {s : State} {m : MethodId} {args : Array Value} {below : List Frame} {meth : Method} {c : Code} {H : Heap} {locs : List Loc} {cells slots : Nat} {Q : State → Prop}
variable {cc : ByteArray} {pc : Nat} {ls : Array Slot} {rest : List Value} {dC : Nat → ClassId} {dI : Nat → Nat → Nat} {A : Nat → Prop} {H0 : Heap}
/-- the top of the stack by another name -/
theorem tp {x y : Int32} (h : x = y) (k : W p l e R s m args below meth c H locs cells slots Q (F0 m pc ls (.int y :: rest))) : W p l e R s m args below meth c H locs cells slots Q (F0 m pc ls (.int x :: rest)) := h ▸ k
theorem lpW {α : Type} (F : α → Array Slot → JFrame) (I : α → Heap → List Loc → Array Slot → Prop) (μ : α → Nat) (step : ∀ (a : α) (H : Heap) (locs : List Loc) (ls : Array Slot), I a H locs ls → (∀ (a' : α) (H' : Heap) (locs' : List Loc) (ls' : Array Slot), I a' H' locs' ls' → μ a' < μ a → W p l e R s m args below meth c H' locs' cells slots Q (F a' ls')) → W p l e R s m args below meth c H locs cells slots Q (F a ls)) (a : α) (h : I a H locs ls) : W p l e R s m args below meth c H locs cells slots Q (F a ls) := by
  have key : ∀ (n : Nat) (a : α) (H : Heap) (locs : List Loc) (ls : Array Slot), I a H locs ls → μ a < n → W p l e R s m args below meth c H locs cells slots Q (F a ls) := by
    intro n
    induction n with
    | zero => intro a H locs ls _ h; exact absurd h (Nat.not_lt_zero _)
    | succ n ih => exact fun a H locs ls hI hn => step a H locs ls hI (fun a' H' locs' ls' hI' hlt => ih a' H' locs' ls' hI' (Nat.lt_of_lt_of_le hlt (Nat.le_of_lt_succ hn)))
  exact key (μ a + 1) a H locs ls h (Nat.lt_succ_self _)
theorem jnW {α : Type} {g : JFrame} (F : α → Array Slot → JFrame) (I : α → Heap → List Loc → Array Slot → Prop) (bef : (∀ (a : α) (H : Heap) (locs : List Loc) (ls : Array Slot), I a H locs ls → W p l e R s m args below meth c H locs cells slots Q (F a ls)) → W p l e R s m args below meth c H locs cells slots Q g) (aft : ∀ (a : α) (H : Heap) (locs : List Loc) (ls : Array Slot), I a H locs ls → W p l e R s m args below meth c H locs cells slots Q (F a ls)) : W p l e R s m args below meth c H locs cells slots Q g := bef aft
/-- a value that two ways come to -/
theorem jnV {g : JFrame} {pc : Nat} {ls : Array Slot} {rest : List Value} (v : Int32) (bef : (∀ x : Int32, x = v → W p l e R s m args below meth c H locs cells slots Q (F0 m pc ls (.int x :: rest))) → W p l e R s m args below meth c H locs cells slots Q g) (aft : W p l e R s m args below meth c H locs cells slots Q (F0 m pc ls (.int v :: rest))) : W p l e R s m args below meth c H locs cells slots Q g := bef (fun _ h => h ▸ aft)
theorem bn_eq (hx : p.tables.exec = Jvm.exec) (hb : c.code = cc) {a b : Nat} {off : Int} {tgt : Nat} (ha : a < 2 ^ 31) (hb2 : b < 2 ^ 31) (hdg : decode cc pc = .ok (.if_icmp .eq off, 3)) (ht : (pc : Int) + off = (tgt : Int)) (kt : a = b → W p l e R s m args below meth c H locs cells slots Q (F0 m tgt ls rest)) (kf : a ≠ b → W p l e R s m args below meth c H locs cells slots Q (F0 m (pc + 3) ls rest)) : W p l e R s m args below meth c H locs cells slots Q (F0 m pc ls (.int (nI b) :: .int (nI a) :: rest)) := by
  exact lv_icmp_eq hx hb hdg ht (fun h => kt ((nI_eq ha hb2).mp h)) (fun h => kf (fun q => h (by rw [q])))
theorem bn_ne (hx : p.tables.exec = Jvm.exec) (hb : c.code = cc) {a b : Nat} {off : Int} {tgt : Nat} (ha : a < 2 ^ 31) (hb2 : b < 2 ^ 31) (hdg : decode cc pc = .ok (.if_icmp .ne off, 3)) (ht : (pc : Int) + off = (tgt : Int)) (kt : a ≠ b → W p l e R s m args below meth c H locs cells slots Q (F0 m tgt ls rest)) (kf : a = b → W p l e R s m args below meth c H locs cells slots Q (F0 m (pc + 3) ls rest)) : W p l e R s m args below meth c H locs cells slots Q (F0 m pc ls (.int (nI b) :: .int (nI a) :: rest)) := by
  exact lv_icmp_ne hx hb hdg ht (fun h => kt (fun q => h (by rw [q]))) (fun h => kf ((nI_eq ha hb2).mp h))
theorem bn_lt (hx : p.tables.exec = Jvm.exec) (hb : c.code = cc) {a b : Nat} {off : Int} {tgt : Nat} (ha : a < 2 ^ 31) (hb2 : b < 2 ^ 31) (hdg : decode cc pc = .ok (.if_icmp .lt off, 3)) (ht : (pc : Int) + off = (tgt : Int)) (kt : a < b → W p l e R s m args below meth c H locs cells slots Q (F0 m tgt ls rest)) (kf : b ≤ a → W p l e R s m args below meth c H locs cells slots Q (F0 m (pc + 3) ls rest)) : W p l e R s m args below meth c H locs cells slots Q (F0 m pc ls (.int (nI b) :: .int (nI a) :: rest)) := by
  exact lv_icmp_lt hx hb hdg ht (fun h => kt ((nI_ltI ha hb2).mp h)) (fun h => kf (Nat.not_lt.mp (fun q => h ((nI_ltI ha hb2).mpr q))))
theorem bn_ge (hx : p.tables.exec = Jvm.exec) (hb : c.code = cc) {a b : Nat} {off : Int} {tgt : Nat} (ha : a < 2 ^ 31) (hb2 : b < 2 ^ 31) (hdg : decode cc pc = .ok (.if_icmp .ge off, 3)) (ht : (pc : Int) + off = (tgt : Int)) (kt : b ≤ a → W p l e R s m args below meth c H locs cells slots Q (F0 m tgt ls rest)) (kf : a < b → W p l e R s m args below meth c H locs cells slots Q (F0 m (pc + 3) ls rest)) : W p l e R s m args below meth c H locs cells slots Q (F0 m pc ls (.int (nI b) :: .int (nI a) :: rest)) := by
  exact lv_icmp_ge hx hb hdg ht (fun h => kt ((nI_leI hb2 ha).mp h)) (fun h => kf (Nat.not_le.mp (fun q => h ((nI_leI hb2 ha).mpr q))))
theorem bn_gt (hx : p.tables.exec = Jvm.exec) (hb : c.code = cc) {a b : Nat} {off : Int} {tgt : Nat} (ha : a < 2 ^ 31) (hb2 : b < 2 ^ 31) (hdg : decode cc pc = .ok (.if_icmp .gt off, 3)) (ht : (pc : Int) + off = (tgt : Int)) (kt : b < a → W p l e R s m args below meth c H locs cells slots Q (F0 m tgt ls rest)) (kf : a ≤ b → W p l e R s m args below meth c H locs cells slots Q (F0 m (pc + 3) ls rest)) : W p l e R s m args below meth c H locs cells slots Q (F0 m pc ls (.int (nI b) :: .int (nI a) :: rest)) := by
  exact lv_icmp_gt hx hb hdg ht (fun h => kt ((nI_ltI hb2 ha).mp h)) (fun h => kf (Nat.not_lt.mp (fun q => h ((nI_ltI hb2 ha).mpr q))))
theorem bn_le (hx : p.tables.exec = Jvm.exec) (hb : c.code = cc) {a b : Nat} {off : Int} {tgt : Nat} (ha : a < 2 ^ 31) (hb2 : b < 2 ^ 31) (hdg : decode cc pc = .ok (.if_icmp .le off, 3)) (ht : (pc : Int) + off = (tgt : Int)) (kt : a ≤ b → W p l e R s m args below meth c H locs cells slots Q (F0 m tgt ls rest)) (kf : b < a → W p l e R s m args below meth c H locs cells slots Q (F0 m (pc + 3) ls rest)) : W p l e R s m args below meth c H locs cells slots Q (F0 m pc ls (.int (nI b) :: .int (nI a) :: rest)) := by
  exact lv_icmp_le hx hb hdg ht (fun h => kt ((nI_leI ha hb2).mp h)) (fun h => kf (Nat.not_le.mp (fun q => h ((nI_leI ha hb2).mpr q))))
theorem b0_le (hx : p.tables.exec = Jvm.exec) (hb : c.code = cc) {a : Nat} {off : Int} {tgt : Nat} (ha : a < 2 ^ 31) (hdg : decode cc pc = .ok (.ifCond .le off, 3)) (ht : (pc : Int) + off = (tgt : Int)) (kt : a = 0 → W p l e R s m args below meth c H locs cells slots Q (F0 m tgt ls rest)) (kf : 0 < a → W p l e R s m args below meth c H locs cells slots Q (F0 m (pc + 3) ls rest)) : W p l e R s m args below meth c H locs cells slots Q (F0 m pc ls (.int (nI a) :: rest)) := by
  refine lv_if_le hx hb hdg ht (fun h => kt ?_) (fun h => kf ?_)
  · rcases Nat.eq_zero_or_pos a with q | q
    · exact q
    · exact absurd h (nI_nle q ha)
  · rcases Nat.eq_zero_or_pos a with q | q
    · exact absurd (by rw [q]; exact Int32.le_refl _) h
    · exact q
theorem b0_gt (hx : p.tables.exec = Jvm.exec) (hb : c.code = cc) {a : Nat} {off : Int} {tgt : Nat} (ha : a < 2 ^ 31) (hdg : decode cc pc = .ok (.ifCond .gt off, 3)) (ht : (pc : Int) + off = (tgt : Int)) (kt : 0 < a → W p l e R s m args below meth c H locs cells slots Q (F0 m tgt ls rest)) (kf : a = 0 → W p l e R s m args below meth c H locs cells slots Q (F0 m (pc + 3) ls rest)) : W p l e R s m args below meth c H locs cells slots Q (F0 m pc ls (.int (nI a) :: rest)) := by
  refine lv_if_gt hx hb hdg ht (fun h => kt ?_) (fun h => kf ?_)
  · rcases Nat.eq_zero_or_pos a with q | q
    · exact absurd h (by rw [q]; exact Int32.lt_irrefl)
    · exact q
  · rcases Nat.eq_zero_or_pos a with q | q
    · exact q
    · exact absurd (by rw [← nI_0]; exact nI_lt q ha) h
theorem b0_eq (hx : p.tables.exec = Jvm.exec) (hb : c.code = cc) {a : Nat} {off : Int} {tgt : Nat} (ha : a < 2 ^ 31) (hdg : decode cc pc = .ok (.ifCond .eq off, 3)) (ht : (pc : Int) + off = (tgt : Int)) (kt : a = 0 → W p l e R s m args below meth c H locs cells slots Q (F0 m tgt ls rest)) (kf : a ≠ 0 → W p l e R s m args below meth c H locs cells slots Q (F0 m (pc + 3) ls rest)) : W p l e R s m args below meth c H locs cells slots Q (F0 m pc ls (.int (nI a) :: rest)) := by
  refine lv_if_eq hx hb hdg ht (fun h => kt ?_) (fun h => kf ?_)
  · rcases Nat.eq_zero_or_pos a with q | q
    · exact q
    · exact absurd h (nI_ne0 q ha)
  · intro q
    exact h (by rw [q]; rfl)
theorem b0_ne (hx : p.tables.exec = Jvm.exec) (hb : c.code = cc) {a : Nat} {off : Int} {tgt : Nat} (ha : a < 2 ^ 31) (hdg : decode cc pc = .ok (.ifCond .ne off, 3)) (ht : (pc : Int) + off = (tgt : Int)) (kt : a ≠ 0 → W p l e R s m args below meth c H locs cells slots Q (F0 m tgt ls rest)) (kf : a = 0 → W p l e R s m args below meth c H locs cells slots Q (F0 m (pc + 3) ls rest)) : W p l e R s m args below meth c H locs cells slots Q (F0 m pc ls (.int (nI a) :: rest)) := by
  refine lv_if_ne hx hb hdg ht (fun h => kt ?_) (fun h => kf ?_)
  · intro q
    exact h (by rw [q]; rfl)
  · rcases Nat.eq_zero_or_pos a with q | q
    · exact q
    · exact absurd h (nI_ne0 q ha)
theorem bz_eq (hx : p.tables.exec = Jvm.exec) (hb : c.code = cc) {b : Bool} {off : Int} {tgt : Nat} (hdg : decode cc pc = .ok (.ifCond .eq off, 3)) (ht : (pc : Int) + off = (tgt : Int)) (kt : b = false → W p l e R s m args below meth c H locs cells slots Q (F0 m tgt ls rest)) (kf : b = true → W p l e R s m args below meth c H locs cells slots Q (F0 m (pc + 3) ls rest)) : W p l e R s m args below meth c H locs cells slots Q (F0 m pc ls (.int (b2 b) :: rest)) := lv_if_eq hx hb hdg ht (fun h => kt (b2_eq0 h)) (fun h => kf (b2_ne0 h))
theorem bz_ne (hx : p.tables.exec = Jvm.exec) (hb : c.code = cc) {b : Bool} {off : Int} {tgt : Nat} (hdg : decode cc pc = .ok (.ifCond .ne off, 3)) (ht : (pc : Int) + off = (tgt : Int)) (kt : b = true → W p l e R s m args below meth c H locs cells slots Q (F0 m tgt ls rest)) (kf : b = false → W p l e R s m args below meth c H locs cells slots Q (F0 m (pc + 3) ls rest)) : W p l e R s m args below meth c H locs cells slots Q (F0 m pc ls (.int (b2 b) :: rest)) := lv_if_ne hx hb hdg ht (fun h => kt (b2_ne0 h)) (fun h => kf (b2_eq0 h))
theorem ld_z (hx : p.tables.exec = Jvm.exec) (hb : c.code = cc) {D : va_G} {tys : List (ClassId × FieldType)} {ws : va_W} (hK : va_K D vwCl tys s) (hX : wd D A H0 ws H locs) (q0 t0 : Nat) {ad : Nat} {cI : ClassId} {n : Nat} {f : Nat → Bool} (ha : ws[q0]? = some (ad, .inl (cI, n, .inl (bz f)))) (ht : tys[t0]? = some (cI, .boolean)) {k : Nat} (hk : k < n) (hn : n < 2 ^ 31) (hdg : decode cc pc = .ok (.baload, 1)) (kk : W p l e R s m args below meth c H locs cells slots Q (F0 m (pc + 1) ls (.int (b2 (f k)) :: rest))) : W p l e R s m args below meth c H locs cells slots Q (F0 m pc ls (.int (nI k) :: .ref ad :: rest)) := by
  refine va_zald hx hb hK hX.1 q0 t0 ha ht (vp_in_nI hk hn) hdg ?_
  rw [nI_clamp (Nat.lt_trans hk hn)]
  exact kk
theorem ld_b (hx : p.tables.exec = Jvm.exec) (hb : c.code = cc) {D : va_G} {tys : List (ClassId × FieldType)} {ws : va_W} (hK : va_K D vwCl tys s) (hX : wd D A H0 ws H locs) (q0 t0 : Nat) {ad : Nat} {cI : ClassId} {n : Nat} {f : Nat → Nat} (ha : ws[q0]? = some (ad, .inl (cI, n, .inl (nz f)))) (ht : tys[t0]? = some (cI, .byte)) {k : Nat} (hk : k < n) (hn : n < 2 ^ 31) (hdg : decode cc pc = .ok (.baload, 1)) (kk : W p l e R s m args below meth c H locs cells slots Q (F0 m (pc + 1) ls (.int (nI (f k)) :: rest))) : W p l e R s m args below meth c H locs cells slots Q (F0 m pc ls (.int (nI k) :: .ref ad :: rest)) := by
  refine va_bald hx hb hK hX.1 q0 t0 ha ht (vp_in_nI hk hn) hdg ?_
  rw [nI_clamp (Nat.lt_trans hk hn)]
  exact kk
theorem ld_n (hx : p.tables.exec = Jvm.exec) (hb : c.code = cc) {D : va_G} {tys : List (ClassId × FieldType)} {ws : va_W} (hK : va_K D vwCl tys s) (hX : wd D A H0 ws H locs) (q0 t0 : Nat) {ad : Nat} {cI : ClassId} {n : Nat} {f : Nat → Nat} (ha : ws[q0]? = some (ad, .inl (cI, n, .inl (nz f)))) (ht : tys[t0]? = some (cI, .int)) {k : Nat} (hk : k < n) (hn : n < 2 ^ 31) (hdg : decode cc pc = .ok (.iaload, 1)) (kk : W p l e R s m args below meth c H locs cells slots Q (F0 m (pc + 1) ls (.int (nI (f k)) :: rest))) : W p l e R s m args below meth c H locs cells slots Q (F0 m pc ls (.int (nI k) :: .ref ad :: rest)) := by
  refine va_iald hx hb hK hX.1 q0 t0 ha ht (vp_in_nI hk hn) hdg ?_
  rw [nI_clamp (Nat.lt_trans hk hn)]
  exact kk
theorem ld_i (hx : p.tables.exec = Jvm.exec) (hb : c.code = cc) {D : va_G} {tys : List (ClassId × FieldType)} {ws : va_W} (hK : va_K D vwCl tys s) (hX : wd D A H0 ws H locs) (q0 t0 : Nat) {ad : Nat} {cI : ClassId} {n : Nat} {f : Nat → Int32} (ha : ws[q0]? = some (ad, .inl (cI, n, .inl f))) (ht : tys[t0]? = some (cI, .int)) {k : Nat} (hk : k < n) (hn : n < 2 ^ 31) (hdg : decode cc pc = .ok (.iaload, 1)) (kk : W p l e R s m args below meth c H locs cells slots Q (F0 m (pc + 1) ls (.int (f k) :: rest))) : W p l e R s m args below meth c H locs cells slots Q (F0 m pc ls (.int (nI k) :: .ref ad :: rest)) := by
  refine va_iald hx hb hK hX.1 q0 t0 ha ht (vp_in_nI hk hn) hdg ?_
  rw [nI_clamp (Nat.lt_trans hk hn)]
  exact kk
theorem st_z (hx : p.tables.exec = Jvm.exec) (hb : c.code = cc) {D : va_G} {tys : List (ClassId × FieldType)} {ws : va_W} (hK : va_K D vwCl tys s) (hX : wd D A H0 ws H locs) (q0 t0 : Nat) {ad : Nat} {cI : ClassId} {n : Nat} {f : Nat → Bool} (ha : ws[q0]? = some (ad, .inl (cI, n, .inl (bz f)))) (ht : tys[t0]? = some (cI, .boolean)) {k : Nat} {v : Bool} (hk : k < n) (hn : n < 2 ^ 31) (hdg : decode cc pc = .ok (.bastore, 1)) (kk : ∀ (H1 : Heap) (locs1 : List Loc), wd D A H0 (ws.set q0 (ad, .inl (cI, n, .inl (bz (va_up f k v))))) H1 locs1 → W p l e R s m args below meth c H1 locs1 cells slots Q (F0 m (pc + 1) ls rest)) : W p l e R s m args below meth c H locs cells slots Q (F0 m pc ls (.int (b2 v) :: .int (nI k) :: .ref ad :: rest)) := by
  refine va_zast hx hb hK hX.1 hX.2.1 hX.2.2 q0 t0 ha ht (vp_in_nI hk hn) hdg (fun H1 locs1 h1 h2 h3 => kk H1 locs1 ?_)
  rw [nI_clamp (Nat.lt_trans hk hn), b2_vn, bz_up] at h1 h2
  exact ⟨h1, h2, h3⟩
theorem st_b (hx : p.tables.exec = Jvm.exec) (hb : c.code = cc) {D : va_G} {tys : List (ClassId × FieldType)} {ws : va_W} (hK : va_K D vwCl tys s) (hX : wd D A H0 ws H locs) (q0 t0 : Nat) {ad : Nat} {cI : ClassId} {n : Nat} {f : Nat → Nat} (ha : ws[q0]? = some (ad, .inl (cI, n, .inl (nz f)))) (ht : tys[t0]? = some (cI, .byte)) {k : Nat} {v : Nat} (hk : k < n) (hn : n < 2 ^ 31) (hv : v < 128) (hdg : decode cc pc = .ok (.bastore, 1)) (kk : ∀ (H1 : Heap) (locs1 : List Loc), wd D A H0 (ws.set q0 (ad, .inl (cI, n, .inl (nz (va_up f k v))))) H1 locs1 → W p l e R s m args below meth c H1 locs1 cells slots Q (F0 m (pc + 1) ls rest)) : W p l e R s m args below meth c H locs cells slots Q (F0 m pc ls (.int (nI v) :: .int (nI k) :: .ref ad :: rest)) := by
  refine va_bast hx hb hK hX.1 hX.2.1 hX.2.2 q0 t0 ha ht (vp_in_nI hk hn) hdg (fun H1 locs1 h1 h2 h3 => kk H1 locs1 ?_)
  rw [nI_clamp (Nat.lt_trans hk hn), nI_vb hv, nz_up] at h1 h2
  exact ⟨h1, h2, h3⟩
theorem st_n (hx : p.tables.exec = Jvm.exec) (hb : c.code = cc) {D : va_G} {tys : List (ClassId × FieldType)} {ws : va_W} (hK : va_K D vwCl tys s) (hX : wd D A H0 ws H locs) (q0 t0 : Nat) {ad : Nat} {cI : ClassId} {n : Nat} {f : Nat → Nat} (ha : ws[q0]? = some (ad, .inl (cI, n, .inl (nz f)))) (ht : tys[t0]? = some (cI, .int)) {k : Nat} {v : Nat} (hk : k < n) (hn : n < 2 ^ 31) (hdg : decode cc pc = .ok (.iastore, 1)) (kk : ∀ (H1 : Heap) (locs1 : List Loc), wd D A H0 (ws.set q0 (ad, .inl (cI, n, .inl (nz (va_up f k v))))) H1 locs1 → W p l e R s m args below meth c H1 locs1 cells slots Q (F0 m (pc + 1) ls rest)) : W p l e R s m args below meth c H locs cells slots Q (F0 m pc ls (.int (nI v) :: .int (nI k) :: .ref ad :: rest)) := by
  refine va_iast hx hb hK hX.1 hX.2.1 hX.2.2 q0 t0 ha ht (vp_in_nI hk hn) hdg (fun H1 locs1 h1 h2 h3 => kk H1 locs1 ?_)
  rw [nI_clamp (Nat.lt_trans hk hn), nz_up] at h1 h2
  exact ⟨h1, h2, h3⟩
theorem st_i (hx : p.tables.exec = Jvm.exec) (hb : c.code = cc) {D : va_G} {tys : List (ClassId × FieldType)} {ws : va_W} (hK : va_K D vwCl tys s) (hX : wd D A H0 ws H locs) (q0 t0 : Nat) {ad : Nat} {cI : ClassId} {n : Nat} {f : Nat → Int32} (ha : ws[q0]? = some (ad, .inl (cI, n, .inl f))) (ht : tys[t0]? = some (cI, .int)) {k : Nat} {v : Int32} (hk : k < n) (hn : n < 2 ^ 31) (hdg : decode cc pc = .ok (.iastore, 1)) (kk : ∀ (H1 : Heap) (locs1 : List Loc), wd D A H0 (ws.set q0 (ad, .inl (cI, n, .inl (upd f k v)))) H1 locs1 → W p l e R s m args below meth c H1 locs1 cells slots Q (F0 m (pc + 1) ls rest)) : W p l e R s m args below meth c H locs cells slots Q (F0 m pc ls (.int v :: .int (nI k) :: .ref ad :: rest)) := by
  refine va_iast hx hb hK hX.1 hX.2.1 hX.2.2 q0 t0 ha ht (vp_in_nI hk hn) hdg (fun H1 locs1 h1 h2 h3 => kk H1 locs1 ?_)
  rw [nI_clamp (Nat.lt_trans hk hn)] at h1 h2
  exact ⟨h1, h2, h3⟩
theorem x0_g0 {a : Nat → Nat} {cA : Nat → ClassId} {B : Nat → Bool} {w : Nat → Int32} {n : Nat} {st : Nat → Nat} {go : Nat → Nat} {C : Nat → Bool} {fr : Nat → Nat} {wy : Nat → Int32} {mx : Nat → Int32} {ld : Bool} {nu : Int32} {sz : Nat → Nat} {pa : Nat → Nat} (E : x0E p s m c cc args dC dI cA) (hX : wd (dC, dI) A H0 (w0 a cA B w n st go C fr wy mx ld nu sz pa) H locs) (hdg : decode cc pc = .ok (.getfield 7, 3)) (kk : W p l e R s m args below meth c H locs cells slots Q (F0 m (pc + 3) ls (.ref (a 1) :: rest))) : W p l e R s m args below meth c H locs cells slots Q (F0 m pc ls (.ref (a 0) :: rest)) := va_get (D := (dC, dI)) (ci := 0) (v := .ref (a 1)) (C := RX0) (T := TX0) (N := 13) E.1 E.2.1 E.2.2.1 in_X0 E.2.2.2.1 E.2.2.2.2 hX.1 0 rfl rfl 0 (by decide) (E.2.2.1 _ q35) (fun _ h9 => h9) rfl hdg kk
theorem x0_g1 {a : Nat → Nat} {cA : Nat → ClassId} {B : Nat → Bool} {w : Nat → Int32} {n : Nat} {st : Nat → Nat} {go : Nat → Nat} {C : Nat → Bool} {fr : Nat → Nat} {wy : Nat → Int32} {mx : Nat → Int32} {ld : Bool} {nu : Int32} {sz : Nat → Nat} {pa : Nat → Nat} (E : x0E p s m c cc args dC dI cA) (hX : wd (dC, dI) A H0 (w0 a cA B w n st go C fr wy mx ld nu sz pa) H locs) (hdg : decode cc pc = .ok (.getfield 13, 3)) (kk : W p l e R s m args below meth c H locs cells slots Q (F0 m (pc + 3) ls (.ref (a 2) :: rest))) : W p l e R s m args below meth c H locs cells slots Q (F0 m pc ls (.ref (a 0) :: rest)) := va_get (D := (dC, dI)) (ci := 0) (v := .ref (a 2)) (C := RX0) (T := TX0) (N := 13) E.1 E.2.1 E.2.2.1 in_X0 E.2.2.2.1 E.2.2.2.2 hX.1 0 rfl rfl 1 (by decide) (E.2.2.1 _ q36) (fun _ h9 => h9) rfl hdg kk
theorem x0_g2 {a : Nat → Nat} {cA : Nat → ClassId} {B : Nat → Bool} {w : Nat → Int32} {n : Nat} {st : Nat → Nat} {go : Nat → Nat} {C : Nat → Bool} {fr : Nat → Nat} {wy : Nat → Int32} {mx : Nat → Int32} {ld : Bool} {nu : Int32} {sz : Nat → Nat} {pa : Nat → Nat} (E : x0E p s m c cc args dC dI cA) (hX : wd (dC, dI) A H0 (w0 a cA B w n st go C fr wy mx ld nu sz pa) H locs) (hdg : decode cc pc = .ok (.getfield 42, 3)) (kk : W p l e R s m args below meth c H locs cells slots Q (F0 m (pc + 3) ls (.int (nI n) :: rest))) : W p l e R s m args below meth c H locs cells slots Q (F0 m pc ls (.ref (a 0) :: rest)) := va_get (D := (dC, dI)) (ci := 0) (v := .int (nI n)) (C := RX0) (T := TX0) (N := 13) E.1 E.2.1 E.2.2.1 in_X0 E.2.2.2.1 E.2.2.2.2 hX.1 0 rfl rfl 2 (by decide) (E.2.2.1 _ q37) (fun _ h9 => h9) rfl hdg kk
theorem x0_p2 {a : Nat → Nat} {cA : Nat → ClassId} {B : Nat → Bool} {w : Nat → Int32} {n : Nat} {st : Nat → Nat} {go : Nat → Nat} {C : Nat → Bool} {fr : Nat → Nat} {wy : Nat → Int32} {mx : Nat → Int32} {ld : Bool} {nu : Int32} {sz : Nat → Nat} {pa : Nat → Nat} {v9 : Nat} (E : x0E p s m c cc args dC dI cA) (hX : wd (dC, dI) A H0 (w0 a cA B w n st go C fr wy mx ld nu sz pa) H locs) (hdg : decode cc pc = .ok (.putfield 42, 3)) (kk : ∀ (H1 : Heap) (locs1 : List Loc), wd (dC, dI) A H0 (w0 a cA B w v9 st go C fr wy mx ld nu sz pa) H1 locs1 → W p l e R s m args below meth c H1 locs1 cells slots Q (F0 m (pc + 3) ls rest)) : W p l e R s m args below meth c H locs cells slots Q (F0 m pc ls (.int (nI v9) :: .ref (a 0) :: rest)) := va_put (D := (dC, dI)) (ci := 0) (v := .int (nI v9)) (ty := .int) (C := RX0) (T := TX0) (N := 13) E.1 E.2.1 E.2.2.1 in_X0 tyX0 tyX0_ok nmX0 E.2.2.2.1 E.2.2.2.2 hX.1 hX.2.1 hX.2.2 0 rfl rfl 2 (by decide) (E.2.2.1 _ q37) (fun _ h9 => h9) rfl (by decide +kernel) rfl rfl (Nat.le_of_ble_eq_true rfl) hdg (fun H1 locs1 h1 h2 h3 => kk H1 locs1 ⟨h1, h2, h3⟩)
theorem x0_g3 {a : Nat → Nat} {cA : Nat → ClassId} {B : Nat → Bool} {w : Nat → Int32} {n : Nat} {st : Nat → Nat} {go : Nat → Nat} {C : Nat → Bool} {fr : Nat → Nat} {wy : Nat → Int32} {mx : Nat → Int32} {ld : Bool} {nu : Int32} {sz : Nat → Nat} {pa : Nat → Nat} (E : x0E p s m c cc args dC dI cA) (hX : wd (dC, dI) A H0 (w0 a cA B w n st go C fr wy mx ld nu sz pa) H locs) (hdg : decode cc pc = .ok (.getfield 17, 3)) (kk : W p l e R s m args below meth c H locs cells slots Q (F0 m (pc + 3) ls (.ref (a 3) :: rest))) : W p l e R s m args below meth c H locs cells slots Q (F0 m pc ls (.ref (a 0) :: rest)) := va_get (D := (dC, dI)) (ci := 0) (v := .ref (a 3)) (C := RX0) (T := TX0) (N := 13) E.1 E.2.1 E.2.2.1 in_X0 E.2.2.2.1 E.2.2.2.2 hX.1 0 rfl rfl 3 (by decide) (E.2.2.1 _ q38) (fun _ h9 => h9) rfl hdg kk
theorem x0_g4 {a : Nat → Nat} {cA : Nat → ClassId} {B : Nat → Bool} {w : Nat → Int32} {n : Nat} {st : Nat → Nat} {go : Nat → Nat} {C : Nat → Bool} {fr : Nat → Nat} {wy : Nat → Int32} {mx : Nat → Int32} {ld : Bool} {nu : Int32} {sz : Nat → Nat} {pa : Nat → Nat} (E : x0E p s m c cc args dC dI cA) (hX : wd (dC, dI) A H0 (w0 a cA B w n st go C fr wy mx ld nu sz pa) H locs) (hdg : decode cc pc = .ok (.getfield 21, 3)) (kk : W p l e R s m args below meth c H locs cells slots Q (F0 m (pc + 3) ls (.ref (a 4) :: rest))) : W p l e R s m args below meth c H locs cells slots Q (F0 m pc ls (.ref (a 0) :: rest)) := va_get (D := (dC, dI)) (ci := 0) (v := .ref (a 4)) (C := RX0) (T := TX0) (N := 13) E.1 E.2.1 E.2.2.1 in_X0 E.2.2.2.1 E.2.2.2.2 hX.1 0 rfl rfl 4 (by decide) (E.2.2.1 _ q39) (fun _ h9 => h9) rfl hdg kk
theorem x0_g5 {a : Nat → Nat} {cA : Nat → ClassId} {B : Nat → Bool} {w : Nat → Int32} {n : Nat} {st : Nat → Nat} {go : Nat → Nat} {C : Nat → Bool} {fr : Nat → Nat} {wy : Nat → Int32} {mx : Nat → Int32} {ld : Bool} {nu : Int32} {sz : Nat → Nat} {pa : Nat → Nat} (E : x0E p s m c cc args dC dI cA) (hX : wd (dC, dI) A H0 (w0 a cA B w n st go C fr wy mx ld nu sz pa) H locs) (hdg : decode cc pc = .ok (.getfield 24, 3)) (kk : W p l e R s m args below meth c H locs cells slots Q (F0 m (pc + 3) ls (.ref (a 5) :: rest))) : W p l e R s m args below meth c H locs cells slots Q (F0 m pc ls (.ref (a 0) :: rest)) := va_get (D := (dC, dI)) (ci := 0) (v := .ref (a 5)) (C := RX0) (T := TX0) (N := 13) E.1 E.2.1 E.2.2.1 in_X0 E.2.2.2.1 E.2.2.2.2 hX.1 0 rfl rfl 5 (by decide) (E.2.2.1 _ q40) (fun _ h9 => h9) rfl hdg kk
theorem x0_g6 {a : Nat → Nat} {cA : Nat → ClassId} {B : Nat → Bool} {w : Nat → Int32} {n : Nat} {st : Nat → Nat} {go : Nat → Nat} {C : Nat → Bool} {fr : Nat → Nat} {wy : Nat → Int32} {mx : Nat → Int32} {ld : Bool} {nu : Int32} {sz : Nat → Nat} {pa : Nat → Nat} (E : x0E p s m c cc args dC dI cA) (hX : wd (dC, dI) A H0 (w0 a cA B w n st go C fr wy mx ld nu sz pa) H locs) (hdg : decode cc pc = .ok (.getfield 27, 3)) (kk : W p l e R s m args below meth c H locs cells slots Q (F0 m (pc + 3) ls (.ref (a 6) :: rest))) : W p l e R s m args below meth c H locs cells slots Q (F0 m pc ls (.ref (a 0) :: rest)) := va_get (D := (dC, dI)) (ci := 0) (v := .ref (a 6)) (C := RX0) (T := TX0) (N := 13) E.1 E.2.1 E.2.2.1 in_X0 E.2.2.2.1 E.2.2.2.2 hX.1 0 rfl rfl 6 (by decide) (E.2.2.1 _ q41) (fun _ h9 => h9) rfl hdg kk
theorem x0_g7 {a : Nat → Nat} {cA : Nat → ClassId} {B : Nat → Bool} {w : Nat → Int32} {n : Nat} {st : Nat → Nat} {go : Nat → Nat} {C : Nat → Bool} {fr : Nat → Nat} {wy : Nat → Int32} {mx : Nat → Int32} {ld : Bool} {nu : Int32} {sz : Nat → Nat} {pa : Nat → Nat} (E : x0E p s m c cc args dC dI cA) (hX : wd (dC, dI) A H0 (w0 a cA B w n st go C fr wy mx ld nu sz pa) H locs) (hdg : decode cc pc = .ok (.getfield 30, 3)) (kk : W p l e R s m args below meth c H locs cells slots Q (F0 m (pc + 3) ls (.ref (a 7) :: rest))) : W p l e R s m args below meth c H locs cells slots Q (F0 m pc ls (.ref (a 0) :: rest)) := va_get (D := (dC, dI)) (ci := 0) (v := .ref (a 7)) (C := RX0) (T := TX0) (N := 13) E.1 E.2.1 E.2.2.1 in_X0 E.2.2.2.1 E.2.2.2.2 hX.1 0 rfl rfl 7 (by decide) (E.2.2.1 _ q42) (fun _ h9 => h9) rfl hdg kk
theorem x0_g8 {a : Nat → Nat} {cA : Nat → ClassId} {B : Nat → Bool} {w : Nat → Int32} {n : Nat} {st : Nat → Nat} {go : Nat → Nat} {C : Nat → Bool} {fr : Nat → Nat} {wy : Nat → Int32} {mx : Nat → Int32} {ld : Bool} {nu : Int32} {sz : Nat → Nat} {pa : Nat → Nat} (E : x0E p s m c cc args dC dI cA) (hX : wd (dC, dI) A H0 (w0 a cA B w n st go C fr wy mx ld nu sz pa) H locs) (hdg : decode cc pc = .ok (.getfield 33, 3)) (kk : W p l e R s m args below meth c H locs cells slots Q (F0 m (pc + 3) ls (.ref (a 8) :: rest))) : W p l e R s m args below meth c H locs cells slots Q (F0 m pc ls (.ref (a 0) :: rest)) := va_get (D := (dC, dI)) (ci := 0) (v := .ref (a 8)) (C := RX0) (T := TX0) (N := 13) E.1 E.2.1 E.2.2.1 in_X0 E.2.2.2.1 E.2.2.2.2 hX.1 0 rfl rfl 8 (by decide) (E.2.2.1 _ q43) (fun _ h9 => h9) rfl hdg kk
theorem x0_g9 {a : Nat → Nat} {cA : Nat → ClassId} {B : Nat → Bool} {w : Nat → Int32} {n : Nat} {st : Nat → Nat} {go : Nat → Nat} {C : Nat → Bool} {fr : Nat → Nat} {wy : Nat → Int32} {mx : Nat → Int32} {ld : Bool} {nu : Int32} {sz : Nat → Nat} {pa : Nat → Nat} (E : x0E p s m c cc args dC dI cA) (hX : wd (dC, dI) A H0 (w0 a cA B w n st go C fr wy mx ld nu sz pa) H locs) (hdg : decode cc pc = .ok (.getfield 50, 3)) (kk : W p l e R s m args below meth c H locs cells slots Q (F0 m (pc + 3) ls (.int (b2 ld) :: rest))) : W p l e R s m args below meth c H locs cells slots Q (F0 m pc ls (.ref (a 0) :: rest)) := va_get (D := (dC, dI)) (ci := 0) (v := .int (b2 ld)) (C := RX0) (T := TX0) (N := 13) E.1 E.2.1 E.2.2.1 in_X0 E.2.2.2.1 E.2.2.2.2 hX.1 0 rfl rfl 9 (by decide) (E.2.2.1 _ q44) (fun _ h9 => h9) rfl hdg kk
theorem x0_p9 {a : Nat → Nat} {cA : Nat → ClassId} {B : Nat → Bool} {w : Nat → Int32} {n : Nat} {st : Nat → Nat} {go : Nat → Nat} {C : Nat → Bool} {fr : Nat → Nat} {wy : Nat → Int32} {mx : Nat → Int32} {ld : Bool} {nu : Int32} {sz : Nat → Nat} {pa : Nat → Nat} {v9 : Bool} (E : x0E p s m c cc args dC dI cA) (hX : wd (dC, dI) A H0 (w0 a cA B w n st go C fr wy mx ld nu sz pa) H locs) (hdg : decode cc pc = .ok (.putfield 50, 3)) (kk : ∀ (H1 : Heap) (locs1 : List Loc), wd (dC, dI) A H0 (w0 a cA B w n st go C fr wy mx v9 nu sz pa) H1 locs1 → W p l e R s m args below meth c H1 locs1 cells slots Q (F0 m (pc + 3) ls rest)) : W p l e R s m args below meth c H locs cells slots Q (F0 m pc ls (.int (b2 v9) :: .ref (a 0) :: rest)) := va_put (D := (dC, dI)) (ci := 0) (v := .int (b2 v9)) (ty := .boolean) (C := RX0) (T := TX0) (N := 13) E.1 E.2.1 E.2.2.1 in_X0 tyX0 tyX0_ok nmX0 E.2.2.2.1 E.2.2.2.2 hX.1 hX.2.1 hX.2.2 0 rfl rfl 9 (by decide) (E.2.2.1 _ q44) (fun _ h9 => h9) rfl (by decide +kernel) (b2_nar v9) (b2_fit v9) (Nat.le_of_ble_eq_true rfl) hdg (fun H1 locs1 h1 h2 h3 => kk H1 locs1 ⟨h1, h2, h3⟩)
theorem x0_g10 {a : Nat → Nat} {cA : Nat → ClassId} {B : Nat → Bool} {w : Nat → Int32} {n : Nat} {st : Nat → Nat} {go : Nat → Nat} {C : Nat → Bool} {fr : Nat → Nat} {wy : Nat → Int32} {mx : Nat → Int32} {ld : Bool} {nu : Int32} {sz : Nat → Nat} {pa : Nat → Nat} (E : x0E p s m c cc args dC dI cA) (hX : wd (dC, dI) A H0 (w0 a cA B w n st go C fr wy mx ld nu sz pa) H locs) (hdg : decode cc pc = .ok (.getfield 99, 3)) (kk : W p l e R s m args below meth c H locs cells slots Q (F0 m (pc + 3) ls (.int nu :: rest))) : W p l e R s m args below meth c H locs cells slots Q (F0 m pc ls (.ref (a 0) :: rest)) := va_get (D := (dC, dI)) (ci := 0) (v := .int nu) (C := RX0) (T := TX0) (N := 13) E.1 E.2.1 E.2.2.1 in_X0 E.2.2.2.1 E.2.2.2.2 hX.1 0 rfl rfl 10 (by decide) (E.2.2.1 _ q45) (fun _ h9 => h9) rfl hdg kk
theorem x0_p10 {a : Nat → Nat} {cA : Nat → ClassId} {B : Nat → Bool} {w : Nat → Int32} {n : Nat} {st : Nat → Nat} {go : Nat → Nat} {C : Nat → Bool} {fr : Nat → Nat} {wy : Nat → Int32} {mx : Nat → Int32} {ld : Bool} {nu : Int32} {sz : Nat → Nat} {pa : Nat → Nat} {v9 : Int32} (E : x0E p s m c cc args dC dI cA) (hX : wd (dC, dI) A H0 (w0 a cA B w n st go C fr wy mx ld nu sz pa) H locs) (hdg : decode cc pc = .ok (.putfield 99, 3)) (kk : ∀ (H1 : Heap) (locs1 : List Loc), wd (dC, dI) A H0 (w0 a cA B w n st go C fr wy mx ld v9 sz pa) H1 locs1 → W p l e R s m args below meth c H1 locs1 cells slots Q (F0 m (pc + 3) ls rest)) : W p l e R s m args below meth c H locs cells slots Q (F0 m pc ls (.int v9 :: .ref (a 0) :: rest)) := va_put (D := (dC, dI)) (ci := 0) (v := .int v9) (ty := .int) (C := RX0) (T := TX0) (N := 13) E.1 E.2.1 E.2.2.1 in_X0 tyX0 tyX0_ok nmX0 E.2.2.2.1 E.2.2.2.2 hX.1 hX.2.1 hX.2.2 0 rfl rfl 10 (by decide) (E.2.2.1 _ q45) (fun _ h9 => h9) rfl (by decide +kernel) rfl rfl (Nat.le_of_ble_eq_true rfl) hdg (fun H1 locs1 h1 h2 h3 => kk H1 locs1 ⟨h1, h2, h3⟩)
theorem x0_g11 {a : Nat → Nat} {cA : Nat → ClassId} {B : Nat → Bool} {w : Nat → Int32} {n : Nat} {st : Nat → Nat} {go : Nat → Nat} {C : Nat → Bool} {fr : Nat → Nat} {wy : Nat → Int32} {mx : Nat → Int32} {ld : Bool} {nu : Int32} {sz : Nat → Nat} {pa : Nat → Nat} (E : x0E p s m c cc args dC dI cA) (hX : wd (dC, dI) A H0 (w0 a cA B w n st go C fr wy mx ld nu sz pa) H locs) (hdg : decode cc pc = .ok (.getfield 36, 3)) (kk : W p l e R s m args below meth c H locs cells slots Q (F0 m (pc + 3) ls (.ref (a 9) :: rest))) : W p l e R s m args below meth c H locs cells slots Q (F0 m pc ls (.ref (a 0) :: rest)) := va_get (D := (dC, dI)) (ci := 0) (v := .ref (a 9)) (C := RX0) (T := TX0) (N := 13) E.1 E.2.1 E.2.2.1 in_X0 E.2.2.2.1 E.2.2.2.2 hX.1 0 rfl rfl 11 (by decide) (E.2.2.1 _ q46) (fun _ h9 => h9) rfl hdg kk
theorem x0_g12 {a : Nat → Nat} {cA : Nat → ClassId} {B : Nat → Bool} {w : Nat → Int32} {n : Nat} {st : Nat → Nat} {go : Nat → Nat} {C : Nat → Bool} {fr : Nat → Nat} {wy : Nat → Int32} {mx : Nat → Int32} {ld : Bool} {nu : Int32} {sz : Nat → Nat} {pa : Nat → Nat} (E : x0E p s m c cc args dC dI cA) (hX : wd (dC, dI) A H0 (w0 a cA B w n st go C fr wy mx ld nu sz pa) H locs) (hdg : decode cc pc = .ok (.getfield 39, 3)) (kk : W p l e R s m args below meth c H locs cells slots Q (F0 m (pc + 3) ls (.ref (a 10) :: rest))) : W p l e R s m args below meth c H locs cells slots Q (F0 m pc ls (.ref (a 0) :: rest)) := va_get (D := (dC, dI)) (ci := 0) (v := .ref (a 10)) (C := RX0) (T := TX0) (N := 13) E.1 E.2.1 E.2.2.1 in_X0 E.2.2.2.1 E.2.2.2.2 hX.1 0 rfl rfl 12 (by decide) (E.2.2.1 _ q47) (fun _ h9 => h9) rfl hdg kk
theorem x0_l1 {a : Nat → Nat} {cA : Nat → ClassId} {B : Nat → Bool} {w : Nat → Int32} {n : Nat} {st : Nat → Nat} {go : Nat → Nat} {C : Nat → Bool} {fr : Nat → Nat} {wy : Nat → Int32} {mx : Nat → Int32} {ld : Bool} {nu : Int32} {sz : Nat → Nat} {pa : Nat → Nat} {k : Nat} (E : x0E p s m c cc args dC dI cA) (hX : wd (dC, dI) A H0 (w0 a cA B w n st go C fr wy mx ld nu sz pa) H locs) (hk : k < 30) (hdg : decode cc pc = .ok (.baload, 1)) (kk : W p l e R s m args below meth c H locs cells slots Q (F0 m (pc + 1) ls (.int (b2 (B k)) :: rest))) : W p l e R s m args below meth c H locs cells slots Q (F0 m pc ls (.int (nI k) :: .ref (a 1) :: rest)) := ld_z E.1 E.2.1 E.2.2.2.2 hX 1 0 rfl rfl hk (by decide) hdg kk
theorem x0_s1 {a : Nat → Nat} {cA : Nat → ClassId} {B : Nat → Bool} {w : Nat → Int32} {n : Nat} {st : Nat → Nat} {go : Nat → Nat} {C : Nat → Bool} {fr : Nat → Nat} {wy : Nat → Int32} {mx : Nat → Int32} {ld : Bool} {nu : Int32} {sz : Nat → Nat} {pa : Nat → Nat} {k : Nat} {v9 : Bool} (E : x0E p s m c cc args dC dI cA) (hX : wd (dC, dI) A H0 (w0 a cA B w n st go C fr wy mx ld nu sz pa) H locs) (hk : k < 30) (hdg : decode cc pc = .ok (.bastore, 1)) (kk : ∀ (H1 : Heap) (locs1 : List Loc), wd (dC, dI) A H0 (w0 a cA (va_up B k v9) w n st go C fr wy mx ld nu sz pa) H1 locs1 → W p l e R s m args below meth c H1 locs1 cells slots Q (F0 m (pc + 1) ls rest)) : W p l e R s m args below meth c H locs cells slots Q (F0 m pc ls (.int (b2 v9) :: .int (nI k) :: .ref (a 1) :: rest)) := st_z E.1 E.2.1 E.2.2.2.2 hX 1 0 rfl rfl hk (by decide) hdg kk
theorem x0_l2 {a : Nat → Nat} {cA : Nat → ClassId} {B : Nat → Bool} {w : Nat → Int32} {n : Nat} {st : Nat → Nat} {go : Nat → Nat} {C : Nat → Bool} {fr : Nat → Nat} {wy : Nat → Int32} {mx : Nat → Int32} {ld : Bool} {nu : Int32} {sz : Nat → Nat} {pa : Nat → Nat} {k : Nat} (E : x0E p s m c cc args dC dI cA) (hX : wd (dC, dI) A H0 (w0 a cA B w n st go C fr wy mx ld nu sz pa) H locs) (hk : k < 30) (hdg : decode cc pc = .ok (.iaload, 1)) (kk : W p l e R s m args below meth c H locs cells slots Q (F0 m (pc + 1) ls (.int (w k) :: rest))) : W p l e R s m args below meth c H locs cells slots Q (F0 m pc ls (.int (nI k) :: .ref (a 2) :: rest)) := ld_i E.1 E.2.1 E.2.2.2.2 hX 2 1 rfl rfl hk (by decide) hdg kk
theorem x0_s2 {a : Nat → Nat} {cA : Nat → ClassId} {B : Nat → Bool} {w : Nat → Int32} {n : Nat} {st : Nat → Nat} {go : Nat → Nat} {C : Nat → Bool} {fr : Nat → Nat} {wy : Nat → Int32} {mx : Nat → Int32} {ld : Bool} {nu : Int32} {sz : Nat → Nat} {pa : Nat → Nat} {k : Nat} {v9 : Int32} (E : x0E p s m c cc args dC dI cA) (hX : wd (dC, dI) A H0 (w0 a cA B w n st go C fr wy mx ld nu sz pa) H locs) (hk : k < 30) (hdg : decode cc pc = .ok (.iastore, 1)) (kk : ∀ (H1 : Heap) (locs1 : List Loc), wd (dC, dI) A H0 (w0 a cA B (upd w k v9) n st go C fr wy mx ld nu sz pa) H1 locs1 → W p l e R s m args below meth c H1 locs1 cells slots Q (F0 m (pc + 1) ls rest)) : W p l e R s m args below meth c H locs cells slots Q (F0 m pc ls (.int v9 :: .int (nI k) :: .ref (a 2) :: rest)) := st_i E.1 E.2.1 E.2.2.2.2 hX 2 1 rfl rfl hk (by decide) hdg kk
theorem x0_l3 {a : Nat → Nat} {cA : Nat → ClassId} {B : Nat → Bool} {w : Nat → Int32} {n : Nat} {st : Nat → Nat} {go : Nat → Nat} {C : Nat → Bool} {fr : Nat → Nat} {wy : Nat → Int32} {mx : Nat → Int32} {ld : Bool} {nu : Int32} {sz : Nat → Nat} {pa : Nat → Nat} {k : Nat} (E : x0E p s m c cc args dC dI cA) (hX : wd (dC, dI) A H0 (w0 a cA B w n st go C fr wy mx ld nu sz pa) H locs) (hk : k < 4) (hdg : decode cc pc = .ok (.baload, 1)) (kk : W p l e R s m args below meth c H locs cells slots Q (F0 m (pc + 1) ls (.int (nI (st k)) :: rest))) : W p l e R s m args below meth c H locs cells slots Q (F0 m pc ls (.int (nI k) :: .ref (a 3) :: rest)) := ld_b E.1 E.2.1 E.2.2.2.2 hX 3 2 rfl rfl hk (by decide) hdg kk
theorem x0_s3 {a : Nat → Nat} {cA : Nat → ClassId} {B : Nat → Bool} {w : Nat → Int32} {n : Nat} {st : Nat → Nat} {go : Nat → Nat} {C : Nat → Bool} {fr : Nat → Nat} {wy : Nat → Int32} {mx : Nat → Int32} {ld : Bool} {nu : Int32} {sz : Nat → Nat} {pa : Nat → Nat} {k : Nat} {v9 : Nat} (E : x0E p s m c cc args dC dI cA) (hX : wd (dC, dI) A H0 (w0 a cA B w n st go C fr wy mx ld nu sz pa) H locs) (hk : k < 4) (hv : v9 < 128) (hdg : decode cc pc = .ok (.bastore, 1)) (kk : ∀ (H1 : Heap) (locs1 : List Loc), wd (dC, dI) A H0 (w0 a cA B w n (va_up st k v9) go C fr wy mx ld nu sz pa) H1 locs1 → W p l e R s m args below meth c H1 locs1 cells slots Q (F0 m (pc + 1) ls rest)) : W p l e R s m args below meth c H locs cells slots Q (F0 m pc ls (.int (nI v9) :: .int (nI k) :: .ref (a 3) :: rest)) := st_b E.1 E.2.1 E.2.2.2.2 hX 3 2 rfl rfl hk (by decide) hv hdg kk
theorem x0_l4 {a : Nat → Nat} {cA : Nat → ClassId} {B : Nat → Bool} {w : Nat → Int32} {n : Nat} {st : Nat → Nat} {go : Nat → Nat} {C : Nat → Bool} {fr : Nat → Nat} {wy : Nat → Int32} {mx : Nat → Int32} {ld : Bool} {nu : Int32} {sz : Nat → Nat} {pa : Nat → Nat} {k : Nat} (E : x0E p s m c cc args dC dI cA) (hX : wd (dC, dI) A H0 (w0 a cA B w n st go C fr wy mx ld nu sz pa) H locs) (hk : k < 4) (hdg : decode cc pc = .ok (.baload, 1)) (kk : W p l e R s m args below meth c H locs cells slots Q (F0 m (pc + 1) ls (.int (nI (go k)) :: rest))) : W p l e R s m args below meth c H locs cells slots Q (F0 m pc ls (.int (nI k) :: .ref (a 4) :: rest)) := ld_b E.1 E.2.1 E.2.2.2.2 hX 4 3 rfl rfl hk (by decide) hdg kk
theorem x0_s4 {a : Nat → Nat} {cA : Nat → ClassId} {B : Nat → Bool} {w : Nat → Int32} {n : Nat} {st : Nat → Nat} {go : Nat → Nat} {C : Nat → Bool} {fr : Nat → Nat} {wy : Nat → Int32} {mx : Nat → Int32} {ld : Bool} {nu : Int32} {sz : Nat → Nat} {pa : Nat → Nat} {k : Nat} {v9 : Nat} (E : x0E p s m c cc args dC dI cA) (hX : wd (dC, dI) A H0 (w0 a cA B w n st go C fr wy mx ld nu sz pa) H locs) (hk : k < 4) (hv : v9 < 128) (hdg : decode cc pc = .ok (.bastore, 1)) (kk : ∀ (H1 : Heap) (locs1 : List Loc), wd (dC, dI) A H0 (w0 a cA B w n st (va_up go k v9) C fr wy mx ld nu sz pa) H1 locs1 → W p l e R s m args below meth c H1 locs1 cells slots Q (F0 m (pc + 1) ls rest)) : W p l e R s m args below meth c H locs cells slots Q (F0 m pc ls (.int (nI v9) :: .int (nI k) :: .ref (a 4) :: rest)) := st_b E.1 E.2.1 E.2.2.2.2 hX 4 3 rfl rfl hk (by decide) hv hdg kk
theorem x0_l5 {a : Nat → Nat} {cA : Nat → ClassId} {B : Nat → Bool} {w : Nat → Int32} {n : Nat} {st : Nat → Nat} {go : Nat → Nat} {C : Nat → Bool} {fr : Nat → Nat} {wy : Nat → Int32} {mx : Nat → Int32} {ld : Bool} {nu : Int32} {sz : Nat → Nat} {pa : Nat → Nat} {k : Nat} (E : x0E p s m c cc args dC dI cA) (hX : wd (dC, dI) A H0 (w0 a cA B w n st go C fr wy mx ld nu sz pa) H locs) (hk : k < 30) (hdg : decode cc pc = .ok (.baload, 1)) (kk : W p l e R s m args below meth c H locs cells slots Q (F0 m (pc + 1) ls (.int (b2 (C k)) :: rest))) : W p l e R s m args below meth c H locs cells slots Q (F0 m pc ls (.int (nI k) :: .ref (a 5) :: rest)) := ld_z E.1 E.2.1 E.2.2.2.2 hX 5 4 rfl rfl hk (by decide) hdg kk
theorem x0_s5 {a : Nat → Nat} {cA : Nat → ClassId} {B : Nat → Bool} {w : Nat → Int32} {n : Nat} {st : Nat → Nat} {go : Nat → Nat} {C : Nat → Bool} {fr : Nat → Nat} {wy : Nat → Int32} {mx : Nat → Int32} {ld : Bool} {nu : Int32} {sz : Nat → Nat} {pa : Nat → Nat} {k : Nat} {v9 : Bool} (E : x0E p s m c cc args dC dI cA) (hX : wd (dC, dI) A H0 (w0 a cA B w n st go C fr wy mx ld nu sz pa) H locs) (hk : k < 30) (hdg : decode cc pc = .ok (.bastore, 1)) (kk : ∀ (H1 : Heap) (locs1 : List Loc), wd (dC, dI) A H0 (w0 a cA B w n st go (va_up C k v9) fr wy mx ld nu sz pa) H1 locs1 → W p l e R s m args below meth c H1 locs1 cells slots Q (F0 m (pc + 1) ls rest)) : W p l e R s m args below meth c H locs cells slots Q (F0 m pc ls (.int (b2 v9) :: .int (nI k) :: .ref (a 5) :: rest)) := st_z E.1 E.2.1 E.2.2.2.2 hX 5 4 rfl rfl hk (by decide) hdg kk
theorem x0_l6 {a : Nat → Nat} {cA : Nat → ClassId} {B : Nat → Bool} {w : Nat → Int32} {n : Nat} {st : Nat → Nat} {go : Nat → Nat} {C : Nat → Bool} {fr : Nat → Nat} {wy : Nat → Int32} {mx : Nat → Int32} {ld : Bool} {nu : Int32} {sz : Nat → Nat} {pa : Nat → Nat} {k : Nat} (E : x0E p s m c cc args dC dI cA) (hX : wd (dC, dI) A H0 (w0 a cA B w n st go C fr wy mx ld nu sz pa) H locs) (hk : k < 4) (hdg : decode cc pc = .ok (.baload, 1)) (kk : W p l e R s m args below meth c H locs cells slots Q (F0 m (pc + 1) ls (.int (nI (fr k)) :: rest))) : W p l e R s m args below meth c H locs cells slots Q (F0 m pc ls (.int (nI k) :: .ref (a 6) :: rest)) := ld_b E.1 E.2.1 E.2.2.2.2 hX 6 5 rfl rfl hk (by decide) hdg kk
theorem x0_s6 {a : Nat → Nat} {cA : Nat → ClassId} {B : Nat → Bool} {w : Nat → Int32} {n : Nat} {st : Nat → Nat} {go : Nat → Nat} {C : Nat → Bool} {fr : Nat → Nat} {wy : Nat → Int32} {mx : Nat → Int32} {ld : Bool} {nu : Int32} {sz : Nat → Nat} {pa : Nat → Nat} {k : Nat} {v9 : Nat} (E : x0E p s m c cc args dC dI cA) (hX : wd (dC, dI) A H0 (w0 a cA B w n st go C fr wy mx ld nu sz pa) H locs) (hk : k < 4) (hv : v9 < 128) (hdg : decode cc pc = .ok (.bastore, 1)) (kk : ∀ (H1 : Heap) (locs1 : List Loc), wd (dC, dI) A H0 (w0 a cA B w n st go C (va_up fr k v9) wy mx ld nu sz pa) H1 locs1 → W p l e R s m args below meth c H1 locs1 cells slots Q (F0 m (pc + 1) ls rest)) : W p l e R s m args below meth c H locs cells slots Q (F0 m pc ls (.int (nI v9) :: .int (nI k) :: .ref (a 6) :: rest)) := st_b E.1 E.2.1 E.2.2.2.2 hX 6 5 rfl rfl hk (by decide) hv hdg kk
theorem x0_l7 {a : Nat → Nat} {cA : Nat → ClassId} {B : Nat → Bool} {w : Nat → Int32} {n : Nat} {st : Nat → Nat} {go : Nat → Nat} {C : Nat → Bool} {fr : Nat → Nat} {wy : Nat → Int32} {mx : Nat → Int32} {ld : Bool} {nu : Int32} {sz : Nat → Nat} {pa : Nat → Nat} {k : Nat} (E : x0E p s m c cc args dC dI cA) (hX : wd (dC, dI) A H0 (w0 a cA B w n st go C fr wy mx ld nu sz pa) H locs) (hk : k < 30) (hdg : decode cc pc = .ok (.iaload, 1)) (kk : W p l e R s m args below meth c H locs cells slots Q (F0 m (pc + 1) ls (.int (wy k) :: rest))) : W p l e R s m args below meth c H locs cells slots Q (F0 m pc ls (.int (nI k) :: .ref (a 7) :: rest)) := ld_i E.1 E.2.1 E.2.2.2.2 hX 7 6 rfl rfl hk (by decide) hdg kk
theorem x0_s7 {a : Nat → Nat} {cA : Nat → ClassId} {B : Nat → Bool} {w : Nat → Int32} {n : Nat} {st : Nat → Nat} {go : Nat → Nat} {C : Nat → Bool} {fr : Nat → Nat} {wy : Nat → Int32} {mx : Nat → Int32} {ld : Bool} {nu : Int32} {sz : Nat → Nat} {pa : Nat → Nat} {k : Nat} {v9 : Int32} (E : x0E p s m c cc args dC dI cA) (hX : wd (dC, dI) A H0 (w0 a cA B w n st go C fr wy mx ld nu sz pa) H locs) (hk : k < 30) (hdg : decode cc pc = .ok (.iastore, 1)) (kk : ∀ (H1 : Heap) (locs1 : List Loc), wd (dC, dI) A H0 (w0 a cA B w n st go C fr (upd wy k v9) mx ld nu sz pa) H1 locs1 → W p l e R s m args below meth c H1 locs1 cells slots Q (F0 m (pc + 1) ls rest)) : W p l e R s m args below meth c H locs cells slots Q (F0 m pc ls (.int v9 :: .int (nI k) :: .ref (a 7) :: rest)) := st_i E.1 E.2.1 E.2.2.2.2 hX 7 6 rfl rfl hk (by decide) hdg kk
theorem x0_l8 {a : Nat → Nat} {cA : Nat → ClassId} {B : Nat → Bool} {w : Nat → Int32} {n : Nat} {st : Nat → Nat} {go : Nat → Nat} {C : Nat → Bool} {fr : Nat → Nat} {wy : Nat → Int32} {mx : Nat → Int32} {ld : Bool} {nu : Int32} {sz : Nat → Nat} {pa : Nat → Nat} {k : Nat} (E : x0E p s m c cc args dC dI cA) (hX : wd (dC, dI) A H0 (w0 a cA B w n st go C fr wy mx ld nu sz pa) H locs) (hk : k < 16) (hdg : decode cc pc = .ok (.iaload, 1)) (kk : W p l e R s m args below meth c H locs cells slots Q (F0 m (pc + 1) ls (.int (mx k) :: rest))) : W p l e R s m args below meth c H locs cells slots Q (F0 m pc ls (.int (nI k) :: .ref (a 8) :: rest)) := ld_i E.1 E.2.1 E.2.2.2.2 hX 8 7 rfl rfl hk (by decide) hdg kk
theorem x0_s8 {a : Nat → Nat} {cA : Nat → ClassId} {B : Nat → Bool} {w : Nat → Int32} {n : Nat} {st : Nat → Nat} {go : Nat → Nat} {C : Nat → Bool} {fr : Nat → Nat} {wy : Nat → Int32} {mx : Nat → Int32} {ld : Bool} {nu : Int32} {sz : Nat → Nat} {pa : Nat → Nat} {k : Nat} {v9 : Int32} (E : x0E p s m c cc args dC dI cA) (hX : wd (dC, dI) A H0 (w0 a cA B w n st go C fr wy mx ld nu sz pa) H locs) (hk : k < 16) (hdg : decode cc pc = .ok (.iastore, 1)) (kk : ∀ (H1 : Heap) (locs1 : List Loc), wd (dC, dI) A H0 (w0 a cA B w n st go C fr wy (upd mx k v9) ld nu sz pa) H1 locs1 → W p l e R s m args below meth c H1 locs1 cells slots Q (F0 m (pc + 1) ls rest)) : W p l e R s m args below meth c H locs cells slots Q (F0 m pc ls (.int v9 :: .int (nI k) :: .ref (a 8) :: rest)) := st_i E.1 E.2.1 E.2.2.2.2 hX 8 7 rfl rfl hk (by decide) hdg kk
theorem x0_l9 {a : Nat → Nat} {cA : Nat → ClassId} {B : Nat → Bool} {w : Nat → Int32} {n : Nat} {st : Nat → Nat} {go : Nat → Nat} {C : Nat → Bool} {fr : Nat → Nat} {wy : Nat → Int32} {mx : Nat → Int32} {ld : Bool} {nu : Int32} {sz : Nat → Nat} {pa : Nat → Nat} {k : Nat} (E : x0E p s m c cc args dC dI cA) (hX : wd (dC, dI) A H0 (w0 a cA B w n st go C fr wy mx ld nu sz pa) H locs) (hk : k < 4) (hdg : decode cc pc = .ok (.baload, 1)) (kk : W p l e R s m args below meth c H locs cells slots Q (F0 m (pc + 1) ls (.int (nI (sz k)) :: rest))) : W p l e R s m args below meth c H locs cells slots Q (F0 m pc ls (.int (nI k) :: .ref (a 9) :: rest)) := ld_b E.1 E.2.1 E.2.2.2.2 hX 9 8 rfl rfl hk (by decide) hdg kk
theorem x0_s9 {a : Nat → Nat} {cA : Nat → ClassId} {B : Nat → Bool} {w : Nat → Int32} {n : Nat} {st : Nat → Nat} {go : Nat → Nat} {C : Nat → Bool} {fr : Nat → Nat} {wy : Nat → Int32} {mx : Nat → Int32} {ld : Bool} {nu : Int32} {sz : Nat → Nat} {pa : Nat → Nat} {k : Nat} {v9 : Nat} (E : x0E p s m c cc args dC dI cA) (hX : wd (dC, dI) A H0 (w0 a cA B w n st go C fr wy mx ld nu sz pa) H locs) (hk : k < 4) (hv : v9 < 128) (hdg : decode cc pc = .ok (.bastore, 1)) (kk : ∀ (H1 : Heap) (locs1 : List Loc), wd (dC, dI) A H0 (w0 a cA B w n st go C fr wy mx ld nu (va_up sz k v9) pa) H1 locs1 → W p l e R s m args below meth c H1 locs1 cells slots Q (F0 m (pc + 1) ls rest)) : W p l e R s m args below meth c H locs cells slots Q (F0 m pc ls (.int (nI v9) :: .int (nI k) :: .ref (a 9) :: rest)) := st_b E.1 E.2.1 E.2.2.2.2 hX 9 8 rfl rfl hk (by decide) hv hdg kk
theorem x0_l10 {a : Nat → Nat} {cA : Nat → ClassId} {B : Nat → Bool} {w : Nat → Int32} {n : Nat} {st : Nat → Nat} {go : Nat → Nat} {C : Nat → Bool} {fr : Nat → Nat} {wy : Nat → Int32} {mx : Nat → Int32} {ld : Bool} {nu : Int32} {sz : Nat → Nat} {pa : Nat → Nat} {k : Nat} (E : x0E p s m c cc args dC dI cA) (hX : wd (dC, dI) A H0 (w0 a cA B w n st go C fr wy mx ld nu sz pa) H locs) (hk : k < 40) (hdg : decode cc pc = .ok (.baload, 1)) (kk : W p l e R s m args below meth c H locs cells slots Q (F0 m (pc + 1) ls (.int (nI (pa k)) :: rest))) : W p l e R s m args below meth c H locs cells slots Q (F0 m pc ls (.int (nI k) :: .ref (a 10) :: rest)) := ld_b E.1 E.2.1 E.2.2.2.2 hX 10 9 rfl rfl hk (by decide) hdg kk
theorem x0_s10 {a : Nat → Nat} {cA : Nat → ClassId} {B : Nat → Bool} {w : Nat → Int32} {n : Nat} {st : Nat → Nat} {go : Nat → Nat} {C : Nat → Bool} {fr : Nat → Nat} {wy : Nat → Int32} {mx : Nat → Int32} {ld : Bool} {nu : Int32} {sz : Nat → Nat} {pa : Nat → Nat} {k : Nat} {v9 : Nat} (E : x0E p s m c cc args dC dI cA) (hX : wd (dC, dI) A H0 (w0 a cA B w n st go C fr wy mx ld nu sz pa) H locs) (hk : k < 40) (hv : v9 < 128) (hdg : decode cc pc = .ok (.bastore, 1)) (kk : ∀ (H1 : Heap) (locs1 : List Loc), wd (dC, dI) A H0 (w0 a cA B w n st go C fr wy mx ld nu sz (va_up pa k v9)) H1 locs1 → W p l e R s m args below meth c H1 locs1 cells slots Q (F0 m (pc + 1) ls rest)) : W p l e R s m args below meth c H locs cells slots Q (F0 m pc ls (.int (nI v9) :: .int (nI k) :: .ref (a 10) :: rest)) := st_b E.1 E.2.1 E.2.2.2.2 hX 10 9 rfl rfl hk (by decide) hv hdg kk
theorem x1_g0 {a : Nat → Nat} {cA : Nat → ClassId} {B : Nat → Bool} {w : Nat → Int32} {n : Nat} {st : Nat → Nat} {go : Nat → Nat} {g : Nat} {wk : Nat → Nat} {ow : Nat → Nat} {tr : Nat → Nat} {tk : Nat → Bool} {wy : Nat → Int32} {rk : Int32} {ld : Nat} {kp : Nat → Nat} {ko : Nat → Nat} (E : x1E p s m c cc args dC dI cA) (hX : wd (dC, dI) A H0 (w1 a cA B w n st go g wk ow tr tk wy rk ld kp ko) H locs) (hdg : decode cc pc = .ok (.getfield 7, 3)) (kk : W p l e R s m args below meth c H locs cells slots Q (F0 m (pc + 3) ls (.ref (a 1) :: rest))) : W p l e R s m args below meth c H locs cells slots Q (F0 m pc ls (.ref (a 0) :: rest)) := va_get (D := (dC, dI)) (ci := 1) (v := .ref (a 1)) (C := RX1) (T := TX1) (N := 15) E.1 E.2.1 E.2.2.1 in_X1 E.2.2.2.1 E.2.2.2.2 hX.1 0 rfl rfl 0 (by decide) (E.2.2.1 _ q192) (fun _ h9 => h9) rfl hdg kk
theorem x1_g1 {a : Nat → Nat} {cA : Nat → ClassId} {B : Nat → Bool} {w : Nat → Int32} {n : Nat} {st : Nat → Nat} {go : Nat → Nat} {g : Nat} {wk : Nat → Nat} {ow : Nat → Nat} {tr : Nat → Nat} {tk : Nat → Bool} {wy : Nat → Int32} {rk : Int32} {ld : Nat} {kp : Nat → Nat} {ko : Nat → Nat} (E : x1E p s m c cc args dC dI cA) (hX : wd (dC, dI) A H0 (w1 a cA B w n st go g wk ow tr tk wy rk ld kp ko) H locs) (hdg : decode cc pc = .ok (.getfield 13, 3)) (kk : W p l e R s m args below meth c H locs cells slots Q (F0 m (pc + 3) ls (.ref (a 2) :: rest))) : W p l e R s m args below meth c H locs cells slots Q (F0 m pc ls (.ref (a 0) :: rest)) := va_get (D := (dC, dI)) (ci := 1) (v := .ref (a 2)) (C := RX1) (T := TX1) (N := 15) E.1 E.2.1 E.2.2.1 in_X1 E.2.2.2.1 E.2.2.2.2 hX.1 0 rfl rfl 1 (by decide) (E.2.2.1 _ q193) (fun _ h9 => h9) rfl hdg kk
theorem x1_g2 {a : Nat → Nat} {cA : Nat → ClassId} {B : Nat → Bool} {w : Nat → Int32} {n : Nat} {st : Nat → Nat} {go : Nat → Nat} {g : Nat} {wk : Nat → Nat} {ow : Nat → Nat} {tr : Nat → Nat} {tk : Nat → Bool} {wy : Nat → Int32} {rk : Int32} {ld : Nat} {kp : Nat → Nat} {ko : Nat → Nat} (E : x1E p s m c cc args dC dI cA) (hX : wd (dC, dI) A H0 (w1 a cA B w n st go g wk ow tr tk wy rk ld kp ko) H locs) (hdg : decode cc pc = .ok (.getfield 44, 3)) (kk : W p l e R s m args below meth c H locs cells slots Q (F0 m (pc + 3) ls (.int (nI n) :: rest))) : W p l e R s m args below meth c H locs cells slots Q (F0 m pc ls (.ref (a 0) :: rest)) := va_get (D := (dC, dI)) (ci := 1) (v := .int (nI n)) (C := RX1) (T := TX1) (N := 15) E.1 E.2.1 E.2.2.1 in_X1 E.2.2.2.1 E.2.2.2.2 hX.1 0 rfl rfl 2 (by decide) (E.2.2.1 _ q194) (fun _ h9 => h9) rfl hdg kk
theorem x1_p2 {a : Nat → Nat} {cA : Nat → ClassId} {B : Nat → Bool} {w : Nat → Int32} {n : Nat} {st : Nat → Nat} {go : Nat → Nat} {g : Nat} {wk : Nat → Nat} {ow : Nat → Nat} {tr : Nat → Nat} {tk : Nat → Bool} {wy : Nat → Int32} {rk : Int32} {ld : Nat} {kp : Nat → Nat} {ko : Nat → Nat} {v9 : Nat} (E : x1E p s m c cc args dC dI cA) (hX : wd (dC, dI) A H0 (w1 a cA B w n st go g wk ow tr tk wy rk ld kp ko) H locs) (hdg : decode cc pc = .ok (.putfield 44, 3)) (kk : ∀ (H1 : Heap) (locs1 : List Loc), wd (dC, dI) A H0 (w1 a cA B w v9 st go g wk ow tr tk wy rk ld kp ko) H1 locs1 → W p l e R s m args below meth c H1 locs1 cells slots Q (F0 m (pc + 3) ls rest)) : W p l e R s m args below meth c H locs cells slots Q (F0 m pc ls (.int (nI v9) :: .ref (a 0) :: rest)) := va_put (D := (dC, dI)) (ci := 1) (v := .int (nI v9)) (ty := .int) (C := RX1) (T := TX1) (N := 15) E.1 E.2.1 E.2.2.1 in_X1 tyX1 tyX1_ok nmX1 E.2.2.2.1 E.2.2.2.2 hX.1 hX.2.1 hX.2.2 0 rfl rfl 2 (by decide) (E.2.2.1 _ q194) (fun _ h9 => h9) rfl (by decide +kernel) rfl rfl (Nat.le_of_ble_eq_true rfl) hdg (fun H1 locs1 h1 h2 h3 => kk H1 locs1 ⟨h1, h2, h3⟩)
theorem x1_g3 {a : Nat → Nat} {cA : Nat → ClassId} {B : Nat → Bool} {w : Nat → Int32} {n : Nat} {st : Nat → Nat} {go : Nat → Nat} {g : Nat} {wk : Nat → Nat} {ow : Nat → Nat} {tr : Nat → Nat} {tk : Nat → Bool} {wy : Nat → Int32} {rk : Int32} {ld : Nat} {kp : Nat → Nat} {ko : Nat → Nat} (E : x1E p s m c cc args dC dI cA) (hX : wd (dC, dI) A H0 (w1 a cA B w n st go g wk ow tr tk wy rk ld kp ko) H locs) (hdg : decode cc pc = .ok (.getfield 17, 3)) (kk : W p l e R s m args below meth c H locs cells slots Q (F0 m (pc + 3) ls (.ref (a 3) :: rest))) : W p l e R s m args below meth c H locs cells slots Q (F0 m pc ls (.ref (a 0) :: rest)) := va_get (D := (dC, dI)) (ci := 1) (v := .ref (a 3)) (C := RX1) (T := TX1) (N := 15) E.1 E.2.1 E.2.2.1 in_X1 E.2.2.2.1 E.2.2.2.2 hX.1 0 rfl rfl 3 (by decide) (E.2.2.1 _ q195) (fun _ h9 => h9) rfl hdg kk
theorem x1_g4 {a : Nat → Nat} {cA : Nat → ClassId} {B : Nat → Bool} {w : Nat → Int32} {n : Nat} {st : Nat → Nat} {go : Nat → Nat} {g : Nat} {wk : Nat → Nat} {ow : Nat → Nat} {tr : Nat → Nat} {tk : Nat → Bool} {wy : Nat → Int32} {rk : Int32} {ld : Nat} {kp : Nat → Nat} {ko : Nat → Nat} (E : x1E p s m c cc args dC dI cA) (hX : wd (dC, dI) A H0 (w1 a cA B w n st go g wk ow tr tk wy rk ld kp ko) H locs) (hdg : decode cc pc = .ok (.getfield 20, 3)) (kk : W p l e R s m args below meth c H locs cells slots Q (F0 m (pc + 3) ls (.ref (a 4) :: rest))) : W p l e R s m args below meth c H locs cells slots Q (F0 m pc ls (.ref (a 0) :: rest)) := va_get (D := (dC, dI)) (ci := 1) (v := .ref (a 4)) (C := RX1) (T := TX1) (N := 15) E.1 E.2.1 E.2.2.1 in_X1 E.2.2.2.1 E.2.2.2.2 hX.1 0 rfl rfl 4 (by decide) (E.2.2.1 _ q196) (fun _ h9 => h9) rfl hdg kk
theorem x1_g5 {a : Nat → Nat} {cA : Nat → ClassId} {B : Nat → Bool} {w : Nat → Int32} {n : Nat} {st : Nat → Nat} {go : Nat → Nat} {g : Nat} {wk : Nat → Nat} {ow : Nat → Nat} {tr : Nat → Nat} {tk : Nat → Bool} {wy : Nat → Int32} {rk : Int32} {ld : Nat} {kp : Nat → Nat} {ko : Nat → Nat} (E : x1E p s m c cc args dC dI cA) (hX : wd (dC, dI) A H0 (w1 a cA B w n st go g wk ow tr tk wy rk ld kp ko) H locs) (hdg : decode cc pc = .ok (.getfield 68, 3)) (kk : W p l e R s m args below meth c H locs cells slots Q (F0 m (pc + 3) ls (.int (nI g) :: rest))) : W p l e R s m args below meth c H locs cells slots Q (F0 m pc ls (.ref (a 0) :: rest)) := va_get (D := (dC, dI)) (ci := 1) (v := .int (nI g)) (C := RX1) (T := TX1) (N := 15) E.1 E.2.1 E.2.2.1 in_X1 E.2.2.2.1 E.2.2.2.2 hX.1 0 rfl rfl 5 (by decide) (E.2.2.1 _ q197) (fun _ h9 => h9) rfl hdg kk
theorem x1_p5 {a : Nat → Nat} {cA : Nat → ClassId} {B : Nat → Bool} {w : Nat → Int32} {n : Nat} {st : Nat → Nat} {go : Nat → Nat} {g : Nat} {wk : Nat → Nat} {ow : Nat → Nat} {tr : Nat → Nat} {tk : Nat → Bool} {wy : Nat → Int32} {rk : Int32} {ld : Nat} {kp : Nat → Nat} {ko : Nat → Nat} {v9 : Nat} (E : x1E p s m c cc args dC dI cA) (hX : wd (dC, dI) A H0 (w1 a cA B w n st go g wk ow tr tk wy rk ld kp ko) H locs) (hdg : decode cc pc = .ok (.putfield 68, 3)) (kk : ∀ (H1 : Heap) (locs1 : List Loc), wd (dC, dI) A H0 (w1 a cA B w n st go v9 wk ow tr tk wy rk ld kp ko) H1 locs1 → W p l e R s m args below meth c H1 locs1 cells slots Q (F0 m (pc + 3) ls rest)) : W p l e R s m args below meth c H locs cells slots Q (F0 m pc ls (.int (nI v9) :: .ref (a 0) :: rest)) := va_put (D := (dC, dI)) (ci := 1) (v := .int (nI v9)) (ty := .int) (C := RX1) (T := TX1) (N := 15) E.1 E.2.1 E.2.2.1 in_X1 tyX1 tyX1_ok nmX1 E.2.2.2.1 E.2.2.2.2 hX.1 hX.2.1 hX.2.2 0 rfl rfl 5 (by decide) (E.2.2.1 _ q197) (fun _ h9 => h9) rfl (by decide +kernel) rfl rfl (Nat.le_of_ble_eq_true rfl) hdg (fun H1 locs1 h1 h2 h3 => kk H1 locs1 ⟨h1, h2, h3⟩)
theorem x1_g6 {a : Nat → Nat} {cA : Nat → ClassId} {B : Nat → Bool} {w : Nat → Int32} {n : Nat} {st : Nat → Nat} {go : Nat → Nat} {g : Nat} {wk : Nat → Nat} {ow : Nat → Nat} {tr : Nat → Nat} {tk : Nat → Bool} {wy : Nat → Int32} {rk : Int32} {ld : Nat} {kp : Nat → Nat} {ko : Nat → Nat} (E : x1E p s m c cc args dC dI cA) (hX : wd (dC, dI) A H0 (w1 a cA B w n st go g wk ow tr tk wy rk ld kp ko) H locs) (hdg : decode cc pc = .ok (.getfield 23, 3)) (kk : W p l e R s m args below meth c H locs cells slots Q (F0 m (pc + 3) ls (.ref (a 5) :: rest))) : W p l e R s m args below meth c H locs cells slots Q (F0 m pc ls (.ref (a 0) :: rest)) := va_get (D := (dC, dI)) (ci := 1) (v := .ref (a 5)) (C := RX1) (T := TX1) (N := 15) E.1 E.2.1 E.2.2.1 in_X1 E.2.2.2.1 E.2.2.2.2 hX.1 0 rfl rfl 6 (by decide) (E.2.2.1 _ q198) (fun _ h9 => h9) rfl hdg kk
theorem x1_g7 {a : Nat → Nat} {cA : Nat → ClassId} {B : Nat → Bool} {w : Nat → Int32} {n : Nat} {st : Nat → Nat} {go : Nat → Nat} {g : Nat} {wk : Nat → Nat} {ow : Nat → Nat} {tr : Nat → Nat} {tk : Nat → Bool} {wy : Nat → Int32} {rk : Int32} {ld : Nat} {kp : Nat → Nat} {ko : Nat → Nat} (E : x1E p s m c cc args dC dI cA) (hX : wd (dC, dI) A H0 (w1 a cA B w n st go g wk ow tr tk wy rk ld kp ko) H locs) (hdg : decode cc pc = .ok (.getfield 26, 3)) (kk : W p l e R s m args below meth c H locs cells slots Q (F0 m (pc + 3) ls (.ref (a 6) :: rest))) : W p l e R s m args below meth c H locs cells slots Q (F0 m pc ls (.ref (a 0) :: rest)) := va_get (D := (dC, dI)) (ci := 1) (v := .ref (a 6)) (C := RX1) (T := TX1) (N := 15) E.1 E.2.1 E.2.2.1 in_X1 E.2.2.2.1 E.2.2.2.2 hX.1 0 rfl rfl 7 (by decide) (E.2.2.1 _ q199) (fun _ h9 => h9) rfl hdg kk
theorem x1_g8 {a : Nat → Nat} {cA : Nat → ClassId} {B : Nat → Bool} {w : Nat → Int32} {n : Nat} {st : Nat → Nat} {go : Nat → Nat} {g : Nat} {wk : Nat → Nat} {ow : Nat → Nat} {tr : Nat → Nat} {tk : Nat → Bool} {wy : Nat → Int32} {rk : Int32} {ld : Nat} {kp : Nat → Nat} {ko : Nat → Nat} (E : x1E p s m c cc args dC dI cA) (hX : wd (dC, dI) A H0 (w1 a cA B w n st go g wk ow tr tk wy rk ld kp ko) H locs) (hdg : decode cc pc = .ok (.getfield 29, 3)) (kk : W p l e R s m args below meth c H locs cells slots Q (F0 m (pc + 3) ls (.ref (a 7) :: rest))) : W p l e R s m args below meth c H locs cells slots Q (F0 m pc ls (.ref (a 0) :: rest)) := va_get (D := (dC, dI)) (ci := 1) (v := .ref (a 7)) (C := RX1) (T := TX1) (N := 15) E.1 E.2.1 E.2.2.1 in_X1 E.2.2.2.1 E.2.2.2.2 hX.1 0 rfl rfl 8 (by decide) (E.2.2.1 _ q200) (fun _ h9 => h9) rfl hdg kk
theorem x1_g9 {a : Nat → Nat} {cA : Nat → ClassId} {B : Nat → Bool} {w : Nat → Int32} {n : Nat} {st : Nat → Nat} {go : Nat → Nat} {g : Nat} {wk : Nat → Nat} {ow : Nat → Nat} {tr : Nat → Nat} {tk : Nat → Bool} {wy : Nat → Int32} {rk : Int32} {ld : Nat} {kp : Nat → Nat} {ko : Nat → Nat} (E : x1E p s m c cc args dC dI cA) (hX : wd (dC, dI) A H0 (w1 a cA B w n st go g wk ow tr tk wy rk ld kp ko) H locs) (hdg : decode cc pc = .ok (.getfield 32, 3)) (kk : W p l e R s m args below meth c H locs cells slots Q (F0 m (pc + 3) ls (.ref (a 8) :: rest))) : W p l e R s m args below meth c H locs cells slots Q (F0 m pc ls (.ref (a 0) :: rest)) := va_get (D := (dC, dI)) (ci := 1) (v := .ref (a 8)) (C := RX1) (T := TX1) (N := 15) E.1 E.2.1 E.2.2.1 in_X1 E.2.2.2.1 E.2.2.2.2 hX.1 0 rfl rfl 9 (by decide) (E.2.2.1 _ q201) (fun _ h9 => h9) rfl hdg kk
theorem x1_g10 {a : Nat → Nat} {cA : Nat → ClassId} {B : Nat → Bool} {w : Nat → Int32} {n : Nat} {st : Nat → Nat} {go : Nat → Nat} {g : Nat} {wk : Nat → Nat} {ow : Nat → Nat} {tr : Nat → Nat} {tk : Nat → Bool} {wy : Nat → Int32} {rk : Int32} {ld : Nat} {kp : Nat → Nat} {ko : Nat → Nat} (E : x1E p s m c cc args dC dI cA) (hX : wd (dC, dI) A H0 (w1 a cA B w n st go g wk ow tr tk wy rk ld kp ko) H locs) (hdg : decode cc pc = .ok (.getfield 35, 3)) (kk : W p l e R s m args below meth c H locs cells slots Q (F0 m (pc + 3) ls (.ref (a 9) :: rest))) : W p l e R s m args below meth c H locs cells slots Q (F0 m pc ls (.ref (a 0) :: rest)) := va_get (D := (dC, dI)) (ci := 1) (v := .ref (a 9)) (C := RX1) (T := TX1) (N := 15) E.1 E.2.1 E.2.2.1 in_X1 E.2.2.2.1 E.2.2.2.2 hX.1 0 rfl rfl 10 (by decide) (E.2.2.1 _ q202) (fun _ h9 => h9) rfl hdg kk
theorem x1_g11 {a : Nat → Nat} {cA : Nat → ClassId} {B : Nat → Bool} {w : Nat → Int32} {n : Nat} {st : Nat → Nat} {go : Nat → Nat} {g : Nat} {wk : Nat → Nat} {ow : Nat → Nat} {tr : Nat → Nat} {tk : Nat → Bool} {wy : Nat → Int32} {rk : Int32} {ld : Nat} {kp : Nat → Nat} {ko : Nat → Nat} (E : x1E p s m c cc args dC dI cA) (hX : wd (dC, dI) A H0 (w1 a cA B w n st go g wk ow tr tk wy rk ld kp ko) H locs) (hdg : decode cc pc = .ok (.getfield 48, 3)) (kk : W p l e R s m args below meth c H locs cells slots Q (F0 m (pc + 3) ls (.int rk :: rest))) : W p l e R s m args below meth c H locs cells slots Q (F0 m pc ls (.ref (a 0) :: rest)) := va_get (D := (dC, dI)) (ci := 1) (v := .int rk) (C := RX1) (T := TX1) (N := 15) E.1 E.2.1 E.2.2.1 in_X1 E.2.2.2.1 E.2.2.2.2 hX.1 0 rfl rfl 11 (by decide) (E.2.2.1 _ q203) (fun _ h9 => h9) rfl hdg kk
theorem x1_p11 {a : Nat → Nat} {cA : Nat → ClassId} {B : Nat → Bool} {w : Nat → Int32} {n : Nat} {st : Nat → Nat} {go : Nat → Nat} {g : Nat} {wk : Nat → Nat} {ow : Nat → Nat} {tr : Nat → Nat} {tk : Nat → Bool} {wy : Nat → Int32} {rk : Int32} {ld : Nat} {kp : Nat → Nat} {ko : Nat → Nat} {v9 : Int32} (E : x1E p s m c cc args dC dI cA) (hX : wd (dC, dI) A H0 (w1 a cA B w n st go g wk ow tr tk wy rk ld kp ko) H locs) (hdg : decode cc pc = .ok (.putfield 48, 3)) (kk : ∀ (H1 : Heap) (locs1 : List Loc), wd (dC, dI) A H0 (w1 a cA B w n st go g wk ow tr tk wy v9 ld kp ko) H1 locs1 → W p l e R s m args below meth c H1 locs1 cells slots Q (F0 m (pc + 3) ls rest)) : W p l e R s m args below meth c H locs cells slots Q (F0 m pc ls (.int v9 :: .ref (a 0) :: rest)) := va_put (D := (dC, dI)) (ci := 1) (v := .int v9) (ty := .int) (C := RX1) (T := TX1) (N := 15) E.1 E.2.1 E.2.2.1 in_X1 tyX1 tyX1_ok nmX1 E.2.2.2.1 E.2.2.2.2 hX.1 hX.2.1 hX.2.2 0 rfl rfl 11 (by decide) (E.2.2.1 _ q203) (fun _ h9 => h9) rfl (by decide +kernel) rfl rfl (Nat.le_of_ble_eq_true rfl) hdg (fun H1 locs1 h1 h2 h3 => kk H1 locs1 ⟨h1, h2, h3⟩)
theorem x1_g12 {a : Nat → Nat} {cA : Nat → ClassId} {B : Nat → Bool} {w : Nat → Int32} {n : Nat} {st : Nat → Nat} {go : Nat → Nat} {g : Nat} {wk : Nat → Nat} {ow : Nat → Nat} {tr : Nat → Nat} {tk : Nat → Bool} {wy : Nat → Int32} {rk : Int32} {ld : Nat} {kp : Nat → Nat} {ko : Nat → Nat} (E : x1E p s m c cc args dC dI cA) (hX : wd (dC, dI) A H0 (w1 a cA B w n st go g wk ow tr tk wy rk ld kp ko) H locs) (hdg : decode cc pc = .ok (.getfield 51, 3)) (kk : W p l e R s m args below meth c H locs cells slots Q (F0 m (pc + 3) ls (.int (nI ld) :: rest))) : W p l e R s m args below meth c H locs cells slots Q (F0 m pc ls (.ref (a 0) :: rest)) := va_get (D := (dC, dI)) (ci := 1) (v := .int (nI ld)) (C := RX1) (T := TX1) (N := 15) E.1 E.2.1 E.2.2.1 in_X1 E.2.2.2.1 E.2.2.2.2 hX.1 0 rfl rfl 12 (by decide) (E.2.2.1 _ q204) (fun _ h9 => h9) rfl hdg kk
theorem x1_p12 {a : Nat → Nat} {cA : Nat → ClassId} {B : Nat → Bool} {w : Nat → Int32} {n : Nat} {st : Nat → Nat} {go : Nat → Nat} {g : Nat} {wk : Nat → Nat} {ow : Nat → Nat} {tr : Nat → Nat} {tk : Nat → Bool} {wy : Nat → Int32} {rk : Int32} {ld : Nat} {kp : Nat → Nat} {ko : Nat → Nat} {v9 : Nat} (E : x1E p s m c cc args dC dI cA) (hX : wd (dC, dI) A H0 (w1 a cA B w n st go g wk ow tr tk wy rk ld kp ko) H locs) (hdg : decode cc pc = .ok (.putfield 51, 3)) (kk : ∀ (H1 : Heap) (locs1 : List Loc), wd (dC, dI) A H0 (w1 a cA B w n st go g wk ow tr tk wy rk v9 kp ko) H1 locs1 → W p l e R s m args below meth c H1 locs1 cells slots Q (F0 m (pc + 3) ls rest)) : W p l e R s m args below meth c H locs cells slots Q (F0 m pc ls (.int (nI v9) :: .ref (a 0) :: rest)) := va_put (D := (dC, dI)) (ci := 1) (v := .int (nI v9)) (ty := .int) (C := RX1) (T := TX1) (N := 15) E.1 E.2.1 E.2.2.1 in_X1 tyX1 tyX1_ok nmX1 E.2.2.2.1 E.2.2.2.2 hX.1 hX.2.1 hX.2.2 0 rfl rfl 12 (by decide) (E.2.2.1 _ q204) (fun _ h9 => h9) rfl (by decide +kernel) rfl rfl (Nat.le_of_ble_eq_true rfl) hdg (fun H1 locs1 h1 h2 h3 => kk H1 locs1 ⟨h1, h2, h3⟩)
theorem x1_g13 {a : Nat → Nat} {cA : Nat → ClassId} {B : Nat → Bool} {w : Nat → Int32} {n : Nat} {st : Nat → Nat} {go : Nat → Nat} {g : Nat} {wk : Nat → Nat} {ow : Nat → Nat} {tr : Nat → Nat} {tk : Nat → Bool} {wy : Nat → Int32} {rk : Int32} {ld : Nat} {kp : Nat → Nat} {ko : Nat → Nat} (E : x1E p s m c cc args dC dI cA) (hX : wd (dC, dI) A H0 (w1 a cA B w n st go g wk ow tr tk wy rk ld kp ko) H locs) (hdg : decode cc pc = .ok (.getfield 38, 3)) (kk : W p l e R s m args below meth c H locs cells slots Q (F0 m (pc + 3) ls (.ref (a 10) :: rest))) : W p l e R s m args below meth c H locs cells slots Q (F0 m pc ls (.ref (a 0) :: rest)) := va_get (D := (dC, dI)) (ci := 1) (v := .ref (a 10)) (C := RX1) (T := TX1) (N := 15) E.1 E.2.1 E.2.2.1 in_X1 E.2.2.2.1 E.2.2.2.2 hX.1 0 rfl rfl 13 (by decide) (E.2.2.1 _ q205) (fun _ h9 => h9) rfl hdg kk
theorem x1_g14 {a : Nat → Nat} {cA : Nat → ClassId} {B : Nat → Bool} {w : Nat → Int32} {n : Nat} {st : Nat → Nat} {go : Nat → Nat} {g : Nat} {wk : Nat → Nat} {ow : Nat → Nat} {tr : Nat → Nat} {tk : Nat → Bool} {wy : Nat → Int32} {rk : Int32} {ld : Nat} {kp : Nat → Nat} {ko : Nat → Nat} (E : x1E p s m c cc args dC dI cA) (hX : wd (dC, dI) A H0 (w1 a cA B w n st go g wk ow tr tk wy rk ld kp ko) H locs) (hdg : decode cc pc = .ok (.getfield 41, 3)) (kk : W p l e R s m args below meth c H locs cells slots Q (F0 m (pc + 3) ls (.ref (a 11) :: rest))) : W p l e R s m args below meth c H locs cells slots Q (F0 m pc ls (.ref (a 0) :: rest)) := va_get (D := (dC, dI)) (ci := 1) (v := .ref (a 11)) (C := RX1) (T := TX1) (N := 15) E.1 E.2.1 E.2.2.1 in_X1 E.2.2.2.1 E.2.2.2.2 hX.1 0 rfl rfl 14 (by decide) (E.2.2.1 _ q206) (fun _ h9 => h9) rfl hdg kk
theorem x1_l1 {a : Nat → Nat} {cA : Nat → ClassId} {B : Nat → Bool} {w : Nat → Int32} {n : Nat} {st : Nat → Nat} {go : Nat → Nat} {g : Nat} {wk : Nat → Nat} {ow : Nat → Nat} {tr : Nat → Nat} {tk : Nat → Bool} {wy : Nat → Int32} {rk : Int32} {ld : Nat} {kp : Nat → Nat} {ko : Nat → Nat} {k : Nat} (E : x1E p s m c cc args dC dI cA) (hX : wd (dC, dI) A H0 (w1 a cA B w n st go g wk ow tr tk wy rk ld kp ko) H locs) (hk : k < 30) (hdg : decode cc pc = .ok (.baload, 1)) (kk : W p l e R s m args below meth c H locs cells slots Q (F0 m (pc + 1) ls (.int (b2 (B k)) :: rest))) : W p l e R s m args below meth c H locs cells slots Q (F0 m pc ls (.int (nI k) :: .ref (a 1) :: rest)) := ld_z E.1 E.2.1 E.2.2.2.2 hX 1 0 rfl rfl hk (by decide) hdg kk
theorem x1_s1 {a : Nat → Nat} {cA : Nat → ClassId} {B : Nat → Bool} {w : Nat → Int32} {n : Nat} {st : Nat → Nat} {go : Nat → Nat} {g : Nat} {wk : Nat → Nat} {ow : Nat → Nat} {tr : Nat → Nat} {tk : Nat → Bool} {wy : Nat → Int32} {rk : Int32} {ld : Nat} {kp : Nat → Nat} {ko : Nat → Nat} {k : Nat} {v9 : Bool} (E : x1E p s m c cc args dC dI cA) (hX : wd (dC, dI) A H0 (w1 a cA B w n st go g wk ow tr tk wy rk ld kp ko) H locs) (hk : k < 30) (hdg : decode cc pc = .ok (.bastore, 1)) (kk : ∀ (H1 : Heap) (locs1 : List Loc), wd (dC, dI) A H0 (w1 a cA (va_up B k v9) w n st go g wk ow tr tk wy rk ld kp ko) H1 locs1 → W p l e R s m args below meth c H1 locs1 cells slots Q (F0 m (pc + 1) ls rest)) : W p l e R s m args below meth c H locs cells slots Q (F0 m pc ls (.int (b2 v9) :: .int (nI k) :: .ref (a 1) :: rest)) := st_z E.1 E.2.1 E.2.2.2.2 hX 1 0 rfl rfl hk (by decide) hdg kk
theorem x1_l2 {a : Nat → Nat} {cA : Nat → ClassId} {B : Nat → Bool} {w : Nat → Int32} {n : Nat} {st : Nat → Nat} {go : Nat → Nat} {g : Nat} {wk : Nat → Nat} {ow : Nat → Nat} {tr : Nat → Nat} {tk : Nat → Bool} {wy : Nat → Int32} {rk : Int32} {ld : Nat} {kp : Nat → Nat} {ko : Nat → Nat} {k : Nat} (E : x1E p s m c cc args dC dI cA) (hX : wd (dC, dI) A H0 (w1 a cA B w n st go g wk ow tr tk wy rk ld kp ko) H locs) (hk : k < 30) (hdg : decode cc pc = .ok (.iaload, 1)) (kk : W p l e R s m args below meth c H locs cells slots Q (F0 m (pc + 1) ls (.int (w k) :: rest))) : W p l e R s m args below meth c H locs cells slots Q (F0 m pc ls (.int (nI k) :: .ref (a 2) :: rest)) := ld_i E.1 E.2.1 E.2.2.2.2 hX 2 1 rfl rfl hk (by decide) hdg kk
theorem x1_s2 {a : Nat → Nat} {cA : Nat → ClassId} {B : Nat → Bool} {w : Nat → Int32} {n : Nat} {st : Nat → Nat} {go : Nat → Nat} {g : Nat} {wk : Nat → Nat} {ow : Nat → Nat} {tr : Nat → Nat} {tk : Nat → Bool} {wy : Nat → Int32} {rk : Int32} {ld : Nat} {kp : Nat → Nat} {ko : Nat → Nat} {k : Nat} {v9 : Int32} (E : x1E p s m c cc args dC dI cA) (hX : wd (dC, dI) A H0 (w1 a cA B w n st go g wk ow tr tk wy rk ld kp ko) H locs) (hk : k < 30) (hdg : decode cc pc = .ok (.iastore, 1)) (kk : ∀ (H1 : Heap) (locs1 : List Loc), wd (dC, dI) A H0 (w1 a cA B (upd w k v9) n st go g wk ow tr tk wy rk ld kp ko) H1 locs1 → W p l e R s m args below meth c H1 locs1 cells slots Q (F0 m (pc + 1) ls rest)) : W p l e R s m args below meth c H locs cells slots Q (F0 m pc ls (.int v9 :: .int (nI k) :: .ref (a 2) :: rest)) := st_i E.1 E.2.1 E.2.2.2.2 hX 2 1 rfl rfl hk (by decide) hdg kk
theorem x1_l3 {a : Nat → Nat} {cA : Nat → ClassId} {B : Nat → Bool} {w : Nat → Int32} {n : Nat} {st : Nat → Nat} {go : Nat → Nat} {g : Nat} {wk : Nat → Nat} {ow : Nat → Nat} {tr : Nat → Nat} {tk : Nat → Bool} {wy : Nat → Int32} {rk : Int32} {ld : Nat} {kp : Nat → Nat} {ko : Nat → Nat} {k : Nat} (E : x1E p s m c cc args dC dI cA) (hX : wd (dC, dI) A H0 (w1 a cA B w n st go g wk ow tr tk wy rk ld kp ko) H locs) (hk : k < 4) (hdg : decode cc pc = .ok (.iaload, 1)) (kk : W p l e R s m args below meth c H locs cells slots Q (F0 m (pc + 1) ls (.int (nI (st k)) :: rest))) : W p l e R s m args below meth c H locs cells slots Q (F0 m pc ls (.int (nI k) :: .ref (a 3) :: rest)) := ld_n E.1 E.2.1 E.2.2.2.2 hX 3 2 rfl rfl hk (by decide) hdg kk
theorem x1_s3 {a : Nat → Nat} {cA : Nat → ClassId} {B : Nat → Bool} {w : Nat → Int32} {n : Nat} {st : Nat → Nat} {go : Nat → Nat} {g : Nat} {wk : Nat → Nat} {ow : Nat → Nat} {tr : Nat → Nat} {tk : Nat → Bool} {wy : Nat → Int32} {rk : Int32} {ld : Nat} {kp : Nat → Nat} {ko : Nat → Nat} {k : Nat} {v9 : Nat} (E : x1E p s m c cc args dC dI cA) (hX : wd (dC, dI) A H0 (w1 a cA B w n st go g wk ow tr tk wy rk ld kp ko) H locs) (hk : k < 4) (hdg : decode cc pc = .ok (.iastore, 1)) (kk : ∀ (H1 : Heap) (locs1 : List Loc), wd (dC, dI) A H0 (w1 a cA B w n (va_up st k v9) go g wk ow tr tk wy rk ld kp ko) H1 locs1 → W p l e R s m args below meth c H1 locs1 cells slots Q (F0 m (pc + 1) ls rest)) : W p l e R s m args below meth c H locs cells slots Q (F0 m pc ls (.int (nI v9) :: .int (nI k) :: .ref (a 3) :: rest)) := st_n E.1 E.2.1 E.2.2.2.2 hX 3 2 rfl rfl hk (by decide) hdg kk
theorem x1_l4 {a : Nat → Nat} {cA : Nat → ClassId} {B : Nat → Bool} {w : Nat → Int32} {n : Nat} {st : Nat → Nat} {go : Nat → Nat} {g : Nat} {wk : Nat → Nat} {ow : Nat → Nat} {tr : Nat → Nat} {tk : Nat → Bool} {wy : Nat → Int32} {rk : Int32} {ld : Nat} {kp : Nat → Nat} {ko : Nat → Nat} {k : Nat} (E : x1E p s m c cc args dC dI cA) (hX : wd (dC, dI) A H0 (w1 a cA B w n st go g wk ow tr tk wy rk ld kp ko) H locs) (hk : k < 4) (hdg : decode cc pc = .ok (.iaload, 1)) (kk : W p l e R s m args below meth c H locs cells slots Q (F0 m (pc + 1) ls (.int (nI (go k)) :: rest))) : W p l e R s m args below meth c H locs cells slots Q (F0 m pc ls (.int (nI k) :: .ref (a 4) :: rest)) := ld_n E.1 E.2.1 E.2.2.2.2 hX 4 3 rfl rfl hk (by decide) hdg kk
theorem x1_s4 {a : Nat → Nat} {cA : Nat → ClassId} {B : Nat → Bool} {w : Nat → Int32} {n : Nat} {st : Nat → Nat} {go : Nat → Nat} {g : Nat} {wk : Nat → Nat} {ow : Nat → Nat} {tr : Nat → Nat} {tk : Nat → Bool} {wy : Nat → Int32} {rk : Int32} {ld : Nat} {kp : Nat → Nat} {ko : Nat → Nat} {k : Nat} {v9 : Nat} (E : x1E p s m c cc args dC dI cA) (hX : wd (dC, dI) A H0 (w1 a cA B w n st go g wk ow tr tk wy rk ld kp ko) H locs) (hk : k < 4) (hdg : decode cc pc = .ok (.iastore, 1)) (kk : ∀ (H1 : Heap) (locs1 : List Loc), wd (dC, dI) A H0 (w1 a cA B w n st (va_up go k v9) g wk ow tr tk wy rk ld kp ko) H1 locs1 → W p l e R s m args below meth c H1 locs1 cells slots Q (F0 m (pc + 1) ls rest)) : W p l e R s m args below meth c H locs cells slots Q (F0 m pc ls (.int (nI v9) :: .int (nI k) :: .ref (a 4) :: rest)) := st_n E.1 E.2.1 E.2.2.2.2 hX 4 3 rfl rfl hk (by decide) hdg kk
theorem x1_l5 {a : Nat → Nat} {cA : Nat → ClassId} {B : Nat → Bool} {w : Nat → Int32} {n : Nat} {st : Nat → Nat} {go : Nat → Nat} {g : Nat} {wk : Nat → Nat} {ow : Nat → Nat} {tr : Nat → Nat} {tk : Nat → Bool} {wy : Nat → Int32} {rk : Int32} {ld : Nat} {kp : Nat → Nat} {ko : Nat → Nat} {k : Nat} (E : x1E p s m c cc args dC dI cA) (hX : wd (dC, dI) A H0 (w1 a cA B w n st go g wk ow tr tk wy rk ld kp ko) H locs) (hk : k < 40) (hdg : decode cc pc = .ok (.iaload, 1)) (kk : W p l e R s m args below meth c H locs cells slots Q (F0 m (pc + 1) ls (.int (nI (wk k)) :: rest))) : W p l e R s m args below meth c H locs cells slots Q (F0 m pc ls (.int (nI k) :: .ref (a 5) :: rest)) := ld_n E.1 E.2.1 E.2.2.2.2 hX 5 4 rfl rfl hk (by decide) hdg kk
theorem x1_s5 {a : Nat → Nat} {cA : Nat → ClassId} {B : Nat → Bool} {w : Nat → Int32} {n : Nat} {st : Nat → Nat} {go : Nat → Nat} {g : Nat} {wk : Nat → Nat} {ow : Nat → Nat} {tr : Nat → Nat} {tk : Nat → Bool} {wy : Nat → Int32} {rk : Int32} {ld : Nat} {kp : Nat → Nat} {ko : Nat → Nat} {k : Nat} {v9 : Nat} (E : x1E p s m c cc args dC dI cA) (hX : wd (dC, dI) A H0 (w1 a cA B w n st go g wk ow tr tk wy rk ld kp ko) H locs) (hk : k < 40) (hdg : decode cc pc = .ok (.iastore, 1)) (kk : ∀ (H1 : Heap) (locs1 : List Loc), wd (dC, dI) A H0 (w1 a cA B w n st go g (va_up wk k v9) ow tr tk wy rk ld kp ko) H1 locs1 → W p l e R s m args below meth c H1 locs1 cells slots Q (F0 m (pc + 1) ls rest)) : W p l e R s m args below meth c H locs cells slots Q (F0 m pc ls (.int (nI v9) :: .int (nI k) :: .ref (a 5) :: rest)) := st_n E.1 E.2.1 E.2.2.2.2 hX 5 4 rfl rfl hk (by decide) hdg kk
theorem x1_l6 {a : Nat → Nat} {cA : Nat → ClassId} {B : Nat → Bool} {w : Nat → Int32} {n : Nat} {st : Nat → Nat} {go : Nat → Nat} {g : Nat} {wk : Nat → Nat} {ow : Nat → Nat} {tr : Nat → Nat} {tk : Nat → Bool} {wy : Nat → Int32} {rk : Int32} {ld : Nat} {kp : Nat → Nat} {ko : Nat → Nat} {k : Nat} (E : x1E p s m c cc args dC dI cA) (hX : wd (dC, dI) A H0 (w1 a cA B w n st go g wk ow tr tk wy rk ld kp ko) H locs) (hk : k < 40) (hdg : decode cc pc = .ok (.iaload, 1)) (kk : W p l e R s m args below meth c H locs cells slots Q (F0 m (pc + 1) ls (.int (nI (ow k)) :: rest))) : W p l e R s m args below meth c H locs cells slots Q (F0 m pc ls (.int (nI k) :: .ref (a 6) :: rest)) := ld_n E.1 E.2.1 E.2.2.2.2 hX 6 5 rfl rfl hk (by decide) hdg kk
theorem x1_s6 {a : Nat → Nat} {cA : Nat → ClassId} {B : Nat → Bool} {w : Nat → Int32} {n : Nat} {st : Nat → Nat} {go : Nat → Nat} {g : Nat} {wk : Nat → Nat} {ow : Nat → Nat} {tr : Nat → Nat} {tk : Nat → Bool} {wy : Nat → Int32} {rk : Int32} {ld : Nat} {kp : Nat → Nat} {ko : Nat → Nat} {k : Nat} {v9 : Nat} (E : x1E p s m c cc args dC dI cA) (hX : wd (dC, dI) A H0 (w1 a cA B w n st go g wk ow tr tk wy rk ld kp ko) H locs) (hk : k < 40) (hdg : decode cc pc = .ok (.iastore, 1)) (kk : ∀ (H1 : Heap) (locs1 : List Loc), wd (dC, dI) A H0 (w1 a cA B w n st go g wk (va_up ow k v9) tr tk wy rk ld kp ko) H1 locs1 → W p l e R s m args below meth c H1 locs1 cells slots Q (F0 m (pc + 1) ls rest)) : W p l e R s m args below meth c H locs cells slots Q (F0 m pc ls (.int (nI v9) :: .int (nI k) :: .ref (a 6) :: rest)) := st_n E.1 E.2.1 E.2.2.2.2 hX 6 5 rfl rfl hk (by decide) hdg kk
theorem x1_l7 {a : Nat → Nat} {cA : Nat → ClassId} {B : Nat → Bool} {w : Nat → Int32} {n : Nat} {st : Nat → Nat} {go : Nat → Nat} {g : Nat} {wk : Nat → Nat} {ow : Nat → Nat} {tr : Nat → Nat} {tk : Nat → Bool} {wy : Nat → Int32} {rk : Int32} {ld : Nat} {kp : Nat → Nat} {ko : Nat → Nat} {k : Nat} (E : x1E p s m c cc args dC dI cA) (hX : wd (dC, dI) A H0 (w1 a cA B w n st go g wk ow tr tk wy rk ld kp ko) H locs) (hk : k < 40) (hdg : decode cc pc = .ok (.iaload, 1)) (kk : W p l e R s m args below meth c H locs cells slots Q (F0 m (pc + 1) ls (.int (nI (tr k)) :: rest))) : W p l e R s m args below meth c H locs cells slots Q (F0 m pc ls (.int (nI k) :: .ref (a 7) :: rest)) := ld_n E.1 E.2.1 E.2.2.2.2 hX 7 6 rfl rfl hk (by decide) hdg kk
theorem x1_s7 {a : Nat → Nat} {cA : Nat → ClassId} {B : Nat → Bool} {w : Nat → Int32} {n : Nat} {st : Nat → Nat} {go : Nat → Nat} {g : Nat} {wk : Nat → Nat} {ow : Nat → Nat} {tr : Nat → Nat} {tk : Nat → Bool} {wy : Nat → Int32} {rk : Int32} {ld : Nat} {kp : Nat → Nat} {ko : Nat → Nat} {k : Nat} {v9 : Nat} (E : x1E p s m c cc args dC dI cA) (hX : wd (dC, dI) A H0 (w1 a cA B w n st go g wk ow tr tk wy rk ld kp ko) H locs) (hk : k < 40) (hdg : decode cc pc = .ok (.iastore, 1)) (kk : ∀ (H1 : Heap) (locs1 : List Loc), wd (dC, dI) A H0 (w1 a cA B w n st go g wk ow (va_up tr k v9) tk wy rk ld kp ko) H1 locs1 → W p l e R s m args below meth c H1 locs1 cells slots Q (F0 m (pc + 1) ls rest)) : W p l e R s m args below meth c H locs cells slots Q (F0 m pc ls (.int (nI v9) :: .int (nI k) :: .ref (a 7) :: rest)) := st_n E.1 E.2.1 E.2.2.2.2 hX 7 6 rfl rfl hk (by decide) hdg kk
theorem x1_l8 {a : Nat → Nat} {cA : Nat → ClassId} {B : Nat → Bool} {w : Nat → Int32} {n : Nat} {st : Nat → Nat} {go : Nat → Nat} {g : Nat} {wk : Nat → Nat} {ow : Nat → Nat} {tr : Nat → Nat} {tk : Nat → Bool} {wy : Nat → Int32} {rk : Int32} {ld : Nat} {kp : Nat → Nat} {ko : Nat → Nat} {k : Nat} (E : x1E p s m c cc args dC dI cA) (hX : wd (dC, dI) A H0 (w1 a cA B w n st go g wk ow tr tk wy rk ld kp ko) H locs) (hk : k < 30) (hdg : decode cc pc = .ok (.baload, 1)) (kk : W p l e R s m args below meth c H locs cells slots Q (F0 m (pc + 1) ls (.int (b2 (tk k)) :: rest))) : W p l e R s m args below meth c H locs cells slots Q (F0 m pc ls (.int (nI k) :: .ref (a 8) :: rest)) := ld_z E.1 E.2.1 E.2.2.2.2 hX 8 7 rfl rfl hk (by decide) hdg kk
theorem x1_s8 {a : Nat → Nat} {cA : Nat → ClassId} {B : Nat → Bool} {w : Nat → Int32} {n : Nat} {st : Nat → Nat} {go : Nat → Nat} {g : Nat} {wk : Nat → Nat} {ow : Nat → Nat} {tr : Nat → Nat} {tk : Nat → Bool} {wy : Nat → Int32} {rk : Int32} {ld : Nat} {kp : Nat → Nat} {ko : Nat → Nat} {k : Nat} {v9 : Bool} (E : x1E p s m c cc args dC dI cA) (hX : wd (dC, dI) A H0 (w1 a cA B w n st go g wk ow tr tk wy rk ld kp ko) H locs) (hk : k < 30) (hdg : decode cc pc = .ok (.bastore, 1)) (kk : ∀ (H1 : Heap) (locs1 : List Loc), wd (dC, dI) A H0 (w1 a cA B w n st go g wk ow tr (va_up tk k v9) wy rk ld kp ko) H1 locs1 → W p l e R s m args below meth c H1 locs1 cells slots Q (F0 m (pc + 1) ls rest)) : W p l e R s m args below meth c H locs cells slots Q (F0 m pc ls (.int (b2 v9) :: .int (nI k) :: .ref (a 8) :: rest)) := st_z E.1 E.2.1 E.2.2.2.2 hX 8 7 rfl rfl hk (by decide) hdg kk
theorem x1_l9 {a : Nat → Nat} {cA : Nat → ClassId} {B : Nat → Bool} {w : Nat → Int32} {n : Nat} {st : Nat → Nat} {go : Nat → Nat} {g : Nat} {wk : Nat → Nat} {ow : Nat → Nat} {tr : Nat → Nat} {tk : Nat → Bool} {wy : Nat → Int32} {rk : Int32} {ld : Nat} {kp : Nat → Nat} {ko : Nat → Nat} {k : Nat} (E : x1E p s m c cc args dC dI cA) (hX : wd (dC, dI) A H0 (w1 a cA B w n st go g wk ow tr tk wy rk ld kp ko) H locs) (hk : k < 30) (hdg : decode cc pc = .ok (.iaload, 1)) (kk : W p l e R s m args below meth c H locs cells slots Q (F0 m (pc + 1) ls (.int (wy k) :: rest))) : W p l e R s m args below meth c H locs cells slots Q (F0 m pc ls (.int (nI k) :: .ref (a 9) :: rest)) := ld_i E.1 E.2.1 E.2.2.2.2 hX 9 8 rfl rfl hk (by decide) hdg kk
theorem x1_s9 {a : Nat → Nat} {cA : Nat → ClassId} {B : Nat → Bool} {w : Nat → Int32} {n : Nat} {st : Nat → Nat} {go : Nat → Nat} {g : Nat} {wk : Nat → Nat} {ow : Nat → Nat} {tr : Nat → Nat} {tk : Nat → Bool} {wy : Nat → Int32} {rk : Int32} {ld : Nat} {kp : Nat → Nat} {ko : Nat → Nat} {k : Nat} {v9 : Int32} (E : x1E p s m c cc args dC dI cA) (hX : wd (dC, dI) A H0 (w1 a cA B w n st go g wk ow tr tk wy rk ld kp ko) H locs) (hk : k < 30) (hdg : decode cc pc = .ok (.iastore, 1)) (kk : ∀ (H1 : Heap) (locs1 : List Loc), wd (dC, dI) A H0 (w1 a cA B w n st go g wk ow tr tk (upd wy k v9) rk ld kp ko) H1 locs1 → W p l e R s m args below meth c H1 locs1 cells slots Q (F0 m (pc + 1) ls rest)) : W p l e R s m args below meth c H locs cells slots Q (F0 m pc ls (.int v9 :: .int (nI k) :: .ref (a 9) :: rest)) := st_i E.1 E.2.1 E.2.2.2.2 hX 9 8 rfl rfl hk (by decide) hdg kk
theorem x1_l10 {a : Nat → Nat} {cA : Nat → ClassId} {B : Nat → Bool} {w : Nat → Int32} {n : Nat} {st : Nat → Nat} {go : Nat → Nat} {g : Nat} {wk : Nat → Nat} {ow : Nat → Nat} {tr : Nat → Nat} {tk : Nat → Bool} {wy : Nat → Int32} {rk : Int32} {ld : Nat} {kp : Nat → Nat} {ko : Nat → Nat} {k : Nat} (E : x1E p s m c cc args dC dI cA) (hX : wd (dC, dI) A H0 (w1 a cA B w n st go g wk ow tr tk wy rk ld kp ko) H locs) (hk : k < 40) (hdg : decode cc pc = .ok (.iaload, 1)) (kk : W p l e R s m args below meth c H locs cells slots Q (F0 m (pc + 1) ls (.int (nI (kp k)) :: rest))) : W p l e R s m args below meth c H locs cells slots Q (F0 m pc ls (.int (nI k) :: .ref (a 10) :: rest)) := ld_n E.1 E.2.1 E.2.2.2.2 hX 10 9 rfl rfl hk (by decide) hdg kk
theorem x1_s10 {a : Nat → Nat} {cA : Nat → ClassId} {B : Nat → Bool} {w : Nat → Int32} {n : Nat} {st : Nat → Nat} {go : Nat → Nat} {g : Nat} {wk : Nat → Nat} {ow : Nat → Nat} {tr : Nat → Nat} {tk : Nat → Bool} {wy : Nat → Int32} {rk : Int32} {ld : Nat} {kp : Nat → Nat} {ko : Nat → Nat} {k : Nat} {v9 : Nat} (E : x1E p s m c cc args dC dI cA) (hX : wd (dC, dI) A H0 (w1 a cA B w n st go g wk ow tr tk wy rk ld kp ko) H locs) (hk : k < 40) (hdg : decode cc pc = .ok (.iastore, 1)) (kk : ∀ (H1 : Heap) (locs1 : List Loc), wd (dC, dI) A H0 (w1 a cA B w n st go g wk ow tr tk wy rk ld (va_up kp k v9) ko) H1 locs1 → W p l e R s m args below meth c H1 locs1 cells slots Q (F0 m (pc + 1) ls rest)) : W p l e R s m args below meth c H locs cells slots Q (F0 m pc ls (.int (nI v9) :: .int (nI k) :: .ref (a 10) :: rest)) := st_n E.1 E.2.1 E.2.2.2.2 hX 10 9 rfl rfl hk (by decide) hdg kk
theorem x1_l11 {a : Nat → Nat} {cA : Nat → ClassId} {B : Nat → Bool} {w : Nat → Int32} {n : Nat} {st : Nat → Nat} {go : Nat → Nat} {g : Nat} {wk : Nat → Nat} {ow : Nat → Nat} {tr : Nat → Nat} {tk : Nat → Bool} {wy : Nat → Int32} {rk : Int32} {ld : Nat} {kp : Nat → Nat} {ko : Nat → Nat} {k : Nat} (E : x1E p s m c cc args dC dI cA) (hX : wd (dC, dI) A H0 (w1 a cA B w n st go g wk ow tr tk wy rk ld kp ko) H locs) (hk : k < 40) (hdg : decode cc pc = .ok (.iaload, 1)) (kk : W p l e R s m args below meth c H locs cells slots Q (F0 m (pc + 1) ls (.int (nI (ko k)) :: rest))) : W p l e R s m args below meth c H locs cells slots Q (F0 m pc ls (.int (nI k) :: .ref (a 11) :: rest)) := ld_n E.1 E.2.1 E.2.2.2.2 hX 11 10 rfl rfl hk (by decide) hdg kk
theorem x1_s11 {a : Nat → Nat} {cA : Nat → ClassId} {B : Nat → Bool} {w : Nat → Int32} {n : Nat} {st : Nat → Nat} {go : Nat → Nat} {g : Nat} {wk : Nat → Nat} {ow : Nat → Nat} {tr : Nat → Nat} {tk : Nat → Bool} {wy : Nat → Int32} {rk : Int32} {ld : Nat} {kp : Nat → Nat} {ko : Nat → Nat} {k : Nat} {v9 : Nat} (E : x1E p s m c cc args dC dI cA) (hX : wd (dC, dI) A H0 (w1 a cA B w n st go g wk ow tr tk wy rk ld kp ko) H locs) (hk : k < 40) (hdg : decode cc pc = .ok (.iastore, 1)) (kk : ∀ (H1 : Heap) (locs1 : List Loc), wd (dC, dI) A H0 (w1 a cA B w n st go g wk ow tr tk wy rk ld kp (va_up ko k v9)) H1 locs1 → W p l e R s m args below meth c H1 locs1 cells slots Q (F0 m (pc + 1) ls rest)) : W p l e R s m args below meth c H locs cells slots Q (F0 m pc ls (.int (nI v9) :: .int (nI k) :: .ref (a 11) :: rest)) := st_n E.1 E.2.1 E.2.2.2.2 hX 11 10 rfl rfl hk (by decide) hdg kk
theorem ca_i {S : Type} {post : Int32 → S → Prop} {wf : S → va_W} {ws : va_W} {tys : List (ClassId × FieldType)} {y : MethodName} {wsy : List Cond} {bytes : ByteArray} {maxL nL index n ci b : Nat} {ret : Option FieldType} {rm : Room} {own C9 : String} {q9 : vw_C} {fs : List Value} {As st0 : List Value} {D : va_G} (F : CallFix p m c cc nL s args lw_all own) (hK : va_K D vwCl tys s) (hX : wd D A H0 ws H locs) (hA : ∀ q, H0.size ≤ q → A q) (hM : Met l y wsy rm (va_Pc (.ref b :: As) (pcW D tys H.size ws)) (va_Qi post (fun u t => bW D tys (va_A ws H.size) (wf u) t) (va_A ws H.size)) 0 0 (va_A ws H.size)) (cw : CallW R s args own C9 index y bytes maxL ret wsy rm 0 0 n) (hc : vwCl[ci]? = some q9) (hq : q9.1 = C9) (he : ws[0]? = some (b, .inr (ci, fs))) (hn : As.length = n) (hsize : ls.size = nL) (hst : st0 = As.reverse ++ .ref b :: rest) (hW : (rest.map fun v => v.category).sum ≤ 8) (hdg : decode cc pc = .ok (.invokevirtual index, 3)) (hf : cells ≤ R.cells ∧ slots ≤ R.slots) (kk : ∀ (r : Int32) (u : S) (H1 : Heap) (locs1 : List Loc), post r u → wd D A H0 (wf u) H1 locs1 → W p l e R s m args below meth c H1 locs1 cells slots Q (F0 m (pc + 3) ls (.int r :: rest))) : W p l e R s m args below meth c H locs cells slots Q (F0 m pc ls st0) := by
  have hFc : ∀ q, va_A ws H.size q → A q := by
    intro q h
    rcases h with ⟨k, e, h⟩ | h
    · exact hX.2.1.2 k (q, e) h
    · exact hA q (Nat.le_trans hX.2.2.1 h)
  refine va_calli (va_runV F hM cw ⟨fun a U g mk q => by obtain ⟨q0, q1, qP, qK, qD⟩ := q; exact ⟨q0, q1, qP, va_K.moved (u := U) (U := U.calling g mk a) (Vm.Alike.refl U.vm) qK, qD⟩, by rw [← hq]; exact va_recv hK hX.1 hc he, fun U hU hW => ⟨rfl, by rw [hU], by rw [hU]; exact hX.1, va_K.moved hW.alike hK, hX.2.1.weaken (fun _ _ _ _ => trivial)⟩⟩ rfl hn hsize hst (lv_room hW) hdg hf) hX.2.2 (fun q _ h => hFc q h) hFc (fun r u t H1 locs1 ht hvm hw hB hz hk hS => ?_)
  exact kk r u H1 locs1 hw ⟨by rw [← ht]; exact hB.1, hB.2.2.weaken (fun _ _ _ h => hFc _ h), hS⟩
theorem ca_v {S : Type} {post : S → Prop} {wf : S → va_W} {ws : va_W} {tys : List (ClassId × FieldType)} {y : MethodName} {wsy : List Cond} {bytes : ByteArray} {maxL nL index n ci b : Nat} {ret : Option FieldType} {rm : Room} {own C9 : String} {q9 : vw_C} {fs : List Value} {As st0 : List Value} {D : va_G} (F : CallFix p m c cc nL s args lw_all own) (hK : va_K D vwCl tys s) (hX : wd D A H0 ws H locs) (hA : ∀ q, H0.size ≤ q → A q) (hM : Met l y wsy rm (va_Pc (.ref b :: As) (pcW D tys H.size ws)) (va_Qv post (fun u t => bW D tys (va_A ws H.size) (wf u) t) (va_A ws H.size)) 0 0 (va_A ws H.size)) (cw : CallW R s args own C9 index y bytes maxL ret wsy rm 0 0 n) (hc : vwCl[ci]? = some q9) (hq : q9.1 = C9) (he : ws[0]? = some (b, .inr (ci, fs))) (hn : As.length = n) (hsize : ls.size = nL) (hst : st0 = As.reverse ++ .ref b :: rest) (hW : (rest.map fun v => v.category).sum ≤ 8) (hdg : decode cc pc = .ok (.invokevirtual index, 3)) (hf : cells ≤ R.cells ∧ slots ≤ R.slots) (kk : ∀ (u : S) (H1 : Heap) (locs1 : List Loc), post u → wd D A H0 (wf u) H1 locs1 → W p l e R s m args below meth c H1 locs1 cells slots Q (F0 m (pc + 3) ls rest)) : W p l e R s m args below meth c H locs cells slots Q (F0 m pc ls st0) := by
  have hFc : ∀ q, va_A ws H.size q → A q := by
    intro q h
    rcases h with ⟨k, e, h⟩ | h
    · exact hX.2.1.2 k (q, e) h
    · exact hA q (Nat.le_trans hX.2.2.1 h)
  refine va_callv (va_runV F hM cw ⟨fun a U g mk q => by obtain ⟨q0, q1, qP, qK, qD⟩ := q; exact ⟨q0, q1, qP, va_K.moved (u := U) (U := U.calling g mk a) (Vm.Alike.refl U.vm) qK, qD⟩, by rw [← hq]; exact va_recv hK hX.1 hc he, fun U hU hW => ⟨rfl, by rw [hU], by rw [hU]; exact hX.1, va_K.moved hW.alike hK, hX.2.1.weaken (fun _ _ _ _ => trivial)⟩⟩ rfl hn hsize hst (lv_room hW) hdg hf) hX.2.2 (fun q _ h => hFc q h) hFc (fun u t H1 locs1 ht hvm hw hB hz hk hS => ?_)
  exact kk u H1 locs1 hw ⟨by rw [← ht]; exact hB.1, hB.2.2.weaken (fun _ _ _ h => hFc _ h), hS⟩
end VX
end
section
/-! what the public methods answer, for both classes -/
def op_bR (B : Nat → Bool) (x : Int32) : Int32 := match ix x 30 with
  | none => -1
  | some k => b2 (B k)
def op_bB (B : Nat → Bool) (x y : Int32) : Nat → Bool := match ix x 30 with
  | none => B
  | some k => va_up B k (!decide (y = 0))
def op_wR (x : Int32) : Int32 := match ix x 30 with
  | none => -1
  | some _ => 0
def op_wW (w : Nat → Int32) (x y : Int32) : Nat → Int32 := match ix x 30 with
  | none => w
  | some k => upd w k y
def op_pt (n : Nat) (st go : Nat → Nat) (B : Nat → Bool) (x y : Int32) : Int32 := match ix x n with
  | none => -1
  | some i => match ix y n with
    | none => -1
    | some j => pf_W (pf_aT B (fun _ => 1)) (st i) (go j)
def op_tb (L : List (List (Nat × Nat))) (x y : Int32) : Int32 := match ix x 30 with
  | none => -1
  | some k => match ix y 30 with
    | none => -1
    | some j => nI (L.countP (fun F => pf_has k F && pf_has j F))
def op_mu (L : List (List (Nat × Nat))) : Nat → Nat
  | 0 => 0
  | k + 1 => op_mu L k + (if L.countP (fun F => pf_has k F && pf_has k F) = L.length then 1 else 0)
def op_en (n : Nat) (st go : Nat → Nat) (x y : Int32) : Nat × (Nat → Nat) × (Nat → Nat) := if pf_eo x y = true then (pf_pc x.toNatClampNeg 5, pf_pos st 0 x.toNatClampNeg 5, pf_pos go 25 y.toNatClampNeg 5) else (n, st, go)
theorem op_en_in {n j k : Nat} {st go : Nat → Nat} (h1 : 1 ≤ j) (h2 : j < 32) (h3 : 1 ≤ k) (h4 : k < 32) (he : pf_pc j 5 = pf_pc k 5) (h5 : pf_pc j 5 ≤ 4) : op_en n st go (nI j) (nI k) = (pf_pc j 5, pf_pos st 0 j 5, pf_pos go 25 k 5) := by
  unfold op_en
  rw [pf_eo_in h1 h2 h3 h4, if_pos (decide_eq_true ⟨he, h5⟩), nI_clamp (by omega), nI_clamp (by omega)]
theorem op_en_out {n : Nat} {st go : Nat → Nat} {x y : Int32} (h : pf_eo x y = false) : op_en n st go x y = (n, st, go) := by
  unfold op_en
  rw [h, if_neg (by decide)]
theorem pf_eo_1 {x y : Int32} (h : x < nI 1 ∨ nI 31 < x ∨ y < nI 1 ∨ nI 31 < y) : pf_eo x y = false := by
  refine decide_eq_false (fun q => ?_)
  rcases h with h | h | h | h
  · exact q.1.1 h
  · exact q.1.2 h
  · exact q.2.1.1 h
  · exact q.2.1.2 h
theorem op_both {k j : Nat} : ∀ L : List (List (Nat × Nat)), L.length + L.countP (fun F => !pf_hit (some k) F && !pf_hit (some j) F) = L.countP (fun F => pf_has k F && pf_has j F) + L.countP (fun F => !pf_hit (some k) F && !pf_hit none F) + L.countP (fun F => !pf_hit (some j) F && !pf_hit none F) := by
  intro L
  induction L with
  | nil => rfl
  | cons F L ih =>
    rw [List.length_cons, List.countP_cons, List.countP_cons, List.countP_cons, List.countP_cons]
    simp only [pf_hit, Bool.not_false, Bool.and_true] at ih ⊢
    generalize L.countP (fun F => !pf_has k F && !pf_has j F) = a1 at ih ⊢
    generalize L.countP (fun F => pf_has k F && pf_has j F) = a2 at ih ⊢
    generalize L.countP (fun F => !pf_has k F) = a3 at ih ⊢
    generalize L.countP (fun F => !pf_has j F) = a4 at ih ⊢
    rcases Bool.eq_false_or_eq_true (pf_has k F) with h1 | h1 <;> rcases Bool.eq_false_or_eq_true (pf_has j F) with h2 | h2 <;> simp [h1, h2] <;> omega
theorem op_one {k : Nat} : ∀ L : List (List (Nat × Nat)), L.length = L.countP (fun F => pf_has k F && pf_has k F) + L.countP (fun F => !pf_hit (some k) F && !pf_hit none F) := by
  intro L
  induction L with
  | nil => rfl
  | cons F L ih =>
    rw [List.length_cons, List.countP_cons, List.countP_cons]
    simp only [pf_hit, Bool.not_false, Bool.and_true, Bool.and_self] at ih ⊢
    generalize L.countP (fun F => pf_has k F) = a2 at ih ⊢
    generalize L.countP (fun F => !pf_has k F) = a3 at ih ⊢
    rcases Bool.eq_false_or_eq_true (pf_has k F) with h1 | h1 <;> simp [h1] <;> omega
theorem op_sub1 {n : Nat} {st go : Nat → Nat} {B : Nat → Bool} (hwf : pf_wf n st go) {k : Nat} : pf_cw n st go B none none - pf_cw n st go B (some k) none = nI ((pf_L n st go B).countP (fun F => pf_has k F && pf_has k F)) := by
  rw [pf_cw_all hwf, pf_cw_count hwf, op_one (k := k) (pf_L n st go B), ← nI_add]
  grind
theorem op_sub2 {n : Nat} {st go : Nat → Nat} {B : Nat → Bool} (hwf : pf_wf n st go) {k j : Nat} : pf_cw n st go B none none - pf_cw n st go B (some k) none - pf_cw n st go B (some j) none + pf_cw n st go B (some k) (some j) = nI ((pf_L n st go B).countP (fun F => pf_has k F && pf_has j F)) := by
  have h := op_both (k := k) (j := j) (pf_L n st go B)
  have h2 : nI (pf_L n st go B).length + pf_cw n st go B (some k) (some j) = nI ((pf_L n st go B).countP (fun F => pf_has k F && pf_has j F)) + pf_cw n st go B (some k) none + pf_cw n st go B (some j) none := by
    rw [pf_cw_count hwf, pf_cw_count hwf, pf_cw_count hwf, nI_add, nI_add, nI_add, h]
  rw [pf_cw_all hwf]
  grind
theorem op_zero {n : Nat} {st go : Nat → Nat} {B : Nat → Bool} (hwf : pf_wf n st go) {k : Nat} : pf_cw n st go B (some k) none = 0 ↔ (pf_L n st go B).countP (fun F => pf_has k F && pf_has k F) = (pf_L n st go B).length := by
  have h := op_one (k := k) (pf_L n st go B)
  have hl := pf_L_len (n := n) (st := st) (go := go) (B := B)
  rw [pf_cw_count hwf, ← nI_0, nI_eq (by omega) (by decide)]
  omega
def pf_lw (w : Nat → Int32) (sz pa : Nat → Nat) : Nat → Int32
  | 0 => 1
  | q + 1 => if q % 10 < sz (q / 10) then pf_lw w sz pa q * w (pa q) else pf_lw w sz pa q
end
section
set_option maxRecDepth 100000
set_option maxHeartbeats 4000000 in
set_option maxRecDepth 100000 in
theorem metX0_badCell (l : Launch) (dC : Nat → ClassId) (dI : Nat → Nat → Nat) (a : Nat → Nat) (cA : Nat → ClassId) (hz : Nat) (B : Nat → Bool) (w : Nat → Int32) (n : Nat) (st : Nat → Nat) (go : Nat → Nat) (C : Nat → Bool) (fr : Nat → Nat) (wy : Nat → Int32) (mx : Nat → Int32) (ld : Bool) (nu : Int32) (sz : Nat → Nat) (pa : Nat → Nat) (x : Int32)  : Met l yX0_badCell (ws_ yX0_badCell cX0_badCell 2 (some .boolean)) ({ frames := 0, cells := 0, slots := 0, locals := 0 }) (va_Pc [.ref (a 0), .int x] (pcW (dC, dI) (t0 cA) hz (w0 a cA B w n st go C fr wy mx ld nu sz pa))) (va_Qi (fun (r : Int32) (u9 : Unit) => match u9 with | _ => r = b2 (decide (x < 0 ∨ nI 30 ≤ x))) (fun (u9 : Unit) t => bW (dC, dI) (t0 cA) (va_A (w0 a cA B w n st go C fr wy mx ld nu sz pa) hz) (match u9 with | _ => (w0 a cA B w n st go C fr wy mx ld nu sz pa)) t) (va_A (w0 a cA B w n st go C fr wy mx ld nu sz pa) hz)) 0 0 (va_A (w0 a cA B w n st go C fr wy mx ld nu sz pa) hz) := by
  refine Met.ofW (cc := cX0_badCell) (maxL := 2) (ret := (some .boolean)) (by decide) rfl ?_
  intro p e s m args below meth c s₁ Bd hml hv
  obtain ⟨rfl, hsz, hP, hK, hD0⟩ := hv
  have hx := Bd.exec
  have hb := Bd.bytes
  have hr := Bd.returns
  have hts := atoms_spec (ws := ws_ yX0_badCell cX0_badCell 2 (some .boolean)) Bd.pre
  have hts : ∀ w ∈ lw_all, w.before _ s = true := fun w h => hts w (List.mem_cons_of_mem _ h)
  have hown : s.vm.findClass RX0 = some m.cls := findClass_of_methodNamed Bd.named
  have hlocks := Bd.notSynchronized
  subst hsz
  have hD := hD0.self (sz := s.heap.size)
  generalize hAe : va_A (w0 a cA B w n st go C fr wy mx ld nu sz pa) s.heap.size = A at hD ⊢
  have hA : ∀ q : Nat, s.heap.size ≤ q → A q := fun q h => by rw [← hAe]; exact Or.inr h
  have E : x0E p s m c cX0_badCell _ dC dI cA := ⟨hx, hb, hts, hown, hK⟩
  have hX : wd (dC, dI) A s.heap (w0 a cA B w n st go C fr wy mx ld nu sz pa) s.heap [] := ⟨hP, hD, va_S.rf⟩
  have hl := lv_entry ([.ref (a 0), .int x]) (n := 2) (Nat.le_of_ble_eq_true rfl)
  rw [lg_entry_eq]
  generalize (lg_sl ([.ref (a 0), .int x]) ++ List.replicate (2 - (lg_sl ([.ref (a 0), .int x])).length) Slot.unset).toArray = ls at hl ⊢
  have hl : lv_has ls 2 [(0, .ref (a 0)), (1, .int x)] := hl
  refine lv_iload_n hx hb dX0_badCell_0 rfl (lv_at hl 1 rfl) ?_
  refine jnV (pc := 15) (ls := ls) (rest := []) (b2 (decide (x < 0 ∨ nI 30 ≤ x))) (fun J => ?_) ?_
  · refine lv_if_lt (tgt := 10) hx hb dX0_badCell_1 (by decide) (fun c1 => ?_) (fun c1 => ?_)
    · refine lv_iconst (v := (nI 1)) hx hb dX0_badCell_10 (by decide) ?_
      refine lv_goto (tgt := 15) hx hb dX0_badCell_11 (by decide) ?_
      exact J _ (by rw [decide_eq_true (Or.inl c1)]; rfl)
    · refine lv_iload_n hx hb dX0_badCell_4 rfl (lv_at hl 1 rfl) ?_
      refine lv_bipush (v := (nI 30)) hx hb dX0_badCell_5 (by decide) ?_
      refine lv_icmp_lt (tgt := 14) hx hb dX0_badCell_7 (by decide) (fun c2 => ?_) (fun c2 => ?_)
      · refine lv_iconst (v := (nI 0)) hx hb dX0_badCell_14 (by decide) ?_
        exact J _ (by rw [decide_eq_false (by rintro (q | q); exact c1 q; exact absurd c2 (Int32.not_lt.mpr q))]; rfl)
      · refine lv_iconst (v := (nI 1)) hx hb dX0_badCell_10 (by decide) ?_
        refine lv_goto (tgt := 15) hx hb dX0_badCell_11 (by decide) ?_
        exact J _ (by rw [decide_eq_true (Or.inr (Int32.not_lt.mp c2))]; rfl)
  · exact W.zret (v := (b2 (decide (x < 0 ∨ nI 30 ≤ x)))) hx hb hr (b2_nar _) (fun T9 hT9 hW9 => ⟨⟨(b2 (decide (x < 0 ∨ nI 30 ≤ x))), (), rfl, rfl, by rw [hT9]; exact hX.1, va_K.moved hW9.alike hK, hX.2.1⟩, hX.2.2.F hT9⟩) hX.2.2.2.2 dX0_badCell_15
set_option maxHeartbeats 4000000 in
set_option maxRecDepth 100000 in
theorem metX0_mayRight (l : Launch) (dC : Nat → ClassId) (dI : Nat → Nat → Nat) (a : Nat → Nat) (cA : Nat → ClassId) (hz : Nat) (B : Nat → Bool) (w : Nat → Int32) (n : Nat) (st : Nat → Nat) (go : Nat → Nat) (C : Nat → Bool) (fr : Nat → Nat) (wy : Nat → Int32) (mx : Nat → Int32) (ld : Bool) (nu : Int32) (sz : Nat → Nat) (pa : Nat → Nat) (v : Nat) (hv : v < 30) : Met l yX0_mayRight (ws_ yX0_mayRight cX0_mayRight 2 (some .boolean)) ({ frames := 0, cells := 0, slots := 0, locals := 0 }) (va_Pc [.ref (a 0), .int (nI v)] (pcW (dC, dI) (t0 cA) hz (w0 a cA B w n st go C fr wy mx ld nu sz pa))) (va_Qi (fun (r : Int32) (u9 : Unit) => match u9 with | _ => r = b2 (decide (v < 25))) (fun (u9 : Unit) t => bW (dC, dI) (t0 cA) (va_A (w0 a cA B w n st go C fr wy mx ld nu sz pa) hz) (match u9 with | _ => (w0 a cA B w n st go C fr wy mx ld nu sz pa)) t) (va_A (w0 a cA B w n st go C fr wy mx ld nu sz pa) hz)) 0 0 (va_A (w0 a cA B w n st go C fr wy mx ld nu sz pa) hz) := by
  refine Met.ofW (cc := cX0_mayRight) (maxL := 2) (ret := (some .boolean)) (by decide) rfl ?_
  intro p e s m args below meth c s₁ Bd hml hv
  obtain ⟨rfl, hsz, hP, hK, hD0⟩ := hv
  have hx := Bd.exec
  have hb := Bd.bytes
  have hr := Bd.returns
  have hts := atoms_spec (ws := ws_ yX0_mayRight cX0_mayRight 2 (some .boolean)) Bd.pre
  have hts : ∀ w ∈ lw_all, w.before _ s = true := fun w h => hts w (List.mem_cons_of_mem _ h)
  have hown : s.vm.findClass RX0 = some m.cls := findClass_of_methodNamed Bd.named
  have hlocks := Bd.notSynchronized
  subst hsz
  have hD := hD0.self (sz := s.heap.size)
  generalize hAe : va_A (w0 a cA B w n st go C fr wy mx ld nu sz pa) s.heap.size = A at hD ⊢
  have hA : ∀ q : Nat, s.heap.size ≤ q → A q := fun q h => by rw [← hAe]; exact Or.inr h
  have E : x0E p s m c cX0_mayRight _ dC dI cA := ⟨hx, hb, hts, hown, hK⟩
  have hX : wd (dC, dI) A s.heap (w0 a cA B w n st go C fr wy mx ld nu sz pa) s.heap [] := ⟨hP, hD, va_S.rf⟩
  have hl := lv_entry ([.ref (a 0), .int (nI v)]) (n := 2) (Nat.le_of_ble_eq_true rfl)
  rw [lg_entry_eq]
  generalize (lg_sl ([.ref (a 0), .int (nI v)]) ++ List.replicate (2 - (lg_sl ([.ref (a 0), .int (nI v)])).length) Slot.unset).toArray = ls at hl ⊢
  have hl : lv_has ls 2 [(0, .ref (a 0)), (1, .int (nI v))] := hl
  refine lv_iload_n hx hb dX0_mayRight_0 rfl (lv_at hl 1 rfl) ?_
  refine lv_iconst (v := (nI 5)) hx hb dX0_mayRight_1 (by decide) ?_
  refine lv_iadd hx hb dX0_mayRight_2 ?_
  refine tp (y := (nI (v + 5))) (nI_add _ _) ?_
  refine lv_bipush (v := (nI 30)) hx hb dX0_mayRight_3 (by decide) ?_
  refine jnV (pc := 13) (ls := ls) (rest := []) (b2 (decide (v < 25))) (fun J => ?_) ?_
  · refine bn_ge (tgt := 12) hx hb (by omega) (by omega) dX0_mayRight_5 (by decide) (fun c1 => ?_) (fun c1 => ?_)
    · refine lv_iconst (v := (nI 0)) hx hb dX0_mayRight_12 (by decide) ?_
      exact J _ (by rw [decide_eq_false (by omega)]; rfl)
    · refine lv_iconst (v := (nI 1)) hx hb dX0_mayRight_8 (by decide) ?_
      refine lv_goto (tgt := 13) hx hb dX0_mayRight_9 (by decide) ?_
      exact J _ (by rw [decide_eq_true (by omega)]; rfl)
  · exact W.zret (v := (b2 (decide (v < 25)))) hx hb hr (b2_nar _) (fun T9 hT9 hW9 => ⟨⟨(b2 (decide (v < 25))), (), rfl, rfl, by rw [hT9]; exact hX.1, va_K.moved hW9.alike hK, hX.2.1⟩, hX.2.2.F hT9⟩) hX.2.2.2.2 dX0_mayRight_13
set_option maxHeartbeats 4000000 in
set_option maxRecDepth 100000 in
theorem metX0_two (l : Launch) (dC : Nat → ClassId) (dI : Nat → Nat → Nat) (a : Nat → Nat) (cA : Nat → ClassId) (hz : Nat) (B : Nat → Bool) (w : Nat → Int32) (n : Nat) (st : Nat → Nat) (go : Nat → Nat) (C : Nat → Bool) (fr : Nat → Nat) (wy : Nat → Int32) (mx : Nat → Int32) (ld : Bool) (nu : Int32) (sz : Nat → Nat) (pa : Nat → Nat) (i1 : Nat) (i2 : Nat) (j1 : Nat) (j2 : Nat) (h1 : i1 < 4) (h2 : i2 < 4) (h3 : j1 < 4) (h4 : j2 < 4) : Met l yX0_two (ws_ yX0_two cX0_two 5 (some .int)) ({ frames := 0, cells := 0, slots := 0, locals := 0 }) (va_Pc [.ref (a 0), .int (nI i1), .int (nI i2), .int (nI j1), .int (nI j2)] (pcW (dC, dI) (t0 cA) hz (w0 a cA B w n st go C fr wy mx ld nu sz pa))) (va_Qi (fun (r : Int32) (u9 : Unit) => match u9 with | _ => r = pf_two (pf_mx mx) i1 i2 j1 j2) (fun (u9 : Unit) t => bW (dC, dI) (t0 cA) (va_A (w0 a cA B w n st go C fr wy mx ld nu sz pa) hz) (match u9 with | _ => (w0 a cA B w n st go C fr wy mx ld nu sz pa)) t) (va_A (w0 a cA B w n st go C fr wy mx ld nu sz pa) hz)) 0 0 (va_A (w0 a cA B w n st go C fr wy mx ld nu sz pa) hz) := by
  refine Met.ofW (cc := cX0_two) (maxL := 5) (ret := (some .int)) (by decide) rfl ?_
  intro p e s m args below meth c s₁ Bd hml hv
  obtain ⟨rfl, hsz, hP, hK, hD0⟩ := hv
  have hx := Bd.exec
  have hb := Bd.bytes
  have hr := Bd.returns
  have hts := atoms_spec (ws := ws_ yX0_two cX0_two 5 (some .int)) Bd.pre
  have hts : ∀ w ∈ lw_all, w.before _ s = true := fun w h => hts w (List.mem_cons_of_mem _ h)
  have hown : s.vm.findClass RX0 = some m.cls := findClass_of_methodNamed Bd.named
  have hlocks := Bd.notSynchronized
  subst hsz
  have hD := hD0.self (sz := s.heap.size)
  generalize hAe : va_A (w0 a cA B w n st go C fr wy mx ld nu sz pa) s.heap.size = A at hD ⊢
  have hA : ∀ q : Nat, s.heap.size ≤ q → A q := fun q h => by rw [← hAe]; exact Or.inr h
  have E : x0E p s m c cX0_two _ dC dI cA := ⟨hx, hb, hts, hown, hK⟩
  have hX : wd (dC, dI) A s.heap (w0 a cA B w n st go C fr wy mx ld nu sz pa) s.heap [] := ⟨hP, hD, va_S.rf⟩
  have hl := lv_entry ([.ref (a 0), .int (nI i1), .int (nI i2), .int (nI j1), .int (nI j2)]) (n := 5) (Nat.le_of_ble_eq_true rfl)
  rw [lg_entry_eq]
  generalize (lg_sl ([.ref (a 0), .int (nI i1), .int (nI i2), .int (nI j1), .int (nI j2)]) ++ List.replicate (5 - (lg_sl ([.ref (a 0), .int (nI i1), .int (nI i2), .int (nI j1), .int (nI j2)])).length) Slot.unset).toArray = ls at hl ⊢
  have hl : lv_has ls 5 [(0, .ref (a 0)), (1, .int (nI i1)), (2, .int (nI i2)), (3, .int (nI j1)), (4, .int (nI j2))] := hl
  refine lv_aload_n hx hb dX0_two_0 rfl (lv_at hl 0 rfl) ?_
  refine x0_g8 E hX dX0_two_1 ?_
  refine lv_iconst (v := (nI 4)) hx hb dX0_two_4 (by decide) ?_
  refine lv_iload_n hx hb dX0_two_5 rfl (lv_at hl 1 rfl) ?_
  refine lv_imul hx hb dX0_two_6 ?_
  refine tp (y := (nI (4 * i1))) (pk_mul _ _) ?_
  refine lv_iload_n hx hb dX0_two_7 rfl (lv_at hl 3 rfl) ?_
  refine lv_iadd hx hb dX0_two_8 ?_
  refine tp (y := (nI ((4 * i1) + j1))) (nI_add _ _) ?_
  refine x0_l8 E hX (by omega) dX0_two_9 ?_
  refine lv_aload_n hx hb dX0_two_10 rfl (lv_at hl 0 rfl) ?_
  refine x0_g8 E hX dX0_two_11 ?_
  refine lv_iconst (v := (nI 4)) hx hb dX0_two_14 (by decide) ?_
  refine lv_iload_n hx hb dX0_two_15 rfl (lv_at hl 2 rfl) ?_
  refine lv_imul hx hb dX0_two_16 ?_
  refine tp (y := (nI (4 * i2))) (pk_mul _ _) ?_
  refine lv_iload hx hb dX0_two_17 (lv_at hl 4 rfl) ?_
  refine lv_iadd hx hb dX0_two_19 ?_
  refine tp (y := (nI ((4 * i2) + j2))) (nI_add _ _) ?_
  refine x0_l8 E hX (by omega) dX0_two_20 ?_
  refine lv_imul hx hb dX0_two_21 ?_
  refine lv_aload_n hx hb dX0_two_22 rfl (lv_at hl 0 rfl) ?_
  refine x0_g8 E hX dX0_two_23 ?_
  refine lv_iconst (v := (nI 4)) hx hb dX0_two_26 (by decide) ?_
  refine lv_iload_n hx hb dX0_two_27 rfl (lv_at hl 1 rfl) ?_
  refine lv_imul hx hb dX0_two_28 ?_
  refine tp (y := (nI (4 * i1))) (pk_mul _ _) ?_
  refine lv_iload hx hb dX0_two_29 (lv_at hl 4 rfl) ?_
  refine lv_iadd hx hb dX0_two_31 ?_
  refine tp (y := (nI ((4 * i1) + j2))) (nI_add _ _) ?_
  refine x0_l8 E hX (by omega) dX0_two_32 ?_
  refine lv_aload_n hx hb dX0_two_33 rfl (lv_at hl 0 rfl) ?_
  refine x0_g8 E hX dX0_two_34 ?_
  refine lv_iconst (v := (nI 4)) hx hb dX0_two_37 (by decide) ?_
  refine lv_iload_n hx hb dX0_two_38 rfl (lv_at hl 2 rfl) ?_
  refine lv_imul hx hb dX0_two_39 ?_
  refine tp (y := (nI (4 * i2))) (pk_mul _ _) ?_
  refine lv_iload_n hx hb dX0_two_40 rfl (lv_at hl 3 rfl) ?_
  refine lv_iadd hx hb dX0_two_41 ?_
  refine tp (y := (nI ((4 * i2) + j1))) (nI_add _ _) ?_
  refine x0_l8 E hX (by omega) dX0_two_42 ?_
  refine lv_imul hx hb dX0_two_43 ?_
  refine lv_isub hx hb dX0_two_44 ?_
  exact W.iret (v := (((mx ((4 * i1) + j1)) * (mx ((4 * i2) + j2))) - ((mx ((4 * i1) + j2)) * (mx ((4 * i2) + j1))))) hx hb hr (fun T9 hT9 hW9 => ⟨⟨(((mx ((4 * i1) + j1)) * (mx ((4 * i2) + j2))) - ((mx ((4 * i1) + j2)) * (mx ((4 * i2) + j1)))), (), rfl, rfl, by rw [hT9]; exact hX.1, va_K.moved hW9.alike hK, hX.2.1⟩, hX.2.2.F hT9⟩) hX.2.2.2.2 dX0_two_45
set_option maxHeartbeats 4000000 in
set_option maxRecDepth 100000 in
theorem metX0_sizeOf (l : Launch) (dC : Nat → ClassId) (dI : Nat → Nat → Nat) (a : Nat → Nat) (cA : Nat → ClassId) (hz : Nat) (B : Nat → Bool) (w : Nat → Int32) (n : Nat) (st : Nat → Nat) (go : Nat → Nat) (C : Nat → Bool) (fr : Nat → Nat) (wy : Nat → Int32) (mx : Nat → Int32) (ld : Bool) (nu : Int32) (sz : Nat → Nat) (pa : Nat → Nat) (j : Nat) (hj : j < 32) : Met l yX0_sizeOf (ws_ yX0_sizeOf cX0_sizeOf 4 (some .int)) ({ frames := 0, cells := 0, slots := 0, locals := 0 }) (va_Pc [.ref (a 0), .int (nI j)] (pcW (dC, dI) (t0 cA) hz (w0 a cA B w n st go C fr wy mx ld nu sz pa))) (va_Qi (fun (r : Int32) (u9 : Unit) => match u9 with | _ => r = nI (pf_pc j 5)) (fun (u9 : Unit) t => bW (dC, dI) (t0 cA) (va_A (w0 a cA B w n st go C fr wy mx ld nu sz pa) hz) (match u9 with | _ => (w0 a cA B w n st go C fr wy mx ld nu sz pa)) t) (va_A (w0 a cA B w n st go C fr wy mx ld nu sz pa) hz)) 0 0 (va_A (w0 a cA B w n st go C fr wy mx ld nu sz pa) hz) := by
  refine Met.ofW (cc := cX0_sizeOf) (maxL := 4) (ret := (some .int)) (by decide) rfl ?_
  intro p e s m args below meth c s₁ Bd hml hv
  obtain ⟨rfl, hsz, hP, hK, hD0⟩ := hv
  have hx := Bd.exec
  have hb := Bd.bytes
  have hr := Bd.returns
  have hts := atoms_spec (ws := ws_ yX0_sizeOf cX0_sizeOf 4 (some .int)) Bd.pre
  have hts : ∀ w ∈ lw_all, w.before _ s = true := fun w h => hts w (List.mem_cons_of_mem _ h)
  have hown : s.vm.findClass RX0 = some m.cls := findClass_of_methodNamed Bd.named
  have hlocks := Bd.notSynchronized
  subst hsz
  have hD := hD0.self (sz := s.heap.size)
  generalize hAe : va_A (w0 a cA B w n st go C fr wy mx ld nu sz pa) s.heap.size = A at hD ⊢
  have hA : ∀ q : Nat, s.heap.size ≤ q → A q := fun q h => by rw [← hAe]; exact Or.inr h
  have E : x0E p s m c cX0_sizeOf _ dC dI cA := ⟨hx, hb, hts, hown, hK⟩
  have hX : wd (dC, dI) A s.heap (w0 a cA B w n st go C fr wy mx ld nu sz pa) s.heap [] := ⟨hP, hD, va_S.rf⟩
  have hl := lv_entry ([.ref (a 0), .int (nI j)]) (n := 4) (Nat.le_of_ble_eq_true rfl)
  rw [lg_entry_eq]
  generalize (lg_sl ([.ref (a 0), .int (nI j)]) ++ List.replicate (4 - (lg_sl ([.ref (a 0), .int (nI j)])).length) Slot.unset).toArray = ls at hl ⊢
  have hl : lv_has ls 4 [(0, .ref (a 0)), (1, .int (nI j))] := hl
  refine lv_iconst (v := (nI 0)) hx hb dX0_sizeOf_0 (by decide) ?_
  refine lv_istore_n (lv' := [(2, .int (nI 0)), (0, .ref (a 0)), (1, .int (nI j))]) hx hb dX0_sizeOf_1 rfl hl (by decide) rfl (fun ls hl => ?_)
  refine lv_iconst (v := (nI 0)) hx hb dX0_sizeOf_2 (by decide) ?_
  refine lv_istore_n (lv' := [(3, .int (nI 0)), (2, .int (nI 0)), (0, .ref (a 0)), (1, .int (nI j))]) hx hb dX0_sizeOf_3 rfl hl (by decide) rfl (fun ls hl => ?_)
  refine lpW (α := Nat) (F := fun _ ls => F0 m 4 ls []) (I := fun q9 H locs ls => match q9 with | q => q ≤ 5 ∧ wd (dC, dI) A s.heap (w0 a cA B w n st go C fr wy mx ld nu sz pa) H locs ∧ lv_has ls 4 [(3, .int (nI q)), (2, .int (nI (pf_pc j q))), (1, .int (nI j)), (0, .ref (a 0))]) (μ := fun q9 => match q9 with | q => 5 - q) ?_ 0 ⟨Nat.zero_le 5, hX, lv_sub hl [0, 1, 3, 2] rfl⟩
  · intro q H locs ls hI ih
    obtain ⟨hq, hX, hl⟩ := hI
    refine lv_iload_n hx hb dX0_sizeOf_4 rfl (lv_at hl 0 rfl) ?_
    refine lv_iconst (v := (nI 5)) hx hb dX0_sizeOf_5 (by decide) ?_
    refine bn_ge (tgt := 23) hx hb (by omega) (by omega) dX0_sizeOf_6 (by decide) (fun c1 => ?_) (fun c1 => ?_)
    · obtain rfl : q = 5 := by omega
      refine lv_iload_n hx hb dX0_sizeOf_23 rfl (lv_at hl 1 rfl) ?_
      exact W.iret (v := (nI (pf_pc j 5))) hx hb hr (fun T9 hT9 hW9 => ⟨⟨(nI (pf_pc j 5)), (), rfl, rfl, by rw [hT9]; exact hX.1, va_K.moved hW9.alike hK, hX.2.1⟩, hX.2.2.F hT9⟩) hX.2.2.2.2 dX0_sizeOf_24
    · refine lv_iload_n hx hb dX0_sizeOf_9 rfl (lv_at hl 1 rfl) ?_
      refine lv_iload_n hx hb dX0_sizeOf_10 rfl (lv_at hl 2 rfl) ?_
      refine lv_iload_n hx hb dX0_sizeOf_11 rfl (lv_at hl 0 rfl) ?_
      refine lv_ishr hx hb dX0_sizeOf_12 ?_
      refine lv_iconst (v := (nI 1)) hx hb dX0_sizeOf_13 (by decide) ?_
      refine lv_iand hx hb dX0_sizeOf_14 ?_
      refine tp (y := (nI (j / 2 ^ q % 2))) (pf_bit hj c1) ?_
      refine lv_iadd hx hb dX0_sizeOf_15 ?_
      refine tp (y := (nI ((pf_pc j q) + (j / 2 ^ q % 2)))) (nI_add _ _) ?_
      refine lv_istore_n (lv' := [(2, .int (nI ((pf_pc j q) + (j / 2 ^ q % 2)))), (3, .int (nI q)), (1, .int (nI j)), (0, .ref (a 0))]) hx hb dX0_sizeOf_16 rfl hl (by decide) rfl (fun ls hl => ?_)
      refine lv_iinc (v := (nI (q + 1))) (lv' := [(3, .int (nI (q + 1))), (2, .int (nI ((pf_pc j q) + (j / 2 ^ q % 2)))), (1, .int (nI j)), (0, .ref (a 0))]) hx hb dX0_sizeOf_17 hl (k := 1) rfl (nI_1 _) (by decide) rfl (fun ls hl => ?_)
      refine lv_goto (tgt := 4) hx hb dX0_sizeOf_20 (by decide) ?_
      exact ih (q + 1) _ _ _ ⟨by omega, hX, lv_sub hl [0, 1, 2, 3] rfl⟩ (by dsimp only; omega)
set_option maxHeartbeats 4000000 in
set_option maxRecDepth 100000 in
theorem metX0_lastThree (l : Launch) (dC : Nat → ClassId) (dI : Nat → Nat → Nat) (a : Nat → Nat) (cA : Nat → ClassId) (hz : Nat) (B : Nat → Bool) (w : Nat → Int32) (n : Nat) (st : Nat → Nat) (go : Nat → Nat) (C : Nat → Bool) (fr : Nat → Nat) (wy : Nat → Int32) (mx : Nat → Int32) (ld : Bool) (nu : Int32) (sz : Nat → Nat) (pa : Nat → Nat)   : Met l yX0_lastThree (ws_ yX0_lastThree cX0_lastThree 4 (some .int)) ({ frames := 1, cells := 0, slots := 0, locals := 24 }) (va_Pc [.ref (a 0)] (pcW (dC, dI) (t0 cA) hz (w0 a cA B w n st go C fr wy mx ld nu sz pa))) (va_Qi (fun (r : Int32) (u9 : Unit) => match u9 with | _ => r = pf_d3 (pf_mx mx)) (fun (u9 : Unit) t => bW (dC, dI) (t0 cA) (va_A (w0 a cA B w n st go C fr wy mx ld nu sz pa) hz) (match u9 with | _ => (w0 a cA B w n st go C fr wy mx ld nu sz pa)) t) (va_A (w0 a cA B w n st go C fr wy mx ld nu sz pa) hz)) 0 0 (va_A (w0 a cA B w n st go C fr wy mx ld nu sz pa) hz) := by
  refine Met.ofW (cc := cX0_lastThree) (maxL := 4) (ret := (some .int)) (by decide) rfl ?_
  intro p e s m args below meth c s₁ Bd hml hv
  obtain ⟨rfl, hsz, hP, hK, hD0⟩ := hv
  have hx := Bd.exec
  have hb := Bd.bytes
  have hr := Bd.returns
  have hts := atoms_spec (ws := ws_ yX0_lastThree cX0_lastThree 4 (some .int)) Bd.pre
  have hts : ∀ w ∈ lw_all, w.before _ s = true := fun w h => hts w (List.mem_cons_of_mem _ h)
  have hown : s.vm.findClass RX0 = some m.cls := findClass_of_methodNamed Bd.named
  have hlocks := Bd.notSynchronized
  subst hsz
  have hD := hD0.self (sz := s.heap.size)
  generalize hAe : va_A (w0 a cA B w n st go C fr wy mx ld nu sz pa) s.heap.size = A at hD ⊢
  have hA : ∀ q : Nat, s.heap.size ≤ q → A q := fun q h => by rw [← hAe]; exact Or.inr h
  have E : x0E p s m c cX0_lastThree _ dC dI cA := ⟨hx, hb, hts, hown, hK⟩
  have hX : wd (dC, dI) A s.heap (w0 a cA B w n st go C fr wy mx ld nu sz pa) s.heap [] := ⟨hP, hD, va_S.rf⟩
  have hl := lv_entry ([.ref (a 0)]) (n := 4) (Nat.le_of_ble_eq_true rfl)
  rw [lg_entry_eq]
  generalize (lg_sl ([.ref (a 0)]) ++ List.replicate (4 - (lg_sl ([.ref (a 0)])).length) Slot.unset).toArray = ls at hl ⊢
  have hl : lv_has ls 4 [(0, .ref (a 0))] := hl
  refine lv_aload_n hx hb dX0_lastThree_0 rfl (lv_at hl 0 rfl) ?_
  refine lv_iconst (v := (nI 2)) hx hb dX0_lastThree_1 (by decide) ?_
  refine lv_iconst (v := (nI 3)) hx hb dX0_lastThree_2 (by decide) ?_
  refine lv_iconst (v := (nI 2)) hx hb dX0_lastThree_3 (by decide) ?_
  refine lv_iconst (v := (nI 3)) hx hb dX0_lastThree_4 (by decide) ?_
  refine ca_i (ci := 0) (As := [.int (nI 2), .int (nI 3), .int (nI 2), .int (nI 3)]) (rest := []) ⟨hx, hb, hml, hown, hts⟩ hK hX hA (metX0_two l dC dI a cA _ B w n st go C fr wy mx ld nu sz pa 2 3 2 3 (by decide) (by decide) (by decide) (by decide)) (cwV 4 hts (lw_V q134 q136 qs9 q25 q137) rfl rfl rfl (by decide +kernel) ⟨Nat.le_of_ble_eq_true rfl, Nat.le_of_ble_eq_true rfl⟩) rfl rfl rfl rfl hl.1 rfl (Nat.le_of_ble_eq_true rfl) dX0_lastThree_5 ⟨Nat.le_of_ble_eq_true rfl, Nat.le_of_ble_eq_true rfl⟩ (fun r1 u H locs hr1 hX => ?_)
  refine lv_istore_n (lv' := [(1, .int r1), (0, .ref (a 0))]) hx hb dX0_lastThree_8 rfl hl (by decide) rfl (fun ls hl => ?_)
  refine lv_aload_n hx hb dX0_lastThree_9 rfl (lv_at hl 1 rfl) ?_
  refine lv_iconst (v := (nI 2)) hx hb dX0_lastThree_10 (by decide) ?_
  refine lv_iconst (v := (nI 3)) hx hb dX0_lastThree_11 (by decide) ?_
  refine lv_iconst (v := (nI 1)) hx hb dX0_lastThree_12 (by decide) ?_
  refine lv_iconst (v := (nI 3)) hx hb dX0_lastThree_13 (by decide) ?_
  refine ca_i (ci := 0) (As := [.int (nI 2), .int (nI 3), .int (nI 1), .int (nI 3)]) (rest := []) ⟨hx, hb, hml, hown, hts⟩ hK hX hA (metX0_two l dC dI a cA _ B w n st go C fr wy mx ld nu sz pa 2 3 1 3 (by decide) (by decide) (by decide) (by decide)) (cwV 4 hts (lw_V q134 q136 qs9 q25 q137) rfl rfl rfl (by decide +kernel) ⟨Nat.le_of_ble_eq_true rfl, Nat.le_of_ble_eq_true rfl⟩) rfl rfl rfl rfl hl.1 rfl (Nat.le_of_ble_eq_true rfl) dX0_lastThree_14 ⟨Nat.le_of_ble_eq_true rfl, Nat.le_of_ble_eq_true rfl⟩ (fun r2 u H locs hr2 hX => ?_)
  refine lv_istore_n (lv' := [(2, .int r2), (1, .int r1), (0, .ref (a 0))]) hx hb dX0_lastThree_17 rfl hl (by decide) rfl (fun ls hl => ?_)
  refine lv_aload_n hx hb dX0_lastThree_18 rfl (lv_at hl 2 rfl) ?_
  refine lv_iconst (v := (nI 2)) hx hb dX0_lastThree_19 (by decide) ?_
  refine lv_iconst (v := (nI 3)) hx hb dX0_lastThree_20 (by decide) ?_
  refine lv_iconst (v := (nI 1)) hx hb dX0_lastThree_21 (by decide) ?_
  refine lv_iconst (v := (nI 2)) hx hb dX0_lastThree_22 (by decide) ?_
  refine ca_i (ci := 0) (As := [.int (nI 2), .int (nI 3), .int (nI 1), .int (nI 2)]) (rest := []) ⟨hx, hb, hml, hown, hts⟩ hK hX hA (metX0_two l dC dI a cA _ B w n st go C fr wy mx ld nu sz pa 2 3 1 2 (by decide) (by decide) (by decide) (by decide)) (cwV 4 hts (lw_V q134 q136 qs9 q25 q137) rfl rfl rfl (by decide +kernel) ⟨Nat.le_of_ble_eq_true rfl, Nat.le_of_ble_eq_true rfl⟩) rfl rfl rfl rfl hl.1 rfl (Nat.le_of_ble_eq_true rfl) dX0_lastThree_23 ⟨Nat.le_of_ble_eq_true rfl, Nat.le_of_ble_eq_true rfl⟩ (fun r3 u H locs hr3 hX => ?_)
  refine lv_istore_n (lv' := [(3, .int r3), (2, .int r2), (1, .int r1), (0, .ref (a 0))]) hx hb dX0_lastThree_26 rfl hl (by decide) rfl (fun ls hl => ?_)
  refine lv_aload_n hx hb dX0_lastThree_27 rfl (lv_at hl 3 rfl) ?_
  refine x0_g8 E hX dX0_lastThree_28 ?_
  refine lv_iconst (v := (nI 5)) hx hb dX0_lastThree_31 (by decide) ?_
  refine x0_l8 E hX (by omega) dX0_lastThree_32 ?_
  refine lv_iload_n hx hb dX0_lastThree_33 rfl (lv_at hl 2 rfl) ?_
  refine lv_imul hx hb dX0_lastThree_34 ?_
  refine lv_aload_n hx hb dX0_lastThree_35 rfl (lv_at hl 3 rfl) ?_
  refine x0_g8 E hX dX0_lastThree_36 ?_
  refine lv_bipush (v := (nI 6)) hx hb dX0_lastThree_39 (by decide) ?_
  refine x0_l8 E hX (by omega) dX0_lastThree_41 ?_
  refine lv_iload_n hx hb dX0_lastThree_42 rfl (lv_at hl 1 rfl) ?_
  refine lv_imul hx hb dX0_lastThree_43 ?_
  refine lv_isub hx hb dX0_lastThree_44 ?_
  refine lv_aload_n hx hb dX0_lastThree_45 rfl (lv_at hl 3 rfl) ?_
  refine x0_g8 E hX dX0_lastThree_46 ?_
  refine lv_bipush (v := (nI 7)) hx hb dX0_lastThree_49 (by decide) ?_
  refine x0_l8 E hX (by omega) dX0_lastThree_51 ?_
  refine lv_iload_n hx hb dX0_lastThree_52 rfl (lv_at hl 0 rfl) ?_
  refine lv_imul hx hb dX0_lastThree_53 ?_
  refine lv_iadd hx hb dX0_lastThree_54 ?_
  exact W.iret (v := ((((mx 5) * r1) - ((mx 6) * r2)) + ((mx 7) * r3))) hx hb hr (fun T9 hT9 hW9 => ⟨⟨((((mx 5) * r1) - ((mx 6) * r2)) + ((mx 7) * r3)), (), rfl, by rw [hr1, hr2, hr3]; rfl, by rw [hT9]; exact hX.1, va_K.moved hW9.alike hK, hX.2.1⟩, hX.2.2.F hT9⟩) hX.2.2.2.2 dX0_lastThree_55
set_option maxHeartbeats 4000000 in
set_option maxRecDepth 100000 in
theorem metX0_allFour (l : Launch) (dC : Nat → ClassId) (dI : Nat → Nat → Nat) (a : Nat → Nat) (cA : Nat → ClassId) (hz : Nat) (B : Nat → Bool) (w : Nat → Int32) (n : Nat) (st : Nat → Nat) (go : Nat → Nat) (C : Nat → Bool) (fr : Nat → Nat) (wy : Nat → Int32) (mx : Nat → Int32) (ld : Bool) (nu : Int32) (sz : Nat → Nat) (pa : Nat → Nat)   : Met l yX0_allFour (ws_ yX0_allFour cX0_allFour 9 (some .int)) ({ frames := 1, cells := 0, slots := 0, locals := 24 }) (va_Pc [.ref (a 0)] (pcW (dC, dI) (t0 cA) hz (w0 a cA B w n st go C fr wy mx ld nu sz pa))) (va_Qi (fun (r : Int32) (u9 : Unit) => match u9 with | _ => r = pf_det (pf_mx mx)) (fun (u9 : Unit) t => bW (dC, dI) (t0 cA) (va_A (w0 a cA B w n st go C fr wy mx ld nu sz pa) hz) (match u9 with | _ => (w0 a cA B w n st go C fr wy mx ld nu sz pa)) t) (va_A (w0 a cA B w n st go C fr wy mx ld nu sz pa) hz)) 0 0 (va_A (w0 a cA B w n st go C fr wy mx ld nu sz pa) hz) := by
  refine Met.ofW (cc := cX0_allFour) (maxL := 9) (ret := (some .int)) (by decide) rfl ?_
  intro p e s m args below meth c s₁ Bd hml hv
  obtain ⟨rfl, hsz, hP, hK, hD0⟩ := hv
  have hx := Bd.exec
  have hb := Bd.bytes
  have hr := Bd.returns
  have hts := atoms_spec (ws := ws_ yX0_allFour cX0_allFour 9 (some .int)) Bd.pre
  have hts : ∀ w ∈ lw_all, w.before _ s = true := fun w h => hts w (List.mem_cons_of_mem _ h)
  have hown : s.vm.findClass RX0 = some m.cls := findClass_of_methodNamed Bd.named
  have hlocks := Bd.notSynchronized
  subst hsz
  have hD := hD0.self (sz := s.heap.size)
  generalize hAe : va_A (w0 a cA B w n st go C fr wy mx ld nu sz pa) s.heap.size = A at hD ⊢
  have hA : ∀ q : Nat, s.heap.size ≤ q → A q := fun q h => by rw [← hAe]; exact Or.inr h
  have E : x0E p s m c cX0_allFour _ dC dI cA := ⟨hx, hb, hts, hown, hK⟩
  have hX : wd (dC, dI) A s.heap (w0 a cA B w n st go C fr wy mx ld nu sz pa) s.heap [] := ⟨hP, hD, va_S.rf⟩
  have hl := lv_entry ([.ref (a 0)]) (n := 9) (Nat.le_of_ble_eq_true rfl)
  rw [lg_entry_eq]
  generalize (lg_sl ([.ref (a 0)]) ++ List.replicate (9 - (lg_sl ([.ref (a 0)])).length) Slot.unset).toArray = ls at hl ⊢
  have hl : lv_has ls 9 [(0, .ref (a 0))] := hl
  refine lv_iconst (v := (nI 0)) hx hb dX0_allFour_0 (by decide) ?_
  refine lv_istore_n (lv' := [(1, .int (nI 0)), (0, .ref (a 0))]) hx hb dX0_allFour_1 rfl hl (by decide) rfl (fun ls hl => ?_)
  refine lv_iconst (v := (nI 0)) hx hb dX0_allFour_2 (by decide) ?_
  refine lv_istore_n (lv' := [(2, .int (nI 0)), (1, .int (nI 0)), (0, .ref (a 0))]) hx hb dX0_allFour_3 rfl hl (by decide) rfl (fun ls hl => ?_)
  refine lpW (α := Nat) (F := fun _ ls => F0 m 4 ls []) (I := fun q9 H locs ls => match q9 with | q => q ≤ 16 ∧ wd (dC, dI) A s.heap (w0 a cA B w n st go C fr wy mx ld nu sz pa) H locs ∧ lv_has ls 9 [(2, .int (nI q)), (1, .int (pf_af (pf_mx mx) q)), (0, .ref (a 0))]) (μ := fun q9 => match q9 with | q => 16 - q) ?_ 0 ⟨Nat.zero_le 16, hX, lv_sub hl [0, 1, 2] rfl⟩
  · intro q H locs ls hI ih
    obtain ⟨hq, hX, hl⟩ := hI
    refine lv_iload_n hx hb dX0_allFour_4 rfl (lv_at hl 0 rfl) ?_
    refine lv_bipush (v := (nI 16)) hx hb dX0_allFour_5 (by decide) ?_
    refine bn_ge (tgt := 115) hx hb (by omega) (by omega) dX0_allFour_7 (by decide) (fun c1 => ?_) (fun c1 => ?_)
    · obtain rfl : q = 16 := by omega
      refine lv_iload_n hx hb dX0_allFour_115 rfl (lv_at hl 1 rfl) ?_
      exact W.iret (v := (pf_af (pf_mx mx) 16)) hx hb hr (fun T9 hT9 hW9 => ⟨⟨(pf_af (pf_mx mx) 16), (), rfl, pf_af_16 _, by rw [hT9]; exact hX.1, va_K.moved hW9.alike hK, hX.2.1⟩, hX.2.2.F hT9⟩) hX.2.2.2.2 dX0_allFour_116
    · refine lv_iload_n hx hb dX0_allFour_10 rfl (lv_at hl 0 rfl) ?_
      refine lv_iconst (v := (nI 2)) hx hb dX0_allFour_11 (by decide) ?_
      refine lv_ishr hx hb dX0_allFour_12 ?_
      refine tp (y := (nI (q / 4))) (pf_sh2 c1) ?_
      refine lv_istore_n (lv' := [(3, .int (nI (q / 4))), (2, .int (nI q)), (1, .int (pf_af (pf_mx mx) q)), (0, .ref (a 0))]) hx hb dX0_allFour_13 rfl hl (by decide) rfl (fun ls hl => ?_)
      refine lv_iload_n hx hb dX0_allFour_14 rfl (lv_at hl 1 rfl) ?_
      refine lv_iconst (v := (nI 3)) hx hb dX0_allFour_15 (by decide) ?_
      refine lv_iand hx hb dX0_allFour_16 ?_
      refine tp (y := (nI (q % 4))) (pf_an3 c1) ?_
      refine lv_istore (lv' := [(4, .int (nI (q % 4))), (3, .int (nI (q / 4))), (2, .int (nI q)), (1, .int (pf_af (pf_mx mx) q)), (0, .ref (a 0))]) hx hb dX0_allFour_17 hl (by decide) rfl (fun ls hl => ?_)
      refine lv_iload_n hx hb dX0_allFour_19 rfl (lv_at hl 1 rfl) ?_
      refine lv_iload hx hb dX0_allFour_20 (lv_at hl 0 rfl) ?_
      refine jnW (α := Unit) (F := fun _ ls => F0 m 109 ls []) (I := fun q9 H locs ls => match q9 with | _ => wd (dC, dI) A s.heap (w0 a cA B w n st go C fr wy mx ld nu sz pa) H locs ∧ lv_has ls 9 [(2, .int (nI q)), (1, .int (pf_af (pf_mx mx) (q + 1))), (0, .ref (a 0))]) (fun J => ?_) ?_
      · refine bn_ge (tgt := 109) hx hb (by omega) (by omega) dX0_allFour_22 (by decide) (fun c2 => ?_) (fun c2 => ?_)
        · have e1 : pf_af (pf_mx mx) (q + 1) = pf_af (pf_mx mx) q := if_neg (by omega)
          exact J () _ _ _ ⟨hX, by rw [e1]; exact lv_sub hl [2, 3, 4] rfl⟩
        · refine lv_iload_n hx hb dX0_allFour_25 rfl (lv_at hl 1 rfl) ?_
          refine jnV (pc := 44) (ls := ls) (rest := []) (nI (if q / 4 = 0 then (if q % 4 = 1 then 2 else 1) else 0)) (fun J2 => ?_) ?_
          · refine b0_ne (tgt := 43) hx hb (by omega) dX0_allFour_26 (by decide) (fun c3 => ?_) (fun c3 => ?_)
            · refine lv_iconst (v := (nI 0)) hx hb dX0_allFour_43 (by decide) ?_
              exact J2 _ (by rw [if_neg c3])
            · refine lv_iload hx hb dX0_allFour_29 (lv_at hl 0 rfl) ?_
              refine lv_iconst (v := (nI 1)) hx hb dX0_allFour_31 (by decide) ?_
              refine bn_ne (tgt := 39) hx hb (by omega) (by omega) dX0_allFour_32 (by decide) (fun c4 => ?_) (fun c4 => ?_)
              · refine lv_iconst (v := (nI 1)) hx hb dX0_allFour_39 (by decide) ?_
                refine lv_goto (tgt := 44) hx hb dX0_allFour_40 (by decide) ?_
                exact J2 _ (by rw [if_pos c3, if_neg c4])
              · refine lv_iconst (v := (nI 2)) hx hb dX0_allFour_35 (by decide) ?_
                refine lv_goto (tgt := 44) hx hb dX0_allFour_36 (by decide) ?_
                exact J2 _ (by rw [if_pos c3, if_pos c4])
          · generalize he9 : (if q / 4 = 0 then (if q % 4 = 1 then 2 else 1) else 0) = e9
            have hle : e9 ≤ 2 := by rw [← he9]; split; split; decide; decide; decide
            have hsum : q / 4 + q % 4 + e9 ≤ 6 ∧ 3 ≤ q / 4 + q % 4 + e9 := by rw [← he9]; have := c2; split <;> (try split) <;> omega
            refine lv_istore (lv' := [(5, .int (nI e9)), (4, .int (nI (q % 4))), (3, .int (nI (q / 4))), (2, .int (nI q)), (1, .int (pf_af (pf_mx mx) q)), (0, .ref (a 0))]) hx hb dX0_allFour_44 hl (by decide) rfl (fun ls hl => ?_)
            refine lv_bipush (v := (nI 6)) hx hb dX0_allFour_46 (by decide) ?_
            refine lv_iload_n hx hb dX0_allFour_48 rfl (lv_at hl 2 rfl) ?_
            refine lv_isub hx hb dX0_allFour_49 ?_
            refine tp (y := (nI (6 - (q / 4)))) (pk_sub (by omega)) ?_
            refine lv_iload hx hb dX0_allFour_50 (lv_at hl 1 rfl) ?_
            refine lv_isub hx hb dX0_allFour_52 ?_
            refine tp (y := (nI ((6 - (q / 4)) - (q % 4)))) (pk_sub (by omega)) ?_
            refine lv_iload hx hb dX0_allFour_53 (lv_at hl 0 rfl) ?_
            refine lv_isub hx hb dX0_allFour_55 ?_
            refine tp (y := (nI (((6 - (q / 4)) - (q % 4)) - e9))) (pk_sub (by omega)) ?_
            refine lv_istore (lv' := [(6, .int (nI (((6 - (q / 4)) - (q % 4)) - e9))), (5, .int (nI e9)), (4, .int (nI (q % 4))), (3, .int (nI (q / 4))), (2, .int (nI q)), (1, .int (pf_af (pf_mx mx) q)), (0, .ref (a 0))]) hx hb dX0_allFour_56 hl (by decide) rfl (fun ls hl => ?_)
            refine lv_aload_n hx hb dX0_allFour_58 rfl (lv_at hl 6 rfl) ?_
            refine lv_iconst (v := (nI 0)) hx hb dX0_allFour_59 (by decide) ?_
            refine lv_iconst (v := (nI 1)) hx hb dX0_allFour_60 (by decide) ?_
            refine lv_iload_n hx hb dX0_allFour_61 rfl (lv_at hl 3 rfl) ?_
            refine lv_iload hx hb dX0_allFour_62 (lv_at hl 2 rfl) ?_
            refine ca_i (ci := 0) (As := [.int (nI 0), .int (nI 1), .int (nI (q / 4)), .int (nI (q % 4))]) (rest := []) ⟨hx, hb, hml, hown, hts⟩ hK hX hA (metX0_two l dC dI a cA _ B w n st go C fr wy mx ld nu sz pa 0 1 (q / 4) (q % 4) (by decide) (by decide) (by omega) (by omega)) (cwV 4 hts (lw_V q134 q136 qs9 q25 q137) rfl rfl rfl (by decide +kernel) ⟨Nat.le_of_ble_eq_true rfl, Nat.le_of_ble_eq_true rfl⟩) rfl rfl rfl rfl hl.1 rfl (Nat.le_of_ble_eq_true rfl) dX0_allFour_64 ⟨Nat.le_of_ble_eq_true rfl, Nat.le_of_ble_eq_true rfl⟩ (fun r1 u H locs hr1 hX => ?_)
            refine lv_istore (lv' := [(7, .int r1), (6, .int (nI (((6 - (q / 4)) - (q % 4)) - e9))), (5, .int (nI e9)), (4, .int (nI (q % 4))), (3, .int (nI (q / 4))), (2, .int (nI q)), (1, .int (pf_af (pf_mx mx) q)), (0, .ref (a 0))]) hx hb dX0_allFour_67 hl (by decide) rfl (fun ls hl => ?_)
            refine lv_aload_n hx hb dX0_allFour_69 rfl (lv_at hl 7 rfl) ?_
            refine lv_iconst (v := (nI 2)) hx hb dX0_allFour_70 (by decide) ?_
            refine lv_iconst (v := (nI 3)) hx hb dX0_allFour_71 (by decide) ?_
            refine lv_iload hx hb dX0_allFour_72 (lv_at hl 2 rfl) ?_
            refine lv_iload hx hb dX0_allFour_74 (lv_at hl 1 rfl) ?_
            refine ca_i (ci := 0) (As := [.int (nI 2), .int (nI 3), .int (nI e9), .int (nI (((6 - (q / 4)) - (q % 4)) - e9))]) (rest := []) ⟨hx, hb, hml, hown, hts⟩ hK hX hA (metX0_two l dC dI a cA _ B w n st go C fr wy mx ld nu sz pa 2 3 e9 (6 - q / 4 - q % 4 - e9) (by decide) (by decide) (by omega) (by omega)) (cwV 4 hts (lw_V q134 q136 qs9 q25 q137) rfl rfl rfl (by decide +kernel) ⟨Nat.le_of_ble_eq_true rfl, Nat.le_of_ble_eq_true rfl⟩) rfl rfl rfl rfl hl.1 rfl (Nat.le_of_ble_eq_true rfl) dX0_allFour_76 ⟨Nat.le_of_ble_eq_true rfl, Nat.le_of_ble_eq_true rfl⟩ (fun r2 u H locs hr2 hX => ?_)
            refine lv_istore (lv' := [(8, .int r2), (7, .int r1), (6, .int (nI (((6 - (q / 4)) - (q % 4)) - e9))), (5, .int (nI e9)), (4, .int (nI (q % 4))), (3, .int (nI (q / 4))), (2, .int (nI q)), (1, .int (pf_af (pf_mx mx) q)), (0, .ref (a 0))]) hx hb dX0_allFour_79 hl (by decide) rfl (fun ls hl => ?_)
            refine lv_iload_n hx hb dX0_allFour_81 rfl (lv_at hl 5 rfl) ?_
            refine lv_iload hx hb dX0_allFour_82 (lv_at hl 4 rfl) ?_
            refine lv_iadd hx hb dX0_allFour_84 ?_
            refine tp (y := (nI ((q / 4) + (q % 4)))) (nI_add _ _) ?_
            refine lv_iconst (v := (nI 1)) hx hb dX0_allFour_85 (by decide) ?_
            refine lv_iand hx hb dX0_allFour_86 ?_
            refine tp (y := (nI ((q / 4 + q % 4) % 2))) (pf_an1 (by omega)) ?_
            refine lv_iconst (v := (nI 1)) hx hb dX0_allFour_87 (by decide) ?_
            refine bn_ne (tgt := 101) hx hb (by omega) (by omega) dX0_allFour_88 (by decide) (fun c5 => ?_) (fun c5 => ?_)
            · refine lv_iload_n hx hb dX0_allFour_101 rfl (lv_at hl 7 rfl) ?_
              refine lv_iload hx hb dX0_allFour_102 (lv_at hl 1 rfl) ?_
              refine lv_iload hx hb dX0_allFour_104 (lv_at hl 0 rfl) ?_
              refine lv_imul hx hb dX0_allFour_106 ?_
              refine lv_isub hx hb dX0_allFour_107 ?_
              refine lv_istore_n (lv' := [(1, .int ((pf_af (pf_mx mx) q) - (r1 * r2))), (8, .int r2), (7, .int r1), (6, .int (nI (((6 - (q / 4)) - (q % 4)) - e9))), (5, .int (nI e9)), (4, .int (nI (q % 4))), (3, .int (nI (q / 4))), (2, .int (nI q)), (0, .ref (a 0))]) hx hb dX0_allFour_108 rfl hl (by decide) rfl (fun ls hl => ?_)
              have e1 : pf_af (pf_mx mx) (q + 1) = (pf_af (pf_mx mx) q) - (r1 * r2) := by
                show (if _ then (if _ then _ else _) else _) = _
                rw [if_pos c2, if_neg c5, he9, hr1, hr2]
              exact J () _ _ _ ⟨hX, by rw [e1]; exact lv_sub hl [7, 0, 8] rfl⟩
            · refine lv_iload_n hx hb dX0_allFour_91 rfl (lv_at hl 7 rfl) ?_
              refine lv_iload hx hb dX0_allFour_92 (lv_at hl 1 rfl) ?_
              refine lv_iload hx hb dX0_allFour_94 (lv_at hl 0 rfl) ?_
              refine lv_imul hx hb dX0_allFour_96 ?_
              refine lv_iadd hx hb dX0_allFour_97 ?_
              refine lv_goto (tgt := 108) hx hb dX0_allFour_98 (by decide) ?_
              refine lv_istore_n (lv' := [(1, .int ((pf_af (pf_mx mx) q) + (r1 * r2))), (8, .int r2), (7, .int r1), (6, .int (nI (((6 - (q / 4)) - (q % 4)) - e9))), (5, .int (nI e9)), (4, .int (nI (q % 4))), (3, .int (nI (q / 4))), (2, .int (nI q)), (0, .ref (a 0))]) hx hb dX0_allFour_108 rfl hl (by decide) rfl (fun ls hl => ?_)
              have e1 : pf_af (pf_mx mx) (q + 1) = (pf_af (pf_mx mx) q) + (r1 * r2) := by
                show (if _ then (if _ then _ else _) else _) = _
                rw [if_pos c2, if_pos c5, he9, hr1, hr2]
              exact J () _ _ _ ⟨hX, by rw [e1]; exact lv_sub hl [7, 0, 8] rfl⟩
      · intro _ H locs ls hI
        obtain ⟨hX, hl⟩ := hI
        refine lv_iinc (v := (nI (q + 1))) (lv' := [(2, .int (nI (q + 1))), (1, .int (pf_af (pf_mx mx) (q + 1))), (0, .ref (a 0))]) hx hb dX0_allFour_109 hl (k := 0) rfl (nI_1 _) (by decide) rfl (fun ls hl => ?_)
        refine lv_goto (tgt := 4) hx hb dX0_allFour_112 (by decide) ?_
        exact ih (q + 1) _ _ _ ⟨by omega, hX, lv_sub hl [0, 1, 2] rfl⟩ (by dsimp only; omega)
end
section
set_option maxRecDepth 100000
set_option maxHeartbeats 4000000 in
set_option maxRecDepth 100000 in
theorem metX0_determinant (l : Launch) (dC : Nat → ClassId) (dI : Nat → Nat → Nat) (a : Nat → Nat) (cA : Nat → ClassId) (hz : Nat) (B : Nat → Bool) (w : Nat → Int32) (n : Nat) (st : Nat → Nat) (go : Nat → Nat) (C : Nat → Bool) (fr : Nat → Nat) (wy : Nat → Int32) (mx : Nat → Int32) (ld : Bool) (nu : Int32) (sz : Nat → Nat) (pa : Nat → Nat) (i : Nat) (hn : n ≤ 4) (hi : i < n) : Met l yX0_determinant (ws_ yX0_determinant cX0_determinant 6 (some .int)) ({ frames := 2, cells := 0, slots := 0, locals := 52 }) (va_Pc [.ref (a 0), .int (nI i)] (pcW (dC, dI) (t0 cA) hz (w0 a cA B w n st go C fr wy mx ld nu sz pa))) (va_Qi (fun (r : Int32) (u9 : Nat → Int32) => match u9 with | m9 => r = pf_det (pf_Mx n i mx)) (fun (u9 : Nat → Int32) t => bW (dC, dI) (t0 cA) (va_A (w0 a cA B w n st go C fr wy mx ld nu sz pa) hz) (match u9 with | m9 => (w0 a cA B w n st go C fr wy m9 ld nu sz pa)) t) (va_A (w0 a cA B w n st go C fr wy mx ld nu sz pa) hz)) 0 0 (va_A (w0 a cA B w n st go C fr wy mx ld nu sz pa) hz) := by
  refine Met.ofW (cc := cX0_determinant) (maxL := 6) (ret := (some .int)) (by decide) rfl ?_
  intro p e s m args below meth c s₁ Bd hml hv
  obtain ⟨rfl, hsz, hP, hK, hD0⟩ := hv
  have hx := Bd.exec
  have hb := Bd.bytes
  have hr := Bd.returns
  have hts := atoms_spec (ws := ws_ yX0_determinant cX0_determinant 6 (some .int)) Bd.pre
  have hts : ∀ w ∈ lw_all, w.before _ s = true := fun w h => hts w (List.mem_cons_of_mem _ h)
  have hown : s.vm.findClass RX0 = some m.cls := findClass_of_methodNamed Bd.named
  have hlocks := Bd.notSynchronized
  subst hsz
  have hD := hD0.self (sz := s.heap.size)
  generalize hAe : va_A (w0 a cA B w n st go C fr wy mx ld nu sz pa) s.heap.size = A at hD ⊢
  have hA : ∀ q : Nat, s.heap.size ≤ q → A q := fun q h => by rw [← hAe]; exact Or.inr h
  have E : x0E p s m c cX0_determinant _ dC dI cA := ⟨hx, hb, hts, hown, hK⟩
  have hX : wd (dC, dI) A s.heap (w0 a cA B w n st go C fr wy mx ld nu sz pa) s.heap [] := ⟨hP, hD, va_S.rf⟩
  have hl := lv_entry ([.ref (a 0), .int (nI i)]) (n := 6) (Nat.le_of_ble_eq_true rfl)
  rw [lg_entry_eq]
  generalize (lg_sl ([.ref (a 0), .int (nI i)]) ++ List.replicate (6 - (lg_sl ([.ref (a 0), .int (nI i)])).length) Slot.unset).toArray = ls at hl ⊢
  have hl : lv_has ls 6 [(0, .ref (a 0)), (1, .int (nI i))] := hl
  refine lv_iconst (v := (nI 0)) hx hb dX0_determinant_0 (by decide) ?_
  refine lv_istore_n (lv' := [(2, .int (nI 0)), (0, .ref (a 0)), (1, .int (nI i))]) hx hb dX0_determinant_1 rfl hl (by decide) rfl (fun ls hl => ?_)
  refine lpW (α := Nat × (Nat → Int32)) (F := fun _ ls => F0 m 2 ls []) (I := fun q9 H locs ls => match q9 with | (q, m9) => (q ≤ 16 ∧ (∀ k, k < 16 → m9 k = if k < q then pf_Mx n i mx (k / 4) (k % 4) else mx k)) ∧ wd (dC, dI) A s.heap (w0 a cA B w n st go C fr wy m9 ld nu sz pa) H locs ∧ lv_has ls 6 [(2, .int (nI q)), (1, .int (nI i)), (0, .ref (a 0))]) (μ := fun q9 => match q9 with | (q, m9) => 16 - q) ?_ (0, mx) ⟨⟨Nat.zero_le 16, fun k hk => (if_neg (Nat.not_lt_zero k)).symm⟩, hX, lv_sub hl [0, 2, 1] rfl⟩
  · intro ⟨q, m9⟩ H locs ls hI ih
    obtain ⟨⟨hq, hm⟩, hX, hl⟩ := hI
    refine lv_iload_n hx hb dX0_determinant_2 rfl (lv_at hl 0 rfl) ?_
    refine lv_bipush (v := (nI 16)) hx hb dX0_determinant_3 (by decide) ?_
    refine bn_ge (tgt := 89) hx hb (by omega) (by omega) dX0_determinant_5 (by decide) (fun c1 => ?_) (fun c1 => ?_)
    · obtain rfl : q = 16 := by omega
      refine lv_iload_n hx hb dX0_determinant_89 rfl (lv_at hl 1 rfl) ?_
      refine b0_le (tgt := 100) hx hb (by omega) dX0_determinant_90 (by decide) (fun c2 => ?_) (fun c2 => ?_)
      · refine lv_aload_n hx hb dX0_determinant_100 rfl (lv_at hl 2 rfl) ?_
        refine ca_i (ci := 0) (As := []) (rest := []) ⟨hx, hb, hml, hown, hts⟩ hK hX hA (metX0_allFour l dC dI a cA _ B w n st go C fr wy m9 ld nu sz pa) (cwV 0 hts (lw_V q138 q140 qs10 q25 q141) rfl rfl rfl (by decide +kernel) ⟨Nat.le_of_ble_eq_true rfl, Nat.le_of_ble_eq_true rfl⟩) rfl rfl rfl rfl hl.1 rfl (Nat.le_of_ble_eq_true rfl) dX0_determinant_101 ⟨Nat.le_of_ble_eq_true rfl, Nat.le_of_ble_eq_true rfl⟩ (fun r1 u H locs hr1 hX => ?_)
        exact W.iret (v := r1) hx hb hr (fun T9 hT9 hW9 => ⟨⟨r1, m9, rfl, by rw [hr1]; exact pf_Mx_det hm, by rw [hT9]; exact hX.1, va_K.moved hW9.alike hK, hX.2.1⟩, hX.2.2.F hT9⟩) hX.2.2.2.2 dX0_determinant_104
      · refine lv_aload_n hx hb dX0_determinant_93 rfl (lv_at hl 2 rfl) ?_
        refine ca_i (ci := 0) (As := []) (rest := []) ⟨hx, hb, hml, hown, hts⟩ hK hX hA (metX0_lastThree l dC dI a cA _ B w n st go C fr wy m9 ld nu sz pa) (cwV 0 hts (lw_V q130 q132 qs8 q25 q133) rfl rfl rfl (by decide +kernel) ⟨Nat.le_of_ble_eq_true rfl, Nat.le_of_ble_eq_true rfl⟩) rfl rfl rfl rfl hl.1 rfl (Nat.le_of_ble_eq_true rfl) dX0_determinant_94 ⟨Nat.le_of_ble_eq_true rfl, Nat.le_of_ble_eq_true rfl⟩ (fun r1 u H locs hr1 hX => ?_)
        refine lv_goto (tgt := 104) hx hb dX0_determinant_97 (by decide) ?_
        exact W.iret (v := r1) hx hb hr (fun T9 hT9 hW9 => ⟨⟨r1, m9, rfl, by rw [hr1]; exact pf_Mx_d3 c2 hm, by rw [hT9]; exact hX.1, va_K.moved hW9.alike hK, hX.2.1⟩, hX.2.2.F hT9⟩) hX.2.2.2.2 dX0_determinant_104
    · refine lv_iload_n hx hb dX0_determinant_8 rfl (lv_at hl 0 rfl) ?_
      refine lv_iconst (v := (nI 2)) hx hb dX0_determinant_9 (by decide) ?_
      refine lv_ishr hx hb dX0_determinant_10 ?_
      refine tp (y := (nI (q / 4))) (pf_sh2 c1) ?_
      refine lv_istore_n (lv' := [(3, .int (nI (q / 4))), (2, .int (nI q)), (1, .int (nI i)), (0, .ref (a 0))]) hx hb dX0_determinant_11 rfl hl (by decide) rfl (fun ls hl => ?_)
      refine lv_iload_n hx hb dX0_determinant_12 rfl (lv_at hl 1 rfl) ?_
      refine lv_iconst (v := (nI 3)) hx hb dX0_determinant_13 (by decide) ?_
      refine lv_iand hx hb dX0_determinant_14 ?_
      refine tp (y := (nI (q % 4))) (pf_an3 c1) ?_
      refine lv_istore (lv' := [(4, .int (nI (q % 4))), (3, .int (nI (q / 4))), (2, .int (nI q)), (1, .int (nI i)), (0, .ref (a 0))]) hx hb dX0_determinant_15 hl (by decide) rfl (fun ls hl => ?_)
      refine lv_iload_n hx hb dX0_determinant_17 rfl (lv_at hl 1 rfl) ?_
      refine lv_iload_n hx hb dX0_determinant_18 rfl (lv_at hl 3 rfl) ?_
      refine jnV (pc := 50) (ls := ls) (rest := []) (b2 (decide ((i ≤ q / 4 ∧ q / 4 < n) ∧ (i ≤ q % 4 ∧ q % 4 < n)))) (fun J => ?_) ?_
      · refine bn_lt (tgt := 49) hx hb (by omega) (by omega) dX0_determinant_19 (by decide) (fun c2 => ?_) (fun c2 => ?_)
        · refine lv_iconst (v := (nI 0)) hx hb dX0_determinant_49 (by decide) ?_
          exact J _ (by rw [decide_eq_false (by omega)]; rfl)
        · refine lv_iload_n hx hb dX0_determinant_22 rfl (lv_at hl 1 rfl) ?_
          refine lv_aload_n hx hb dX0_determinant_23 rfl (lv_at hl 4 rfl) ?_
          refine x0_g2 E hX dX0_determinant_24 ?_
          refine bn_ge (tgt := 49) hx hb (by omega) (by omega) dX0_determinant_27 (by decide) (fun c3 => ?_) (fun c3 => ?_)
          · refine lv_iconst (v := (nI 0)) hx hb dX0_determinant_49 (by decide) ?_
            exact J _ (by rw [decide_eq_false (by omega)]; rfl)
          · refine lv_iload hx hb dX0_determinant_30 (lv_at hl 0 rfl) ?_
            refine lv_iload_n hx hb dX0_determinant_32 rfl (lv_at hl 3 rfl) ?_
            refine bn_lt (tgt := 49) hx hb (by omega) (by omega) dX0_determinant_33 (by decide) (fun c4 => ?_) (fun c4 => ?_)
            · refine lv_iconst (v := (nI 0)) hx hb dX0_determinant_49 (by decide) ?_
              exact J _ (by rw [decide_eq_false (by omega)]; rfl)
            · refine lv_iload hx hb dX0_determinant_36 (lv_at hl 0 rfl) ?_
              refine lv_aload_n hx hb dX0_determinant_38 rfl (lv_at hl 4 rfl) ?_
              refine x0_g2 E hX dX0_determinant_39 ?_
              refine bn_ge (tgt := 49) hx hb (by omega) (by omega) dX0_determinant_42 (by decide) (fun c5 => ?_) (fun c5 => ?_)
              · refine lv_iconst (v := (nI 0)) hx hb dX0_determinant_49 (by decide) ?_
                exact J _ (by rw [decide_eq_false (by omega)]; rfl)
              · refine lv_iconst (v := (nI 1)) hx hb dX0_determinant_45 (by decide) ?_
                refine lv_goto (tgt := 50) hx hb dX0_determinant_46 (by decide) ?_
                exact J _ (by rw [decide_eq_true (by omega)]; rfl)
      · refine lv_istore (lv' := [(5, .int (b2 (decide ((i ≤ q / 4 ∧ q / 4 < n) ∧ (i ≤ q % 4 ∧ q % 4 < n))))), (4, .int (nI (q % 4))), (3, .int (nI (q / 4))), (2, .int (nI q)), (1, .int (nI i)), (0, .ref (a 0))]) hx hb dX0_determinant_50 hl (by decide) rfl (fun ls hl => ?_)
        refine lv_aload_n hx hb dX0_determinant_52 rfl (lv_at hl 5 rfl) ?_
        refine x0_g8 E hX dX0_determinant_53 ?_
        refine lv_iload_n hx hb dX0_determinant_56 rfl (lv_at hl 3 rfl) ?_
        refine lv_iload hx hb dX0_determinant_57 (lv_at hl 0 rfl) ?_
        refine jnV (pc := 82) (ls := ls) (rest := [.int (nI q), .ref (a 8)]) (if (i ≤ q / 4 ∧ q / 4 < n) ∧ (i ≤ q % 4 ∧ q % 4 < n) then m9 q else if q / 4 = q % 4 then 1 else 0) (fun J2 => ?_) ?_
        · refine bz_eq (tgt := 71) hx hb dX0_determinant_59 (by decide) (fun c2 => ?_) (fun c2 => ?_)
          · refine lv_iload_n hx hb dX0_determinant_71 rfl (lv_at hl 2 rfl) ?_
            refine lv_iload hx hb dX0_determinant_72 (lv_at hl 1 rfl) ?_
            refine bn_ne (tgt := 81) hx hb (by omega) (by omega) dX0_determinant_74 (by decide) (fun c3 => ?_) (fun c3 => ?_)
            · refine lv_iconst (v := (nI 0)) hx hb dX0_determinant_81 (by decide) ?_
              exact J2 _ (by rw [if_neg (of_decide_eq_false c2), if_neg c3]; rfl)
            · refine lv_iconst (v := (nI 1)) hx hb dX0_determinant_77 (by decide) ?_
              refine lv_goto (tgt := 82) hx hb dX0_determinant_78 (by decide) ?_
              exact J2 _ (by rw [if_neg (of_decide_eq_false c2), if_pos c3]; rfl)
          · refine lv_aload_n hx hb dX0_determinant_62 rfl (lv_at hl 5 rfl) ?_
            refine x0_g8 E hX dX0_determinant_63 ?_
            refine lv_iload_n hx hb dX0_determinant_66 rfl (lv_at hl 3 rfl) ?_
            refine x0_l8 E hX (by omega) dX0_determinant_67 ?_
            refine lv_goto (tgt := 82) hx hb dX0_determinant_68 (by decide) ?_
            exact J2 _ (by rw [if_pos (of_decide_eq_true c2)])
        · refine x0_s8 E hX (by omega) dX0_determinant_82 (fun H locs hX => ?_)
          refine lv_iinc (v := (nI (q + 1))) (lv' := [(2, .int (nI (q + 1))), (5, .int (b2 (decide ((i ≤ q / 4 ∧ q / 4 < n) ∧ (i ≤ q % 4 ∧ q % 4 < n))))), (4, .int (nI (q % 4))), (3, .int (nI (q / 4))), (1, .int (nI i)), (0, .ref (a 0))]) hx hb dX0_determinant_83 hl (k := 3) rfl (nI_1 _) (by decide) rfl (fun ls hl => ?_)
          refine lv_goto (tgt := 2) hx hb dX0_determinant_86 (by decide) ?_
          exact ih (q + 1, upd m9 q (if (i ≤ q / 4 ∧ q / 4 < n) ∧ (i ≤ q % 4 ∧ q % 4 < n) then m9 q else if q / 4 = q % 4 then 1 else 0)) _ _ _ ⟨⟨by omega, pf_Mx_step hm c1⟩, hX, lv_sub hl [0, 4, 5] rfl⟩ (by dsimp only; omega)
set_option maxHeartbeats 4000000 in
set_option maxRecDepth 100000 in
theorem metX0_reopen (l : Launch) (dC : Nat → ClassId) (dI : Nat → Nat → Nat) (a : Nat → Nat) (cA : Nat → ClassId) (hz : Nat) (B : Nat → Bool) (w : Nat → Int32) (n : Nat) (st : Nat → Nat) (go : Nat → Nat) (C : Nat → Bool) (fr : Nat → Nat) (wy : Nat → Int32) (mx : Nat → Int32) (ld : Bool) (nu : Int32) (sz : Nat → Nat) (pa : Nat → Nat)  (hn : n ≤ 4) (hst : ∀ k, k < n → st k < 5) : Met l yX0_reopen (ws_ yX0_reopen cX0_reopen 2 none) ({ frames := 0, cells := 0, slots := 0, locals := 0 }) (va_Pc [.ref (a 0)] (pcW (dC, dI) (t0 cA) hz (w0 a cA B w n st go C fr wy mx ld nu sz pa))) (va_Qv (fun (u9 : (Nat → Bool) × (Nat → Nat)) => match u9 with | (C9, f9) => (∀ j, j < 30 → C9 j = false) ∧ (∀ j, j < n → f9 j = st j)) (fun (u9 : (Nat → Bool) × (Nat → Nat)) t => bW (dC, dI) (t0 cA) (va_A (w0 a cA B w n st go C fr wy mx ld nu sz pa) hz) (match u9 with | (C9, f9) => (w0 a cA B w n st go C9 f9 wy mx ld nu sz pa)) t) (va_A (w0 a cA B w n st go C fr wy mx ld nu sz pa) hz)) 0 0 (va_A (w0 a cA B w n st go C fr wy mx ld nu sz pa) hz) := by
  refine Met.ofW (cc := cX0_reopen) (maxL := 2) (ret := none) (by decide) rfl ?_
  intro p e s m args below meth c s₁ Bd hml hv
  obtain ⟨rfl, hsz, hP, hK, hD0⟩ := hv
  have hx := Bd.exec
  have hb := Bd.bytes
  have hr := Bd.returns
  have hts := atoms_spec (ws := ws_ yX0_reopen cX0_reopen 2 none) Bd.pre
  have hts : ∀ w ∈ lw_all, w.before _ s = true := fun w h => hts w (List.mem_cons_of_mem _ h)
  have hown : s.vm.findClass RX0 = some m.cls := findClass_of_methodNamed Bd.named
  have hlocks := Bd.notSynchronized
  subst hsz
  have hD := hD0.self (sz := s.heap.size)
  generalize hAe : va_A (w0 a cA B w n st go C fr wy mx ld nu sz pa) s.heap.size = A at hD ⊢
  have hA : ∀ q : Nat, s.heap.size ≤ q → A q := fun q h => by rw [← hAe]; exact Or.inr h
  have E : x0E p s m c cX0_reopen _ dC dI cA := ⟨hx, hb, hts, hown, hK⟩
  have hX : wd (dC, dI) A s.heap (w0 a cA B w n st go C fr wy mx ld nu sz pa) s.heap [] := ⟨hP, hD, va_S.rf⟩
  have hl := lv_entry ([.ref (a 0)]) (n := 2) (Nat.le_of_ble_eq_true rfl)
  rw [lg_entry_eq]
  generalize (lg_sl ([.ref (a 0)]) ++ List.replicate (2 - (lg_sl ([.ref (a 0)])).length) Slot.unset).toArray = ls at hl ⊢
  have hl : lv_has ls 2 [(0, .ref (a 0))] := hl
  refine lv_iconst (v := (nI 0)) hx hb dX0_reopen_0 (by decide) ?_
  refine lv_istore_n (lv' := [(1, .int (nI 0)), (0, .ref (a 0))]) hx hb dX0_reopen_1 rfl hl (by decide) rfl (fun ls hl => ?_)
  refine lpW (α := Nat × (Nat → Bool)) (F := fun _ ls => F0 m 2 ls []) (I := fun q9 H locs ls => match q9 with | (q, C9) => (q ≤ 30 ∧ (∀ j, j < q → C9 j = false)) ∧ wd (dC, dI) A s.heap (w0 a cA B w n st go C9 fr wy mx ld nu sz pa) H locs ∧ lv_has ls 2 [(1, .int (nI q)), (0, .ref (a 0))]) (μ := fun q9 => match q9 with | (q, C9) => 30 - q) ?_ (0, C) ⟨⟨Nat.zero_le 30, fun j hj => absurd hj (Nat.not_lt_zero j)⟩, hX, lv_sub hl [0, 1] rfl⟩
  · intro ⟨q, C9⟩ H locs ls hI ih
    obtain ⟨⟨hq, hc⟩, hX, hl⟩ := hI
    refine lv_iload_n hx hb dX0_reopen_2 rfl (lv_at hl 0 rfl) ?_
    refine lv_bipush (v := (nI 30)) hx hb dX0_reopen_3 (by decide) ?_
    refine bn_ge (tgt := 21) hx hb (by omega) (by omega) dX0_reopen_5 (by decide) (fun c1 => ?_) (fun c1 => ?_)
    · obtain rfl : q = 30 := by omega
      refine lv_iconst (v := (nI 0)) hx hb dX0_reopen_21 (by decide) ?_
      refine lv_istore_n (lv' := [(1, .int (nI 0)), (0, .ref (a 0))]) hx hb dX0_reopen_22 rfl hl (by decide) rfl (fun ls hl => ?_)
      refine lpW (α := Nat × (Nat → Nat)) (F := fun _ ls => F0 m 23 ls []) (I := fun q9 H locs ls => match q9 with | (q, f9) => (q ≤ n ∧ (∀ j, j < q → f9 j = st j)) ∧ wd (dC, dI) A s.heap (w0 a cA B w n st go C9 f9 wy mx ld nu sz pa) H locs ∧ lv_has ls 2 [(1, .int (nI q)), (0, .ref (a 0))]) (μ := fun q9 => match q9 with | (q, f9) => n - q) ?_ (0, fr) ⟨⟨Nat.zero_le n, fun j hj => absurd hj (Nat.not_lt_zero j)⟩, hX, lv_sub hl [0, 1] rfl⟩
      · intro ⟨q, f9⟩ H locs ls hI ih2
        obtain ⟨⟨hq, hf⟩, hX, hl⟩ := hI
        refine lv_iload_n hx hb dX0_reopen_23 rfl (lv_at hl 0 rfl) ?_
        refine lv_aload_n hx hb dX0_reopen_24 rfl (lv_at hl 1 rfl) ?_
        refine x0_g2 E hX dX0_reopen_25 ?_
        refine bn_ge (tgt := 49) hx hb (by omega) (by omega) dX0_reopen_28 (by decide) (fun c2 => ?_) (fun c2 => ?_)
        · obtain rfl : q = n := by omega
          have hq9 := hf
          exact W.vret hx hb hr (fun T9 hT9 hW9 => ⟨⟨(C9, f9), rfl, ⟨hc, hf⟩, by rw [hT9]; exact hX.1, va_K.moved hW9.alike hK, hX.2.1⟩, hX.2.2.F hT9⟩) hX.2.2.2.2 dX0_reopen_49
        · have hs9 := hst q c2
          refine lv_aload_n hx hb dX0_reopen_31 rfl (lv_at hl 1 rfl) ?_
          refine x0_g6 E hX dX0_reopen_32 ?_
          refine lv_iload_n hx hb dX0_reopen_35 rfl (lv_at hl 0 rfl) ?_
          refine lv_aload_n hx hb dX0_reopen_36 rfl (lv_at hl 1 rfl) ?_
          refine x0_g3 E hX dX0_reopen_37 ?_
          refine lv_iload_n hx hb dX0_reopen_40 rfl (lv_at hl 0 rfl) ?_
          refine x0_l3 E hX (by omega) dX0_reopen_41 ?_
          refine x0_s6 E hX (by omega) (by omega) dX0_reopen_42 (fun H locs hX => ?_)
          refine lv_iinc (v := (nI (q + 1))) (lv' := [(1, .int (nI (q + 1))), (0, .ref (a 0))]) hx hb dX0_reopen_43 hl (k := 0) rfl (nI_1 _) (by decide) rfl (fun ls hl => ?_)
          refine lv_goto (tgt := 23) hx hb dX0_reopen_46 (by decide) ?_
          have hf9 : ∀ j, j < q + 1 → (va_up f9 q (st q)) j = st j := by
            intro j hj
            by_cases e : j = q
            · rw [e]; exact if_pos rfl
            · exact (if_neg e).trans (hf j (by omega))
          exact ih2 (q + 1, va_up f9 q (st q)) _ _ _ ⟨⟨by omega, hf9⟩, hX, lv_sub hl [0, 1] rfl⟩ (by dsimp only; omega)
    · refine lv_aload_n hx hb dX0_reopen_8 rfl (lv_at hl 1 rfl) ?_
      refine x0_g5 E hX dX0_reopen_9 ?_
      refine lv_iload_n hx hb dX0_reopen_12 rfl (lv_at hl 0 rfl) ?_
      refine lv_iconst (v := (nI 0)) hx hb dX0_reopen_13 (by decide) ?_
      refine tp (y := (b2 false)) rfl ?_
      refine x0_s5 E hX (by omega) dX0_reopen_14 (fun H locs hX => ?_)
      refine lv_iinc (v := (nI (q + 1))) (lv' := [(1, .int (nI (q + 1))), (0, .ref (a 0))]) hx hb dX0_reopen_15 hl (k := 0) rfl (nI_1 _) (by decide) rfl (fun ls hl => ?_)
      refine lv_goto (tgt := 2) hx hb dX0_reopen_18 (by decide) ?_
      have hf9 : ∀ j, j < q + 1 → (va_up C9 q false) j = false := by
        intro j hj
        by_cases e : j = q
        · exact if_pos e
        · exact (if_neg e).trans (hc j (by omega))
      exact ih (q + 1, va_up C9 q false) _ _ _ ⟨⟨by omega, hf9⟩, hX, lv_sub hl [0, 1] rfl⟩ (by dsimp only; omega)
set_option maxHeartbeats 4000000 in
set_option maxRecDepth 100000 in
theorem metX0_findWays (l : Launch) (dC : Nat → ClassId) (dI : Nat → Nat → Nat) (a : Nat → Nat) (cA : Nat → ClassId) (hz : Nat) (B : Nat → Bool) (w : Nat → Int32) (n : Nat) (st : Nat → Nat) (go : Nat → Nat) (C : Nat → Bool) (fr : Nat → Nat) (wy : Nat → Int32) (mx : Nat → Int32) (ld : Bool) (nu : Int32) (sz : Nat → Nat) (pa : Nat → Nat) (v : Nat) (wt : Bool) (hv : v < 30) : Met l yX0_findWays (ws_ yX0_findWays cX0_findWays 8 none) ({ frames := 0, cells := 0, slots := 0, locals := 0 }) (va_Pc [.ref (a 0), .int (nI v), .int (b2 wt)] (pcW (dC, dI) (t0 cA) hz (w0 a cA B w n st go C fr wy mx ld nu sz pa))) (va_Qv (fun (u9 : Nat → Int32) => match u9 with | y9 => ∀ j, j < 30 → y9 j = pf_W (pf_a B C wt w) v j) (fun (u9 : Nat → Int32) t => bW (dC, dI) (t0 cA) (va_A (w0 a cA B w n st go C fr wy mx ld nu sz pa) hz) (match u9 with | y9 => (w0 a cA B w n st go C fr y9 mx ld nu sz pa)) t) (va_A (w0 a cA B w n st go C fr wy mx ld nu sz pa) hz)) 0 0 (va_A (w0 a cA B w n st go C fr wy mx ld nu sz pa) hz) := by
  refine Met.ofW (cc := cX0_findWays) (maxL := 8) (ret := none) (by decide) rfl ?_
  intro p e s m args below meth c s₁ Bd hml hv
  obtain ⟨rfl, hsz, hP, hK, hD0⟩ := hv
  have hx := Bd.exec
  have hb := Bd.bytes
  have hr := Bd.returns
  have hts := atoms_spec (ws := ws_ yX0_findWays cX0_findWays 8 none) Bd.pre
  have hts : ∀ w ∈ lw_all, w.before _ s = true := fun w h => hts w (List.mem_cons_of_mem _ h)
  have hown : s.vm.findClass RX0 = some m.cls := findClass_of_methodNamed Bd.named
  have hlocks := Bd.notSynchronized
  subst hsz
  have hD := hD0.self (sz := s.heap.size)
  generalize hAe : va_A (w0 a cA B w n st go C fr wy mx ld nu sz pa) s.heap.size = A at hD ⊢
  have hA : ∀ q : Nat, s.heap.size ≤ q → A q := fun q h => by rw [← hAe]; exact Or.inr h
  have E : x0E p s m c cX0_findWays _ dC dI cA := ⟨hx, hb, hts, hown, hK⟩
  have hX : wd (dC, dI) A s.heap (w0 a cA B w n st go C fr wy mx ld nu sz pa) s.heap [] := ⟨hP, hD, va_S.rf⟩
  have hl := lv_entry ([.ref (a 0), .int (nI v), .int (b2 wt)]) (n := 8) (Nat.le_of_ble_eq_true rfl)
  rw [lg_entry_eq]
  generalize (lg_sl ([.ref (a 0), .int (nI v), .int (b2 wt)]) ++ List.replicate (8 - (lg_sl ([.ref (a 0), .int (nI v), .int (b2 wt)])).length) Slot.unset).toArray = ls at hl ⊢
  have hl : lv_has ls 8 [(0, .ref (a 0)), (1, .int (nI v)), (2, .int (b2 wt))] := hl
  refine lv_iconst (v := (nI 0)) hx hb dX0_findWays_0 (by decide) ?_
  refine lv_istore_n (lv' := [(3, .int (nI 0)), (0, .ref (a 0)), (1, .int (nI v)), (2, .int (b2 wt))]) hx hb dX0_findWays_1 rfl hl (by decide) rfl (fun ls hl => ?_)
  refine lpW (α := Nat × (Nat → Int32)) (F := fun _ ls => F0 m 2 ls []) (I := fun q9 H locs ls => match q9 with | (q, y9) => (q ≤ 30 ∧ (∀ j, j < q → y9 j = pf_W (pf_a B C wt w) v j)) ∧ wd (dC, dI) A s.heap (w0 a cA B w n st go C fr y9 mx ld nu sz pa) H locs ∧ lv_has ls 8 [(3, .int (nI q)), (2, .int (b2 wt)), (1, .int (nI v)), (0, .ref (a 0))]) (μ := fun q9 => match q9 with | (q, y9) => 30 - q) ?_ (0, wy) ⟨⟨Nat.zero_le 30, fun j hj => absurd hj (Nat.not_lt_zero j)⟩, hX, lv_sub hl [0, 3, 2, 1] rfl⟩
  · intro ⟨q, y9⟩ H locs ls hI ih
    obtain ⟨⟨hq, hy⟩, hX, hl⟩ := hI
    refine lv_iload_n hx hb dX0_findWays_2 rfl (lv_at hl 0 rfl) ?_
    refine lv_bipush (v := (nI 30)) hx hb dX0_findWays_3 (by decide) ?_
    refine bn_ge (tgt := 127) hx hb (by omega) (by omega) dX0_findWays_5 (by decide) (fun c1 => ?_) (fun c1 => ?_)
    · obtain rfl : q = 30 := by omega
      exact W.vret hx hb hr (fun T9 hT9 hW9 => ⟨⟨y9, rfl, hy, by rw [hT9]; exact hX.1, va_K.moved hW9.alike hK, hX.2.1⟩, hX.2.2.F hT9⟩) hX.2.2.2.2 dX0_findWays_127
    · refine lv_iload_n hx hb dX0_findWays_8 rfl (lv_at hl 0 rfl) ?_
      refine lv_iconst (v := (nI 5)) hx hb dX0_findWays_9 (by decide) ?_
      refine lv_irem hx hb dX0_findWays_10 (by decide) ?_
      refine tp (y := (nI (q % 5))) (pk_rem (by omega) (by decide) (by decide)) ?_
      refine jnV (pc := 26) (ls := ls) (rest := []) (if 0 < q % 5 then y9 (q - 1) else 0) (fun J1 => ?_) ?_
      · refine b0_le (tgt := 25) hx hb (by omega) dX0_findWays_11 (by decide) (fun c2 => ?_) (fun c2 => ?_)
        · refine lv_iconst (v := (nI 0)) hx hb dX0_findWays_25 (by decide) ?_
          exact J1 _ (by rw [if_neg (by omega)]; rfl)
        · refine lv_aload_n hx hb dX0_findWays_14 rfl (lv_at hl 3 rfl) ?_
          refine x0_g7 E hX dX0_findWays_15 ?_
          refine lv_iload_n hx hb dX0_findWays_18 rfl (lv_at hl 0 rfl) ?_
          refine lv_iconst (v := (nI 1)) hx hb dX0_findWays_19 (by decide) ?_
          refine lv_isub hx hb dX0_findWays_20 ?_
          refine tp (y := (nI (q - 1))) (pk_sub (by omega)) ?_
          refine x0_l7 E hX (by omega) dX0_findWays_21 ?_
          refine lv_goto (tgt := 26) hx hb dX0_findWays_22 (by decide) ?_
          exact J1 _ (by rw [if_pos c2])
      · refine lv_istore (lv' := [(4, .int (if 0 < q % 5 then y9 (q - 1) else 0)), (3, .int (nI q)), (2, .int (b2 wt)), (1, .int (nI v)), (0, .ref (a 0))]) hx hb dX0_findWays_26 hl (by decide) rfl (fun ls hl => ?_)
        refine lv_iload_n hx hb dX0_findWays_28 rfl (lv_at hl 1 rfl) ?_
        refine lv_iconst (v := (nI 5)) hx hb dX0_findWays_29 (by decide) ?_
        refine jnV (pc := 45) (ls := ls) (rest := []) (if 5 ≤ q then y9 (q - 5) else 0) (fun J2 => ?_) ?_
        · refine bn_lt (tgt := 44) hx hb (by omega) (by omega) dX0_findWays_30 (by decide) (fun c2 => ?_) (fun c2 => ?_)
          · refine lv_iconst (v := (nI 0)) hx hb dX0_findWays_44 (by decide) ?_
            exact J2 _ (by rw [if_neg (by omega)]; rfl)
          · refine lv_aload_n hx hb dX0_findWays_33 rfl (lv_at hl 4 rfl) ?_
            refine x0_g7 E hX dX0_findWays_34 ?_
            refine lv_iload_n hx hb dX0_findWays_37 rfl (lv_at hl 1 rfl) ?_
            refine lv_iconst (v := (nI 5)) hx hb dX0_findWays_38 (by decide) ?_
            refine lv_isub hx hb dX0_findWays_39 ?_
            refine tp (y := (nI (q - 5))) (pk_sub (by omega)) ?_
            refine x0_l7 E hX (by omega) dX0_findWays_40 ?_
            refine lv_goto (tgt := 45) hx hb dX0_findWays_41 (by decide) ?_
            exact J2 _ (by rw [if_pos c2])
        · refine lv_istore (lv' := [(5, .int (if 5 ≤ q then y9 (q - 5) else 0)), (4, .int (if 0 < q % 5 then y9 (q - 1) else 0)), (3, .int (nI q)), (2, .int (b2 wt)), (1, .int (nI v)), (0, .ref (a 0))]) hx hb dX0_findWays_45 hl (by decide) rfl (fun ls hl => ?_)
          refine lv_iload_n hx hb dX0_findWays_47 rfl (lv_at hl 2 rfl) ?_
          refine lv_iload_n hx hb dX0_findWays_48 rfl (lv_at hl 4 rfl) ?_
          refine jnV (pc := 70) (ls := ls) (rest := []) (if q < v then 0 else if q = v then 1 else (if 0 < q % 5 then y9 (q - 1) else 0) + (if 5 ≤ q then y9 (q - 5) else 0)) (fun J3 => ?_) ?_
          · refine bn_ge (tgt := 56) hx hb (by omega) (by omega) dX0_findWays_49 (by decide) (fun c2 => ?_) (fun c2 => ?_)
            · refine lv_iload_n hx hb dX0_findWays_56 rfl (lv_at hl 2 rfl) ?_
              refine lv_iload_n hx hb dX0_findWays_57 rfl (lv_at hl 4 rfl) ?_
              refine bn_ne (tgt := 65) hx hb (by omega) (by omega) dX0_findWays_58 (by decide) (fun c3 => ?_) (fun c3 => ?_)
              · refine lv_iload hx hb dX0_findWays_65 (lv_at hl 1 rfl) ?_
                refine lv_iload hx hb dX0_findWays_67 (lv_at hl 0 rfl) ?_
                refine lv_iadd hx hb dX0_findWays_69 ?_
                exact J3 _ (by rw [if_neg (show ¬ q < v by omega), if_neg c3])
              · refine lv_iconst (v := (nI 1)) hx hb dX0_findWays_61 (by decide) ?_
                refine lv_goto (tgt := 70) hx hb dX0_findWays_62 (by decide) ?_
                exact J3 _ (by rw [if_neg (show ¬ q < v by omega), if_pos c3]; rfl)
            · refine lv_iconst (v := (nI 0)) hx hb dX0_findWays_52 (by decide) ?_
              refine lv_goto (tgt := 70) hx hb dX0_findWays_53 (by decide) ?_
              exact J3 _ (by rw [if_pos c2]; rfl)
          · refine lv_istore (lv' := [(6, .int (if q < v then 0 else if q = v then 1 else (if 0 < q % 5 then y9 (q - 1) else 0) + (if 5 ≤ q then y9 (q - 5) else 0))), (5, .int (if 5 ≤ q then y9 (q - 5) else 0)), (4, .int (if 0 < q % 5 then y9 (q - 1) else 0)), (3, .int (nI q)), (2, .int (b2 wt)), (1, .int (nI v)), (0, .ref (a 0))]) hx hb dX0_findWays_70 hl (by decide) rfl (fun ls hl => ?_)
            refine lv_iload_n hx hb dX0_findWays_72 rfl (lv_at hl 4 rfl) ?_
            refine jnV (pc := 86) (ls := ls) (rest := []) (if wt = true then w q else 1) (fun J4 => ?_) ?_
            · refine bz_eq (tgt := 85) hx hb dX0_findWays_73 (by decide) (fun c2 => ?_) (fun c2 => ?_)
              · refine lv_iconst (v := (nI 1)) hx hb dX0_findWays_85 (by decide) ?_
                exact J4 _ (by rw [c2]; rfl)
              · refine lv_aload_n hx hb dX0_findWays_76 rfl (lv_at hl 6 rfl) ?_
                refine x0_g1 E hX dX0_findWays_77 ?_
                refine lv_iload_n hx hb dX0_findWays_80 rfl (lv_at hl 3 rfl) ?_
                refine x0_l2 E hX (by omega) dX0_findWays_81 ?_
                refine lv_goto (tgt := 86) hx hb dX0_findWays_82 (by decide) ?_
                exact J4 _ (by rw [c2]; rfl)
            · refine lv_istore (lv' := [(7, .int (if wt = true then w q else 1)), (6, .int (if q < v then 0 else if q = v then 1 else (if 0 < q % 5 then y9 (q - 1) else 0) + (if 5 ≤ q then y9 (q - 5) else 0))), (5, .int (if 5 ≤ q then y9 (q - 5) else 0)), (4, .int (if 0 < q % 5 then y9 (q - 1) else 0)), (3, .int (nI q)), (2, .int (b2 wt)), (1, .int (nI v)), (0, .ref (a 0))]) hx hb dX0_findWays_86 hl (by decide) rfl (fun ls hl => ?_)
              refine lv_aload_n hx hb dX0_findWays_88 rfl (lv_at hl 7 rfl) ?_
              refine x0_g7 E hX dX0_findWays_89 ?_
              refine lv_iload_n hx hb dX0_findWays_92 rfl (lv_at hl 4 rfl) ?_
              refine lv_aload_n hx hb dX0_findWays_93 rfl (lv_at hl 7 rfl) ?_
              refine x0_g0 E hX dX0_findWays_94 ?_
              refine lv_iload_n hx hb dX0_findWays_97 rfl (lv_at hl 4 rfl) ?_
              refine x0_l1 E hX (by omega) dX0_findWays_98 ?_
              refine jnV (pc := 120) (ls := ls) (rest := [.int (nI q), .ref (a 7)]) (if (B q || C q) = true then 0 else (if q < v then 0 else if q = v then 1 else (if 0 < q % 5 then y9 (q - 1) else 0) + (if 5 ≤ q then y9 (q - 5) else 0)) * (if wt = true then w q else 1)) (fun J5 => ?_) ?_
              · refine bz_ne (tgt := 111) hx hb dX0_findWays_99 (by decide) (fun c2 => ?_) (fun c2 => ?_)
                · refine lv_iconst (v := (nI 0)) hx hb dX0_findWays_111 (by decide) ?_
                  refine lv_goto (tgt := 120) hx hb dX0_findWays_112 (by decide) ?_
                  exact J5 _ (by rw [c2]; rfl)
                · refine lv_aload_n hx hb dX0_findWays_102 rfl (lv_at hl 7 rfl) ?_
                  refine x0_g5 E hX dX0_findWays_103 ?_
                  refine lv_iload_n hx hb dX0_findWays_106 rfl (lv_at hl 4 rfl) ?_
                  refine x0_l5 E hX (by omega) dX0_findWays_107 ?_
                  refine bz_eq (tgt := 115) hx hb dX0_findWays_108 (by decide) (fun c3 => ?_) (fun c3 => ?_)
                  · refine lv_iload hx hb dX0_findWays_115 (lv_at hl 1 rfl) ?_
                    refine lv_iload hx hb dX0_findWays_117 (lv_at hl 0 rfl) ?_
                    refine lv_imul hx hb dX0_findWays_119 ?_
                    exact J5 _ (by rw [c2, c3]; rfl)
                  · refine lv_iconst (v := (nI 0)) hx hb dX0_findWays_111 (by decide) ?_
                    refine lv_goto (tgt := 120) hx hb dX0_findWays_112 (by decide) ?_
                    exact J5 _ (by rw [c2, c3]; rfl)
              · refine x0_s7 E hX (by omega) dX0_findWays_120 (fun H locs hX => ?_)
                refine lv_iinc (v := (nI (q + 1))) (lv' := [(3, .int (nI (q + 1))), (7, .int (if wt = true then w q else 1)), (6, .int (if q < v then 0 else if q = v then 1 else (if 0 < q % 5 then y9 (q - 1) else 0) + (if 5 ≤ q then y9 (q - 5) else 0))), (5, .int (if 5 ≤ q then y9 (q - 5) else 0)), (4, .int (if 0 < q % 5 then y9 (q - 1) else 0)), (2, .int (b2 wt)), (1, .int (nI v)), (0, .ref (a 0))]) hx hb dX0_findWays_121 hl (k := 4) rfl (nI_1 _) (by decide) rfl (fun ls hl => ?_)
                refine lv_goto (tgt := 2) hx hb dX0_findWays_124 (by decide) ?_
                exact ih (q + 1, upd y9 q (if (B q || C q) = true then 0 else (if q < v then 0 else if q = v then 1 else (if 0 < q % 5 then y9 (q - 1) else 0) + (if 5 ≤ q then y9 (q - 5) else 0)) * (if wt = true then w q else 1))) _ _ _ ⟨⟨by omega, pf_ways hy⟩, hX, lv_sub hl [0, 5, 6, 7] rfl⟩ (by dsimp only; omega)
set_option maxHeartbeats 4000000 in
set_option maxRecDepth 100000 in
theorem metX0_fillMatrix (l : Launch) (dC : Nat → ClassId) (dI : Nat → Nat → Nat) (a : Nat → Nat) (cA : Nat → ClassId) (hz : Nat) (B : Nat → Bool) (w : Nat → Int32) (n : Nat) (st : Nat → Nat) (go : Nat → Nat) (C : Nat → Bool) (fr : Nat → Nat) (wy : Nat → Int32) (mx : Nat → Int32) (ld : Bool) (nu : Int32) (sz : Nat → Nat) (pa : Nat → Nat) (i : Nat) (wt : Bool) (hn : n ≤ 4) (hi : i ≤ n) (hfr : ∀ k, i ≤ k → k < n → fr k < 30) (hgo : ∀ k, k < n → go k < 30) : Met l yX0_fillMatrix (ws_ yX0_fillMatrix cX0_fillMatrix 5 none) ({ frames := 1, cells := 0, slots := 0, locals := 27 }) (va_Pc [.ref (a 0), .int (nI i), .int (b2 wt)] (pcW (dC, dI) (t0 cA) hz (w0 a cA B w n st go C fr wy mx ld nu sz pa))) (va_Qv (fun (u9 : (Nat → Int32) × (Nat → Int32)) => match u9 with | (y9, m9) => ∀ q c, i ≤ q → q < n → i ≤ c → c < n → m9 (4 * q + c) = pf_W (pf_a B C wt w) (fr q) (go c)) (fun (u9 : (Nat → Int32) × (Nat → Int32)) t => bW (dC, dI) (t0 cA) (va_A (w0 a cA B w n st go C fr wy mx ld nu sz pa) hz) (match u9 with | (y9, m9) => (w0 a cA B w n st go C fr y9 m9 ld nu sz pa)) t) (va_A (w0 a cA B w n st go C fr wy mx ld nu sz pa) hz)) 0 0 (va_A (w0 a cA B w n st go C fr wy mx ld nu sz pa) hz) := by
  refine Met.ofW (cc := cX0_fillMatrix) (maxL := 5) (ret := none) (by decide) rfl ?_
  intro p e s m args below meth c s₁ Bd hml hv
  obtain ⟨rfl, hsz, hP, hK, hD0⟩ := hv
  have hx := Bd.exec
  have hb := Bd.bytes
  have hr := Bd.returns
  have hts := atoms_spec (ws := ws_ yX0_fillMatrix cX0_fillMatrix 5 none) Bd.pre
  have hts : ∀ w ∈ lw_all, w.before _ s = true := fun w h => hts w (List.mem_cons_of_mem _ h)
  have hown : s.vm.findClass RX0 = some m.cls := findClass_of_methodNamed Bd.named
  have hlocks := Bd.notSynchronized
  subst hsz
  have hD := hD0.self (sz := s.heap.size)
  generalize hAe : va_A (w0 a cA B w n st go C fr wy mx ld nu sz pa) s.heap.size = A at hD ⊢
  have hA : ∀ q : Nat, s.heap.size ≤ q → A q := fun q h => by rw [← hAe]; exact Or.inr h
  have E : x0E p s m c cX0_fillMatrix _ dC dI cA := ⟨hx, hb, hts, hown, hK⟩
  have hX : wd (dC, dI) A s.heap (w0 a cA B w n st go C fr wy mx ld nu sz pa) s.heap [] := ⟨hP, hD, va_S.rf⟩
  have hl := lv_entry ([.ref (a 0), .int (nI i), .int (b2 wt)]) (n := 5) (Nat.le_of_ble_eq_true rfl)
  rw [lg_entry_eq]
  generalize (lg_sl ([.ref (a 0), .int (nI i), .int (b2 wt)]) ++ List.replicate (5 - (lg_sl ([.ref (a 0), .int (nI i), .int (b2 wt)])).length) Slot.unset).toArray = ls at hl ⊢
  have hl : lv_has ls 5 [(0, .ref (a 0)), (1, .int (nI i)), (2, .int (b2 wt))] := hl
  refine lv_iload_n hx hb dX0_fillMatrix_0 rfl (lv_at hl 1 rfl) ?_
  refine lv_istore_n (lv' := [(3, .int (nI i)), (0, .ref (a 0)), (1, .int (nI i)), (2, .int (b2 wt))]) hx hb dX0_fillMatrix_1 rfl hl (by decide) rfl (fun ls hl => ?_)
  refine lpW (α := Nat × (Nat → Int32) × (Nat → Int32)) (F := fun _ ls => F0 m 2 ls []) (I := fun q9 H locs ls => match q9 with | (r, y9, m9) => (i ≤ r ∧ r ≤ n ∧ (∀ q c, i ≤ q → q < r → i ≤ c → c < n → m9 (4 * q + c) = pf_W (pf_a B C wt w) (fr q) (go c))) ∧ wd (dC, dI) A s.heap (w0 a cA B w n st go C fr y9 m9 ld nu sz pa) H locs ∧ lv_has ls 5 [(3, .int (nI r)), (2, .int (b2 wt)), (1, .int (nI i)), (0, .ref (a 0))]) (μ := fun q9 => match q9 with | (r, y9, m9) => n - r) ?_ (i, wy, mx) ⟨⟨Nat.le_refl i, hi, fun q c h1 h2 => absurd h2 (by omega)⟩, hX, lv_sub hl [0, 3, 2, 1] rfl⟩
  · intro ⟨r, y9, m9⟩ H locs ls hI ih
    obtain ⟨⟨hr1, hr2, hm⟩, hX, hl⟩ := hI
    refine lv_iload_n hx hb dX0_fillMatrix_2 rfl (lv_at hl 0 rfl) ?_
    refine lv_aload_n hx hb dX0_fillMatrix_3 rfl (lv_at hl 3 rfl) ?_
    refine x0_g2 E hX dX0_fillMatrix_4 ?_
    refine bn_ge (tgt := 68) hx hb (by omega) (by omega) dX0_fillMatrix_7 (by decide) (fun c1 => ?_) (fun c1 => ?_)
    · obtain rfl : r = n := by omega
      exact W.vret hx hb hr (fun T9 hT9 hW9 => ⟨⟨(y9, m9), rfl, hm, by rw [hT9]; exact hX.1, va_K.moved hW9.alike hK, hX.2.1⟩, hX.2.2.F hT9⟩) hX.2.2.2.2 dX0_fillMatrix_68
    · have hf9 := hfr r hr1 c1
      refine lv_aload_n hx hb dX0_fillMatrix_10 rfl (lv_at hl 3 rfl) ?_
      refine lv_aload_n hx hb dX0_fillMatrix_11 rfl (lv_at hl 3 rfl) ?_
      refine x0_g6 E hX dX0_fillMatrix_12 ?_
      refine lv_iload_n hx hb dX0_fillMatrix_15 rfl (lv_at hl 0 rfl) ?_
      refine x0_l6 E hX (by omega) dX0_fillMatrix_16 ?_
      refine lv_iload_n hx hb dX0_fillMatrix_17 rfl (lv_at hl 1 rfl) ?_
      refine ca_v (ci := 0) (As := [.int (nI (fr r)), .int (b2 wt)]) (rest := []) ⟨hx, hb, hml, hown, hts⟩ hK hX hA (metX0_findWays l dC dI a cA _ B w n st go C fr y9 m9 ld nu sz pa (fr r) wt hf9) (cwV 2 hts (lw_V q106 q108 qs3 q25 q109) rfl rfl rfl (by decide +kernel) ⟨Nat.le_of_ble_eq_true rfl, Nat.le_of_ble_eq_true rfl⟩) rfl rfl rfl rfl hl.1 rfl (Nat.le_of_ble_eq_true rfl) dX0_fillMatrix_18 ⟨Nat.le_of_ble_eq_true rfl, Nat.le_of_ble_eq_true rfl⟩ (fun y8 H locs hw hX => ?_)
      have hX : wd (dC, dI) A s.heap (w0 a cA B w n st go C fr y8 m9 ld nu sz pa) H locs := hX
      refine lv_iload_n hx hb dX0_fillMatrix_21 rfl (lv_at hl 2 rfl) ?_
      refine lv_istore (lv' := [(4, .int (nI i)), (3, .int (nI r)), (2, .int (b2 wt)), (1, .int (nI i)), (0, .ref (a 0))]) hx hb dX0_fillMatrix_22 hl (by decide) rfl (fun ls hl => ?_)
      refine lpW (α := Nat × (Nat → Int32)) (F := fun _ ls => F0 m 24 ls []) (I := fun q9 H locs ls => match q9 with | (b, m8) => (i ≤ b ∧ b ≤ n ∧ (∀ q c, i ≤ q → q < r → i ≤ c → c < n → m8 (4 * q + c) = pf_W (pf_a B C wt w) (fr q) (go c)) ∧ (∀ c, i ≤ c → c < b → m8 (4 * r + c) = pf_W (pf_a B C wt w) (fr r) (go c))) ∧ wd (dC, dI) A s.heap (w0 a cA B w n st go C fr y8 m8 ld nu sz pa) H locs ∧ lv_has ls 5 [(4, .int (nI b)), (3, .int (nI r)), (2, .int (b2 wt)), (1, .int (nI i)), (0, .ref (a 0))]) (μ := fun q9 => match q9 with | (b, m8) => n - b) ?_ (i, m9) ⟨⟨Nat.le_refl i, hi, hm, fun c h1 h2 => absurd h2 (by omega)⟩, hX, lv_sub hl [0, 1, 2, 3, 4] rfl⟩
      · intro ⟨b, m8⟩ H locs ls hI ih2
        obtain ⟨⟨hb1, hb2, hm1, hm2⟩, hX, hl⟩ := hI
        refine lv_iload hx hb dX0_fillMatrix_24 (lv_at hl 0 rfl) ?_
        refine lv_aload_n hx hb dX0_fillMatrix_26 rfl (lv_at hl 4 rfl) ?_
        refine x0_g2 E hX dX0_fillMatrix_27 ?_
        refine bn_ge (tgt := 62) hx hb (by omega) (by omega) dX0_fillMatrix_30 (by decide) (fun c2 => ?_) (fun c2 => ?_)
        · obtain rfl : b = n := by omega
          refine lv_iinc (v := (nI (r + 1))) (lv' := [(3, .int (nI (r + 1))), (4, .int (nI b)), (2, .int (b2 wt)), (1, .int (nI i)), (0, .ref (a 0))]) hx hb dX0_fillMatrix_62 hl (k := 1) rfl (nI_1 _) (by decide) rfl (fun ls hl => ?_)
          refine lv_goto (tgt := 2) hx hb dX0_fillMatrix_65 (by decide) ?_
          exact ih (r + 1, y8, m8) _ _ _ ⟨⟨by omega, by omega, pf_fillrow hm1 hm2⟩, hX, lv_sub hl [0, 2, 3, 4] rfl⟩ (by dsimp only; omega)
        · have hg9 := hgo b c2
          refine lv_aload_n hx hb dX0_fillMatrix_33 rfl (lv_at hl 4 rfl) ?_
          refine x0_g8 E hX dX0_fillMatrix_34 ?_
          refine lv_iconst (v := (nI 4)) hx hb dX0_fillMatrix_37 (by decide) ?_
          refine lv_iload_n hx hb dX0_fillMatrix_38 rfl (lv_at hl 1 rfl) ?_
          refine lv_imul hx hb dX0_fillMatrix_39 ?_
          refine tp (y := (nI (4 * r))) (pk_mul _ _) ?_
          refine lv_iload hx hb dX0_fillMatrix_40 (lv_at hl 0 rfl) ?_
          refine lv_iadd hx hb dX0_fillMatrix_42 ?_
          refine tp (y := (nI ((4 * r) + b))) (nI_add _ _) ?_
          refine lv_aload_n hx hb dX0_fillMatrix_43 rfl (lv_at hl 4 rfl) ?_
          refine x0_g7 E hX dX0_fillMatrix_44 ?_
          refine lv_aload_n hx hb dX0_fillMatrix_47 rfl (lv_at hl 4 rfl) ?_
          refine x0_g4 E hX dX0_fillMatrix_48 ?_
          refine lv_iload hx hb dX0_fillMatrix_51 (lv_at hl 0 rfl) ?_
          refine x0_l4 E hX (by omega) dX0_fillMatrix_53 ?_
          refine x0_l7 E hX (by omega) dX0_fillMatrix_54 ?_
          refine x0_s8 E hX (by omega) dX0_fillMatrix_55 (fun H locs hX => ?_)
          refine lv_iinc (v := (nI (b + 1))) (lv' := [(4, .int (nI (b + 1))), (3, .int (nI r)), (2, .int (b2 wt)), (1, .int (nI i)), (0, .ref (a 0))]) hx hb dX0_fillMatrix_56 hl (k := 0) rfl (nI_1 _) (by decide) rfl (fun ls hl => ?_)
          refine lv_goto (tgt := 24) hx hb dX0_fillMatrix_59 (by decide) ?_
          have hs9 := pf_fill (v := y8 (go b)) hn c2 (hw (go b) hg9) hm1 hm2
          exact ih2 (b + 1, upd m8 ((4 * r) + b) (y8 (go b))) _ _ _ ⟨⟨by omega, by omega, hs9.1, hs9.2⟩, hX, lv_sub hl [0, 1, 2, 3, 4] rfl⟩ (by dsimp only; omega)
set_option maxHeartbeats 4000000 in
set_option maxRecDepth 100000 in
theorem metX0_count (l : Launch) (dC : Nat → ClassId) (dI : Nat → Nat → Nat) (a : Nat → Nat) (cA : Nat → ClassId) (hz : Nat) (B : Nat → Bool) (w : Nat → Int32) (n : Nat) (st : Nat → Nat) (go : Nat → Nat) (C : Nat → Bool) (fr : Nat → Nat) (wy : Nat → Int32) (mx : Nat → Int32) (ld : Bool) (nu : Int32) (sz : Nat → Nat) (pa : Nat → Nat) (i : Nat) (wt : Bool) (hn : n ≤ 4) (hi : i < n) (hfr : ∀ k, i ≤ k → k < n → fr k < 30) (hgo : ∀ k, k < n → go k < 30) : Met l yX0_count (ws_ yX0_count cX0_count 3 (some .int)) ({ frames := 3, cells := 0, slots := 0, locals := 77 }) (va_Pc [.ref (a 0), .int (nI i), .int (b2 wt)] (pcW (dC, dI) (t0 cA) hz (w0 a cA B w n st go C fr wy mx ld nu sz pa))) (va_Qi (fun (r : Int32) (u9 : (Nat → Int32) × (Nat → Int32)) => match u9 with | (y9, m9) => r = pf_det (pf_M n go i fr (pf_a B C wt w))) (fun (u9 : (Nat → Int32) × (Nat → Int32)) t => bW (dC, dI) (t0 cA) (va_A (w0 a cA B w n st go C fr wy mx ld nu sz pa) hz) (match u9 with | (y9, m9) => (w0 a cA B w n st go C fr y9 m9 ld nu sz pa)) t) (va_A (w0 a cA B w n st go C fr wy mx ld nu sz pa) hz)) 0 0 (va_A (w0 a cA B w n st go C fr wy mx ld nu sz pa) hz) := by
  refine Met.ofW (cc := cX0_count) (maxL := 3) (ret := (some .int)) (by decide) rfl ?_
  intro p e s m args below meth c s₁ Bd hml hv
  obtain ⟨rfl, hsz, hP, hK, hD0⟩ := hv
  have hx := Bd.exec
  have hb := Bd.bytes
  have hr := Bd.returns
  have hts := atoms_spec (ws := ws_ yX0_count cX0_count 3 (some .int)) Bd.pre
  have hts : ∀ w ∈ lw_all, w.before _ s = true := fun w h => hts w (List.mem_cons_of_mem _ h)
  have hown : s.vm.findClass RX0 = some m.cls := findClass_of_methodNamed Bd.named
  have hlocks := Bd.notSynchronized
  subst hsz
  have hD := hD0.self (sz := s.heap.size)
  generalize hAe : va_A (w0 a cA B w n st go C fr wy mx ld nu sz pa) s.heap.size = A at hD ⊢
  have hA : ∀ q : Nat, s.heap.size ≤ q → A q := fun q h => by rw [← hAe]; exact Or.inr h
  have E : x0E p s m c cX0_count _ dC dI cA := ⟨hx, hb, hts, hown, hK⟩
  have hX : wd (dC, dI) A s.heap (w0 a cA B w n st go C fr wy mx ld nu sz pa) s.heap [] := ⟨hP, hD, va_S.rf⟩
  have hl := lv_entry ([.ref (a 0), .int (nI i), .int (b2 wt)]) (n := 3) (Nat.le_of_ble_eq_true rfl)
  rw [lg_entry_eq]
  generalize (lg_sl ([.ref (a 0), .int (nI i), .int (b2 wt)]) ++ List.replicate (3 - (lg_sl ([.ref (a 0), .int (nI i), .int (b2 wt)])).length) Slot.unset).toArray = ls at hl ⊢
  have hl : lv_has ls 3 [(0, .ref (a 0)), (1, .int (nI i)), (2, .int (b2 wt))] := hl
  refine lv_aload_n hx hb dX0_count_0 rfl (lv_at hl 0 rfl) ?_
  refine lv_iload_n hx hb dX0_count_1 rfl (lv_at hl 1 rfl) ?_
  refine lv_iload_n hx hb dX0_count_2 rfl (lv_at hl 2 rfl) ?_
  refine ca_v (ci := 0) (As := [.int (nI i), .int (b2 wt)]) (rest := []) ⟨hx, hb, hml, hown, hts⟩ hK hX hA (metX0_fillMatrix l dC dI a cA _ B w n st go C fr wy mx ld nu sz pa i wt hn (by omega) hfr hgo) (cwV 2 hts (lw_V q122 q124 qs6 q25 q125) rfl rfl rfl (by decide +kernel) ⟨Nat.le_of_ble_eq_true rfl, Nat.le_of_ble_eq_true rfl⟩) rfl rfl rfl rfl hl.1 rfl (Nat.le_of_ble_eq_true rfl) dX0_count_3 ⟨Nat.le_of_ble_eq_true rfl, Nat.le_of_ble_eq_true rfl⟩ (fun ⟨y9, m8⟩ H locs hw hX => ?_)
  have hX : wd (dC, dI) A s.heap (w0 a cA B w n st go C fr y9 m8 ld nu sz pa) H locs := hX
  refine lv_aload_n hx hb dX0_count_6 rfl (lv_at hl 0 rfl) ?_
  refine lv_iload_n hx hb dX0_count_7 rfl (lv_at hl 1 rfl) ?_
  refine ca_i (ci := 0) (As := [.int (nI i)]) (rest := []) ⟨hx, hb, hml, hown, hts⟩ hK hX hA (metX0_determinant l dC dI a cA _ B w n st go C fr y9 m8 ld nu sz pa i hn hi) (cwV 1 hts (lw_V q126 q128 qs7 q25 q129) rfl rfl rfl (by decide +kernel) ⟨Nat.le_of_ble_eq_true rfl, Nat.le_of_ble_eq_true rfl⟩) rfl rfl rfl rfl hl.1 rfl (Nat.le_of_ble_eq_true rfl) dX0_count_8 ⟨Nat.le_of_ble_eq_true rfl, Nat.le_of_ble_eq_true rfl⟩ (fun r1 m9 H locs hw2 hX => ?_)
  have hX : wd (dC, dI) A s.heap (w0 a cA B w n st go C fr y9 m9 ld nu sz pa) H locs := hX
  exact W.iret (v := r1) hx hb hr (fun T9 hT9 hW9 => ⟨⟨r1, (y9, m9), rfl, by rw [hw2, pf_Mx_M hw], by rw [hT9]; exact hX.1, va_K.moved hW9.alike hK, hX.2.1⟩, hX.2.2.F hT9⟩) hX.2.2.2.2 dX0_count_11
set_option maxHeartbeats 4000000 in
set_option maxRecDepth 100000 in
theorem metX0_countWithout (l : Launch) (dC : Nat → ClassId) (dI : Nat → Nat → Nat) (a : Nat → Nat) (cA : Nat → ClassId) (hz : Nat) (B : Nat → Bool) (w : Nat → Int32) (n : Nat) (st : Nat → Nat) (go : Nat → Nat) (C : Nat → Bool) (fr : Nat → Nat) (wy : Nat → Int32) (mx : Nat → Int32) (ld : Bool) (nu : Int32) (sz : Nat → Nat) (pa : Nat → Nat) (p1 : Option Nat) (p2 : Option Nat) (hwf : pf_wf n st go) (hp1 : ∀ k, p1 = some k → k < 30) (hp2 : ∀ k, p2 = some k → k < 30) : Met l yX0_countWithout (ws_ yX0_countWithout cX0_countWithout 3 (some .int)) ({ frames := 4, cells := 0, slots := 0, locals := 99 }) (va_Pc [.ref (a 0), .int (pf_o p1), .int (pf_o p2)] (pcW (dC, dI) (t0 cA) hz (w0 a cA B w n st go C fr wy mx ld nu sz pa))) (va_Qi (fun (r : Int32) (u9 : (Nat → Bool) × (Nat → Nat) × (Nat → Int32) × (Nat → Int32)) => match u9 with | (C9, f9, y9, m9) => r = pf_cw n st go B p1 p2) (fun (u9 : (Nat → Bool) × (Nat → Nat) × (Nat → Int32) × (Nat → Int32)) t => bW (dC, dI) (t0 cA) (va_A (w0 a cA B w n st go C fr wy mx ld nu sz pa) hz) (match u9 with | (C9, f9, y9, m9) => (w0 a cA B w n st go C9 f9 y9 m9 ld nu sz pa)) t) (va_A (w0 a cA B w n st go C fr wy mx ld nu sz pa) hz)) 0 0 (va_A (w0 a cA B w n st go C fr wy mx ld nu sz pa) hz) := by
  refine Met.ofW (cc := cX0_countWithout) (maxL := 3) (ret := (some .int)) (by decide) rfl ?_
  intro p e s m args below meth c s₁ Bd hml hv
  obtain ⟨rfl, hsz, hP, hK, hD0⟩ := hv
  have hx := Bd.exec
  have hb := Bd.bytes
  have hr := Bd.returns
  have hts := atoms_spec (ws := ws_ yX0_countWithout cX0_countWithout 3 (some .int)) Bd.pre
  have hts : ∀ w ∈ lw_all, w.before _ s = true := fun w h => hts w (List.mem_cons_of_mem _ h)
  have hown : s.vm.findClass RX0 = some m.cls := findClass_of_methodNamed Bd.named
  have hlocks := Bd.notSynchronized
  subst hsz
  have hD := hD0.self (sz := s.heap.size)
  generalize hAe : va_A (w0 a cA B w n st go C fr wy mx ld nu sz pa) s.heap.size = A at hD ⊢
  have hA : ∀ q : Nat, s.heap.size ≤ q → A q := fun q h => by rw [← hAe]; exact Or.inr h
  have E : x0E p s m c cX0_countWithout _ dC dI cA := ⟨hx, hb, hts, hown, hK⟩
  have hX : wd (dC, dI) A s.heap (w0 a cA B w n st go C fr wy mx ld nu sz pa) s.heap [] := ⟨hP, hD, va_S.rf⟩
  have hl := lv_entry ([.ref (a 0), .int (pf_o p1), .int (pf_o p2)]) (n := 3) (Nat.le_of_ble_eq_true rfl)
  rw [lg_entry_eq]
  generalize (lg_sl ([.ref (a 0), .int (pf_o p1), .int (pf_o p2)]) ++ List.replicate (3 - (lg_sl ([.ref (a 0), .int (pf_o p1), .int (pf_o p2)])).length) Slot.unset).toArray = ls at hl ⊢
  have hl : lv_has ls 3 [(0, .ref (a 0)), (1, .int (pf_o p1)), (2, .int (pf_o p2))] := hl
  obtain ⟨hn1, hn4, hst, hgo, -, -⟩ := id hwf
  refine lv_aload_n hx hb dX0_countWithout_0 rfl (lv_at hl 0 rfl) ?_
  refine ca_v (ci := 0) (As := []) (rest := []) ⟨hx, hb, hml, hown, hts⟩ hK hX hA (metX0_reopen l dC dI a cA _ B w n st go C fr wy mx ld nu sz pa hn4 hst) (cwV 0 hts (lw_V q102 q104 qs2 q25 q105) rfl rfl rfl (by decide +kernel) ⟨Nat.le_of_ble_eq_true rfl, Nat.le_of_ble_eq_true rfl⟩) rfl rfl rfl rfl hl.1 rfl (Nat.le_of_ble_eq_true rfl) dX0_countWithout_1 ⟨Nat.le_of_ble_eq_true rfl, Nat.le_of_ble_eq_true rfl⟩ (fun ⟨C0, f9⟩ H locs hw hX => ?_)
  have hX : wd (dC, dI) A s.heap (w0 a cA B w n st go C0 f9 wy mx ld nu sz pa) H locs := hX
  obtain ⟨hc0, hf9⟩ := hw
  refine lv_iload_n hx hb dX0_countWithout_4 rfl (lv_at hl 1 rfl) ?_
  refine jnW (α := Nat → Bool) (F := fun _ ls => F0 m 15 ls []) (I := fun q9 H locs ls => match q9 with | C1 => (∀ j, j < 30 → C1 j = decide (some j = p1)) ∧ wd (dC, dI) A s.heap (w0 a cA B w n st go C1 f9 wy mx ld nu sz pa) H locs ∧ lv_has ls 3 [(2, .int (pf_o p2)), (0, .ref (a 0))]) (fun J1 => ?_) ?_
  · refine lv_if_lt (tgt := 15) hx hb dX0_countWithout_5 (by decide) (fun c1 => ?_) (fun c1 => ?_)
    · obtain rfl : p1 = none := pf_o_lt c1 hp1
      exact J1 C0 _ _ _ ⟨fun j hj => by rw [hc0 j hj]; rfl, hX, lv_sub hl [2, 0] rfl⟩
    · obtain ⟨j1, rfl, hj1⟩ := pf_o_ge c1 hp1
      have hl : lv_has ls 3 [(0, .ref (a 0)), (1, .int (nI j1)), (2, .int (pf_o p2))] := hl
      refine lv_aload_n hx hb dX0_countWithout_8 rfl (lv_at hl 0 rfl) ?_
      refine x0_g5 E hX dX0_countWithout_9 ?_
      refine lv_iload_n hx hb dX0_countWithout_12 rfl (lv_at hl 1 rfl) ?_
      refine lv_iconst (v := (nI 1)) hx hb dX0_countWithout_13 (by decide) ?_
      refine tp (y := (b2 true)) rfl ?_
      refine x0_s5 E hX (by omega) dX0_countWithout_14 (fun H locs hX => ?_)
      refine J1 _ _ _ _ ⟨fun j hj => ?_, hX, lv_sub hl [2, 0] rfl⟩
      by_cases e : j = j1
      · rw [e, decide_eq_true rfl]; exact if_pos rfl
      · rw [decide_eq_false (fun q => e (Option.some.inj q))]; exact (if_neg e).trans (hc0 j hj)
  · intro C1 H locs ls hI
    obtain ⟨hc1, hX, hl⟩ := hI
    refine lv_iload_n hx hb dX0_countWithout_15 rfl (lv_at hl 0 rfl) ?_
    refine jnW (α := Nat → Bool) (F := fun _ ls => F0 m 26 ls []) (I := fun q9 H locs ls => match q9 with | C2 => (∀ j, j < 30 → C2 j = (decide (some j = p1) || decide (some j = p2))) ∧ wd (dC, dI) A s.heap (w0 a cA B w n st go C2 f9 wy mx ld nu sz pa) H locs ∧ lv_has ls 3 [(0, .ref (a 0))]) (fun J2 => ?_) ?_
    · refine lv_if_lt (tgt := 26) hx hb dX0_countWithout_16 (by decide) (fun c2 => ?_) (fun c2 => ?_)
      · obtain rfl : p2 = none := pf_o_lt c2 hp2
        exact J2 C1 _ _ _ ⟨fun j hj => by rw [hc1 j hj]; simp, hX, lv_sub hl [1] rfl⟩
      · obtain ⟨j2, rfl, hj2⟩ := pf_o_ge c2 hp2
        have hl : lv_has ls 3 [(2, .int (nI j2)), (0, .ref (a 0))] := hl
        refine lv_aload_n hx hb dX0_countWithout_19 rfl (lv_at hl 1 rfl) ?_
        refine x0_g5 E hX dX0_countWithout_20 ?_
        refine lv_iload_n hx hb dX0_countWithout_23 rfl (lv_at hl 0 rfl) ?_
        refine lv_iconst (v := (nI 1)) hx hb dX0_countWithout_24 (by decide) ?_
        refine tp (y := (b2 true)) rfl ?_
        refine x0_s5 E hX (by omega) dX0_countWithout_25 (fun H locs hX => ?_)
        refine J2 _ _ _ _ ⟨fun j hj => ?_, hX, lv_sub hl [1] rfl⟩
        by_cases e : j = j2
        · rw [e, decide_eq_true (p := some j2 = some j2) rfl, Bool.or_true]; exact if_pos rfl
        · rw [decide_eq_false (p := some j = some j2) (fun q => e (Option.some.inj q)), Bool.or_false]; exact (if_neg e).trans (hc1 j hj)
    · intro C2 H locs ls hI
      obtain ⟨hc2, hX, hl⟩ := hI
      refine lv_aload_n hx hb dX0_countWithout_26 rfl (lv_at hl 0 rfl) ?_
      refine lv_iconst (v := (nI 0)) hx hb dX0_countWithout_27 (by decide) ?_
      refine lv_iconst (v := (nI 0)) hx hb dX0_countWithout_28 (by decide) ?_
      refine tp (y := (b2 false)) rfl ?_
      refine ca_i (ci := 0) (As := [.int (nI 0), .int (b2 false)]) (rest := []) ⟨hx, hb, hml, hown, hts⟩ hK hX hA (metX0_count l dC dI a cA _ B w n st go C2 f9 wy mx ld nu sz pa 0 false hn4 (by omega) (fun k _ hk => by rw [hf9 k hk]; have := hst k hk; omega) (fun k hk => (hgo k hk).2)) (cwV 2 hts (lw_V q118 q120 qs5 q25 q121) rfl rfl rfl (by decide +kernel) ⟨Nat.le_of_ble_eq_true rfl, Nat.le_of_ble_eq_true rfl⟩) rfl rfl rfl rfl hl.1 rfl (Nat.le_of_ble_eq_true rfl) dX0_countWithout_29 ⟨Nat.le_of_ble_eq_true rfl, Nat.le_of_ble_eq_true rfl⟩ (fun r1 ⟨y9, m9⟩ H locs hw2 hX => ?_)
      have hX : wd (dC, dI) A s.heap (w0 a cA B w n st go C2 f9 y9 m9 ld nu sz pa) H locs := hX
      exact W.iret (v := r1) hx hb hr (fun T9 hT9 hW9 => ⟨⟨r1, (C2, f9, y9, m9), rfl, by rw [hw2]; exact pf_cw_eq (fun k hk => (hgo k hk).2) hf9 hc2, by rw [hT9]; exact hX.1, va_K.moved hW9.alike hK, hX.2.1⟩, hX.2.2.F hT9⟩) hX.2.2.2.2 dX0_countWithout_32
end
section
set_option maxRecDepth 100000
theorem pf_pc_5 {j r : Nat} (h : r ≤ 5) : pf_pc j r ≤ pf_pc j 5 := by
  have hm : ∀ d r, pf_pc j r ≤ pf_pc j (r + d) := by
    intro d
    induction d with
    | zero => intro r; exact Nat.le_refl _
    | succ d ih => intro r; exact Nat.le_trans (ih r) (Nat.le_add_right _ _)
  have := hm (5 - r) r
  rwa [show r + (5 - r) = 5 by omega] at this
set_option maxHeartbeats 4000000 in
set_option maxRecDepth 100000 in
theorem metX0_ends (l : Launch) (dC : Nat → ClassId) (dI : Nat → Nat → Nat) (a : Nat → Nat) (cA : Nat → ClassId) (hz : Nat) (B : Nat → Bool) (w : Nat → Int32) (n : Nat) (st : Nat → Nat) (go : Nat → Nat) (C : Nat → Bool) (fr : Nat → Nat) (wy : Nat → Int32) (mx : Nat → Int32) (ld : Bool) (nu : Int32) (sz : Nat → Nat) (pa : Nat → Nat) (x : Int32) (y : Int32)  : Met l yX0_ends (ws_ yX0_ends cX0_ends 8 (some .int)) ({ frames := 1, cells := 0, slots := 0, locals := 23 }) (va_Pc [.ref (a 0), .int x, .int y] (pcW (dC, dI) (t0 cA) hz (w0 a cA B w n st go C fr wy mx ld nu sz pa))) (va_Qi (fun (r : Int32) (u9 : Nat × (Nat → Nat) × (Nat → Nat) × Bool) => match u9 with | (n9, s9, g9, l9) => r = (if pf_eo x y = true then nI n9 else -1) ∧ (n9, s9, g9) = op_en n st go x y ∧ l9 = (if pf_eo x y = true then false else ld)) (fun (u9 : Nat × (Nat → Nat) × (Nat → Nat) × Bool) t => bW (dC, dI) (t0 cA) (va_A (w0 a cA B w n st go C fr wy mx ld nu sz pa) hz) (match u9 with | (n9, s9, g9, l9) => (w0 a cA B w n9 s9 g9 C fr wy mx l9 nu sz pa)) t) (va_A (w0 a cA B w n st go C fr wy mx ld nu sz pa) hz)) 0 0 (va_A (w0 a cA B w n st go C fr wy mx ld nu sz pa) hz) := by
  refine Met.ofW (cc := cX0_ends) (maxL := 8) (ret := (some .int)) (by decide) rfl ?_
  intro p e s m args below meth c s₁ Bd hml hv
  obtain ⟨rfl, hsz, hP, hK, hD0⟩ := hv
  have hx := Bd.exec
  have hb := Bd.bytes
  have hr := Bd.returns
  have hts := atoms_spec (ws := ws_ yX0_ends cX0_ends 8 (some .int)) Bd.pre
  have hts : ∀ w ∈ lw_all, w.before _ s = true := fun w h => hts w (List.mem_cons_of_mem _ h)
  have hown : s.vm.findClass RX0 = some m.cls := findClass_of_methodNamed Bd.named
  have hlocks := Bd.notSynchronized
  subst hsz
  have hD := hD0.self (sz := s.heap.size)
  generalize hAe : va_A (w0 a cA B w n st go C fr wy mx ld nu sz pa) s.heap.size = A at hD ⊢
  have hA : ∀ q : Nat, s.heap.size ≤ q → A q := fun q h => by rw [← hAe]; exact Or.inr h
  have E : x0E p s m c cX0_ends _ dC dI cA := ⟨hx, hb, hts, hown, hK⟩
  have hX : wd (dC, dI) A s.heap (w0 a cA B w n st go C fr wy mx ld nu sz pa) s.heap [] := ⟨hP, hD, va_S.rf⟩
  have hl := lv_entry ([.ref (a 0), .int x, .int y]) (n := 8) (Nat.le_of_ble_eq_true rfl)
  rw [lg_entry_eq]
  generalize (lg_sl ([.ref (a 0), .int x, .int y]) ++ List.replicate (8 - (lg_sl ([.ref (a 0), .int x, .int y])).length) Slot.unset).toArray = ls at hl ⊢
  have hl : lv_has ls 8 [(0, .ref (a 0)), (1, .int x), (2, .int y)] := hl
  refine lv_iload_n hx hb dX0_ends_0 rfl (lv_at hl 1 rfl) ?_
  refine lv_iconst (v := (nI 1)) hx hb dX0_ends_1 (by decide) ?_
  refine lv_icmp_lt (tgt := 22) hx hb dX0_ends_2 (by decide) (fun c1 => ?_) (fun c1 => ?_)
  · refine lv_iconst (v := (-1)) hx hb dX0_ends_22 (by decide) ?_
    have he := pf_eo_1 (x := x) (y := y) (Or.inl c1)
    exact W.iret (v := (-1)) hx hb hr (fun T9 hT9 hW9 => ⟨⟨(-1), (n, st, go, ld), rfl, ⟨by rw [he]; rfl, (op_en_out he).symm, by rw [he]; rfl⟩, by rw [hT9]; exact hX.1, va_K.moved hW9.alike hK, hX.2.1⟩, hX.2.2.F hT9⟩) hX.2.2.2.2 dX0_ends_23
  · refine lv_iload_n hx hb dX0_ends_5 rfl (lv_at hl 1 rfl) ?_
    refine lv_bipush (v := (nI 31)) hx hb dX0_ends_6 (by decide) ?_
    refine lv_icmp_gt (tgt := 22) hx hb dX0_ends_8 (by decide) (fun c2 => ?_) (fun c2 => ?_)
    · refine lv_iconst (v := (-1)) hx hb dX0_ends_22 (by decide) ?_
      have he := pf_eo_1 (x := x) (y := y) (Or.inr (Or.inl c2))
      exact W.iret (v := (-1)) hx hb hr (fun T9 hT9 hW9 => ⟨⟨(-1), (n, st, go, ld), rfl, ⟨by rw [he]; rfl, (op_en_out he).symm, by rw [he]; rfl⟩, by rw [hT9]; exact hX.1, va_K.moved hW9.alike hK, hX.2.1⟩, hX.2.2.F hT9⟩) hX.2.2.2.2 dX0_ends_23
    · refine lv_iload_n hx hb dX0_ends_11 rfl (lv_at hl 2 rfl) ?_
      refine lv_iconst (v := (nI 1)) hx hb dX0_ends_12 (by decide) ?_
      refine lv_icmp_lt (tgt := 22) hx hb dX0_ends_13 (by decide) (fun c3 => ?_) (fun c3 => ?_)
      · refine lv_iconst (v := (-1)) hx hb dX0_ends_22 (by decide) ?_
        have he := pf_eo_1 (x := x) (y := y) (Or.inr (Or.inr (Or.inl c3)))
        exact W.iret (v := (-1)) hx hb hr (fun T9 hT9 hW9 => ⟨⟨(-1), (n, st, go, ld), rfl, ⟨by rw [he]; rfl, (op_en_out he).symm, by rw [he]; rfl⟩, by rw [hT9]; exact hX.1, va_K.moved hW9.alike hK, hX.2.1⟩, hX.2.2.F hT9⟩) hX.2.2.2.2 dX0_ends_23
      · refine lv_iload_n hx hb dX0_ends_16 rfl (lv_at hl 2 rfl) ?_
        refine lv_bipush (v := (nI 31)) hx hb dX0_ends_17 (by decide) ?_
        refine lv_icmp_le (tgt := 24) hx hb dX0_ends_19 (by decide) (fun c4 => ?_) (fun c4 => ?_)
        · obtain ⟨j, hj1, hj2, rfl⟩ := pf_32 c1 c2
          obtain ⟨k, hk1, hk2, rfl⟩ := pf_32 c3 (Int32.not_lt.mpr c4)
          refine lv_aload_n hx hb dX0_ends_24 rfl (lv_at hl 0 rfl) ?_
          refine lv_iload_n hx hb dX0_ends_25 rfl (lv_at hl 1 rfl) ?_
          refine ca_i (ci := 0) (As := [.int (nI j)]) (rest := []) ⟨hx, hb, hml, hown, hts⟩ hK hX hA (metX0_sizeOf l dC dI a cA _ B w n st go C fr wy mx ld nu sz pa j hj2) (cwV 1 hts (lw_V q82 q84 qs0 q25 q85) rfl rfl rfl (by decide +kernel) ⟨Nat.le_of_ble_eq_true rfl, Nat.le_of_ble_eq_true rfl⟩) rfl rfl rfl rfl hl.1 rfl (Nat.le_of_ble_eq_true rfl) dX0_ends_26 ⟨Nat.le_of_ble_eq_true rfl, Nat.le_of_ble_eq_true rfl⟩ (fun r1 _ H locs hr1 hX => ?_)
          subst hr1
          refine lv_istore_n (lv' := [(3, .int (nI (pf_pc j 5))), (0, .ref (a 0)), (1, .int (nI j)), (2, .int (nI k))]) hx hb dX0_ends_29 rfl hl (by decide) rfl (fun ls hl => ?_)
          refine lv_aload_n hx hb dX0_ends_30 rfl (lv_at hl 1 rfl) ?_
          refine lv_iload_n hx hb dX0_ends_31 rfl (lv_at hl 3 rfl) ?_
          refine ca_i (ci := 0) (As := [.int (nI k)]) (rest := []) ⟨hx, hb, hml, hown, hts⟩ hK hX hA (metX0_sizeOf l dC dI a cA _ B w n st go C fr wy mx ld nu sz pa k hk2) (cwV 1 hts (lw_V q82 q84 qs0 q25 q85) rfl rfl rfl (by decide +kernel) ⟨Nat.le_of_ble_eq_true rfl, Nat.le_of_ble_eq_true rfl⟩) rfl rfl rfl rfl hl.1 rfl (Nat.le_of_ble_eq_true rfl) dX0_ends_32 ⟨Nat.le_of_ble_eq_true rfl, Nat.le_of_ble_eq_true rfl⟩ (fun r2 _ H locs hr2 hX => ?_)
          subst hr2
          have hpj := pf_pc_le j 5
          have hpk := pf_pc_le k 5
          refine lv_istore (lv' := [(4, .int (nI (pf_pc k 5))), (3, .int (nI (pf_pc j 5))), (0, .ref (a 0)), (1, .int (nI j)), (2, .int (nI k))]) hx hb dX0_ends_35 hl (by decide) rfl (fun ls hl => ?_)
          refine lv_iload_n hx hb dX0_ends_37 rfl (lv_at hl 1 rfl) ?_
          refine lv_iload hx hb dX0_ends_38 (lv_at hl 0 rfl) ?_
          refine bn_ne (tgt := 48) hx hb (by omega) (by omega) dX0_ends_40 (by decide) (fun c5 => ?_) (fun c5 => ?_)
          · have he : pf_eo (nI j) (nI k) = false := by rw [pf_eo_in hj1 hj2 hk1 hk2]; exact decide_eq_false (fun q => c5 q.1)
            refine lv_iconst (v := (-1)) hx hb dX0_ends_48 (by decide) ?_
            exact W.iret (v := (-1)) hx hb hr (fun T9 hT9 hW9 => ⟨⟨(-1), (n, st, go, ld), rfl, ⟨by rw [he]; rfl, (op_en_out he).symm, by rw [he]; rfl⟩, by rw [hT9]; exact hX.1, va_K.moved hW9.alike hK, hX.2.1⟩, hX.2.2.F hT9⟩) hX.2.2.2.2 dX0_ends_49
          · refine lv_iload_n hx hb dX0_ends_43 rfl (lv_at hl 1 rfl) ?_
            refine lv_iconst (v := (nI 4)) hx hb dX0_ends_44 (by decide) ?_
            refine bn_le (tgt := 50) hx hb (by omega) (by omega) dX0_ends_45 (by decide) (fun c6 => ?_) (fun c6 => ?_)
            · refine lv_iconst (v := (nI 0)) hx hb dX0_ends_50 (by decide) ?_
              refine lv_istore (lv' := [(5, .int (nI 0)), (4, .int (nI (pf_pc k 5))), (3, .int (nI (pf_pc j 5))), (0, .ref (a 0)), (1, .int (nI j)), (2, .int (nI k))]) hx hb dX0_ends_51 hl (by decide) rfl (fun ls hl => ?_)
              refine lv_iconst (v := (nI 0)) hx hb dX0_ends_53 (by decide) ?_
              refine lv_istore (lv' := [(6, .int (nI 0)), (5, .int (nI 0)), (4, .int (nI (pf_pc k 5))), (3, .int (nI (pf_pc j 5))), (0, .ref (a 0)), (1, .int (nI j)), (2, .int (nI k))]) hx hb dX0_ends_54 hl (by decide) rfl (fun ls hl => ?_)
              refine lv_iconst (v := (nI 0)) hx hb dX0_ends_56 (by decide) ?_
              refine lv_istore (lv' := [(7, .int (nI 0)), (6, .int (nI 0)), (5, .int (nI 0)), (4, .int (nI (pf_pc k 5))), (3, .int (nI (pf_pc j 5))), (0, .ref (a 0)), (1, .int (nI j)), (2, .int (nI k))]) hx hb dX0_ends_57 hl (by decide) rfl (fun ls hl => ?_)
              refine lpW (α := Nat) (F := fun _ ls => F0 m 59 ls []) (I := fun q9 H locs ls => match q9 with | q => q ≤ 5 ∧ wd (dC, dI) A s.heap (w0 a cA B w n (pf_pos st 0 j q) (pf_pos go 25 k q) C fr wy mx ld nu sz pa) H locs ∧ lv_has ls 8 [(7, .int (nI q)), (6, .int (nI (pf_pc k q))), (5, .int (nI (pf_pc j q))), (3, .int (nI (pf_pc j 5))), (2, .int (nI k)), (1, .int (nI j)), (0, .ref (a 0))]) (μ := fun q9 => match q9 with | q => 5 - q) ?_ 0 ⟨Nat.zero_le 5, hX, lv_sub hl [0, 1, 2, 4, 7, 6, 5] rfl⟩
              · intro q H locs ls hI ih
                obtain ⟨hq, hX, hl⟩ := hI
                have hpj := pf_pc_le j q
                have hpk := pf_pc_le k q
                refine lv_iload hx hb dX0_ends_59 (lv_at hl 0 rfl) ?_
                refine lv_iconst (v := (nI 5)) hx hb dX0_ends_61 (by decide) ?_
                refine bn_ge (tgt := 120) hx hb (by omega) (by omega) dX0_ends_62 (by decide) (fun c7 => ?_) (fun c7 => ?_)
                · obtain rfl : q = 5 := by omega
                  refine lv_aload_n hx hb dX0_ends_120 rfl (lv_at hl 6 rfl) ?_
                  refine lv_iload_n hx hb dX0_ends_121 rfl (lv_at hl 3 rfl) ?_
                  refine x0_p2 E hX dX0_ends_122 (fun H locs hX => ?_)
                  refine lv_aload_n hx hb dX0_ends_125 rfl (lv_at hl 6 rfl) ?_
                  refine lv_iconst (v := (nI 0)) hx hb dX0_ends_126 (by decide) ?_
                  refine tp (y := (b2 false)) rfl ?_
                  refine x0_p9 E hX dX0_ends_127 (fun H locs hX => ?_)
                  refine lv_aload_n hx hb dX0_ends_130 rfl (lv_at hl 6 rfl) ?_
                  refine x0_g2 E hX dX0_ends_131 ?_
                  have he : pf_eo (nI j) (nI k) = true := by rw [pf_eo_in hj1 hj2 hk1 hk2]; exact decide_eq_true ⟨c5, c6⟩
                  exact W.iret (v := (nI (pf_pc j 5))) hx hb hr (fun T9 hT9 hW9 => ⟨⟨(nI (pf_pc j 5)), (pf_pc j 5, pf_pos st 0 j 5, pf_pos go 25 k 5, false), rfl, ⟨by rw [he]; rfl, (op_en_in hj1 hj2 hk1 hk2 c5 c6).symm, by rw [he]; rfl⟩, by rw [hT9]; exact hX.1, va_K.moved hW9.alike hK, hX.2.1⟩, hX.2.2.F hT9⟩) hX.2.2.2.2 dX0_ends_134
                · have hmono : pf_pc j q ≤ 4 ∧ pf_pc k q ≤ 4 := by omega
                  refine lv_iload_n hx hb dX0_ends_65 rfl (lv_at hl 5 rfl) ?_
                  refine lv_iload hx hb dX0_ends_66 (lv_at hl 0 rfl) ?_
                  refine lv_ishr hx hb dX0_ends_68 ?_
                  refine lv_iconst (v := (nI 1)) hx hb dX0_ends_69 (by decide) ?_
                  refine lv_iand hx hb dX0_ends_70 ?_
                  refine tp (y := (nI (j / 2 ^ q % 2))) (pf_bit hj2 c7) ?_
                  refine lv_iconst (v := (nI 1)) hx hb dX0_ends_71 (by decide) ?_
                  have hbit : j / 2 ^ q % 2 < 2 := Nat.mod_lt _ (by decide)
                  refine jnW (α := Unit) (F := fun _ ls => F0 m 88 ls []) (I := fun q9 H locs ls => match q9 with | _ => wd (dC, dI) A s.heap (w0 a cA B w n (pf_pos st 0 j (q + 1)) (pf_pos go 25 k q) C fr wy mx ld nu sz pa) H locs ∧ lv_has ls 8 [(7, .int (nI q)), (6, .int (nI (pf_pc k q))), (5, .int (nI (pf_pc j (q + 1)))), (3, .int (nI (pf_pc j 5))), (2, .int (nI k)), (1, .int (nI j)), (0, .ref (a 0))]) (fun J1 => ?_) ?_
                  · refine bn_ne (tgt := 88) hx hb (by omega) (by omega) dX0_ends_72 (by decide) (fun c8 => ?_) (fun c8 => ?_)
                    · exact J1 () _ _ _ ⟨by rw [pf_pos_0 c8]; exact hX, by rw [pf_pc_0 c8]; exact lv_sub hl [0, 1, 2, 3, 4, 5, 6] rfl⟩
                    · have hlt : pf_pc j q < 4 := by have h1 := pf_pc_le j q; have h2 := pf_pc_1 c8; have h3 := pf_pc_5 (j := j) (show q + 1 ≤ 5 by omega); omega
                      refine lv_aload_n hx hb dX0_ends_75 rfl (lv_at hl 6 rfl) ?_
                      refine x0_g3 E hX dX0_ends_76 ?_
                      refine lv_iload hx hb dX0_ends_79 (lv_at hl 2 rfl) ?_
                      refine lv_iload hx hb dX0_ends_81 (lv_at hl 0 rfl) ?_
                      refine lv_i2b (v := (nI q)) hx hb dX0_ends_83 (nI_byte (by omega)) ?_
                      refine x0_s3 E hX (by omega) (by omega) dX0_ends_84 (fun H locs hX => ?_)
                      refine lv_iinc (v := (nI (pf_pc j q + 1))) (lv' := [(5, .int (nI (pf_pc j q + 1))), (7, .int (nI q)), (6, .int (nI (pf_pc k q))), (3, .int (nI (pf_pc j 5))), (2, .int (nI k)), (1, .int (nI j)), (0, .ref (a 0))]) hx hb dX0_ends_85 hl (k := 2) rfl (nI_1 _) (by decide) rfl (fun ls hl => ?_)
                      exact J1 () _ _ _ ⟨by rw [pf_pos_1 c8, Nat.zero_add]; exact hX, by rw [pf_pc_1 c8]; exact lv_sub hl [1, 2, 0, 3, 4, 5, 6] rfl⟩
                  · intro _ H locs ls hI
                    obtain ⟨hX, hl⟩ := hI
                    have hbit2 : k / 2 ^ q % 2 < 2 := Nat.mod_lt _ (by decide)
                    refine lv_iload_n hx hb dX0_ends_88 rfl (lv_at hl 4 rfl) ?_
                    refine lv_iload hx hb dX0_ends_89 (lv_at hl 0 rfl) ?_
                    refine lv_ishr hx hb dX0_ends_91 ?_
                    refine lv_iconst (v := (nI 1)) hx hb dX0_ends_92 (by decide) ?_
                    refine lv_iand hx hb dX0_ends_93 ?_
                    refine tp (y := (nI (k / 2 ^ q % 2))) (pf_bit hk2 c7) ?_
                    refine lv_iconst (v := (nI 1)) hx hb dX0_ends_94 (by decide) ?_
                    refine jnW (α := Unit) (F := fun _ ls => F0 m 114 ls []) (I := fun q9 H locs ls => match q9 with | _ => wd (dC, dI) A s.heap (w0 a cA B w n (pf_pos st 0 j (q + 1)) (pf_pos go 25 k (q + 1)) C fr wy mx ld nu sz pa) H locs ∧ lv_has ls 8 [(7, .int (nI q)), (6, .int (nI (pf_pc k (q + 1)))), (5, .int (nI (pf_pc j (q + 1)))), (3, .int (nI (pf_pc j 5))), (2, .int (nI k)), (1, .int (nI j)), (0, .ref (a 0))]) (fun J2 => ?_) ?_
                    · refine bn_ne (tgt := 114) hx hb (by omega) (by omega) dX0_ends_95 (by decide) (fun c9 => ?_) (fun c9 => ?_)
                      · exact J2 () _ _ _ ⟨by rw [pf_pos_0 c9]; exact hX, by rw [pf_pc_0 c9]; exact lv_sub hl [0, 1, 2, 3, 4, 5, 6] rfl⟩
                      · have hlt : pf_pc k q < 4 := by have h1 := pf_pc_le k q; have h2 := pf_pc_1 c9; have h3 := pf_pc_5 (j := k) (show q + 1 ≤ 5 by omega); omega
                        refine lv_aload_n hx hb dX0_ends_98 rfl (lv_at hl 6 rfl) ?_
                        refine x0_g4 E hX dX0_ends_99 ?_
                        refine lv_iload hx hb dX0_ends_102 (lv_at hl 1 rfl) ?_
                        refine lv_bipush (v := (nI 25)) hx hb dX0_ends_104 (by decide) ?_
                        refine lv_iload hx hb dX0_ends_106 (lv_at hl 0 rfl) ?_
                        refine lv_iadd hx hb dX0_ends_108 ?_
                        refine tp (y := (nI (25 + q))) (nI_add _ _) ?_
                        refine lv_i2b (v := (nI (25 + q))) hx hb dX0_ends_109 (nI_byte (by omega)) ?_
                        refine x0_s4 E hX (by omega) (by omega) dX0_ends_110 (fun H locs hX => ?_)
                        refine lv_iinc (v := (nI (pf_pc k q + 1))) (lv' := [(6, .int (nI (pf_pc k q + 1))), (7, .int (nI q)), (5, .int (nI (pf_pc j (q + 1)))), (3, .int (nI (pf_pc j 5))), (2, .int (nI k)), (1, .int (nI j)), (0, .ref (a 0))]) hx hb dX0_ends_111 hl (k := 1) rfl (nI_1 _) (by decide) rfl (fun ls hl => ?_)
                        exact J2 () _ _ _ ⟨by rw [pf_pos_1 c9]; exact hX, by rw [pf_pc_1 c9]; exact lv_sub hl [1, 0, 2, 3, 4, 5, 6] rfl⟩
                    · intro _ H locs ls hI
                      obtain ⟨hX, hl⟩ := hI
                      refine lv_iinc (v := (nI (q + 1))) (lv' := [(7, .int (nI (q + 1))), (6, .int (nI (pf_pc k (q + 1)))), (5, .int (nI (pf_pc j (q + 1)))), (3, .int (nI (pf_pc j 5))), (2, .int (nI k)), (1, .int (nI j)), (0, .ref (a 0))]) hx hb dX0_ends_114 hl (k := 0) rfl (nI_1 _) (by decide) rfl (fun ls hl => ?_)
                      refine lv_goto (tgt := 59) hx hb dX0_ends_117 (by decide) ?_
                      exact ih (q + 1) _ _ _ ⟨by omega, hX, lv_sub hl [0, 1, 2, 3, 4, 5, 6] rfl⟩ (by dsimp only; omega)
            · have he : pf_eo (nI j) (nI k) = false := by rw [pf_eo_in hj1 hj2 hk1 hk2]; exact decide_eq_false (fun q => absurd q.2 (by omega))
              refine lv_iconst (v := (-1)) hx hb dX0_ends_48 (by decide) ?_
              exact W.iret (v := (-1)) hx hb hr (fun T9 hT9 hW9 => ⟨⟨(-1), (n, st, go, ld), rfl, ⟨by rw [he]; rfl, (op_en_out he).symm, by rw [he]; rfl⟩, by rw [hT9]; exact hX.1, va_K.moved hW9.alike hK, hX.2.1⟩, hX.2.2.F hT9⟩) hX.2.2.2.2 dX0_ends_49
        · refine lv_iconst (v := (-1)) hx hb dX0_ends_22 (by decide) ?_
          have he := pf_eo_1 (x := x) (y := y) (Or.inr (Or.inr (Or.inr (Int32.not_le.mp c4))))
          exact W.iret (v := (-1)) hx hb hr (fun T9 hT9 hW9 => ⟨⟨(-1), (n, st, go, ld), rfl, ⟨by rw [he]; rfl, (op_en_out he).symm, by rw [he]; rfl⟩, by rw [hT9]; exact hX.1, va_K.moved hW9.alike hK, hX.2.1⟩, hX.2.2.F hT9⟩) hX.2.2.2.2 dX0_ends_23
set_option maxHeartbeats 4000000 in
set_option maxRecDepth 100000 in
theorem metX0_block (l : Launch) (dC : Nat → ClassId) (dI : Nat → Nat → Nat) (a : Nat → Nat) (cA : Nat → ClassId) (hz : Nat) (B : Nat → Bool) (w : Nat → Int32) (n : Nat) (st : Nat → Nat) (go : Nat → Nat) (C : Nat → Bool) (fr : Nat → Nat) (wy : Nat → Int32) (mx : Nat → Int32) (ld : Bool) (nu : Int32) (sz : Nat → Nat) (pa : Nat → Nat) (x : Int32) (y : Int32)  : Met l yX0_block (ws_ yX0_block cX0_block 4 (some .int)) ({ frames := 1, cells := 0, slots := 0, locals := 21 }) (va_Pc [.ref (a 0), .int x, .int y] (pcW (dC, dI) (t0 cA) hz (w0 a cA B w n st go C fr wy mx ld nu sz pa))) (va_Qi (fun (r : Int32) (u9 : (Nat → Bool) × Bool) => match u9 with | (B9, l9) => r = op_bR B x ∧ B9 = op_bB B x y ∧ l9 = (if (ix x 30).isSome = true then false else ld)) (fun (u9 : (Nat → Bool) × Bool) t => bW (dC, dI) (t0 cA) (va_A (w0 a cA B w n st go C fr wy mx ld nu sz pa) hz) (match u9 with | (B9, l9) => (w0 a cA B9 w n st go C fr wy mx l9 nu sz pa)) t) (va_A (w0 a cA B w n st go C fr wy mx ld nu sz pa) hz)) 0 0 (va_A (w0 a cA B w n st go C fr wy mx ld nu sz pa) hz) := by
  refine Met.ofW (cc := cX0_block) (maxL := 4) (ret := (some .int)) (by decide) rfl ?_
  intro p e s m args below meth c s₁ Bd hml hv
  obtain ⟨rfl, hsz, hP, hK, hD0⟩ := hv
  have hx := Bd.exec
  have hb := Bd.bytes
  have hr := Bd.returns
  have hts := atoms_spec (ws := ws_ yX0_block cX0_block 4 (some .int)) Bd.pre
  have hts : ∀ w ∈ lw_all, w.before _ s = true := fun w h => hts w (List.mem_cons_of_mem _ h)
  have hown : s.vm.findClass RX0 = some m.cls := findClass_of_methodNamed Bd.named
  have hlocks := Bd.notSynchronized
  subst hsz
  have hD := hD0.self (sz := s.heap.size)
  generalize hAe : va_A (w0 a cA B w n st go C fr wy mx ld nu sz pa) s.heap.size = A at hD ⊢
  have hA : ∀ q : Nat, s.heap.size ≤ q → A q := fun q h => by rw [← hAe]; exact Or.inr h
  have E : x0E p s m c cX0_block _ dC dI cA := ⟨hx, hb, hts, hown, hK⟩
  have hX : wd (dC, dI) A s.heap (w0 a cA B w n st go C fr wy mx ld nu sz pa) s.heap [] := ⟨hP, hD, va_S.rf⟩
  have hl := lv_entry ([.ref (a 0), .int x, .int y]) (n := 4) (Nat.le_of_ble_eq_true rfl)
  rw [lg_entry_eq]
  generalize (lg_sl ([.ref (a 0), .int x, .int y]) ++ List.replicate (4 - (lg_sl ([.ref (a 0), .int x, .int y])).length) Slot.unset).toArray = ls at hl ⊢
  have hl : lv_has ls 4 [(0, .ref (a 0)), (1, .int x), (2, .int y)] := hl
  refine lv_aload_n hx hb dX0_block_0 rfl (lv_at hl 0 rfl) ?_
  refine lv_iload_n hx hb dX0_block_1 rfl (lv_at hl 1 rfl) ?_
  refine ca_i (ci := 0) (As := [.int x]) (rest := []) ⟨hx, hb, hml, hown, hts⟩ hK hX hA (metX0_badCell l dC dI a cA _ B w n st go C fr wy mx ld nu sz pa x) (cwV 1 hts (lw_V q90 q92 qs1 q25 q93) rfl rfl rfl (by decide +kernel) ⟨Nat.le_of_ble_eq_true rfl, Nat.le_of_ble_eq_true rfl⟩) rfl rfl rfl rfl hl.1 rfl (Nat.le_of_ble_eq_true rfl) dX0_block_2 ⟨Nat.le_of_ble_eq_true rfl, Nat.le_of_ble_eq_true rfl⟩ (fun r1 _ H locs hr1 hX => ?_)
  subst hr1
  refine bz_eq (tgt := 10) hx hb dX0_block_5 (by decide) (fun c1 => ?_) (fun c1 => ?_)
  · have c19 := of_decide_eq_false c1
    obtain ⟨j, hj, rfl⟩ := pf_ix (fun q => c19 (Or.inl q)) (fun q => c19 (Or.inr q)) (by decide)
    have hix : ix (nI j) 30 = some j := ix_in hj (by decide)
    refine lv_aload_n hx hb dX0_block_10 rfl (lv_at hl 0 rfl) ?_
    refine x0_g0 E hX dX0_block_11 ?_
    refine lv_iload_n hx hb dX0_block_14 rfl (lv_at hl 1 rfl) ?_
    refine x0_l1 E hX (by omega) dX0_block_15 ?_
    refine jnV (pc := 24) (ls := ls) (rest := []) (b2 (B j)) (fun J1 => ?_) ?_
    · refine bz_eq (tgt := 23) hx hb dX0_block_16 (by decide) (fun c2 => ?_) (fun c2 => ?_)
      · refine lv_iconst (v := (nI 0)) hx hb dX0_block_23 (by decide) ?_
        exact J1 _ (by rw [c2]; rfl)
      · refine lv_iconst (v := (nI 1)) hx hb dX0_block_19 (by decide) ?_
        refine lv_goto (tgt := 24) hx hb dX0_block_20 (by decide) ?_
        exact J1 _ (by rw [c2]; rfl)
    · refine lv_istore_n (lv' := [(3, .int (b2 (B j))), (0, .ref (a 0)), (1, .int (nI j)), (2, .int y)]) hx hb dX0_block_24 rfl hl (by decide) rfl (fun ls hl => ?_)
      refine lv_aload_n hx hb dX0_block_25 rfl (lv_at hl 1 rfl) ?_
      refine x0_g0 E hX dX0_block_26 ?_
      refine lv_iload_n hx hb dX0_block_29 rfl (lv_at hl 2 rfl) ?_
      refine lv_iload_n hx hb dX0_block_30 rfl (lv_at hl 3 rfl) ?_
      refine jnV (pc := 39) (ls := ls) (rest := [.int (nI j), .ref (a 1)]) (b2 (!decide (y = 0))) (fun J2 => ?_) ?_
      · refine lv_if_eq (tgt := 38) hx hb dX0_block_31 (by decide) (fun c2 => ?_) (fun c2 => ?_)
        · refine lv_iconst (v := (nI 0)) hx hb dX0_block_38 (by decide) ?_
          exact J2 _ (by rw [decide_eq_true c2]; rfl)
        · refine lv_iconst (v := (nI 1)) hx hb dX0_block_34 (by decide) ?_
          refine lv_goto (tgt := 39) hx hb dX0_block_35 (by decide) ?_
          exact J2 _ (by rw [decide_eq_false c2]; rfl)
      · refine x0_s1 E hX (by omega) dX0_block_39 (fun H locs hX => ?_)
        refine lv_aload_n hx hb dX0_block_40 rfl (lv_at hl 1 rfl) ?_
        refine lv_iconst (v := (nI 0)) hx hb dX0_block_41 (by decide) ?_
        refine tp (y := (b2 false)) rfl ?_
        refine x0_p9 E hX dX0_block_42 (fun H locs hX => ?_)
        refine lv_iload_n hx hb dX0_block_45 rfl (lv_at hl 0 rfl) ?_
        exact W.iret (v := (b2 (B j))) hx hb hr (fun T9 hT9 hW9 => ⟨⟨(b2 (B j)), (va_up B j (!decide (y = 0)), false), rfl, ⟨by unfold op_bR; rw [hix], by unfold op_bB; rw [hix], by rw [hix]; rfl⟩, by rw [hT9]; exact hX.1, va_K.moved hW9.alike hK, hX.2.1⟩, hX.2.2.F hT9⟩) hX.2.2.2.2 dX0_block_46
  · have hix : ix x 30 = none := if_pos (of_decide_eq_true c1)
    refine lv_iconst (v := (-1)) hx hb dX0_block_8 (by decide) ?_
    exact W.iret (v := (-1)) hx hb hr (fun T9 hT9 hW9 => ⟨⟨(-1), (B, ld), rfl, ⟨by unfold op_bR; rw [hix], by unfold op_bB; rw [hix], by rw [hix]; rfl⟩, by rw [hT9]; exact hX.1, va_K.moved hW9.alike hK, hX.2.1⟩, hX.2.2.F hT9⟩) hX.2.2.2.2 dX0_block_9
set_option maxHeartbeats 4000000 in
set_option maxRecDepth 100000 in
theorem metX0_weight (l : Launch) (dC : Nat → ClassId) (dI : Nat → Nat → Nat) (a : Nat → Nat) (cA : Nat → ClassId) (hz : Nat) (B : Nat → Bool) (w : Nat → Int32) (n : Nat) (st : Nat → Nat) (go : Nat → Nat) (C : Nat → Bool) (fr : Nat → Nat) (wy : Nat → Int32) (mx : Nat → Int32) (ld : Bool) (nu : Int32) (sz : Nat → Nat) (pa : Nat → Nat) (x : Int32) (y : Int32)  : Met l yX0_weight (ws_ yX0_weight cX0_weight 3 (some .int)) ({ frames := 1, cells := 0, slots := 0, locals := 21 }) (va_Pc [.ref (a 0), .int x, .int y] (pcW (dC, dI) (t0 cA) hz (w0 a cA B w n st go C fr wy mx ld nu sz pa))) (va_Qi (fun (r : Int32) (u9 : Nat → Int32) => match u9 with | w9 => r = op_wR x ∧ w9 = op_wW w x y) (fun (u9 : Nat → Int32) t => bW (dC, dI) (t0 cA) (va_A (w0 a cA B w n st go C fr wy mx ld nu sz pa) hz) (match u9 with | w9 => (w0 a cA B w9 n st go C fr wy mx ld nu sz pa)) t) (va_A (w0 a cA B w n st go C fr wy mx ld nu sz pa) hz)) 0 0 (va_A (w0 a cA B w n st go C fr wy mx ld nu sz pa) hz) := by
  refine Met.ofW (cc := cX0_weight) (maxL := 3) (ret := (some .int)) (by decide) rfl ?_
  intro p e s m args below meth c s₁ Bd hml hv
  obtain ⟨rfl, hsz, hP, hK, hD0⟩ := hv
  have hx := Bd.exec
  have hb := Bd.bytes
  have hr := Bd.returns
  have hts := atoms_spec (ws := ws_ yX0_weight cX0_weight 3 (some .int)) Bd.pre
  have hts : ∀ w ∈ lw_all, w.before _ s = true := fun w h => hts w (List.mem_cons_of_mem _ h)
  have hown : s.vm.findClass RX0 = some m.cls := findClass_of_methodNamed Bd.named
  have hlocks := Bd.notSynchronized
  subst hsz
  have hD := hD0.self (sz := s.heap.size)
  generalize hAe : va_A (w0 a cA B w n st go C fr wy mx ld nu sz pa) s.heap.size = A at hD ⊢
  have hA : ∀ q : Nat, s.heap.size ≤ q → A q := fun q h => by rw [← hAe]; exact Or.inr h
  have E : x0E p s m c cX0_weight _ dC dI cA := ⟨hx, hb, hts, hown, hK⟩
  have hX : wd (dC, dI) A s.heap (w0 a cA B w n st go C fr wy mx ld nu sz pa) s.heap [] := ⟨hP, hD, va_S.rf⟩
  have hl := lv_entry ([.ref (a 0), .int x, .int y]) (n := 3) (Nat.le_of_ble_eq_true rfl)
  rw [lg_entry_eq]
  generalize (lg_sl ([.ref (a 0), .int x, .int y]) ++ List.replicate (3 - (lg_sl ([.ref (a 0), .int x, .int y])).length) Slot.unset).toArray = ls at hl ⊢
  have hl : lv_has ls 3 [(0, .ref (a 0)), (1, .int x), (2, .int y)] := hl
  refine lv_aload_n hx hb dX0_weight_0 rfl (lv_at hl 0 rfl) ?_
  refine lv_iload_n hx hb dX0_weight_1 rfl (lv_at hl 1 rfl) ?_
  refine ca_i (ci := 0) (As := [.int x]) (rest := []) ⟨hx, hb, hml, hown, hts⟩ hK hX hA (metX0_badCell l dC dI a cA _ B w n st go C fr wy mx ld nu sz pa x) (cwV 1 hts (lw_V q90 q92 qs1 q25 q93) rfl rfl rfl (by decide +kernel) ⟨Nat.le_of_ble_eq_true rfl, Nat.le_of_ble_eq_true rfl⟩) rfl rfl rfl rfl hl.1 rfl (Nat.le_of_ble_eq_true rfl) dX0_weight_2 ⟨Nat.le_of_ble_eq_true rfl, Nat.le_of_ble_eq_true rfl⟩ (fun r1 _ H locs hr1 hX => ?_)
  subst hr1
  refine bz_eq (tgt := 10) hx hb dX0_weight_5 (by decide) (fun c1 => ?_) (fun c1 => ?_)
  · have c19 := of_decide_eq_false c1
    obtain ⟨j, hj, rfl⟩ := pf_ix (fun q => c19 (Or.inl q)) (fun q => c19 (Or.inr q)) (by decide)
    have hix : ix (nI j) 30 = some j := ix_in hj (by decide)
    refine lv_aload_n hx hb dX0_weight_10 rfl (lv_at hl 0 rfl) ?_
    refine x0_g1 E hX dX0_weight_11 ?_
    refine lv_iload_n hx hb dX0_weight_14 rfl (lv_at hl 1 rfl) ?_
    refine lv_iload_n hx hb dX0_weight_15 rfl (lv_at hl 2 rfl) ?_
    refine x0_s2 E hX (by omega) dX0_weight_16 (fun H locs hX => ?_)
    refine lv_iconst (v := (nI 0)) hx hb dX0_weight_17 (by decide) ?_
    exact W.iret (v := (nI 0)) hx hb hr (fun T9 hT9 hW9 => ⟨⟨(nI 0), upd w j y, rfl, ⟨by unfold op_wR; rw [hix]; rfl, by unfold op_wW; rw [hix]⟩, by rw [hT9]; exact hX.1, va_K.moved hW9.alike hK, hX.2.1⟩, hX.2.2.F hT9⟩) hX.2.2.2.2 dX0_weight_18
  · have hix : ix x 30 = none := if_pos (of_decide_eq_true c1)
    refine lv_iconst (v := (-1)) hx hb dX0_weight_8 (by decide) ?_
    exact W.iret (v := (-1)) hx hb hr (fun T9 hT9 hW9 => ⟨⟨(-1), w, rfl, ⟨by unfold op_wR; rw [hix], by unfold op_wW; rw [hix]⟩, by rw [hT9]; exact hX.1, va_K.moved hW9.alike hK, hX.2.1⟩, hX.2.2.F hT9⟩) hX.2.2.2.2 dX0_weight_9
set_option maxHeartbeats 4000000 in
set_option maxRecDepth 100000 in
theorem metX0_paths (l : Launch) (dC : Nat → ClassId) (dI : Nat → Nat → Nat) (a : Nat → Nat) (cA : Nat → ClassId) (hz : Nat) (B : Nat → Bool) (w : Nat → Int32) (n : Nat) (st : Nat → Nat) (go : Nat → Nat) (C : Nat → Bool) (fr : Nat → Nat) (wy : Nat → Int32) (mx : Nat → Int32) (ld : Bool) (nu : Int32) (sz : Nat → Nat) (pa : Nat → Nat) (x : Int32) (y : Int32) (hwf : pf_wf n st go) : Met l yX0_paths (ws_ yX0_paths cX0_paths 3 (some .int)) ({ frames := 1, cells := 0, slots := 0, locals := 27 }) (va_Pc [.ref (a 0), .int x, .int y] (pcW (dC, dI) (t0 cA) hz (w0 a cA B w n st go C fr wy mx ld nu sz pa))) (va_Qi (fun (r : Int32) (u9 : (Nat → Bool) × (Nat → Nat) × (Nat → Int32)) => match u9 with | (C9, f9, y9) => r = op_pt n st go B x y) (fun (u9 : (Nat → Bool) × (Nat → Nat) × (Nat → Int32)) t => bW (dC, dI) (t0 cA) (va_A (w0 a cA B w n st go C fr wy mx ld nu sz pa) hz) (match u9 with | (C9, f9, y9) => (w0 a cA B w n st go C9 f9 y9 mx ld nu sz pa)) t) (va_A (w0 a cA B w n st go C fr wy mx ld nu sz pa) hz)) 0 0 (va_A (w0 a cA B w n st go C fr wy mx ld nu sz pa) hz) := by
  refine Met.ofW (cc := cX0_paths) (maxL := 3) (ret := (some .int)) (by decide) rfl ?_
  intro p e s m args below meth c s₁ Bd hml hv
  obtain ⟨rfl, hsz, hP, hK, hD0⟩ := hv
  have hx := Bd.exec
  have hb := Bd.bytes
  have hr := Bd.returns
  have hts := atoms_spec (ws := ws_ yX0_paths cX0_paths 3 (some .int)) Bd.pre
  have hts : ∀ w ∈ lw_all, w.before _ s = true := fun w h => hts w (List.mem_cons_of_mem _ h)
  have hown : s.vm.findClass RX0 = some m.cls := findClass_of_methodNamed Bd.named
  have hlocks := Bd.notSynchronized
  subst hsz
  have hD := hD0.self (sz := s.heap.size)
  generalize hAe : va_A (w0 a cA B w n st go C fr wy mx ld nu sz pa) s.heap.size = A at hD ⊢
  have hA : ∀ q : Nat, s.heap.size ≤ q → A q := fun q h => by rw [← hAe]; exact Or.inr h
  have E : x0E p s m c cX0_paths _ dC dI cA := ⟨hx, hb, hts, hown, hK⟩
  have hX : wd (dC, dI) A s.heap (w0 a cA B w n st go C fr wy mx ld nu sz pa) s.heap [] := ⟨hP, hD, va_S.rf⟩
  have hl := lv_entry ([.ref (a 0), .int x, .int y]) (n := 3) (Nat.le_of_ble_eq_true rfl)
  rw [lg_entry_eq]
  generalize (lg_sl ([.ref (a 0), .int x, .int y]) ++ List.replicate (3 - (lg_sl ([.ref (a 0), .int x, .int y])).length) Slot.unset).toArray = ls at hl ⊢
  have hl : lv_has ls 3 [(0, .ref (a 0)), (1, .int x), (2, .int y)] := hl
  obtain ⟨hn1, hn4, hst, hgo, -, -⟩ := id hwf
  refine lv_iload_n hx hb dX0_paths_0 rfl (lv_at hl 1 rfl) ?_
  refine lv_if_lt (tgt := 24) hx hb dX0_paths_1 (by decide) (fun c1 => ?_) (fun c1 => ?_)
  · refine lv_iconst (v := (-1)) hx hb dX0_paths_24 (by decide) ?_
    have hix : ix x n = none := ix_lo c1
    exact W.iret (v := (-1)) hx hb hr (fun T9 hT9 hW9 => ⟨⟨(-1), (C, fr, wy), rfl, by unfold op_pt; rw [hix], by rw [hT9]; exact hX.1, va_K.moved hW9.alike hK, hX.2.1⟩, hX.2.2.F hT9⟩) hX.2.2.2.2 dX0_paths_25
  · refine lv_iload_n hx hb dX0_paths_4 rfl (lv_at hl 1 rfl) ?_
    refine lv_aload_n hx hb dX0_paths_5 rfl (lv_at hl 0 rfl) ?_
    refine x0_g2 E hX dX0_paths_6 ?_
    refine lv_icmp_ge (tgt := 24) hx hb dX0_paths_9 (by decide) (fun c2 => ?_) (fun c2 => ?_)
    · refine lv_iconst (v := (-1)) hx hb dX0_paths_24 (by decide) ?_
      have hix : ix x n = none := ix_hi c2
      exact W.iret (v := (-1)) hx hb hr (fun T9 hT9 hW9 => ⟨⟨(-1), (C, fr, wy), rfl, by unfold op_pt; rw [hix], by rw [hT9]; exact hX.1, va_K.moved hW9.alike hK, hX.2.1⟩, hX.2.2.F hT9⟩) hX.2.2.2.2 dX0_paths_25
    · obtain ⟨i, hi, rfl⟩ := pf_ix c1 c2 (by omega)
      have hix : ix (nI i) n = some i := ix_in hi (by omega)
      refine lv_iload_n hx hb dX0_paths_12 rfl (lv_at hl 2 rfl) ?_
      refine lv_if_lt (tgt := 24) hx hb dX0_paths_13 (by decide) (fun c3 => ?_) (fun c3 => ?_)
      · refine lv_iconst (v := (-1)) hx hb dX0_paths_24 (by decide) ?_
        have hiy : ix y n = none := ix_lo c3
        exact W.iret (v := (-1)) hx hb hr (fun T9 hT9 hW9 => ⟨⟨(-1), (C, fr, wy), rfl, by unfold op_pt; rw [hix]; simp only []; rw [hiy], by rw [hT9]; exact hX.1, va_K.moved hW9.alike hK, hX.2.1⟩, hX.2.2.F hT9⟩) hX.2.2.2.2 dX0_paths_25
      · refine lv_iload_n hx hb dX0_paths_16 rfl (lv_at hl 2 rfl) ?_
        refine lv_aload_n hx hb dX0_paths_17 rfl (lv_at hl 0 rfl) ?_
        refine x0_g2 E hX dX0_paths_18 ?_
        refine lv_icmp_lt (tgt := 26) hx hb dX0_paths_21 (by decide) (fun c4 => ?_) (fun c4 => ?_)
        · obtain ⟨j, hj, rfl⟩ := pf_ix c3 (Int32.not_le.mpr c4) (by omega)
          have hiy : ix (nI j) n = some j := ix_in hj (by omega)
          have hsi := hst i hi
          have hgj := hgo j hj
          refine lv_aload_n hx hb dX0_paths_26 rfl (lv_at hl 0 rfl) ?_
          refine ca_v (ci := 0) (As := []) (rest := []) ⟨hx, hb, hml, hown, hts⟩ hK hX hA (metX0_reopen l dC dI a cA _ B w n st go C fr wy mx ld nu sz pa hn4 hst) (cwV 0 hts (lw_V q102 q104 qs2 q25 q105) rfl rfl rfl (by decide +kernel) ⟨Nat.le_of_ble_eq_true rfl, Nat.le_of_ble_eq_true rfl⟩) rfl rfl rfl rfl hl.1 rfl (Nat.le_of_ble_eq_true rfl) dX0_paths_27 ⟨Nat.le_of_ble_eq_true rfl, Nat.le_of_ble_eq_true rfl⟩ (fun ⟨C9, f9⟩ H locs hw hX => ?_)
          have hX : wd (dC, dI) A s.heap (w0 a cA B w n st go C9 f9 wy mx ld nu sz pa) H locs := hX
          obtain ⟨hc9, -⟩ := hw
          refine lv_aload_n hx hb dX0_paths_30 rfl (lv_at hl 0 rfl) ?_
          refine lv_aload_n hx hb dX0_paths_31 rfl (lv_at hl 0 rfl) ?_
          refine x0_g3 E hX dX0_paths_32 ?_
          refine lv_iload_n hx hb dX0_paths_35 rfl (lv_at hl 1 rfl) ?_
          refine x0_l3 E hX (by omega) dX0_paths_36 ?_
          refine lv_iconst (v := (nI 0)) hx hb dX0_paths_37 (by decide) ?_
          refine tp (y := (b2 false)) rfl ?_
          refine ca_v (ci := 0) (As := [.int (nI (st i)), .int (b2 false)]) (rest := []) ⟨hx, hb, hml, hown, hts⟩ hK hX hA (metX0_findWays l dC dI a cA _ B w n st go C9 f9 wy mx ld nu sz pa (st i) false (by omega)) (cwV 2 hts (lw_V q106 q108 qs3 q25 q109) rfl rfl rfl (by decide +kernel) ⟨Nat.le_of_ble_eq_true rfl, Nat.le_of_ble_eq_true rfl⟩) rfl rfl rfl rfl hl.1 rfl (Nat.le_of_ble_eq_true rfl) dX0_paths_38 ⟨Nat.le_of_ble_eq_true rfl, Nat.le_of_ble_eq_true rfl⟩ (fun y9 H locs hy9 hX => ?_)
          have hX : wd (dC, dI) A s.heap (w0 a cA B w n st go C9 f9 y9 mx ld nu sz pa) H locs := hX
          refine lv_aload_n hx hb dX0_paths_41 rfl (lv_at hl 0 rfl) ?_
          refine x0_g7 E hX dX0_paths_42 ?_
          refine lv_aload_n hx hb dX0_paths_45 rfl (lv_at hl 0 rfl) ?_
          refine x0_g4 E hX dX0_paths_46 ?_
          refine lv_iload_n hx hb dX0_paths_49 rfl (lv_at hl 2 rfl) ?_
          refine x0_l4 E hX (by omega) dX0_paths_50 ?_
          refine x0_l7 E hX (by omega) dX0_paths_51 ?_
          exact W.iret (v := (y9 (go j))) hx hb hr (fun T9 hT9 hW9 => ⟨⟨(y9 (go j)), (C9, f9, y9), rfl, by
                unfold op_pt
                rw [hix]
                simp only []
                rw [hiy, hy9 (go j) hgj.2]
                exact pf_W_congr _ (fun q hq => by
                  show (if (B q || C9 q) = true then 0 else (if false = true then w q else 1)) = if B q = true then 0 else 1
                  rw [hc9 q (by omega), Bool.or_false]; rfl), by rw [hT9]; exact hX.1, va_K.moved hW9.alike hK, hX.2.1⟩, hX.2.2.F hT9⟩) hX.2.2.2.2 dX0_paths_52
        · refine lv_iconst (v := (-1)) hx hb dX0_paths_24 (by decide) ?_
          have hiy : ix y n = none := ix_hi (Int32.not_lt.mp c4)
          exact W.iret (v := (-1)) hx hb hr (fun T9 hT9 hW9 => ⟨⟨(-1), (C, fr, wy), rfl, by unfold op_pt; rw [hix]; simp only []; rw [hiy], by rw [hT9]; exact hX.1, va_K.moved hW9.alike hK, hX.2.1⟩, hX.2.2.F hT9⟩) hX.2.2.2.2 dX0_paths_25
set_option maxHeartbeats 4000000 in
set_option maxRecDepth 100000 in
theorem metX0_families (l : Launch) (dC : Nat → ClassId) (dI : Nat → Nat → Nat) (a : Nat → Nat) (cA : Nat → ClassId) (hz : Nat) (B : Nat → Bool) (w : Nat → Int32) (n : Nat) (st : Nat → Nat) (go : Nat → Nat) (C : Nat → Bool) (fr : Nat → Nat) (wy : Nat → Int32) (mx : Nat → Int32) (ld : Bool) (nu : Int32) (sz : Nat → Nat) (pa : Nat → Nat)  (hwf : pf_wf n st go) : Met l yX0_families (ws_ yX0_families cX0_families 1 (some .int)) ({ frames := 5, cells := 0, slots := 0, locals := 121 }) (va_Pc [.ref (a 0)] (pcW (dC, dI) (t0 cA) hz (w0 a cA B w n st go C fr wy mx ld nu sz pa))) (va_Qi (fun (r : Int32) (u9 : (Nat → Bool) × (Nat → Nat) × (Nat → Int32) × (Nat → Int32)) => match u9 with | (C9, f9, y9, m9) => r = nI (pf_L n st go B).length) (fun (u9 : (Nat → Bool) × (Nat → Nat) × (Nat → Int32) × (Nat → Int32)) t => bW (dC, dI) (t0 cA) (va_A (w0 a cA B w n st go C fr wy mx ld nu sz pa) hz) (match u9 with | (C9, f9, y9, m9) => (w0 a cA B w n st go C9 f9 y9 m9 ld nu sz pa)) t) (va_A (w0 a cA B w n st go C fr wy mx ld nu sz pa) hz)) 0 0 (va_A (w0 a cA B w n st go C fr wy mx ld nu sz pa) hz) := by
  refine Met.ofW (cc := cX0_families) (maxL := 1) (ret := (some .int)) (by decide) rfl ?_
  intro p e s m args below meth c s₁ Bd hml hv
  obtain ⟨rfl, hsz, hP, hK, hD0⟩ := hv
  have hx := Bd.exec
  have hb := Bd.bytes
  have hr := Bd.returns
  have hts := atoms_spec (ws := ws_ yX0_families cX0_families 1 (some .int)) Bd.pre
  have hts : ∀ w ∈ lw_all, w.before _ s = true := fun w h => hts w (List.mem_cons_of_mem _ h)
  have hown : s.vm.findClass RX0 = some m.cls := findClass_of_methodNamed Bd.named
  have hlocks := Bd.notSynchronized
  subst hsz
  have hD := hD0.self (sz := s.heap.size)
  generalize hAe : va_A (w0 a cA B w n st go C fr wy mx ld nu sz pa) s.heap.size = A at hD ⊢
  have hA : ∀ q : Nat, s.heap.size ≤ q → A q := fun q h => by rw [← hAe]; exact Or.inr h
  have E : x0E p s m c cX0_families _ dC dI cA := ⟨hx, hb, hts, hown, hK⟩
  have hX : wd (dC, dI) A s.heap (w0 a cA B w n st go C fr wy mx ld nu sz pa) s.heap [] := ⟨hP, hD, va_S.rf⟩
  have hl := lv_entry ([.ref (a 0)]) (n := 1) (Nat.le_of_ble_eq_true rfl)
  rw [lg_entry_eq]
  generalize (lg_sl ([.ref (a 0)]) ++ List.replicate (1 - (lg_sl ([.ref (a 0)])).length) Slot.unset).toArray = ls at hl ⊢
  have hl : lv_has ls 1 [(0, .ref (a 0))] := hl
  refine lv_aload_n hx hb dX0_families_0 rfl (lv_at hl 0 rfl) ?_
  refine lv_iconst (v := (-1)) hx hb dX0_families_1 (by decide) ?_
  refine lv_iconst (v := (-1)) hx hb dX0_families_2 (by decide) ?_
  refine ca_i (ci := 0) (As := [.int (-1), .int (-1)]) (rest := []) ⟨hx, hb, hml, hown, hts⟩ hK hX hA (metX0_countWithout l dC dI a cA _ B w n st go C fr wy mx ld nu sz pa none none hwf (fun _ h => by cases h) (fun _ h => by cases h)) (cwV 2 hts (lw_V q114 q116 qs4 q25 q117) rfl rfl rfl (by decide +kernel) ⟨Nat.le_of_ble_eq_true rfl, Nat.le_of_ble_eq_true rfl⟩) rfl rfl rfl rfl hl.1 rfl (Nat.le_of_ble_eq_true rfl) dX0_families_3 ⟨Nat.le_of_ble_eq_true rfl, Nat.le_of_ble_eq_true rfl⟩ (fun r1 ⟨C9, f9, y9, m9⟩ H locs hw hX => ?_)
  have hX : wd (dC, dI) A s.heap (w0 a cA B w n st go C9 f9 y9 m9 ld nu sz pa) H locs := hX
  exact W.iret (v := r1) hx hb hr (fun T9 hT9 hW9 => ⟨⟨r1, (C9, f9, y9, m9), rfl, by rw [hw]; exact pf_cw_all hwf, by rw [hT9]; exact hX.1, va_K.moved hW9.alike hK, hX.2.1⟩, hX.2.2.F hT9⟩) hX.2.2.2.2 dX0_families_6
set_option maxHeartbeats 4000000 in
set_option maxRecDepth 100000 in
theorem metX0_sum (l : Launch) (dC : Nat → ClassId) (dI : Nat → Nat → Nat) (a : Nat → Nat) (cA : Nat → ClassId) (hz : Nat) (B : Nat → Bool) (w : Nat → Int32) (n : Nat) (st : Nat → Nat) (go : Nat → Nat) (C : Nat → Bool) (fr : Nat → Nat) (wy : Nat → Int32) (mx : Nat → Int32) (ld : Bool) (nu : Int32) (sz : Nat → Nat) (pa : Nat → Nat)  (hwf : pf_wf n st go) : Met l yX0_sum (ws_ yX0_sum cX0_sum 1 (some .int)) ({ frames := 4, cells := 0, slots := 0, locals := 99 }) (va_Pc [.ref (a 0)] (pcW (dC, dI) (t0 cA) hz (w0 a cA B w n st go C fr wy mx ld nu sz pa))) (va_Qi (fun (r : Int32) (u9 : (Nat → Bool) × (Nat → Nat) × (Nat → Int32) × (Nat → Int32)) => match u9 with | (C9, f9, y9, m9) => r = pf_sum ((pf_L n st go B).map (pf_prod w))) (fun (u9 : (Nat → Bool) × (Nat → Nat) × (Nat → Int32) × (Nat → Int32)) t => bW (dC, dI) (t0 cA) (va_A (w0 a cA B w n st go C fr wy mx ld nu sz pa) hz) (match u9 with | (C9, f9, y9, m9) => (w0 a cA B w n st go C9 f9 y9 m9 ld nu sz pa)) t) (va_A (w0 a cA B w n st go C fr wy mx ld nu sz pa) hz)) 0 0 (va_A (w0 a cA B w n st go C fr wy mx ld nu sz pa) hz) := by
  refine Met.ofW (cc := cX0_sum) (maxL := 1) (ret := (some .int)) (by decide) rfl ?_
  intro p e s m args below meth c s₁ Bd hml hv
  obtain ⟨rfl, hsz, hP, hK, hD0⟩ := hv
  have hx := Bd.exec
  have hb := Bd.bytes
  have hr := Bd.returns
  have hts := atoms_spec (ws := ws_ yX0_sum cX0_sum 1 (some .int)) Bd.pre
  have hts : ∀ w ∈ lw_all, w.before _ s = true := fun w h => hts w (List.mem_cons_of_mem _ h)
  have hown : s.vm.findClass RX0 = some m.cls := findClass_of_methodNamed Bd.named
  have hlocks := Bd.notSynchronized
  subst hsz
  have hD := hD0.self (sz := s.heap.size)
  generalize hAe : va_A (w0 a cA B w n st go C fr wy mx ld nu sz pa) s.heap.size = A at hD ⊢
  have hA : ∀ q : Nat, s.heap.size ≤ q → A q := fun q h => by rw [← hAe]; exact Or.inr h
  have E : x0E p s m c cX0_sum _ dC dI cA := ⟨hx, hb, hts, hown, hK⟩
  have hX : wd (dC, dI) A s.heap (w0 a cA B w n st go C fr wy mx ld nu sz pa) s.heap [] := ⟨hP, hD, va_S.rf⟩
  have hl := lv_entry ([.ref (a 0)]) (n := 1) (Nat.le_of_ble_eq_true rfl)
  rw [lg_entry_eq]
  generalize (lg_sl ([.ref (a 0)]) ++ List.replicate (1 - (lg_sl ([.ref (a 0)])).length) Slot.unset).toArray = ls at hl ⊢
  have hl : lv_has ls 1 [(0, .ref (a 0))] := hl
  obtain ⟨hn1, hn4, hst, hgo, -, -⟩ := id hwf
  refine lv_aload_n hx hb dX0_sum_0 rfl (lv_at hl 0 rfl) ?_
  refine ca_v (ci := 0) (As := []) (rest := []) ⟨hx, hb, hml, hown, hts⟩ hK hX hA (metX0_reopen l dC dI a cA _ B w n st go C fr wy mx ld nu sz pa hn4 hst) (cwV 0 hts (lw_V q102 q104 qs2 q25 q105) rfl rfl rfl (by decide +kernel) ⟨Nat.le_of_ble_eq_true rfl, Nat.le_of_ble_eq_true rfl⟩) rfl rfl rfl rfl hl.1 rfl (Nat.le_of_ble_eq_true rfl) dX0_sum_1 ⟨Nat.le_of_ble_eq_true rfl, Nat.le_of_ble_eq_true rfl⟩ (fun ⟨C9, f9⟩ H locs hw hX => ?_)
  have hX : wd (dC, dI) A s.heap (w0 a cA B w n st go C9 f9 wy mx ld nu sz pa) H locs := hX
  obtain ⟨hc9, hf9⟩ := hw
  refine lv_aload_n hx hb dX0_sum_4 rfl (lv_at hl 0 rfl) ?_
  refine lv_iconst (v := (nI 0)) hx hb dX0_sum_5 (by decide) ?_
  refine lv_iconst (v := (nI 1)) hx hb dX0_sum_6 (by decide) ?_
  refine tp (y := (b2 true)) rfl ?_
  refine ca_i (ci := 0) (As := [.int (nI 0), .int (b2 true)]) (rest := []) ⟨hx, hb, hml, hown, hts⟩ hK hX hA (metX0_count l dC dI a cA _ B w n st go C9 f9 wy mx ld nu sz pa 0 true hn4 (by omega) (fun k _ hk => by rw [hf9 k hk]; have := hst k hk; omega) (fun k hk => (hgo k hk).2)) (cwV 2 hts (lw_V q118 q120 qs5 q25 q121) rfl rfl rfl (by decide +kernel) ⟨Nat.le_of_ble_eq_true rfl, Nat.le_of_ble_eq_true rfl⟩) rfl rfl rfl rfl hl.1 rfl (Nat.le_of_ble_eq_true rfl) dX0_sum_7 ⟨Nat.le_of_ble_eq_true rfl, Nat.le_of_ble_eq_true rfl⟩ (fun r1 ⟨y9, m9⟩ H locs hw2 hX => ?_)
  have hX : wd (dC, dI) A s.heap (w0 a cA B w n st go C9 f9 y9 m9 ld nu sz pa) H locs := hX
  exact W.iret (v := r1) hx hb hr (fun T9 hT9 hW9 => ⟨⟨r1, (C9, f9, y9, m9), rfl, by
        rw [hw2, ← pf_det_all hwf, pf_M_congr (fun k hk => (hgo k hk).2) (fun k _ hk => hf9 k hk) (fun k hk => ?_)]
        show (if (B k || C9 k) = true then 0 else (if true = true then w k else 1)) = if B k = true then 0 else w k
        rw [hc9 k hk, Bool.or_false]; rfl, by rw [hT9]; exact hX.1, va_K.moved hW9.alike hK, hX.2.1⟩, hX.2.2.F hT9⟩) hX.2.2.2.2 dX0_sum_10
set_option maxHeartbeats 4000000 in
set_option maxRecDepth 100000 in
theorem metX0_through (l : Launch) (dC : Nat → ClassId) (dI : Nat → Nat → Nat) (a : Nat → Nat) (cA : Nat → ClassId) (hz : Nat) (B : Nat → Bool) (w : Nat → Int32) (n : Nat) (st : Nat → Nat) (go : Nat → Nat) (C : Nat → Bool) (fr : Nat → Nat) (wy : Nat → Int32) (mx : Nat → Int32) (ld : Bool) (nu : Int32) (sz : Nat → Nat) (pa : Nat → Nat) (x : Int32) (hwf : pf_wf n st go) : Met l yX0_through (ws_ yX0_through cX0_through 2 (some .int)) ({ frames := 5, cells := 0, slots := 0, locals := 121 }) (va_Pc [.ref (a 0), .int x] (pcW (dC, dI) (t0 cA) hz (w0 a cA B w n st go C fr wy mx ld nu sz pa))) (va_Qi (fun (r : Int32) (u9 : (Nat → Bool) × (Nat → Nat) × (Nat → Int32) × (Nat → Int32)) => match u9 with | (C9, f9, y9, m9) => r = op_tb (pf_L n st go B) x x) (fun (u9 : (Nat → Bool) × (Nat → Nat) × (Nat → Int32) × (Nat → Int32)) t => bW (dC, dI) (t0 cA) (va_A (w0 a cA B w n st go C fr wy mx ld nu sz pa) hz) (match u9 with | (C9, f9, y9, m9) => (w0 a cA B w n st go C9 f9 y9 m9 ld nu sz pa)) t) (va_A (w0 a cA B w n st go C fr wy mx ld nu sz pa) hz)) 0 0 (va_A (w0 a cA B w n st go C fr wy mx ld nu sz pa) hz) := by
  refine Met.ofW (cc := cX0_through) (maxL := 2) (ret := (some .int)) (by decide) rfl ?_
  intro p e s m args below meth c s₁ Bd hml hv
  obtain ⟨rfl, hsz, hP, hK, hD0⟩ := hv
  have hx := Bd.exec
  have hb := Bd.bytes
  have hr := Bd.returns
  have hts := atoms_spec (ws := ws_ yX0_through cX0_through 2 (some .int)) Bd.pre
  have hts : ∀ w ∈ lw_all, w.before _ s = true := fun w h => hts w (List.mem_cons_of_mem _ h)
  have hown : s.vm.findClass RX0 = some m.cls := findClass_of_methodNamed Bd.named
  have hlocks := Bd.notSynchronized
  subst hsz
  have hD := hD0.self (sz := s.heap.size)
  generalize hAe : va_A (w0 a cA B w n st go C fr wy mx ld nu sz pa) s.heap.size = A at hD ⊢
  have hA : ∀ q : Nat, s.heap.size ≤ q → A q := fun q h => by rw [← hAe]; exact Or.inr h
  have E : x0E p s m c cX0_through _ dC dI cA := ⟨hx, hb, hts, hown, hK⟩
  have hX : wd (dC, dI) A s.heap (w0 a cA B w n st go C fr wy mx ld nu sz pa) s.heap [] := ⟨hP, hD, va_S.rf⟩
  have hl := lv_entry ([.ref (a 0), .int x]) (n := 2) (Nat.le_of_ble_eq_true rfl)
  rw [lg_entry_eq]
  generalize (lg_sl ([.ref (a 0), .int x]) ++ List.replicate (2 - (lg_sl ([.ref (a 0), .int x])).length) Slot.unset).toArray = ls at hl ⊢
  have hl : lv_has ls 2 [(0, .ref (a 0)), (1, .int x)] := hl
  refine lv_aload_n hx hb dX0_through_0 rfl (lv_at hl 0 rfl) ?_
  refine lv_iload_n hx hb dX0_through_1 rfl (lv_at hl 1 rfl) ?_
  refine ca_i (ci := 0) (As := [.int x]) (rest := []) ⟨hx, hb, hml, hown, hts⟩ hK hX hA (metX0_badCell l dC dI a cA _ B w n st go C fr wy mx ld nu sz pa x) (cwV 1 hts (lw_V q90 q92 qs1 q25 q93) rfl rfl rfl (by decide +kernel) ⟨Nat.le_of_ble_eq_true rfl, Nat.le_of_ble_eq_true rfl⟩) rfl rfl rfl rfl hl.1 rfl (Nat.le_of_ble_eq_true rfl) dX0_through_2 ⟨Nat.le_of_ble_eq_true rfl, Nat.le_of_ble_eq_true rfl⟩ (fun r1 _ H locs hr1 hX => ?_)
  subst hr1
  refine bz_eq (tgt := 10) hx hb dX0_through_5 (by decide) (fun c1 => ?_) (fun c1 => ?_)
  · have c19 := of_decide_eq_false c1
    obtain ⟨j, hj, rfl⟩ := pf_ix (fun q => c19 (Or.inl q)) (fun q => c19 (Or.inr q)) (by decide)
    have hix : ix (nI j) 30 = some j := ix_in hj (by decide)
    refine lv_aload_n hx hb dX0_through_10 rfl (lv_at hl 0 rfl) ?_
    refine lv_iconst (v := (-1)) hx hb dX0_through_11 (by decide) ?_
    refine lv_iconst (v := (-1)) hx hb dX0_through_12 (by decide) ?_
    refine ca_i (ci := 0) (As := [.int (-1), .int (-1)]) (rest := []) ⟨hx, hb, hml, hown, hts⟩ hK hX hA (metX0_countWithout l dC dI a cA _ B w n st go C fr wy mx ld nu sz pa none none hwf (fun _ h => by cases h) (fun _ h => by cases h)) (cwV 2 hts (lw_V q114 q116 qs4 q25 q117) rfl rfl rfl (by decide +kernel) ⟨Nat.le_of_ble_eq_true rfl, Nat.le_of_ble_eq_true rfl⟩) rfl rfl rfl rfl hl.1 rfl (Nat.le_of_ble_eq_true rfl) dX0_through_13 ⟨Nat.le_of_ble_eq_true rfl, Nat.le_of_ble_eq_true rfl⟩ (fun r1 ⟨C9, f9, y9, m9⟩ H locs hr1 hX => ?_)
    have hX : wd (dC, dI) A s.heap (w0 a cA B w n st go C9 f9 y9 m9 ld nu sz pa) H locs := hX
    refine lv_aload_n hx hb dX0_through_16 rfl (lv_at hl 0 rfl) ?_
    refine lv_iload_n hx hb dX0_through_17 rfl (lv_at hl 1 rfl) ?_
    refine lv_iconst (v := (-1)) hx hb dX0_through_18 (by decide) ?_
    refine ca_i (ci := 0) (As := [.int (nI j), .int (-1)]) (rest := [.int r1]) ⟨hx, hb, hml, hown, hts⟩ hK hX hA (metX0_countWithout l dC dI a cA _ B w n st go C9 f9 y9 m9 ld nu sz pa (some j) none hwf (fun _ h => by cases h; exact hj) (fun _ h => by cases h)) (cwV 2 hts (lw_V q114 q116 qs4 q25 q117) rfl rfl rfl (by decide +kernel) ⟨Nat.le_of_ble_eq_true rfl, Nat.le_of_ble_eq_true rfl⟩) rfl rfl rfl rfl hl.1 rfl (Nat.le_of_ble_eq_true rfl) dX0_through_19 ⟨Nat.le_of_ble_eq_true rfl, Nat.le_of_ble_eq_true rfl⟩ (fun r2 ⟨C9, f9, y9, m9⟩ H locs hr2 hX => ?_)
    have hX : wd (dC, dI) A s.heap (w0 a cA B w n st go C9 f9 y9 m9 ld nu sz pa) H locs := hX
    refine lv_isub hx hb dX0_through_22 ?_
    exact W.iret (v := (r1 - r2)) hx hb hr (fun T9 hT9 hW9 => ⟨⟨(r1 - r2), (C9, f9, y9, m9), rfl, by unfold op_tb; rw [hix, hr1, hr2]; simp only []; exact op_sub1 hwf, by rw [hT9]; exact hX.1, va_K.moved hW9.alike hK, hX.2.1⟩, hX.2.2.F hT9⟩) hX.2.2.2.2 dX0_through_23
  · have hix : ix x 30 = none := if_pos (of_decide_eq_true c1)
    refine lv_iconst (v := (-1)) hx hb dX0_through_8 (by decide) ?_
    exact W.iret (v := (-1)) hx hb hr (fun T9 hT9 hW9 => ⟨⟨(-1), (C, fr, wy, mx), rfl, by unfold op_tb; rw [hix], by rw [hT9]; exact hX.1, va_K.moved hW9.alike hK, hX.2.1⟩, hX.2.2.F hT9⟩) hX.2.2.2.2 dX0_through_9
set_option maxHeartbeats 4000000 in
set_option maxRecDepth 100000 in
theorem metX0_throughBoth (l : Launch) (dC : Nat → ClassId) (dI : Nat → Nat → Nat) (a : Nat → Nat) (cA : Nat → ClassId) (hz : Nat) (B : Nat → Bool) (w : Nat → Int32) (n : Nat) (st : Nat → Nat) (go : Nat → Nat) (C : Nat → Bool) (fr : Nat → Nat) (wy : Nat → Int32) (mx : Nat → Int32) (ld : Bool) (nu : Int32) (sz : Nat → Nat) (pa : Nat → Nat) (x : Int32) (y : Int32) (hwf : pf_wf n st go) : Met l yX0_throughBoth (ws_ yX0_throughBoth cX0_throughBoth 3 (some .int)) ({ frames := 5, cells := 0, slots := 0, locals := 121 }) (va_Pc [.ref (a 0), .int x, .int y] (pcW (dC, dI) (t0 cA) hz (w0 a cA B w n st go C fr wy mx ld nu sz pa))) (va_Qi (fun (r : Int32) (u9 : (Nat → Bool) × (Nat → Nat) × (Nat → Int32) × (Nat → Int32)) => match u9 with | (C9, f9, y9, m9) => r = op_tb (pf_L n st go B) x y) (fun (u9 : (Nat → Bool) × (Nat → Nat) × (Nat → Int32) × (Nat → Int32)) t => bW (dC, dI) (t0 cA) (va_A (w0 a cA B w n st go C fr wy mx ld nu sz pa) hz) (match u9 with | (C9, f9, y9, m9) => (w0 a cA B w n st go C9 f9 y9 m9 ld nu sz pa)) t) (va_A (w0 a cA B w n st go C fr wy mx ld nu sz pa) hz)) 0 0 (va_A (w0 a cA B w n st go C fr wy mx ld nu sz pa) hz) := by
  refine Met.ofW (cc := cX0_throughBoth) (maxL := 3) (ret := (some .int)) (by decide) rfl ?_
  intro p e s m args below meth c s₁ Bd hml hv
  obtain ⟨rfl, hsz, hP, hK, hD0⟩ := hv
  have hx := Bd.exec
  have hb := Bd.bytes
  have hr := Bd.returns
  have hts := atoms_spec (ws := ws_ yX0_throughBoth cX0_throughBoth 3 (some .int)) Bd.pre
  have hts : ∀ w ∈ lw_all, w.before _ s = true := fun w h => hts w (List.mem_cons_of_mem _ h)
  have hown : s.vm.findClass RX0 = some m.cls := findClass_of_methodNamed Bd.named
  have hlocks := Bd.notSynchronized
  subst hsz
  have hD := hD0.self (sz := s.heap.size)
  generalize hAe : va_A (w0 a cA B w n st go C fr wy mx ld nu sz pa) s.heap.size = A at hD ⊢
  have hA : ∀ q : Nat, s.heap.size ≤ q → A q := fun q h => by rw [← hAe]; exact Or.inr h
  have E : x0E p s m c cX0_throughBoth _ dC dI cA := ⟨hx, hb, hts, hown, hK⟩
  have hX : wd (dC, dI) A s.heap (w0 a cA B w n st go C fr wy mx ld nu sz pa) s.heap [] := ⟨hP, hD, va_S.rf⟩
  have hl := lv_entry ([.ref (a 0), .int x, .int y]) (n := 3) (Nat.le_of_ble_eq_true rfl)
  rw [lg_entry_eq]
  generalize (lg_sl ([.ref (a 0), .int x, .int y]) ++ List.replicate (3 - (lg_sl ([.ref (a 0), .int x, .int y])).length) Slot.unset).toArray = ls at hl ⊢
  have hl : lv_has ls 3 [(0, .ref (a 0)), (1, .int x), (2, .int y)] := hl
  refine lv_aload_n hx hb dX0_throughBoth_0 rfl (lv_at hl 0 rfl) ?_
  refine lv_iload_n hx hb dX0_throughBoth_1 rfl (lv_at hl 1 rfl) ?_
  refine ca_i (ci := 0) (As := [.int x]) (rest := []) ⟨hx, hb, hml, hown, hts⟩ hK hX hA (metX0_badCell l dC dI a cA _ B w n st go C fr wy mx ld nu sz pa x) (cwV 1 hts (lw_V q90 q92 qs1 q25 q93) rfl rfl rfl (by decide +kernel) ⟨Nat.le_of_ble_eq_true rfl, Nat.le_of_ble_eq_true rfl⟩) rfl rfl rfl rfl hl.1 rfl (Nat.le_of_ble_eq_true rfl) dX0_throughBoth_2 ⟨Nat.le_of_ble_eq_true rfl, Nat.le_of_ble_eq_true rfl⟩ (fun r1 _ H locs hr1 hX => ?_)
  subst hr1
  refine bz_ne (tgt := 16) hx hb dX0_throughBoth_5 (by decide) (fun c1 => ?_) (fun c1 => ?_)
  · have hix : ix x 30 = none := if_pos (of_decide_eq_true c1)
    refine lv_iconst (v := (-1)) hx hb dX0_throughBoth_16 (by decide) ?_
    exact W.iret (v := (-1)) hx hb hr (fun T9 hT9 hW9 => ⟨⟨(-1), (C, fr, wy, mx), rfl, by unfold op_tb; rw [hix], by rw [hT9]; exact hX.1, va_K.moved hW9.alike hK, hX.2.1⟩, hX.2.2.F hT9⟩) hX.2.2.2.2 dX0_throughBoth_17
  · have c19 := of_decide_eq_false c1
    obtain ⟨j, hj, rfl⟩ := pf_ix (fun q => c19 (Or.inl q)) (fun q => c19 (Or.inr q)) (by decide)
    have hix : ix (nI j) 30 = some j := ix_in hj (by decide)
    refine lv_aload_n hx hb dX0_throughBoth_8 rfl (lv_at hl 0 rfl) ?_
    refine lv_iload_n hx hb dX0_throughBoth_9 rfl (lv_at hl 2 rfl) ?_
    refine ca_i (ci := 0) (As := [.int y]) (rest := []) ⟨hx, hb, hml, hown, hts⟩ hK hX hA (metX0_badCell l dC dI a cA _ B w n st go C fr wy mx ld nu sz pa y) (cwV 1 hts (lw_V q90 q92 qs1 q25 q93) rfl rfl rfl (by decide +kernel) ⟨Nat.le_of_ble_eq_true rfl, Nat.le_of_ble_eq_true rfl⟩) rfl rfl rfl rfl hl.1 rfl (Nat.le_of_ble_eq_true rfl) dX0_throughBoth_10 ⟨Nat.le_of_ble_eq_true rfl, Nat.le_of_ble_eq_true rfl⟩ (fun r1 _ H locs hr1 hX => ?_)
    subst hr1
    refine bz_eq (tgt := 18) hx hb dX0_throughBoth_13 (by decide) (fun c2 => ?_) (fun c2 => ?_)
    · have c29 := of_decide_eq_false c2
      obtain ⟨i, hi, rfl⟩ := pf_ix (fun q => c29 (Or.inl q)) (fun q => c29 (Or.inr q)) (by decide)
      have hiy : ix (nI i) 30 = some i := ix_in hi (by decide)
      refine lv_aload_n hx hb dX0_throughBoth_18 rfl (lv_at hl 0 rfl) ?_
      refine lv_iconst (v := (-1)) hx hb dX0_throughBoth_19 (by decide) ?_
      refine lv_iconst (v := (-1)) hx hb dX0_throughBoth_20 (by decide) ?_
      refine ca_i (ci := 0) (As := [.int (-1), .int (-1)]) (rest := []) ⟨hx, hb, hml, hown, hts⟩ hK hX hA (metX0_countWithout l dC dI a cA _ B w n st go C fr wy mx ld nu sz pa none none hwf (fun _ h => by cases h) (fun _ h => by cases h)) (cwV 2 hts (lw_V q114 q116 qs4 q25 q117) rfl rfl rfl (by decide +kernel) ⟨Nat.le_of_ble_eq_true rfl, Nat.le_of_ble_eq_true rfl⟩) rfl rfl rfl rfl hl.1 rfl (Nat.le_of_ble_eq_true rfl) dX0_throughBoth_21 ⟨Nat.le_of_ble_eq_true rfl, Nat.le_of_ble_eq_true rfl⟩ (fun r1 ⟨C9, f9, y9, m9⟩ H locs hr1 hX => ?_)
      have hX : wd (dC, dI) A s.heap (w0 a cA B w n st go C9 f9 y9 m9 ld nu sz pa) H locs := hX
      refine lv_aload_n hx hb dX0_throughBoth_24 rfl (lv_at hl 0 rfl) ?_
      refine lv_iload_n hx hb dX0_throughBoth_25 rfl (lv_at hl 1 rfl) ?_
      refine lv_iconst (v := (-1)) hx hb dX0_throughBoth_26 (by decide) ?_
      refine ca_i (ci := 0) (As := [.int (nI j), .int (-1)]) (rest := [.int r1]) ⟨hx, hb, hml, hown, hts⟩ hK hX hA (metX0_countWithout l dC dI a cA _ B w n st go C9 f9 y9 m9 ld nu sz pa (some j) none hwf (fun _ h => by cases h; exact hj) (fun _ h => by cases h)) (cwV 2 hts (lw_V q114 q116 qs4 q25 q117) rfl rfl rfl (by decide +kernel) ⟨Nat.le_of_ble_eq_true rfl, Nat.le_of_ble_eq_true rfl⟩) rfl rfl rfl rfl hl.1 rfl (Nat.le_of_ble_eq_true rfl) dX0_throughBoth_27 ⟨Nat.le_of_ble_eq_true rfl, Nat.le_of_ble_eq_true rfl⟩ (fun r2 ⟨C9, f9, y9, m9⟩ H locs hr2 hX => ?_)
      have hX : wd (dC, dI) A s.heap (w0 a cA B w n st go C9 f9 y9 m9 ld nu sz pa) H locs := hX
      refine lv_isub hx hb dX0_throughBoth_30 ?_
      refine lv_aload_n hx hb dX0_throughBoth_31 rfl (lv_at hl 0 rfl) ?_
      refine lv_iload_n hx hb dX0_throughBoth_32 rfl (lv_at hl 2 rfl) ?_
      refine lv_iconst (v := (-1)) hx hb dX0_throughBoth_33 (by decide) ?_
      refine ca_i (ci := 0) (As := [.int (nI i), .int (-1)]) (rest := [.int (r1 - r2)]) ⟨hx, hb, hml, hown, hts⟩ hK hX hA (metX0_countWithout l dC dI a cA _ B w n st go C9 f9 y9 m9 ld nu sz pa (some i) none hwf (fun _ h => by cases h; exact hi) (fun _ h => by cases h)) (cwV 2 hts (lw_V q114 q116 qs4 q25 q117) rfl rfl rfl (by decide +kernel) ⟨Nat.le_of_ble_eq_true rfl, Nat.le_of_ble_eq_true rfl⟩) rfl rfl rfl rfl hl.1 rfl (Nat.le_of_ble_eq_true rfl) dX0_throughBoth_34 ⟨Nat.le_of_ble_eq_true rfl, Nat.le_of_ble_eq_true rfl⟩ (fun r3 ⟨C9, f9, y9, m9⟩ H locs hr3 hX => ?_)
      have hX : wd (dC, dI) A s.heap (w0 a cA B w n st go C9 f9 y9 m9 ld nu sz pa) H locs := hX
      refine lv_isub hx hb dX0_throughBoth_37 ?_
      refine lv_aload_n hx hb dX0_throughBoth_38 rfl (lv_at hl 0 rfl) ?_
      refine lv_iload_n hx hb dX0_throughBoth_39 rfl (lv_at hl 1 rfl) ?_
      refine lv_iload_n hx hb dX0_throughBoth_40 rfl (lv_at hl 2 rfl) ?_
      refine ca_i (ci := 0) (As := [.int (nI j), .int (nI i)]) (rest := [.int ((r1 - r2) - r3)]) ⟨hx, hb, hml, hown, hts⟩ hK hX hA (metX0_countWithout l dC dI a cA _ B w n st go C9 f9 y9 m9 ld nu sz pa (some j) (some i) hwf (fun _ h => by cases h; exact hj) (fun _ h => by cases h; exact hi)) (cwV 2 hts (lw_V q114 q116 qs4 q25 q117) rfl rfl rfl (by decide +kernel) ⟨Nat.le_of_ble_eq_true rfl, Nat.le_of_ble_eq_true rfl⟩) rfl rfl rfl rfl hl.1 rfl (Nat.le_of_ble_eq_true rfl) dX0_throughBoth_41 ⟨Nat.le_of_ble_eq_true rfl, Nat.le_of_ble_eq_true rfl⟩ (fun r4 ⟨C9, f9, y9, m9⟩ H locs hr4 hX => ?_)
      have hX : wd (dC, dI) A s.heap (w0 a cA B w n st go C9 f9 y9 m9 ld nu sz pa) H locs := hX
      refine lv_iadd hx hb dX0_throughBoth_44 ?_
      exact W.iret (v := (((r1 - r2) - r3) + r4)) hx hb hr (fun T9 hT9 hW9 => ⟨⟨(((r1 - r2) - r3) + r4), (C9, f9, y9, m9), rfl, by unfold op_tb; rw [hix]; simp only []; rw [hiy, hr1, hr2, hr3, hr4]; exact op_sub2 hwf, by rw [hT9]; exact hX.1, va_K.moved hW9.alike hK, hX.2.1⟩, hX.2.2.F hT9⟩) hX.2.2.2.2 dX0_throughBoth_45
    · have hiy : ix y 30 = none := if_pos (of_decide_eq_true c2)
      refine lv_iconst (v := (-1)) hx hb dX0_throughBoth_16 (by decide) ?_
      exact W.iret (v := (-1)) hx hb hr (fun T9 hT9 hW9 => ⟨⟨(-1), (C, fr, wy, mx), rfl, by unfold op_tb; rw [hix]; simp only []; rw [hiy], by rw [hT9]; exact hX.1, va_K.moved hW9.alike hK, hX.2.1⟩, hX.2.2.F hT9⟩) hX.2.2.2.2 dX0_throughBoth_17
set_option maxHeartbeats 4000000 in
set_option maxRecDepth 100000 in
theorem metX0_musts (l : Launch) (dC : Nat → ClassId) (dI : Nat → Nat → Nat) (a : Nat → Nat) (cA : Nat → ClassId) (hz : Nat) (B : Nat → Bool) (w : Nat → Int32) (n : Nat) (st : Nat → Nat) (go : Nat → Nat) (C : Nat → Bool) (fr : Nat → Nat) (wy : Nat → Int32) (mx : Nat → Int32) (ld : Bool) (nu : Int32) (sz : Nat → Nat) (pa : Nat → Nat)  (hwf : pf_wf n st go) : Met l yX0_musts (ws_ yX0_musts cX0_musts 5 (some .int)) ({ frames := 5, cells := 0, slots := 0, locals := 121 }) (va_Pc [.ref (a 0)] (pcW (dC, dI) (t0 cA) hz (w0 a cA B w n st go C fr wy mx ld nu sz pa))) (va_Qi (fun (r : Int32) (u9 : (Nat → Bool) × (Nat → Nat) × (Nat → Int32) × (Nat → Int32)) => match u9 with | (C9, f9, y9, m9) => r = if (pf_L n st go B).length = 0 then 0 else nI (op_mu (pf_L n st go B) 30)) (fun (u9 : (Nat → Bool) × (Nat → Nat) × (Nat → Int32) × (Nat → Int32)) t => bW (dC, dI) (t0 cA) (va_A (w0 a cA B w n st go C fr wy mx ld nu sz pa) hz) (match u9 with | (C9, f9, y9, m9) => (w0 a cA B w n st go C9 f9 y9 m9 ld nu sz pa)) t) (va_A (w0 a cA B w n st go C fr wy mx ld nu sz pa) hz)) 0 0 (va_A (w0 a cA B w n st go C fr wy mx ld nu sz pa) hz) := by
  refine Met.ofW (cc := cX0_musts) (maxL := 5) (ret := (some .int)) (by decide) rfl ?_
  intro p e s m args below meth c s₁ Bd hml hv
  obtain ⟨rfl, hsz, hP, hK, hD0⟩ := hv
  have hx := Bd.exec
  have hb := Bd.bytes
  have hr := Bd.returns
  have hts := atoms_spec (ws := ws_ yX0_musts cX0_musts 5 (some .int)) Bd.pre
  have hts : ∀ w ∈ lw_all, w.before _ s = true := fun w h => hts w (List.mem_cons_of_mem _ h)
  have hown : s.vm.findClass RX0 = some m.cls := findClass_of_methodNamed Bd.named
  have hlocks := Bd.notSynchronized
  subst hsz
  have hD := hD0.self (sz := s.heap.size)
  generalize hAe : va_A (w0 a cA B w n st go C fr wy mx ld nu sz pa) s.heap.size = A at hD ⊢
  have hA : ∀ q : Nat, s.heap.size ≤ q → A q := fun q h => by rw [← hAe]; exact Or.inr h
  have E : x0E p s m c cX0_musts _ dC dI cA := ⟨hx, hb, hts, hown, hK⟩
  have hX : wd (dC, dI) A s.heap (w0 a cA B w n st go C fr wy mx ld nu sz pa) s.heap [] := ⟨hP, hD, va_S.rf⟩
  have hl := lv_entry ([.ref (a 0)]) (n := 5) (Nat.le_of_ble_eq_true rfl)
  rw [lg_entry_eq]
  generalize (lg_sl ([.ref (a 0)]) ++ List.replicate (5 - (lg_sl ([.ref (a 0)])).length) Slot.unset).toArray = ls at hl ⊢
  have hl : lv_has ls 5 [(0, .ref (a 0))] := hl
  have hLl := pf_L_len (n := n) (st := st) (go := go) (B := B)
  refine lv_aload_n hx hb dX0_musts_0 rfl (lv_at hl 0 rfl) ?_
  refine lv_iconst (v := (-1)) hx hb dX0_musts_1 (by decide) ?_
  refine lv_iconst (v := (-1)) hx hb dX0_musts_2 (by decide) ?_
  refine ca_i (ci := 0) (As := [.int (-1), .int (-1)]) (rest := []) ⟨hx, hb, hml, hown, hts⟩ hK hX hA (metX0_countWithout l dC dI a cA _ B w n st go C fr wy mx ld nu sz pa none none hwf (fun _ h => by cases h) (fun _ h => by cases h)) (cwV 2 hts (lw_V q114 q116 qs4 q25 q117) rfl rfl rfl (by decide +kernel) ⟨Nat.le_of_ble_eq_true rfl, Nat.le_of_ble_eq_true rfl⟩) rfl rfl rfl rfl hl.1 rfl (Nat.le_of_ble_eq_true rfl) dX0_musts_3 ⟨Nat.le_of_ble_eq_true rfl, Nat.le_of_ble_eq_true rfl⟩ (fun r1 ⟨C9, f9, y9, m9⟩ H locs hr1 hX => ?_)
  have hX : wd (dC, dI) A s.heap (w0 a cA B w n st go C9 f9 y9 m9 ld nu sz pa) H locs := hX
  rw [pf_cw_all hwf] at hr1
  subst hr1
  refine lv_istore_n (lv' := [(1, .int (nI ((pf_L n st go B).length))), (0, .ref (a 0))]) hx hb dX0_musts_6 rfl hl (by decide) rfl (fun ls hl => ?_)
  refine lv_iconst (v := (nI 0)) hx hb dX0_musts_7 (by decide) ?_
  refine lv_istore_n (lv' := [(2, .int (nI 0)), (1, .int (nI ((pf_L n st go B).length))), (0, .ref (a 0))]) hx hb dX0_musts_8 rfl hl (by decide) rfl (fun ls hl => ?_)
  refine lv_iconst (v := (nI 0)) hx hb dX0_musts_9 (by decide) ?_
  refine lv_istore_n (lv' := [(3, .int (nI 0)), (2, .int (nI 0)), (1, .int (nI ((pf_L n st go B).length))), (0, .ref (a 0))]) hx hb dX0_musts_10 rfl hl (by decide) rfl (fun ls hl => ?_)
  refine lpW (α := Nat × (Nat → Bool) × (Nat → Nat) × (Nat → Int32) × (Nat → Int32)) (F := fun _ ls => F0 m 11 ls []) (I := fun q9 H locs ls => match q9 with | (q, C9, f9, y9, m9) => (q ≤ 30 ∧ ((pf_L n st go B).length = 0 → q = 0)) ∧ wd (dC, dI) A s.heap (w0 a cA B w n st go C9 f9 y9 m9 ld nu sz pa) H locs ∧ lv_has ls 5 [(3, .int (nI q)), (2, .int (nI (op_mu (pf_L n st go B) q))), (1, .int (nI ((pf_L n st go B).length))), (0, .ref (a 0))]) (μ := fun q9 => match q9 with | (q, C9, f9, y9, m9) => 30 - q) ?_ (0, C9, f9, y9, m9) ⟨⟨Nat.zero_le 30, fun _ => rfl⟩, hX, lv_sub hl [0, 1, 2, 3] rfl⟩
  · intro ⟨q, C9, f9, y9, m9⟩ H locs ls hI ih
    obtain ⟨⟨hq, hq0⟩, hX, hl⟩ := hI
    refine lv_iload_n hx hb dX0_musts_11 rfl (lv_at hl 0 rfl) ?_
    refine lv_bipush (v := (nI 30)) hx hb dX0_musts_12 (by decide) ?_
    refine bn_ge (tgt := 48) hx hb (by omega) (by omega) dX0_musts_14 (by decide) (fun c1 => ?_) (fun c1 => ?_)
    · obtain rfl : q = 30 := by omega
      refine lv_iload_n hx hb dX0_musts_48 rfl (lv_at hl 1 rfl) ?_
      exact W.iret (v := (nI (op_mu (pf_L n st go B) 30))) hx hb hr (fun T9 hT9 hW9 => ⟨⟨(nI (op_mu (pf_L n st go B) 30)), (C9, f9, y9, m9), rfl, by rw [if_neg (fun h => absurd (hq0 h) (by decide))], by rw [hT9]; exact hX.1, va_K.moved hW9.alike hK, hX.2.1⟩, hX.2.2.F hT9⟩) hX.2.2.2.2 dX0_musts_49
    · refine lv_iload_n hx hb dX0_musts_17 rfl (lv_at hl 2 rfl) ?_
      refine b0_le (tgt := 48) hx hb (by omega) dX0_musts_18 (by decide) (fun c2 => ?_) (fun c2 => ?_)
      · obtain rfl : q = 0 := hq0 c2
        refine lv_iload_n hx hb dX0_musts_48 rfl (lv_at hl 1 rfl) ?_
        exact W.iret (v := (nI (op_mu (pf_L n st go B) 0))) hx hb hr (fun T9 hT9 hW9 => ⟨⟨(nI (op_mu (pf_L n st go B) 0)), (C9, f9, y9, m9), rfl, by rw [if_pos c2]; rfl, by rw [hT9]; exact hX.1, va_K.moved hW9.alike hK, hX.2.1⟩, hX.2.2.F hT9⟩) hX.2.2.2.2 dX0_musts_49
      · refine lv_aload_n hx hb dX0_musts_21 rfl (lv_at hl 3 rfl) ?_
        refine lv_iload_n hx hb dX0_musts_22 rfl (lv_at hl 0 rfl) ?_
        refine lv_iconst (v := (-1)) hx hb dX0_musts_23 (by decide) ?_
        refine ca_i (ci := 0) (As := [.int (nI q), .int (-1)]) (rest := []) ⟨hx, hb, hml, hown, hts⟩ hK hX hA (metX0_countWithout l dC dI a cA _ B w n st go C9 f9 y9 m9 ld nu sz pa (some q) none hwf (fun _ h => by cases h; exact c1) (fun _ h => by cases h)) (cwV 2 hts (lw_V q114 q116 qs4 q25 q117) rfl rfl rfl (by decide +kernel) ⟨Nat.le_of_ble_eq_true rfl, Nat.le_of_ble_eq_true rfl⟩) rfl rfl rfl rfl hl.1 rfl (Nat.le_of_ble_eq_true rfl) dX0_musts_24 ⟨Nat.le_of_ble_eq_true rfl, Nat.le_of_ble_eq_true rfl⟩ (fun r2 ⟨C9, f9, y9, m9⟩ H locs hr2 hX => ?_)
        have hX : wd (dC, dI) A s.heap (w0 a cA B w n st go C9 f9 y9 m9 ld nu sz pa) H locs := hX
        refine lv_istore (lv' := [(4, .int r2), (3, .int (nI q)), (2, .int (nI (op_mu (pf_L n st go B) q))), (1, .int (nI ((pf_L n st go B).length))), (0, .ref (a 0))]) hx hb dX0_musts_27 hl (by decide) rfl (fun ls hl => ?_)
        refine lv_iload hx hb dX0_musts_29 (lv_at hl 0 rfl) ?_
        refine jnV (pc := 41) (ls := ls) (rest := []) (nI (op_mu (pf_L n st go B) (q + 1))) (fun J1 => ?_) ?_
        · refine lv_if_ne (tgt := 40) hx hb dX0_musts_31 (by decide) (fun c3 => ?_) (fun c3 => ?_)
          · refine lv_iload_n hx hb dX0_musts_40 rfl (lv_at hl 2 rfl) ?_
            exact J1 _ (by
              show _ = nI (op_mu _ q + (if _ then 1 else 0))
              rw [if_neg (fun h => c3 (by rw [hr2]; exact (op_zero hwf).mpr h))]; rfl)
          · refine lv_iload_n hx hb dX0_musts_34 rfl (lv_at hl 2 rfl) ?_
            refine lv_iconst (v := (nI 1)) hx hb dX0_musts_35 (by decide) ?_
            refine lv_iadd hx hb dX0_musts_36 ?_
            refine tp (y := (nI ((op_mu (pf_L n st go B) q) + 1))) (nI_add _ _) ?_
            refine lv_goto (tgt := 41) hx hb dX0_musts_37 (by decide) ?_
            exact J1 _ (by
              show _ = nI (op_mu _ q + (if _ then 1 else 0))
              rw [if_pos ((op_zero hwf).mp (by rw [← hr2]; exact c3))])
        · refine lv_istore_n (lv' := [(2, .int (nI (op_mu (pf_L n st go B) (q + 1)))), (4, .int r2), (3, .int (nI q)), (1, .int (nI ((pf_L n st go B).length))), (0, .ref (a 0))]) hx hb dX0_musts_41 rfl hl (by decide) rfl (fun ls hl => ?_)
          refine lv_iinc (v := (nI (q + 1))) (lv' := [(3, .int (nI (q + 1))), (2, .int (nI (op_mu (pf_L n st go B) (q + 1)))), (4, .int r2), (1, .int (nI ((pf_L n st go B).length))), (0, .ref (a 0))]) hx hb dX0_musts_42 hl (k := 2) rfl (nI_1 _) (by decide) rfl (fun ls hl => ?_)
          refine lv_goto (tgt := 11) hx hb dX0_musts_45 (by decide) ?_
          exact ih (q + 1, C9, f9, y9, m9) _ _ _ ⟨⟨by omega, fun h => absurd h (by omega)⟩, hX, lv_sub hl [0, 1, 3, 4] rfl⟩ (by dsimp only; omega)
set_option maxHeartbeats 4000000 in
set_option maxRecDepth 100000 in
theorem metX0_cell (l : Launch) (dC : Nat → ClassId) (dI : Nat → Nat → Nat) (a : Nat → Nat) (cA : Nat → ClassId) (hz : Nat) (B : Nat → Bool) (w : Nat → Int32) (n : Nat) (st : Nat → Nat) (go : Nat → Nat) (C : Nat → Bool) (fr : Nat → Nat) (wy : Nat → Int32) (mx : Nat → Int32) (ld : Bool) (nu : Int32) (sz : Nat → Nat) (pa : Nat → Nat) (x : Int32) (y : Int32) (hn : n ≤ 4) (hsz : ld = true → ∀ k, k < n → sz k ≤ 10) : Met l yX0_cell (ws_ yX0_cell cX0_cell 3 (some .int)) ({ frames := 0, cells := 0, slots := 0, locals := 0 }) (va_Pc [.ref (a 0), .int x, .int y] (pcW (dC, dI) (t0 cA) hz (w0 a cA B w n st go C fr wy mx ld nu sz pa))) (va_Qi (fun (r : Int32) (u9 : Unit) => match u9 with | _ => r = (if ld = true then (match ix x n with | none => -4 | some i => match ix y (sz i) with | none => -4 | some q => nI (pa (10 * i + q))) else -4)) (fun (u9 : Unit) t => bW (dC, dI) (t0 cA) (va_A (w0 a cA B w n st go C fr wy mx ld nu sz pa) hz) (match u9 with | _ => (w0 a cA B w n st go C fr wy mx ld nu sz pa)) t) (va_A (w0 a cA B w n st go C fr wy mx ld nu sz pa) hz)) 0 0 (va_A (w0 a cA B w n st go C fr wy mx ld nu sz pa) hz) := by
  refine Met.ofW (cc := cX0_cell) (maxL := 3) (ret := (some .int)) (by decide) rfl ?_
  intro p e s m args below meth c s₁ Bd hml hv
  obtain ⟨rfl, hsz, hP, hK, hD0⟩ := hv
  have hx := Bd.exec
  have hb := Bd.bytes
  have hr := Bd.returns
  have hts := atoms_spec (ws := ws_ yX0_cell cX0_cell 3 (some .int)) Bd.pre
  have hts : ∀ w ∈ lw_all, w.before _ s = true := fun w h => hts w (List.mem_cons_of_mem _ h)
  have hown : s.vm.findClass RX0 = some m.cls := findClass_of_methodNamed Bd.named
  have hlocks := Bd.notSynchronized
  subst hsz
  have hD := hD0.self (sz := s.heap.size)
  generalize hAe : va_A (w0 a cA B w n st go C fr wy mx ld nu sz pa) s.heap.size = A at hD ⊢
  have hA : ∀ q : Nat, s.heap.size ≤ q → A q := fun q h => by rw [← hAe]; exact Or.inr h
  have E : x0E p s m c cX0_cell _ dC dI cA := ⟨hx, hb, hts, hown, hK⟩
  have hX : wd (dC, dI) A s.heap (w0 a cA B w n st go C fr wy mx ld nu sz pa) s.heap [] := ⟨hP, hD, va_S.rf⟩
  have hl := lv_entry ([.ref (a 0), .int x, .int y]) (n := 3) (Nat.le_of_ble_eq_true rfl)
  rw [lg_entry_eq]
  generalize (lg_sl ([.ref (a 0), .int x, .int y]) ++ List.replicate (3 - (lg_sl ([.ref (a 0), .int x, .int y])).length) Slot.unset).toArray = ls at hl ⊢
  have hl : lv_has ls 3 [(0, .ref (a 0)), (1, .int x), (2, .int y)] := hl
  refine lv_aload_n hx hb dX0_cell_0 rfl (lv_at hl 0 rfl) ?_
  refine x0_g9 E hX dX0_cell_1 ?_
  refine bz_eq (tgt := 33) hx hb dX0_cell_4 (by decide) (fun c1 => ?_) (fun c1 => ?_)
  · refine lv_bipush (v := (-4)) hx hb dX0_cell_33 (by decide) ?_
    refine lv_goto (tgt := 49) hx hb dX0_cell_35 (by decide) ?_
    exact W.iret (v := (-4)) hx hb hr (fun T9 hT9 hW9 => ⟨⟨(-4), (), rfl, by rw [c1]; rfl, by rw [hT9]; exact hX.1, va_K.moved hW9.alike hK, hX.2.1⟩, hX.2.2.F hT9⟩) hX.2.2.2.2 dX0_cell_49
  · refine lv_iload_n hx hb dX0_cell_7 rfl (lv_at hl 1 rfl) ?_
    refine lv_if_lt (tgt := 33) hx hb dX0_cell_8 (by decide) (fun c2 => ?_) (fun c2 => ?_)
    · refine lv_bipush (v := (-4)) hx hb dX0_cell_33 (by decide) ?_
      refine lv_goto (tgt := 49) hx hb dX0_cell_35 (by decide) ?_
      exact W.iret (v := (-4)) hx hb hr (fun T9 hT9 hW9 => ⟨⟨(-4), (), rfl, by rw [if_pos c1, ix_lo c2], by rw [hT9]; exact hX.1, va_K.moved hW9.alike hK, hX.2.1⟩, hX.2.2.F hT9⟩) hX.2.2.2.2 dX0_cell_49
    · refine lv_iload_n hx hb dX0_cell_11 rfl (lv_at hl 1 rfl) ?_
      refine lv_aload_n hx hb dX0_cell_12 rfl (lv_at hl 0 rfl) ?_
      refine x0_g2 E hX dX0_cell_13 ?_
      refine lv_icmp_ge (tgt := 33) hx hb dX0_cell_16 (by decide) (fun c3 => ?_) (fun c3 => ?_)
      · refine lv_bipush (v := (-4)) hx hb dX0_cell_33 (by decide) ?_
        refine lv_goto (tgt := 49) hx hb dX0_cell_35 (by decide) ?_
        exact W.iret (v := (-4)) hx hb hr (fun T9 hT9 hW9 => ⟨⟨(-4), (), rfl, by rw [if_pos c1, ix_hi c3], by rw [hT9]; exact hX.1, va_K.moved hW9.alike hK, hX.2.1⟩, hX.2.2.F hT9⟩) hX.2.2.2.2 dX0_cell_49
      · obtain ⟨i, hi, rfl⟩ := pf_ix c2 c3 (by omega)
        have hs9 := hsz c1 i hi
        refine lv_iload_n hx hb dX0_cell_19 rfl (lv_at hl 2 rfl) ?_
        refine lv_if_lt (tgt := 33) hx hb dX0_cell_20 (by decide) (fun c4 => ?_) (fun c4 => ?_)
        · refine lv_bipush (v := (-4)) hx hb dX0_cell_33 (by decide) ?_
          refine lv_goto (tgt := 49) hx hb dX0_cell_35 (by decide) ?_
          exact W.iret (v := (-4)) hx hb hr (fun T9 hT9 hW9 => ⟨⟨(-4), (), rfl, by rw [if_pos c1, ix_in hi (by omega)]; simp only []; rw [ix_lo c4], by rw [hT9]; exact hX.1, va_K.moved hW9.alike hK, hX.2.1⟩, hX.2.2.F hT9⟩) hX.2.2.2.2 dX0_cell_49
        · refine lv_iload_n hx hb dX0_cell_23 rfl (lv_at hl 2 rfl) ?_
          refine lv_aload_n hx hb dX0_cell_24 rfl (lv_at hl 0 rfl) ?_
          refine x0_g11 E hX dX0_cell_25 ?_
          refine lv_iload_n hx hb dX0_cell_28 rfl (lv_at hl 1 rfl) ?_
          refine x0_l9 E hX (by omega) dX0_cell_29 ?_
          refine lv_icmp_lt (tgt := 38) hx hb dX0_cell_30 (by decide) (fun c5 => ?_) (fun c5 => ?_)
          · obtain ⟨j, hj, rfl⟩ := pf_ix c4 (Int32.not_le.mpr c5) (by omega)
            refine lv_aload_n hx hb dX0_cell_38 rfl (lv_at hl 0 rfl) ?_
            refine x0_g12 E hX dX0_cell_39 ?_
            refine lv_bipush (v := (nI 10)) hx hb dX0_cell_42 (by decide) ?_
            refine lv_iload_n hx hb dX0_cell_44 rfl (lv_at hl 1 rfl) ?_
            refine lv_imul hx hb dX0_cell_45 ?_
            refine tp (y := (nI (10 * i))) (pk_mul _ _) ?_
            refine lv_iload_n hx hb dX0_cell_46 rfl (lv_at hl 2 rfl) ?_
            refine lv_iadd hx hb dX0_cell_47 ?_
            refine tp (y := (nI ((10 * i) + j))) (nI_add _ _) ?_
            refine x0_l10 E hX (by omega) dX0_cell_48 ?_
            exact W.iret (v := (nI (pa ((10 * i) + j)))) hx hb hr (fun T9 hT9 hW9 => ⟨⟨(nI (pa ((10 * i) + j))), (), rfl, by rw [if_pos c1, ix_in hi (by omega)]; simp only []; rw [ix_in hj (by omega)], by rw [hT9]; exact hX.1, va_K.moved hW9.alike hK, hX.2.1⟩, hX.2.2.F hT9⟩) hX.2.2.2.2 dX0_cell_49
          · refine lv_bipush (v := (-4)) hx hb dX0_cell_33 (by decide) ?_
            refine lv_goto (tgt := 49) hx hb dX0_cell_35 (by decide) ?_
            exact W.iret (v := (-4)) hx hb hr (fun T9 hT9 hW9 => ⟨⟨(-4), (), rfl, by rw [if_pos c1, ix_in hi (by omega)]; simp only []; rw [ix_hi (Int32.not_lt.mp c5)], by rw [hT9]; exact hX.1, va_K.moved hW9.alike hK, hX.2.1⟩, hX.2.2.F hT9⟩) hX.2.2.2.2 dX0_cell_49
set_option maxHeartbeats 4000000 in
set_option maxRecDepth 100000 in
theorem metX0_loadedWeight (l : Launch) (dC : Nat → ClassId) (dI : Nat → Nat → Nat) (a : Nat → Nat) (cA : Nat → ClassId) (hz : Nat) (B : Nat → Bool) (w : Nat → Int32) (n : Nat) (st : Nat → Nat) (go : Nat → Nat) (C : Nat → Bool) (fr : Nat → Nat) (wy : Nat → Int32) (mx : Nat → Int32) (ld : Bool) (nu : Int32) (sz : Nat → Nat) (pa : Nat → Nat)  (hn : n ≤ 4) (hsz : ld = true → ∀ k, k < n → sz k ≤ 10 ∧ ∀ j, j < sz k → pa (10 * k + j) < 30) : Met l yX0_loadedWeight (ws_ yX0_loadedWeight cX0_loadedWeight 3 (some .int)) ({ frames := 0, cells := 0, slots := 0, locals := 0 }) (va_Pc [.ref (a 0)] (pcW (dC, dI) (t0 cA) hz (w0 a cA B w n st go C fr wy mx ld nu sz pa))) (va_Qi (fun (r : Int32) (u9 : Unit) => match u9 with | _ => r = (if ld = true then pf_lw w sz pa (10 * n) else 0)) (fun (u9 : Unit) t => bW (dC, dI) (t0 cA) (va_A (w0 a cA B w n st go C fr wy mx ld nu sz pa) hz) (match u9 with | _ => (w0 a cA B w n st go C fr wy mx ld nu sz pa)) t) (va_A (w0 a cA B w n st go C fr wy mx ld nu sz pa) hz)) 0 0 (va_A (w0 a cA B w n st go C fr wy mx ld nu sz pa) hz) := by
  refine Met.ofW (cc := cX0_loadedWeight) (maxL := 3) (ret := (some .int)) (by decide) rfl ?_
  intro p e s m args below meth c s₁ Bd hml hv
  obtain ⟨rfl, hsz, hP, hK, hD0⟩ := hv
  have hx := Bd.exec
  have hb := Bd.bytes
  have hr := Bd.returns
  have hts := atoms_spec (ws := ws_ yX0_loadedWeight cX0_loadedWeight 3 (some .int)) Bd.pre
  have hts : ∀ w ∈ lw_all, w.before _ s = true := fun w h => hts w (List.mem_cons_of_mem _ h)
  have hown : s.vm.findClass RX0 = some m.cls := findClass_of_methodNamed Bd.named
  have hlocks := Bd.notSynchronized
  subst hsz
  have hD := hD0.self (sz := s.heap.size)
  generalize hAe : va_A (w0 a cA B w n st go C fr wy mx ld nu sz pa) s.heap.size = A at hD ⊢
  have hA : ∀ q : Nat, s.heap.size ≤ q → A q := fun q h => by rw [← hAe]; exact Or.inr h
  have E : x0E p s m c cX0_loadedWeight _ dC dI cA := ⟨hx, hb, hts, hown, hK⟩
  have hX : wd (dC, dI) A s.heap (w0 a cA B w n st go C fr wy mx ld nu sz pa) s.heap [] := ⟨hP, hD, va_S.rf⟩
  have hl := lv_entry ([.ref (a 0)]) (n := 3) (Nat.le_of_ble_eq_true rfl)
  rw [lg_entry_eq]
  generalize (lg_sl ([.ref (a 0)]) ++ List.replicate (3 - (lg_sl ([.ref (a 0)])).length) Slot.unset).toArray = ls at hl ⊢
  have hl : lv_has ls 3 [(0, .ref (a 0))] := hl
  refine lv_aload_n hx hb dX0_loadedWeight_0 rfl (lv_at hl 0 rfl) ?_
  refine x0_g9 E hX dX0_loadedWeight_1 ?_
  refine bz_ne (tgt := 9) hx hb dX0_loadedWeight_4 (by decide) (fun c1 => ?_) (fun c1 => ?_)
  · refine lv_iconst (v := (nI 1)) hx hb dX0_loadedWeight_9 (by decide) ?_
    refine lv_istore_n (lv' := [(1, .int (nI 1)), (0, .ref (a 0))]) hx hb dX0_loadedWeight_10 rfl hl (by decide) rfl (fun ls hl => ?_)
    refine lv_iconst (v := (nI 0)) hx hb dX0_loadedWeight_11 (by decide) ?_
    refine lv_istore_n (lv' := [(2, .int (nI 0)), (1, .int (nI 1)), (0, .ref (a 0))]) hx hb dX0_loadedWeight_12 rfl hl (by decide) rfl (fun ls hl => ?_)
    refine lpW (α := Nat) (F := fun _ ls => F0 m 13 ls []) (I := fun q9 H locs ls => match q9 with | q => q ≤ 10 * n ∧ wd (dC, dI) A s.heap (w0 a cA B w n st go C fr wy mx ld nu sz pa) H locs ∧ lv_has ls 3 [(2, .int (nI q)), (1, .int (pf_lw w sz pa q)), (0, .ref (a 0))]) (μ := fun q9 => match q9 with | q => 10 * n - q) ?_ 0 ⟨Nat.zero_le _, hX, lv_sub hl [0, 1, 2] rfl⟩
    · intro q H locs ls hI ih
      obtain ⟨hq, hX, hl⟩ := hI
      refine lv_iload_n hx hb dX0_loadedWeight_13 rfl (lv_at hl 0 rfl) ?_
      refine lv_bipush (v := (nI 10)) hx hb dX0_loadedWeight_14 (by decide) ?_
      refine lv_aload_n hx hb dX0_loadedWeight_16 rfl (lv_at hl 2 rfl) ?_
      refine x0_g2 E hX dX0_loadedWeight_17 ?_
      refine lv_imul hx hb dX0_loadedWeight_20 ?_
      refine tp (y := (nI (10 * n))) (pk_mul _ _) ?_
      refine bn_ge (tgt := 60) hx hb (by omega) (by omega) dX0_loadedWeight_21 (by decide) (fun c2 => ?_) (fun c2 => ?_)
      · obtain rfl : q = 10 * n := by omega
        refine lv_iload_n hx hb dX0_loadedWeight_60 rfl (lv_at hl 1 rfl) ?_
        exact W.iret (v := (pf_lw w sz pa (10 * n))) hx hb hr (fun T9 hT9 hW9 => ⟨⟨(pf_lw w sz pa (10 * n)), (), rfl, by rw [if_pos c1], by rw [hT9]; exact hX.1, va_K.moved hW9.alike hK, hX.2.1⟩, hX.2.2.F hT9⟩) hX.2.2.2.2 dX0_loadedWeight_61
      · have hs9 := hsz c1 (q / 10) (by omega)
        refine lv_iload_n hx hb dX0_loadedWeight_24 rfl (lv_at hl 0 rfl) ?_
        refine lv_bipush (v := (nI 10)) hx hb dX0_loadedWeight_25 (by decide) ?_
        refine lv_irem hx hb dX0_loadedWeight_27 (by decide) ?_
        refine tp (y := (nI (q % 10))) (pk_rem (by omega) (by decide) (by decide)) ?_
        refine lv_aload_n hx hb dX0_loadedWeight_28 rfl (lv_at hl 2 rfl) ?_
        refine x0_g11 E hX dX0_loadedWeight_29 ?_
        refine lv_iload_n hx hb dX0_loadedWeight_32 rfl (lv_at hl 0 rfl) ?_
        refine lv_bipush (v := (nI 10)) hx hb dX0_loadedWeight_33 (by decide) ?_
        refine lv_idiv hx hb dX0_loadedWeight_35 (by decide) ?_
        refine tp (y := (nI (q / 10))) (pk_div (by omega) (by decide) (by decide)) ?_
        refine x0_l9 E hX (by omega) dX0_loadedWeight_36 ?_
        refine jnW (α := Unit) (F := fun _ ls => F0 m 54 ls []) (I := fun q9 H locs ls => match q9 with | _ => wd (dC, dI) A s.heap (w0 a cA B w n st go C fr wy mx ld nu sz pa) H locs ∧ lv_has ls 3 [(2, .int (nI q)), (1, .int (pf_lw w sz pa (q + 1))), (0, .ref (a 0))]) (fun J1 => ?_) ?_
        · refine bn_ge (tgt := 54) hx hb (by omega) (by omega) dX0_loadedWeight_37 (by decide) (fun c3 => ?_) (fun c3 => ?_)
          · have e1 : pf_lw w sz pa (q + 1) = pf_lw w sz pa q := if_neg (by omega)
            exact J1 () _ _ _ ⟨hX, by rw [e1]; exact lv_sub hl [0, 1, 2] rfl⟩
          · have hp9 := hs9.2 (q % 10) c3
            rw [show 10 * (q / 10) + q % 10 = q by omega] at hp9
            refine lv_iload_n hx hb dX0_loadedWeight_40 rfl (lv_at hl 1 rfl) ?_
            refine lv_aload_n hx hb dX0_loadedWeight_41 rfl (lv_at hl 2 rfl) ?_
            refine x0_g1 E hX dX0_loadedWeight_42 ?_
            refine lv_aload_n hx hb dX0_loadedWeight_45 rfl (lv_at hl 2 rfl) ?_
            refine x0_g12 E hX dX0_loadedWeight_46 ?_
            refine lv_iload_n hx hb dX0_loadedWeight_49 rfl (lv_at hl 0 rfl) ?_
            refine x0_l10 E hX (by omega) dX0_loadedWeight_50 ?_
            refine x0_l2 E hX (by omega) dX0_loadedWeight_51 ?_
            refine lv_imul hx hb dX0_loadedWeight_52 ?_
            refine lv_istore_n (lv' := [(1, .int ((pf_lw w sz pa q) * (w (pa q)))), (2, .int (nI q)), (0, .ref (a 0))]) hx hb dX0_loadedWeight_53 rfl hl (by decide) rfl (fun ls hl => ?_)
            have e1 : pf_lw w sz pa (q + 1) = pf_lw w sz pa q * w (pa q) := if_pos c3
            exact J1 () _ _ _ ⟨hX, by rw [e1]; exact lv_sub hl [1, 0, 2] rfl⟩
        · intro _ H locs ls hI
          obtain ⟨hX, hl⟩ := hI
          refine lv_iinc (v := (nI (q + 1))) (lv' := [(2, .int (nI (q + 1))), (1, .int (pf_lw w sz pa (q + 1))), (0, .ref (a 0))]) hx hb dX0_loadedWeight_54 hl (k := 0) rfl (nI_1 _) (by decide) rfl (fun ls hl => ?_)
          refine lv_goto (tgt := 13) hx hb dX0_loadedWeight_57 (by decide) ?_
          exact ih (q + 1) _ _ _ ⟨by omega, hX, lv_sub hl [0, 1, 2] rfl⟩ (by dsimp only; omega)
  · refine lv_iconst (v := (nI 0)) hx hb dX0_loadedWeight_7 (by decide) ?_
    exact W.iret (v := (nI 0)) hx hb hr (fun T9 hT9 hW9 => ⟨⟨(nI 0), (), rfl, by rw [c1]; rfl, by rw [hT9]; exact hX.1, va_K.moved hW9.alike hK, hX.2.1⟩, hX.2.2.F hT9⟩) hX.2.2.2.2 dX0_loadedWeight_8
set_option maxHeartbeats 4000000 in
set_option maxRecDepth 100000 in
theorem metX0_rank (l : Launch) (dC : Nat → ClassId) (dI : Nat → Nat → Nat) (a : Nat → Nat) (cA : Nat → ClassId) (hz : Nat) (B : Nat → Bool) (w : Nat → Int32) (n : Nat) (st : Nat → Nat) (go : Nat → Nat) (C : Nat → Bool) (fr : Nat → Nat) (wy : Nat → Int32) (mx : Nat → Int32) (ld : Bool) (nu : Int32) (sz : Nat → Nat) (pa : Nat → Nat)   : Met l yX0_rank (ws_ yX0_rank cX0_rank 1 (some .int)) ({ frames := 0, cells := 0, slots := 0, locals := 0 }) (va_Pc [.ref (a 0)] (pcW (dC, dI) (t0 cA) hz (w0 a cA B w n st go C fr wy mx ld nu sz pa))) (va_Qi (fun (r : Int32) (u9 : Unit) => match u9 with | _ => r = (if ld = true then nu else -4)) (fun (u9 : Unit) t => bW (dC, dI) (t0 cA) (va_A (w0 a cA B w n st go C fr wy mx ld nu sz pa) hz) (match u9 with | _ => (w0 a cA B w n st go C fr wy mx ld nu sz pa)) t) (va_A (w0 a cA B w n st go C fr wy mx ld nu sz pa) hz)) 0 0 (va_A (w0 a cA B w n st go C fr wy mx ld nu sz pa) hz) := by
  refine Met.ofW (cc := cX0_rank) (maxL := 1) (ret := (some .int)) (by decide) rfl ?_
  intro p e s m args below meth c s₁ Bd hml hv
  obtain ⟨rfl, hsz, hP, hK, hD0⟩ := hv
  have hx := Bd.exec
  have hb := Bd.bytes
  have hr := Bd.returns
  have hts := atoms_spec (ws := ws_ yX0_rank cX0_rank 1 (some .int)) Bd.pre
  have hts : ∀ w ∈ lw_all, w.before _ s = true := fun w h => hts w (List.mem_cons_of_mem _ h)
  have hown : s.vm.findClass RX0 = some m.cls := findClass_of_methodNamed Bd.named
  have hlocks := Bd.notSynchronized
  subst hsz
  have hD := hD0.self (sz := s.heap.size)
  generalize hAe : va_A (w0 a cA B w n st go C fr wy mx ld nu sz pa) s.heap.size = A at hD ⊢
  have hA : ∀ q : Nat, s.heap.size ≤ q → A q := fun q h => by rw [← hAe]; exact Or.inr h
  have E : x0E p s m c cX0_rank _ dC dI cA := ⟨hx, hb, hts, hown, hK⟩
  have hX : wd (dC, dI) A s.heap (w0 a cA B w n st go C fr wy mx ld nu sz pa) s.heap [] := ⟨hP, hD, va_S.rf⟩
  have hl := lv_entry ([.ref (a 0)]) (n := 1) (Nat.le_of_ble_eq_true rfl)
  rw [lg_entry_eq]
  generalize (lg_sl ([.ref (a 0)]) ++ List.replicate (1 - (lg_sl ([.ref (a 0)])).length) Slot.unset).toArray = ls at hl ⊢
  have hl : lv_has ls 1 [(0, .ref (a 0))] := hl
  refine lv_aload_n hx hb dX0_rank_0 rfl (lv_at hl 0 rfl) ?_
  refine x0_g9 E hX dX0_rank_1 ?_
  refine bz_eq (tgt := 14) hx hb dX0_rank_4 (by decide) (fun c1 => ?_) (fun c1 => ?_)
  · refine lv_bipush (v := (-4)) hx hb dX0_rank_14 (by decide) ?_
    exact W.iret (v := (-4)) hx hb hr (fun T9 hT9 hW9 => ⟨⟨(-4), (), rfl, by rw [c1]; rfl, by rw [hT9]; exact hX.1, va_K.moved hW9.alike hK, hX.2.1⟩, hX.2.2.F hT9⟩) hX.2.2.2.2 dX0_rank_16
  · refine lv_aload_n hx hb dX0_rank_7 rfl (lv_at hl 0 rfl) ?_
    refine x0_g10 E hX dX0_rank_8 ?_
    refine lv_goto (tgt := 16) hx hb dX0_rank_11 (by decide) ?_
    exact W.iret (v := nu) hx hb hr (fun T9 hT9 hW9 => ⟨⟨nu, (), rfl, by rw [if_pos c1], by rw [hT9]; exact hX.1, va_K.moved hW9.alike hK, hX.2.1⟩, hX.2.2.F hT9⟩) hX.2.2.2.2 dX0_rank_16
end
section
set_option maxRecDepth 100000
theorem pf_fr30 {n i v : Nat} {st fr : Nat → Nat} (hst : ∀ k, k < n → st k < 5) (h2 : v < 30) (h12 : fr i = v) (h13 : ∀ k, i < k → k < n → fr k = st k) : ∀ k, i ≤ k → k < n → fr k < 30 := by
  intro k hk hn
  by_cases e : k = i
  · rw [e, h12]; exact h2
  · rw [h13 k (by omega) hn]; have := hst k hn; omega
set_option maxHeartbeats 4000000 in
set_option maxRecDepth 100000 in
theorem metX0_countRight (l : Launch) (dC : Nat → ClassId) (dI : Nat → Nat → Nat) (a : Nat → Nat) (cA : Nat → ClassId) (hz : Nat) (B : Nat → Bool) (w : Nat → Int32) (n : Nat) (st : Nat → Nat) (go : Nat → Nat) (C : Nat → Bool) (fr : Nat → Nat) (wy : Nat → Int32) (mx : Nat → Int32) (ld : Bool) (nu : Int32) (sz : Nat → Nat) (pa : Nat → Nat) (i : Nat) (v : Nat) (hn : n ≤ 4) (hi : i < n) (hv : v < 30) (hfr : ∀ k, i ≤ k → k < n → fr k < 30) (hgo : ∀ k, k < n → go k < 30) (hC : C v = false) (hfi : fr i = v) : Met l yX0_countRight (ws_ yX0_countRight cX0_countRight 4 (some .int)) ({ frames := 4, cells := 0, slots := 0, locals := 99 }) (va_Pc [.ref (a 0), .int (nI i), .int (nI v)] (pcW (dC, dI) (t0 cA) hz (w0 a cA B w n st go C fr wy mx ld nu sz pa))) (va_Qi (fun (r : Int32) (u9 : (Nat → Bool) × (Nat → Nat) × (Nat → Int32) × (Nat → Int32)) => match u9 with | (C9, f9, y9, m9) => r = (if v < 25 then pf_det (pf_M n go i (va_up fr i (v + 5)) (pf_a B (va_up C v true) false w)) else 0) ∧ (∀ j, j < 30 → C9 j = C j) ∧ (∀ j, j < n → f9 j = fr j)) (fun (u9 : (Nat → Bool) × (Nat → Nat) × (Nat → Int32) × (Nat → Int32)) t => bW (dC, dI) (t0 cA) (va_A (w0 a cA B w n st go C fr wy mx ld nu sz pa) hz) (match u9 with | (C9, f9, y9, m9) => (w0 a cA B w n st go C9 f9 y9 m9 ld nu sz pa)) t) (va_A (w0 a cA B w n st go C fr wy mx ld nu sz pa) hz)) 0 0 (va_A (w0 a cA B w n st go C fr wy mx ld nu sz pa) hz) := by
  refine Met.ofW (cc := cX0_countRight) (maxL := 4) (ret := (some .int)) (by decide) rfl ?_
  intro p e s m args below meth c s₁ Bd hml hv
  obtain ⟨rfl, hsz, hP, hK, hD0⟩ := hv
  have hx := Bd.exec
  have hb := Bd.bytes
  have hr := Bd.returns
  have hts := atoms_spec (ws := ws_ yX0_countRight cX0_countRight 4 (some .int)) Bd.pre
  have hts : ∀ w ∈ lw_all, w.before _ s = true := fun w h => hts w (List.mem_cons_of_mem _ h)
  have hown : s.vm.findClass RX0 = some m.cls := findClass_of_methodNamed Bd.named
  have hlocks := Bd.notSynchronized
  subst hsz
  have hD := hD0.self (sz := s.heap.size)
  generalize hAe : va_A (w0 a cA B w n st go C fr wy mx ld nu sz pa) s.heap.size = A at hD ⊢
  have hA : ∀ q : Nat, s.heap.size ≤ q → A q := fun q h => by rw [← hAe]; exact Or.inr h
  have E : x0E p s m c cX0_countRight _ dC dI cA := ⟨hx, hb, hts, hown, hK⟩
  have hX : wd (dC, dI) A s.heap (w0 a cA B w n st go C fr wy mx ld nu sz pa) s.heap [] := ⟨hP, hD, va_S.rf⟩
  have hl := lv_entry ([.ref (a 0), .int (nI i), .int (nI v)]) (n := 4) (Nat.le_of_ble_eq_true rfl)
  rw [lg_entry_eq]
  generalize (lg_sl ([.ref (a 0), .int (nI i), .int (nI v)]) ++ List.replicate (4 - (lg_sl ([.ref (a 0), .int (nI i), .int (nI v)])).length) Slot.unset).toArray = ls at hl ⊢
  have hl : lv_has ls 4 [(0, .ref (a 0)), (1, .int (nI i)), (2, .int (nI v))] := hl
  refine lv_aload_n hx hb dX0_countRight_0 rfl (lv_at hl 0 rfl) ?_
  refine lv_iload_n hx hb dX0_countRight_1 rfl (lv_at hl 2 rfl) ?_
  refine ca_i (ci := 0) (As := [.int (nI v)]) (rest := []) ⟨hx, hb, hml, hown, hts⟩ hK hX hA (metX0_mayRight l dC dI a cA _ B w n st go C fr wy mx ld nu sz pa v hv) (cwV 1 hts (lw_V q170 q172 qs13 q25 q173) rfl rfl rfl (by decide +kernel) ⟨Nat.le_of_ble_eq_true rfl, Nat.le_of_ble_eq_true rfl⟩) rfl rfl rfl rfl hl.1 rfl (Nat.le_of_ble_eq_true rfl) dX0_countRight_2 ⟨Nat.le_of_ble_eq_true rfl, Nat.le_of_ble_eq_true rfl⟩ (fun r1 _ H locs hr1 hX => ?_)
  subst hr1
  refine bz_ne (tgt := 10) hx hb dX0_countRight_5 (by decide) (fun c1 => ?_) (fun c1 => ?_)
  · have c9 := of_decide_eq_true c1
    refine lv_aload_n hx hb dX0_countRight_10 rfl (lv_at hl 0 rfl) ?_
    refine x0_g6 E hX dX0_countRight_11 ?_
    refine lv_iload_n hx hb dX0_countRight_14 rfl (lv_at hl 1 rfl) ?_
    refine lv_iload_n hx hb dX0_countRight_15 rfl (lv_at hl 2 rfl) ?_
    refine lv_iconst (v := (nI 5)) hx hb dX0_countRight_16 (by decide) ?_
    refine lv_iadd hx hb dX0_countRight_17 ?_
    refine tp (y := (nI (v + 5))) (nI_add _ _) ?_
    refine lv_i2b (v := (nI (v + 5))) hx hb dX0_countRight_18 (nI_byte (by omega)) ?_
    refine x0_s6 E hX (by omega) (by omega) dX0_countRight_19 (fun H locs hX => ?_)
    refine lv_aload_n hx hb dX0_countRight_20 rfl (lv_at hl 0 rfl) ?_
    refine x0_g5 E hX dX0_countRight_21 ?_
    refine lv_iload_n hx hb dX0_countRight_24 rfl (lv_at hl 2 rfl) ?_
    refine lv_iconst (v := (nI 1)) hx hb dX0_countRight_25 (by decide) ?_
    refine tp (y := (b2 true)) rfl ?_
    refine x0_s5 E hX (by omega) dX0_countRight_26 (fun H locs hX => ?_)
    refine lv_aload_n hx hb dX0_countRight_27 rfl (lv_at hl 0 rfl) ?_
    refine lv_iload_n hx hb dX0_countRight_28 rfl (lv_at hl 1 rfl) ?_
    refine lv_iconst (v := (nI 0)) hx hb dX0_countRight_29 (by decide) ?_
    refine tp (y := (b2 false)) rfl ?_
    refine ca_i (ci := 0) (As := [.int (nI i), .int (b2 false)]) (rest := []) ⟨hx, hb, hml, hown, hts⟩ hK hX hA (metX0_count l dC dI a cA _ B w n st go (va_up C v true) (va_up fr i (v + 5)) wy mx ld nu sz pa i false hn hi (fun k hk0 hk => by
          show (if k = i then v + 5 else fr k) < 30
          by_cases e : k = i
          · rw [if_pos e]; omega
          · rw [if_neg e]; exact hfr k hk0 hk) hgo) (cwV 2 hts (lw_V q118 q120 qs5 q25 q121) rfl rfl rfl (by decide +kernel) ⟨Nat.le_of_ble_eq_true rfl, Nat.le_of_ble_eq_true rfl⟩) rfl rfl rfl rfl hl.1 rfl (Nat.le_of_ble_eq_true rfl) dX0_countRight_30 ⟨Nat.le_of_ble_eq_true rfl, Nat.le_of_ble_eq_true rfl⟩ (fun r2 ⟨y9, m9⟩ H locs hr2 hX => ?_)
    have hX : wd (dC, dI) A s.heap (w0 a cA B w n st go (va_up C v true) (va_up fr i (v + 5)) y9 m9 ld nu sz pa) H locs := hX
    refine lv_istore_n (lv' := [(3, .int r2), (0, .ref (a 0)), (1, .int (nI i)), (2, .int (nI v))]) hx hb dX0_countRight_33 rfl hl (by decide) rfl (fun ls hl => ?_)
    refine lv_aload_n hx hb dX0_countRight_34 rfl (lv_at hl 1 rfl) ?_
    refine x0_g5 E hX dX0_countRight_35 ?_
    refine lv_iload_n hx hb dX0_countRight_38 rfl (lv_at hl 3 rfl) ?_
    refine lv_iconst (v := (nI 0)) hx hb dX0_countRight_39 (by decide) ?_
    refine tp (y := (b2 false)) rfl ?_
    refine x0_s5 E hX (by omega) dX0_countRight_40 (fun H locs hX => ?_)
    refine lv_aload_n hx hb dX0_countRight_41 rfl (lv_at hl 1 rfl) ?_
    refine x0_g6 E hX dX0_countRight_42 ?_
    refine lv_iload_n hx hb dX0_countRight_45 rfl (lv_at hl 2 rfl) ?_
    refine lv_iload_n hx hb dX0_countRight_46 rfl (lv_at hl 3 rfl) ?_
    refine lv_i2b (v := (nI v)) hx hb dX0_countRight_47 (nI_byte (by omega)) ?_
    refine x0_s6 E hX (by omega) (by omega) dX0_countRight_48 (fun H locs hX => ?_)
    refine lv_iload_n hx hb dX0_countRight_49 rfl (lv_at hl 0 rfl) ?_
    exact W.iret (v := r2) hx hb hr (fun T9 hT9 hW9 => ⟨⟨r2, (va_up (va_up C v true) v false, va_up (va_up fr i (v + 5)) i v, y9, m9), rfl, ⟨by rw [if_pos c9]; exact hr2, fun j _ => by
          show (if j = v then false else if j = v then true else C j) = C j
          by_cases e : j = v
          · rw [if_pos e, e, hC]
          · rw [if_neg e, if_neg e], fun j _ => by
          show (if j = i then v else if j = i then v + 5 else fr j) = fr j
          by_cases e : j = i
          · rw [if_pos e, e, hfi]
          · rw [if_neg e, if_neg e]⟩, by rw [hT9]; exact hX.1, va_K.moved hW9.alike hK, hX.2.1⟩, hX.2.2.F hT9⟩) hX.2.2.2.2 dX0_countRight_50
  · have c9 := of_decide_eq_false c1
    refine lv_iconst (v := (nI 0)) hx hb dX0_countRight_8 (by decide) ?_
    exact W.iret (v := (nI 0)) hx hb hr (fun T9 hT9 hW9 => ⟨⟨(nI 0), (C, fr, wy, mx), rfl, ⟨by rw [if_neg c9]; rfl, fun _ _ => rfl, fun _ _ => rfl⟩, by rw [hT9]; exact hX.1, va_K.moved hW9.alike hK, hX.2.1⟩, hX.2.2.F hT9⟩) hX.2.2.2.2 dX0_countRight_9
set_option maxHeartbeats 4000000 in
set_option maxRecDepth 100000 in
theorem metX0_findPath (l : Launch) (dC : Nat → ClassId) (dI : Nat → Nat → Nat) (a : Nat → Nat) (cA : Nat → ClassId) (hz : Nat) (B : Nat → Bool) (w : Nat → Int32) (n : Nat) (st : Nat → Nat) (go : Nat → Nat) (C : Nat → Bool) (fr : Nat → Nat) (wy : Nat → Int32) (mx : Nat → Int32) (ld : Bool) (nu : Int32) (sz : Nat → Nat) (pa : Nat → Nat) (i : Nat) (e0 : Nat) (f : Nat) (F : List (Nat × Nat)) (hwf : pf_wf n st go) (hi : i < n) (hF : (pf_F n st go f i (st i) (pf_or B C))[e0]? = some F) (hcz : pf_cz (pf_or B C) 30 ≤ f) (hf : f ≤ 30) (hfr : ∀ k, i ≤ k → k < n → fr k = st k) : Met l yX0_findPath (ws_ yX0_findPath cX0_findPath 7 (some .int)) ({ frames := 5, cells := 0, slots := 0, locals := 122 }) (va_Pc [.ref (a 0), .int (nI i), .int (nI e0)] (pcW (dC, dI) (t0 cA) hz (w0 a cA B w n st go C fr wy mx ld nu sz pa))) (va_Qi (fun (r : Int32) (u9 : (Nat → Bool) × (Nat → Nat) × (Nat → Int32) × (Nat → Int32) × (Nat → Nat) × (Nat → Nat)) => match u9 with | (C9, f9, y9, m9, s9, p9) => ∃ e' f', r = nI e' ∧ e' < 2 ^ 31 ∧ pf_fq n st go B i sz pa F e' f' C9 f9 s9 p9) (fun (u9 : (Nat → Bool) × (Nat → Nat) × (Nat → Int32) × (Nat → Int32) × (Nat → Nat) × (Nat → Nat)) t => bW (dC, dI) (t0 cA) (va_A (w0 a cA B w n st go C fr wy mx ld nu sz pa) hz) (match u9 with | (C9, f9, y9, m9, s9, p9) => (w0 a cA B w n st go C9 f9 y9 m9 ld nu s9 p9)) t) (va_A (w0 a cA B w n st go C fr wy mx ld nu sz pa) hz)) 0 0 (va_A (w0 a cA B w n st go C fr wy mx ld nu sz pa) hz) := by
  refine Met.ofW (cc := cX0_findPath) (maxL := 7) (ret := (some .int)) (by decide) rfl ?_
  intro p e s m args below meth c s₁ Bd hml hv
  obtain ⟨rfl, hsz, hP, hK, hD0⟩ := hv
  have hx := Bd.exec
  have hb := Bd.bytes
  have hr := Bd.returns
  have hts := atoms_spec (ws := ws_ yX0_findPath cX0_findPath 7 (some .int)) Bd.pre
  have hts : ∀ w ∈ lw_all, w.before _ s = true := fun w h => hts w (List.mem_cons_of_mem _ h)
  have hown : s.vm.findClass RX0 = some m.cls := findClass_of_methodNamed Bd.named
  have hlocks := Bd.notSynchronized
  subst hsz
  have hD := hD0.self (sz := s.heap.size)
  generalize hAe : va_A (w0 a cA B w n st go C fr wy mx ld nu sz pa) s.heap.size = A at hD ⊢
  have hA : ∀ q : Nat, s.heap.size ≤ q → A q := fun q h => by rw [← hAe]; exact Or.inr h
  have E : x0E p s m c cX0_findPath _ dC dI cA := ⟨hx, hb, hts, hown, hK⟩
  have hX : wd (dC, dI) A s.heap (w0 a cA B w n st go C fr wy mx ld nu sz pa) s.heap [] := ⟨hP, hD, va_S.rf⟩
  have hl := lv_entry ([.ref (a 0), .int (nI i), .int (nI e0)]) (n := 7) (Nat.le_of_ble_eq_true rfl)
  rw [lg_entry_eq]
  generalize (lg_sl ([.ref (a 0), .int (nI i), .int (nI e0)]) ++ List.replicate (7 - (lg_sl ([.ref (a 0), .int (nI i), .int (nI e0)])).length) Slot.unset).toArray = ls at hl ⊢
  have hl : lv_has ls 7 [(0, .ref (a 0)), (1, .int (nI i)), (2, .int (nI e0))] := hl
  obtain ⟨hn1, hn4, hst, hgo, -, -⟩ := id hwf
  have hsi := hst i hi
  have hgi := hgo i hi
  have hp0 := pf_fp_0 (sz := sz) (pa := pa) hwf hi hF hcz hf hfr
  refine lv_iload_n hx hb dX0_findPath_0 rfl (lv_at hl 2 rfl) ?_
  refine lv_istore_n (lv' := [(3, .int (nI e0)), (0, .ref (a 0)), (1, .int (nI i)), (2, .int (nI e0))]) hx hb dX0_findPath_1 rfl hl (by decide) rfl (fun ls hl => ?_)
  refine lv_aload_n hx hb dX0_findPath_2 rfl (lv_at hl 1 rfl) ?_
  refine x0_g3 E hX dX0_findPath_3 ?_
  refine lv_iload_n hx hb dX0_findPath_6 rfl (lv_at hl 2 rfl) ?_
  refine x0_l3 E hX (by omega) dX0_findPath_7 ?_
  refine lv_istore (lv' := [(4, .int (nI (st i))), (3, .int (nI e0)), (0, .ref (a 0)), (1, .int (nI i)), (2, .int (nI e0))]) hx hb dX0_findPath_8 hl (by decide) rfl (fun ls hl => ?_)
  refine lv_aload_n hx hb dX0_findPath_10 rfl (lv_at hl 2 rfl) ?_
  refine x0_g11 E hX dX0_findPath_11 ?_
  refine lv_iload_n hx hb dX0_findPath_14 rfl (lv_at hl 3 rfl) ?_
  refine lv_iconst (v := (nI 0)) hx hb dX0_findPath_15 (by decide) ?_
  refine x0_s9 E hX (by omega) (by omega) dX0_findPath_16 (fun H locs hX => ?_)
  refine lv_iconst (v := (nI 0)) hx hb dX0_findPath_17 (by decide) ?_
  refine lv_istore (lv' := [(5, .int (nI 0)), (4, .int (nI (st i))), (3, .int (nI e0)), (0, .ref (a 0)), (1, .int (nI i)), (2, .int (nI e0))]) hx hb dX0_findPath_18 hl (by decide) rfl (fun ls hl => ?_)
  refine lpW (α := (Nat × Nat × Nat × Nat) × (Nat → Bool) × (Nat → Nat) × (Nat → Int32) × (Nat → Int32) × (Nat → Nat) × (Nat → Nat)) (F := fun _ ls => F0 m 20 ls []) (I := fun q9 H locs ls => match q9 with | ((q, v, e', f'), C9, f9, y9, m9, s9, p9) => pf_fp n st go B i sz pa F q v e' f' C9 f9 s9 p9 ∧ wd (dC, dI) A s.heap (w0 a cA B w n st go C9 f9 y9 m9 ld nu s9 p9) H locs ∧ lv_has ls 7 [(5, .int (nI q)), (4, .int (nI v)), (3, .int (nI e')), (1, .int (nI i)), (0, .ref (a 0))]) (μ := fun q9 => match q9 with | ((q, v, e', f'), C9, f9, y9, m9, s9, p9) => 10 - q) ?_ ((0, st i, e0, f), C, fr, wy, mx, va_up sz i 0, pa) ⟨hp0, hX, lv_sub hl [0, 1, 2, 4, 3] rfl⟩
  · intro ⟨⟨q, v, e', f'⟩, C9, f9, y9, m9, s9, p9⟩ H locs ls hI ih
    obtain ⟨hp, hX, hl⟩ := hI
    have he := pf_fp_e hp
    obtain ⟨⟨h1, h2, h3⟩, -, -, -, -, h12, h13⟩ := id hp
    refine lv_iload hx hb dX0_findPath_20 (lv_at hl 0 rfl) ?_
    refine lv_bipush (v := (nI 10)) hx hb dX0_findPath_22 (by decide) ?_
    refine bn_ge (tgt := 132) hx hb (by omega) (by omega) dX0_findPath_24 (by decide) (fun c1 => ?_) (fun c1 => ?_)
    · exact absurd c1 (by omega)
    · refine lv_aload_n hx hb dX0_findPath_27 rfl (lv_at hl 4 rfl) ?_
      refine x0_g12 E hX dX0_findPath_28 ?_
      refine lv_bipush (v := (nI 10)) hx hb dX0_findPath_31 (by decide) ?_
      refine lv_iload_n hx hb dX0_findPath_33 rfl (lv_at hl 3 rfl) ?_
      refine lv_imul hx hb dX0_findPath_34 ?_
      refine tp (y := (nI (10 * i))) (pk_mul _ _) ?_
      refine lv_iload hx hb dX0_findPath_35 (lv_at hl 0 rfl) ?_
      refine lv_iadd hx hb dX0_findPath_37 ?_
      refine tp (y := (nI ((10 * i) + q))) (nI_add _ _) ?_
      refine lv_iload hx hb dX0_findPath_38 (lv_at hl 1 rfl) ?_
      refine lv_i2b (v := (nI v)) hx hb dX0_findPath_40 (nI_byte (by omega)) ?_
      refine x0_s10 E hX (by omega) (by omega) dX0_findPath_41 (fun H locs hX => ?_)
      refine lv_aload_n hx hb dX0_findPath_42 rfl (lv_at hl 4 rfl) ?_
      refine x0_g11 E hX dX0_findPath_43 ?_
      refine lv_iload_n hx hb dX0_findPath_46 rfl (lv_at hl 3 rfl) ?_
      refine lv_dup2_11 hx hb dX0_findPath_47 rfl rfl ?_
      refine x0_l9 E hX (by omega) dX0_findPath_48 ?_
      refine lv_iconst (v := (nI 1)) hx hb dX0_findPath_49 (by decide) ?_
      refine lv_iadd hx hb dX0_findPath_50 ?_
      refine tp (y := (nI ((s9 i) + 1))) (nI_add _ _) ?_
      refine lv_i2b (v := (nI ((s9 i) + 1))) hx hb dX0_findPath_51 (nI_byte (by omega)) ?_
      refine x0_s9 E hX (by omega) (by omega) dX0_findPath_52 (fun H locs hX => ?_)
      refine lv_iload hx hb dX0_findPath_53 (lv_at hl 1 rfl) ?_
      refine lv_aload_n hx hb dX0_findPath_55 rfl (lv_at hl 4 rfl) ?_
      refine x0_g4 E hX dX0_findPath_56 ?_
      refine lv_iload_n hx hb dX0_findPath_59 rfl (lv_at hl 3 rfl) ?_
      refine x0_l4 E hX (by omega) dX0_findPath_60 ?_
      refine bn_ne (tgt := 74) hx hb (by omega) (by omega) dX0_findPath_61 (by decide) (fun c2 => ?_) (fun c2 => ?_)
      · obtain ⟨f2, m2, hCv, hm2, hdet, hnx⟩ := pf_fp_next (w := w) hwf hi hp c2
        refine lv_aload_n hx hb dX0_findPath_74 rfl (lv_at hl 4 rfl) ?_
        refine lv_iload_n hx hb dX0_findPath_75 rfl (lv_at hl 3 rfl) ?_
        refine lv_iload hx hb dX0_findPath_76 (lv_at hl 1 rfl) ?_
        refine ca_i (ci := 0) (As := [.int (nI i), .int (nI v)]) (rest := []) ⟨hx, hb, hml, hown, hts⟩ hK hX hA (metX0_countRight l dC dI a cA _ B w n st go C9 f9 y9 m9 ld nu (va_up s9 i ((s9 i) + 1)) (va_up p9 ((10 * i) + q) v) i v hn4 hi h2 (pf_fr30 hst h2 h12 h13) (fun k hk => (hgo k hk).2) hCv h12) (cwV 2 hts (lw_V q166 q168 qs12 q25 q169) rfl rfl rfl (by decide +kernel) ⟨Nat.le_of_ble_eq_true rfl, Nat.le_of_ble_eq_true rfl⟩) rfl rfl rfl rfl hl.1 rfl (Nat.le_of_ble_eq_true rfl) dX0_findPath_78 ⟨Nat.le_of_ble_eq_true rfl, Nat.le_of_ble_eq_true rfl⟩ (fun r1 ⟨C8, f8, y8, m8⟩ H locs hr1 hX => ?_)
        have hX : wd (dC, dI) A s.heap (w0 a cA B w n st go C8 f8 y8 m8 ld nu (va_up s9 i ((s9 i) + 1)) (va_up p9 ((10 * i) + q) v)) H locs := hX
        obtain ⟨hr1, hc8, hf8⟩ := hr1
        rw [hdet] at hr1
        subst hr1
        refine lv_istore (lv' := [(6, .int (nI m2)), (5, .int (nI q)), (4, .int (nI v)), (3, .int (nI e')), (1, .int (nI i)), (0, .ref (a 0))]) hx hb dX0_findPath_81 hl (by decide) rfl (fun ls hl => ?_)
        refine lv_aload_n hx hb dX0_findPath_83 rfl (lv_at hl 5 rfl) ?_
        refine x0_g5 E hX dX0_findPath_84 ?_
        refine lv_iload hx hb dX0_findPath_87 (lv_at hl 2 rfl) ?_
        refine lv_iconst (v := (nI 1)) hx hb dX0_findPath_89 (by decide) ?_
        refine tp (y := (b2 true)) rfl ?_
        refine x0_s5 E hX (by omega) dX0_findPath_90 (fun H locs hX => ?_)
        refine lv_iload_n hx hb dX0_findPath_91 rfl (lv_at hl 3 rfl) ?_
        refine lv_iload hx hb dX0_findPath_92 (lv_at hl 0 rfl) ?_
        have hup : ∀ c, c < 30 → va_up C8 v true c = va_up C9 v true c := by
          intro c hc
          show (if c = v then true else C8 c) = if c = v then true else C9 c
          rw [hc8 c hc]
        refine bn_ge (tgt := 106) hx hb (by omega) (by omega) dX0_findPath_94 (by decide) (fun c3 => ?_) (fun c3 => ?_)
        · obtain ⟨hv9, hp9⟩ := (hnx (va_up C8 v true) f8 hup hf8).2 c3
          refine lv_iload_n hx hb dX0_findPath_106 rfl (lv_at hl 3 rfl) ?_
          refine lv_iload hx hb dX0_findPath_107 (lv_at hl 0 rfl) ?_
          refine lv_isub hx hb dX0_findPath_109 ?_
          refine tp (y := (nI (e' - m2))) (pk_sub (by omega)) ?_
          refine lv_istore_n (lv' := [(3, .int (nI (e' - m2))), (6, .int (nI m2)), (5, .int (nI q)), (4, .int (nI v)), (1, .int (nI i)), (0, .ref (a 0))]) hx hb dX0_findPath_110 rfl hl (by decide) rfl (fun ls hl => ?_)
          refine lv_iload hx hb dX0_findPath_111 (lv_at hl 3 rfl) ?_
          refine lv_iconst (v := (nI 1)) hx hb dX0_findPath_113 (by decide) ?_
          refine lv_iadd hx hb dX0_findPath_114 ?_
          refine tp (y := (nI (v + 1))) (nI_add _ _) ?_
          refine lv_istore (lv' := [(4, .int (nI (v + 1))), (3, .int (nI (e' - m2))), (6, .int (nI m2)), (5, .int (nI q)), (1, .int (nI i)), (0, .ref (a 0))]) hx hb dX0_findPath_115 hl (by decide) rfl (fun ls hl => ?_)
          refine lv_aload_n hx hb dX0_findPath_117 rfl (lv_at hl 5 rfl) ?_
          refine x0_g6 E hX dX0_findPath_118 ?_
          refine lv_iload_n hx hb dX0_findPath_121 rfl (lv_at hl 4 rfl) ?_
          refine lv_iload hx hb dX0_findPath_122 (lv_at hl 0 rfl) ?_
          refine lv_i2b (v := (nI (v + 1))) hx hb dX0_findPath_124 (nI_byte (by omega)) ?_
          refine x0_s6 E hX (by omega) (by omega) dX0_findPath_125 (fun H locs hX => ?_)
          refine lv_iinc (v := (nI (q + 1))) (lv' := [(5, .int (nI (q + 1))), (4, .int (nI (v + 1))), (3, .int (nI (e' - m2))), (6, .int (nI m2)), (1, .int (nI i)), (0, .ref (a 0))]) hx hb dX0_findPath_126 hl (k := 3) rfl (nI_1 _) (by decide) rfl (fun ls hl => ?_)
          refine lv_goto (tgt := 20) hx hb dX0_findPath_129 (by decide) ?_
          exact ih ((q + 1, v + 1, e' - m2, f2), va_up C8 v true, va_up f8 i (v + 1), y8, m8, va_up s9 i ((s9 i) + 1), va_up p9 ((10 * i) + q) v) _ _ _ ⟨hp9, hX, lv_sub hl [0, 1, 2, 4, 5] rfl⟩ (by dsimp only; omega)
        · obtain ⟨hv9, hp9⟩ := (hnx (va_up C8 v true) f8 hup hf8).1 c3
          refine lv_iload hx hb dX0_findPath_97 (lv_at hl 2 rfl) ?_
          refine lv_iconst (v := (nI 5)) hx hb dX0_findPath_99 (by decide) ?_
          refine lv_iadd hx hb dX0_findPath_100 ?_
          refine tp (y := (nI (v + 5))) (nI_add _ _) ?_
          refine lv_istore (lv' := [(4, .int (nI (v + 5))), (6, .int (nI m2)), (5, .int (nI q)), (3, .int (nI e')), (1, .int (nI i)), (0, .ref (a 0))]) hx hb dX0_findPath_101 hl (by decide) rfl (fun ls hl => ?_)
          refine lv_goto (tgt := 117) hx hb dX0_findPath_103 (by decide) ?_
          refine lv_aload_n hx hb dX0_findPath_117 rfl (lv_at hl 5 rfl) ?_
          refine x0_g6 E hX dX0_findPath_118 ?_
          refine lv_iload_n hx hb dX0_findPath_121 rfl (lv_at hl 4 rfl) ?_
          refine lv_iload hx hb dX0_findPath_122 (lv_at hl 0 rfl) ?_
          refine lv_i2b (v := (nI (v + 5))) hx hb dX0_findPath_124 (nI_byte (by omega)) ?_
          refine x0_s6 E hX (by omega) (by omega) dX0_findPath_125 (fun H locs hX => ?_)
          refine lv_iinc (v := (nI (q + 1))) (lv' := [(5, .int (nI (q + 1))), (4, .int (nI (v + 5))), (6, .int (nI m2)), (3, .int (nI e')), (1, .int (nI i)), (0, .ref (a 0))]) hx hb dX0_findPath_126 hl (k := 2) rfl (nI_1 _) (by decide) rfl (fun ls hl => ?_)
          refine lv_goto (tgt := 20) hx hb dX0_findPath_129 (by decide) ?_
          exact ih ((q + 1, v + 5, e', f2), va_up C8 v true, va_up f8 i (v + 5), y8, m8, va_up s9 i ((s9 i) + 1), va_up p9 ((10 * i) + q) v) _ _ _ ⟨hp9, hX, lv_sub hl [0, 1, 3, 4, 5] rfl⟩ (by dsimp only; omega)
      · obtain ⟨f2, hfq⟩ := pf_fp_goal (C9 := va_up C9 v true) hwf hi hp c2 (fun _ _ => rfl)
        refine lv_aload_n hx hb dX0_findPath_64 rfl (lv_at hl 4 rfl) ?_
        refine x0_g5 E hX dX0_findPath_65 ?_
        refine lv_iload hx hb dX0_findPath_68 (lv_at hl 1 rfl) ?_
        refine lv_iconst (v := (nI 1)) hx hb dX0_findPath_70 (by decide) ?_
        refine tp (y := (b2 true)) rfl ?_
        refine x0_s5 E hX (by omega) dX0_findPath_71 (fun H locs hX => ?_)
        refine lv_iload_n hx hb dX0_findPath_72 rfl (lv_at hl 2 rfl) ?_
        exact W.iret (v := (nI e')) hx hb hr (fun T9 hT9 hW9 => ⟨⟨(nI e'), (va_up C9 v true, f9, y9, m9, va_up s9 i ((s9 i) + 1), va_up p9 ((10 * i) + q) v), rfl, ⟨e', f2, rfl, he, hfq⟩, by rw [hT9]; exact hX.1, va_K.moved hW9.alike hK, hX.2.1⟩, hX.2.2.F hT9⟩) hX.2.2.2.2 dX0_findPath_73
set_option maxHeartbeats 4000000 in
set_option maxRecDepth 100000 in
theorem metX0_load (l : Launch) (dC : Nat → ClassId) (dI : Nat → Nat → Nat) (a : Nat → Nat) (cA : Nat → ClassId) (hz : Nat) (B : Nat → Bool) (w : Nat → Int32) (n : Nat) (st : Nat → Nat) (go : Nat → Nat) (C : Nat → Bool) (fr : Nat → Nat) (wy : Nat → Int32) (mx : Nat → Int32) (ld : Bool) (nu : Int32) (sz : Nat → Nat) (pa : Nat → Nat) (x : Int32) (hwf : pf_wf n st go) : Met l yX0_load (ws_ yX0_load cX0_load 5 (some .int)) ({ frames := 6, cells := 0, slots := 0, locals := 148 }) (va_Pc [.ref (a 0), .int x] (pcW (dC, dI) (t0 cA) hz (w0 a cA B w n st go C fr wy mx ld nu sz pa))) (va_Qi (fun (r : Int32) (u9 : ((Nat → Bool) × (Nat → Nat) × (Nat → Int32) × (Nat → Int32)) × Bool × Int32 × (Nat → Nat) × (Nat → Nat)) => match u9 with | ((C9, f9, y9, m9), l9, u9, s9, p9) => match pf_at (pf_L n st go B) x with | none => r = -4 ∧ (l9, u9, s9, p9) = (ld, nu, sz, pa) | some F => r = 0 ∧ l9 = true ∧ u9 = x ∧ pf_lay s9 p9 n = F ∧ (∀ k, k < n → s9 k ≤ 10 ∧ ∀ j, j < s9 k → p9 (10 * k + j) < 30)) (fun (u9 : ((Nat → Bool) × (Nat → Nat) × (Nat → Int32) × (Nat → Int32)) × Bool × Int32 × (Nat → Nat) × (Nat → Nat)) t => bW (dC, dI) (t0 cA) (va_A (w0 a cA B w n st go C fr wy mx ld nu sz pa) hz) (match u9 with | ((C9, f9, y9, m9), l9, u9, s9, p9) => (w0 a cA B w n st go C9 f9 y9 m9 l9 u9 s9 p9)) t) (va_A (w0 a cA B w n st go C fr wy mx ld nu sz pa) hz)) 0 0 (va_A (w0 a cA B w n st go C fr wy mx ld nu sz pa) hz) := by
  refine Met.ofW (cc := cX0_load) (maxL := 5) (ret := (some .int)) (by decide) rfl ?_
  intro p e s m args below meth c s₁ Bd hml hv
  obtain ⟨rfl, hsz, hP, hK, hD0⟩ := hv
  have hx := Bd.exec
  have hb := Bd.bytes
  have hr := Bd.returns
  have hts := atoms_spec (ws := ws_ yX0_load cX0_load 5 (some .int)) Bd.pre
  have hts : ∀ w ∈ lw_all, w.before _ s = true := fun w h => hts w (List.mem_cons_of_mem _ h)
  have hown : s.vm.findClass RX0 = some m.cls := findClass_of_methodNamed Bd.named
  have hlocks := Bd.notSynchronized
  subst hsz
  have hD := hD0.self (sz := s.heap.size)
  generalize hAe : va_A (w0 a cA B w n st go C fr wy mx ld nu sz pa) s.heap.size = A at hD ⊢
  have hA : ∀ q : Nat, s.heap.size ≤ q → A q := fun q h => by rw [← hAe]; exact Or.inr h
  have E : x0E p s m c cX0_load _ dC dI cA := ⟨hx, hb, hts, hown, hK⟩
  have hX : wd (dC, dI) A s.heap (w0 a cA B w n st go C fr wy mx ld nu sz pa) s.heap [] := ⟨hP, hD, va_S.rf⟩
  have hl := lv_entry ([.ref (a 0), .int x]) (n := 5) (Nat.le_of_ble_eq_true rfl)
  rw [lg_entry_eq]
  generalize (lg_sl ([.ref (a 0), .int x]) ++ List.replicate (5 - (lg_sl ([.ref (a 0), .int x])).length) Slot.unset).toArray = ls at hl ⊢
  have hl : lv_has ls 5 [(0, .ref (a 0)), (1, .int x)] := hl
  obtain ⟨hn1, hn4, hst, hgo, -, -⟩ := id hwf
  have hLl := pf_L_len (n := n) (st := st) (go := go) (B := B)
  refine lv_aload_n hx hb dX0_load_0 rfl (lv_at hl 0 rfl) ?_
  refine lv_iconst (v := (-1)) hx hb dX0_load_1 (by decide) ?_
  refine lv_iconst (v := (-1)) hx hb dX0_load_2 (by decide) ?_
  refine ca_i (ci := 0) (As := [.int (-1), .int (-1)]) (rest := []) ⟨hx, hb, hml, hown, hts⟩ hK hX hA (metX0_countWithout l dC dI a cA _ B w n st go C fr wy mx ld nu sz pa none none hwf (fun _ h => by cases h) (fun _ h => by cases h)) (cwV 2 hts (lw_V q114 q116 qs4 q25 q117) rfl rfl rfl (by decide +kernel) ⟨Nat.le_of_ble_eq_true rfl, Nat.le_of_ble_eq_true rfl⟩) rfl rfl rfl rfl hl.1 rfl (Nat.le_of_ble_eq_true rfl) dX0_load_3 ⟨Nat.le_of_ble_eq_true rfl, Nat.le_of_ble_eq_true rfl⟩ (fun r1 ⟨C9, f9, y9, m9⟩ H locs hr1 hX => ?_)
  have hX : wd (dC, dI) A s.heap (w0 a cA B w n st go C9 f9 y9 m9 ld nu sz pa) H locs := hX
  rw [pf_cw_all hwf] at hr1
  subst hr1
  refine lv_istore_n (lv' := [(2, .int (nI ((pf_L n st go B).length))), (0, .ref (a 0)), (1, .int x)]) hx hb dX0_load_6 rfl hl (by decide) rfl (fun ls hl => ?_)
  refine lv_iload_n hx hb dX0_load_7 rfl (lv_at hl 2 rfl) ?_
  refine lv_if_lt (tgt := 16) hx hb dX0_load_8 (by decide) (fun c1 => ?_) (fun c1 => ?_)
  · refine lv_bipush (v := (-4)) hx hb dX0_load_16 (by decide) ?_
    exact W.iret (v := (-4)) hx hb hr (fun T9 hT9 hW9 => ⟨⟨(-4), ((C9, f9, y9, m9), ld, nu, sz, pa), rfl, by rw [pf_at_lo c1]; exact ⟨rfl, rfl⟩, by rw [hT9]; exact hX.1, va_K.moved hW9.alike hK, hX.2.1⟩, hX.2.2.F hT9⟩) hX.2.2.2.2 dX0_load_18
  · refine lv_iload_n hx hb dX0_load_11 rfl (lv_at hl 2 rfl) ?_
    refine lv_iload_n hx hb dX0_load_12 rfl (lv_at hl 0 rfl) ?_
    refine lv_icmp_lt (tgt := 19) hx hb dX0_load_13 (by decide) (fun c2 => ?_) (fun c2 => ?_)
    · obtain ⟨e0, he0, rfl⟩ := pf_ix c1 (Int32.not_le.mpr c2) hLl
      obtain ⟨F, hF⟩ : ∃ F, (pf_L n st go B)[e0]? = some F := ⟨_, List.getElem?_eq_getElem he0⟩
      have hat : pf_at (pf_L n st go B) (nI e0) = some F := by rw [pf_at_in hLl he0]; exact hF
      refine lv_aload_n hx hb dX0_load_19 rfl (lv_at hl 1 rfl) ?_
      refine ca_v (ci := 0) (As := []) (rest := []) ⟨hx, hb, hml, hown, hts⟩ hK hX hA (metX0_reopen l dC dI a cA _ B w n st go C9 f9 y9 m9 ld nu sz pa hn4 hst) (cwV 0 hts (lw_V q102 q104 qs2 q25 q105) rfl rfl rfl (by decide +kernel) ⟨Nat.le_of_ble_eq_true rfl, Nat.le_of_ble_eq_true rfl⟩) rfl rfl rfl rfl hl.1 rfl (Nat.le_of_ble_eq_true rfl) dX0_load_20 ⟨Nat.le_of_ble_eq_true rfl, Nat.le_of_ble_eq_true rfl⟩ (fun ⟨C8, f8⟩ H locs hw hX => ?_)
      have hX : wd (dC, dI) A s.heap (w0 a cA B w n st go C8 f8 y9 m9 ld nu sz pa) H locs := hX
      obtain ⟨hc8, hf8⟩ := hw
      have hp0 := pf_ld_0 (sz := sz) (pa := pa) hwf hF hc8 hf8
      refine lv_iload_n hx hb dX0_load_23 rfl (lv_at hl 2 rfl) ?_
      refine lv_istore_n (lv' := [(3, .int (nI e0)), (2, .int (nI ((pf_L n st go B).length))), (0, .ref (a 0)), (1, .int (nI e0))]) hx hb dX0_load_24 rfl hl (by decide) rfl (fun ls hl => ?_)
      refine lv_iconst (v := (nI 0)) hx hb dX0_load_25 (by decide) ?_
      refine lv_istore (lv' := [(4, .int (nI 0)), (3, .int (nI e0)), (2, .int (nI ((pf_L n st go B).length))), (0, .ref (a 0)), (1, .int (nI e0))]) hx hb dX0_load_26 hl (by decide) rfl (fun ls hl => ?_)
      refine lpW (α := (Nat × Nat × Nat) × (Nat → Bool) × (Nat → Nat) × (Nat → Int32) × (Nat → Int32) × (Nat → Nat) × (Nat → Nat)) (F := fun _ ls => F0 m 28 ls []) (I := fun q9 H locs ls => match q9 with | ((i, e', f'), C9, f9, y9, m9, s9, p9) => pf_ld n st go B F i e' f' C9 f9 s9 p9 ∧ wd (dC, dI) A s.heap (w0 a cA B w n st go C9 f9 y9 m9 ld nu s9 p9) H locs ∧ lv_has ls 5 [(4, .int (nI i)), (3, .int (nI e')), (1, .int (nI e0)), (0, .ref (a 0))]) (μ := fun q9 => match q9 with | ((i, e', f'), C9, f9, y9, m9, s9, p9) => n - i) ?_ ((0, e0, 30), C8, f8, y9, m9, sz, pa) ⟨hp0, hX, lv_sub hl [0, 1, 4, 3] rfl⟩
      · intro ⟨⟨i, e', f'⟩, C9, f9, y9, m9, s9, p9⟩ H locs ls hI ih
        obtain ⟨hp, hX, hl⟩ := hI
        have hi9 := hp.1
        refine lv_iload hx hb dX0_load_28 (lv_at hl 0 rfl) ?_
        refine lv_aload_n hx hb dX0_load_30 rfl (lv_at hl 3 rfl) ?_
        refine x0_g2 E hX dX0_load_31 ?_
        refine bn_ge (tgt := 51) hx hb (by omega) (by omega) dX0_load_34 (by decide) (fun c3 => ?_) (fun c3 => ?_)
        · obtain ⟨-, -, h3, -, -, h6⟩ := hp
          have e9 : i = n := by omega
          rw [e9] at h3 h6
          refine lv_aload_n hx hb dX0_load_51 rfl (lv_at hl 3 rfl) ?_
          refine lv_iconst (v := (nI 1)) hx hb dX0_load_52 (by decide) ?_
          refine tp (y := (b2 true)) rfl ?_
          refine x0_p9 E hX dX0_load_53 (fun H locs hX => ?_)
          refine lv_aload_n hx hb dX0_load_56 rfl (lv_at hl 3 rfl) ?_
          refine lv_iload_n hx hb dX0_load_57 rfl (lv_at hl 2 rfl) ?_
          refine x0_p10 E hX dX0_load_58 (fun H locs hX => ?_)
          refine lv_iconst (v := (nI 0)) hx hb dX0_load_61 (by decide) ?_
          exact W.iret (v := (nI 0)) hx hb hr (fun T9 hT9 hW9 => ⟨⟨(nI 0), ((C9, f9, y9, m9), true, nI e0, s9, p9), rfl, by rw [hat]; exact ⟨rfl, rfl, rfl, (h6 (by omega)).symm, h3⟩, by rw [hT9]; exact hX.1, va_K.moved hW9.alike hK, hX.2.1⟩, hX.2.2.F hT9⟩) hX.2.2.2.2 dX0_load_62
        · obtain ⟨-, -, -, h4, h5, -⟩ := id hp
          obtain ⟨⟨hcz, hf30⟩, G, hG, hFG⟩ := h5 c3
          refine lv_aload_n hx hb dX0_load_37 rfl (lv_at hl 3 rfl) ?_
          refine lv_iload hx hb dX0_load_38 (lv_at hl 0 rfl) ?_
          refine lv_iload_n hx hb dX0_load_40 rfl (lv_at hl 1 rfl) ?_
          refine ca_i (ci := 0) (As := [.int (nI i), .int (nI e')]) (rest := []) ⟨hx, hb, hml, hown, hts⟩ hK hX hA (metX0_findPath l dC dI a cA _ B w n st go C9 f9 y9 m9 ld nu s9 p9 i e' f' G hwf c3 hFG hcz hf30 h4) (cwV 2 hts (lw_V q162 q164 qs11 q25 q165) rfl rfl rfl (by decide +kernel) ⟨Nat.le_of_ble_eq_true rfl, Nat.le_of_ble_eq_true rfl⟩) rfl rfl rfl rfl hl.1 rfl (Nat.le_of_ble_eq_true rfl) dX0_load_41 ⟨Nat.le_of_ble_eq_true rfl, Nat.le_of_ble_eq_true rfl⟩ (fun r1 ⟨C7, f7, y7, m7, s7, p7⟩ H locs hw hX => ?_)
          have hX : wd (dC, dI) A s.heap (w0 a cA B w n st go C7 f7 y7 m7 ld nu s7 p7) H locs := hX
          obtain ⟨e7, f6, hr1, he7, hfq⟩ := hw
          subst hr1
          refine lv_istore_n (lv' := [(3, .int (nI e7)), (4, .int (nI i)), (1, .int (nI e0)), (0, .ref (a 0))]) hx hb dX0_load_44 rfl hl (by decide) rfl (fun ls hl => ?_)
          refine lv_iinc (v := (nI (i + 1))) (lv' := [(4, .int (nI (i + 1))), (3, .int (nI e7)), (1, .int (nI e0)), (0, .ref (a 0))]) hx hb dX0_load_45 hl (k := 1) rfl (nI_1 _) (by decide) rfl (fun ls hl => ?_)
          refine lv_goto (tgt := 28) hx hb dX0_load_48 (by decide) ?_
          exact ih ((i + 1, e7, f6), C7, f7, y7, m7, s7, p7) _ _ _ ⟨pf_ld_s hp c3 hG he7 hfq, hX, lv_sub hl [0, 1, 2, 3] rfl⟩ (by dsimp only; omega)
    · refine lv_bipush (v := (-4)) hx hb dX0_load_16 (by decide) ?_
      exact W.iret (v := (-4)) hx hb hr (fun T9 hT9 hW9 => ⟨⟨(-4), ((C9, f9, y9, m9), ld, nu, sz, pa), rfl, by rw [pf_at_hi hLl c1 c2]; exact ⟨rfl, rfl⟩, by rw [hT9]; exact hX.1, va_K.moved hW9.alike hK, hX.2.1⟩, hX.2.2.F hT9⟩) hX.2.2.2.2 dX0_load_18
end
section
set_option maxRecDepth 100000
theorem pf_W_model {B : Nat → Bool} {s q : Nat} {y9 y4 : Nat → Int32} (hy : ∀ j, j < q → y9 j = pf_W (pf_aT B (fun _ => 1)) s j) (h1 : ∀ j, j ≠ q → y4 j = y9 j) (h2 : y4 q = if B q = true then 0 else ((if q = s then 1 else 0) + (if 5 ≤ q then y9 (q - 5) else 0)) + (if 0 < q % 5 then y9 (q - 1) else 0)) : ∀ j, j < q + 1 → y4 j = pf_W (pf_aT B (fun _ => 1)) s j := by
  intro j hj
  by_cases e : j = q
  · subst e
    rw [h2, pf_W_eq, ← pf_S_congr hy]
    show _ = (if B j = true then 0 else 1) * _
    by_cases c : B j = true
    · rw [if_pos c, if_pos c]; simp
    · rw [if_neg c, if_neg c]
      unfold pf_S
      generalize (if j = s then (1 : Int32) else 0) = p1
      generalize (if 5 ≤ j then y9 (j - 5) else 0) = p2
      generalize (if 0 < j % 5 then y9 (j - 1) else 0) = p3
      clear h2 h1 hy
      grind
  · rw [h1 j e]; exact hy j (by omega)
set_option maxHeartbeats 4000000 in
set_option maxRecDepth 100000 in
theorem metX1_size (l : Launch) (dC : Nat → ClassId) (dI : Nat → Nat → Nat) (a : Nat → Nat) (cA : Nat → ClassId) (hz : Nat) (B : Nat → Bool) (w : Nat → Int32) (n : Nat) (st : Nat → Nat) (go : Nat → Nat) (g : Nat) (wk : Nat → Nat) (ow : Nat → Nat) (tr : Nat → Nat) (tk : Nat → Bool) (wy : Nat → Int32) (rk : Int32) (ld : Nat) (kp : Nat → Nat) (ko : Nat → Nat) (j : Nat) (hj : j < 32) : Met l yX1_size (ws_ yX1_size cX1_size 4 (some .int)) ({ frames := 0, cells := 0, slots := 0, locals := 0 }) (va_Pc [.ref (a 0), .int (nI j)] (pcW (dC, dI) (t1 cA) hz (w1 a cA B w n st go g wk ow tr tk wy rk ld kp ko))) (va_Qi (fun (r : Int32) (u9 : Unit) => match u9 with | _ => r = nI (pf_pc j 5)) (fun (u9 : Unit) t => bW (dC, dI) (t1 cA) (va_A (w1 a cA B w n st go g wk ow tr tk wy rk ld kp ko) hz) (match u9 with | _ => (w1 a cA B w n st go g wk ow tr tk wy rk ld kp ko)) t) (va_A (w1 a cA B w n st go g wk ow tr tk wy rk ld kp ko) hz)) 0 0 (va_A (w1 a cA B w n st go g wk ow tr tk wy rk ld kp ko) hz) := by
  refine Met.ofW (cc := cX1_size) (maxL := 4) (ret := (some .int)) (by decide) rfl ?_
  intro p e s m args below meth c s₁ Bd hml hv
  obtain ⟨rfl, hsz, hP, hK, hD0⟩ := hv
  have hx := Bd.exec
  have hb := Bd.bytes
  have hr := Bd.returns
  have hts := atoms_spec (ws := ws_ yX1_size cX1_size 4 (some .int)) Bd.pre
  have hts : ∀ w ∈ lw_all, w.before _ s = true := fun w h => hts w (List.mem_cons_of_mem _ h)
  have hown : s.vm.findClass RX1 = some m.cls := findClass_of_methodNamed Bd.named
  have hlocks := Bd.notSynchronized
  subst hsz
  have hD := hD0.self (sz := s.heap.size)
  generalize hAe : va_A (w1 a cA B w n st go g wk ow tr tk wy rk ld kp ko) s.heap.size = A at hD ⊢
  have hA : ∀ q : Nat, s.heap.size ≤ q → A q := fun q h => by rw [← hAe]; exact Or.inr h
  have E : x1E p s m c cX1_size _ dC dI cA := ⟨hx, hb, hts, hown, hK⟩
  have hX : wd (dC, dI) A s.heap (w1 a cA B w n st go g wk ow tr tk wy rk ld kp ko) s.heap [] := ⟨hP, hD, va_S.rf⟩
  have hl := lv_entry ([.ref (a 0), .int (nI j)]) (n := 4) (Nat.le_of_ble_eq_true rfl)
  rw [lg_entry_eq]
  generalize (lg_sl ([.ref (a 0), .int (nI j)]) ++ List.replicate (4 - (lg_sl ([.ref (a 0), .int (nI j)])).length) Slot.unset).toArray = ls at hl ⊢
  have hl : lv_has ls 4 [(0, .ref (a 0)), (1, .int (nI j))] := hl
  refine lv_iconst (v := (nI 0)) hx hb dX1_size_0 (by decide) ?_
  refine lv_istore_n (lv' := [(2, .int (nI 0)), (0, .ref (a 0)), (1, .int (nI j))]) hx hb dX1_size_1 rfl hl (by decide) rfl (fun ls hl => ?_)
  refine lv_iconst (v := (nI 0)) hx hb dX1_size_2 (by decide) ?_
  refine lv_istore_n (lv' := [(3, .int (nI 0)), (2, .int (nI 0)), (0, .ref (a 0)), (1, .int (nI j))]) hx hb dX1_size_3 rfl hl (by decide) rfl (fun ls hl => ?_)
  refine lpW (α := Nat) (F := fun _ ls => F0 m 4 ls []) (I := fun q9 H locs ls => match q9 with | q => q ≤ 5 ∧ wd (dC, dI) A s.heap (w1 a cA B w n st go g wk ow tr tk wy rk ld kp ko) H locs ∧ lv_has ls 4 [(3, .int (nI q)), (2, .int (nI (pf_pc j q))), (1, .int (nI j)), (0, .ref (a 0))]) (μ := fun q9 => match q9 with | q => 5 - q) ?_ 0 ⟨Nat.zero_le 5, hX, lv_sub hl [0, 1, 3, 2] rfl⟩
  · intro q H locs ls hI ih
    obtain ⟨hq, hX, hl⟩ := hI
    refine lv_iload_n hx hb dX1_size_4 rfl (lv_at hl 0 rfl) ?_
    refine lv_iconst (v := (nI 5)) hx hb dX1_size_5 (by decide) ?_
    refine bn_ge (tgt := 23) hx hb (by omega) (by omega) dX1_size_6 (by decide) (fun c1 => ?_) (fun c1 => ?_)
    · obtain rfl : q = 5 := by omega
      refine lv_iload_n hx hb dX1_size_23 rfl (lv_at hl 1 rfl) ?_
      exact W.iret (v := (nI (pf_pc j 5))) hx hb hr (fun T9 hT9 hW9 => ⟨⟨(nI (pf_pc j 5)), (), rfl, rfl, by rw [hT9]; exact hX.1, va_K.moved hW9.alike hK, hX.2.1⟩, hX.2.2.F hT9⟩) hX.2.2.2.2 dX1_size_24
    · refine lv_iload_n hx hb dX1_size_9 rfl (lv_at hl 1 rfl) ?_
      refine lv_iload_n hx hb dX1_size_10 rfl (lv_at hl 2 rfl) ?_
      refine lv_iload_n hx hb dX1_size_11 rfl (lv_at hl 0 rfl) ?_
      refine lv_ishr hx hb dX1_size_12 ?_
      refine lv_iconst (v := (nI 1)) hx hb dX1_size_13 (by decide) ?_
      refine lv_iand hx hb dX1_size_14 ?_
      refine tp (y := (nI (j / 2 ^ q % 2))) (pf_bit hj c1) ?_
      refine lv_iadd hx hb dX1_size_15 ?_
      refine tp (y := (nI ((pf_pc j q) + (j / 2 ^ q % 2)))) (nI_add _ _) ?_
      refine lv_istore_n (lv' := [(2, .int (nI ((pf_pc j q) + (j / 2 ^ q % 2)))), (3, .int (nI q)), (1, .int (nI j)), (0, .ref (a 0))]) hx hb dX1_size_16 rfl hl (by decide) rfl (fun ls hl => ?_)
      refine lv_iinc (v := (nI (q + 1))) (lv' := [(3, .int (nI (q + 1))), (2, .int (nI ((pf_pc j q) + (j / 2 ^ q % 2)))), (1, .int (nI j)), (0, .ref (a 0))]) hx hb dX1_size_17 hl (k := 1) rfl (nI_1 _) (by decide) rfl (fun ls hl => ?_)
      refine lv_goto (tgt := 4) hx hb dX1_size_20 (by decide) ?_
      exact ih (q + 1) _ _ _ ⟨by omega, hX, lv_sub hl [0, 1, 2, 3] rfl⟩ (by dsimp only; omega)
set_option maxHeartbeats 4000000 in
set_option maxRecDepth 100000 in
theorem metX1_noCell (l : Launch) (dC : Nat → ClassId) (dI : Nat → Nat → Nat) (a : Nat → Nat) (cA : Nat → ClassId) (hz : Nat) (B : Nat → Bool) (w : Nat → Int32) (n : Nat) (st : Nat → Nat) (go : Nat → Nat) (g : Nat) (wk : Nat → Nat) (ow : Nat → Nat) (tr : Nat → Nat) (tk : Nat → Bool) (wy : Nat → Int32) (rk : Int32) (ld : Nat) (kp : Nat → Nat) (ko : Nat → Nat) (x : Int32)  : Met l yX1_noCell (ws_ yX1_noCell cX1_noCell 2 (some .boolean)) ({ frames := 0, cells := 0, slots := 0, locals := 0 }) (va_Pc [.ref (a 0), .int x] (pcW (dC, dI) (t1 cA) hz (w1 a cA B w n st go g wk ow tr tk wy rk ld kp ko))) (va_Qi (fun (r : Int32) (u9 : Unit) => match u9 with | _ => r = b2 (decide (x < 0 ∨ nI 30 ≤ x))) (fun (u9 : Unit) t => bW (dC, dI) (t1 cA) (va_A (w1 a cA B w n st go g wk ow tr tk wy rk ld kp ko) hz) (match u9 with | _ => (w1 a cA B w n st go g wk ow tr tk wy rk ld kp ko)) t) (va_A (w1 a cA B w n st go g wk ow tr tk wy rk ld kp ko) hz)) 0 0 (va_A (w1 a cA B w n st go g wk ow tr tk wy rk ld kp ko) hz) := by
  refine Met.ofW (cc := cX1_noCell) (maxL := 2) (ret := (some .boolean)) (by decide) rfl ?_
  intro p e s m args below meth c s₁ Bd hml hv
  obtain ⟨rfl, hsz, hP, hK, hD0⟩ := hv
  have hx := Bd.exec
  have hb := Bd.bytes
  have hr := Bd.returns
  have hts := atoms_spec (ws := ws_ yX1_noCell cX1_noCell 2 (some .boolean)) Bd.pre
  have hts : ∀ w ∈ lw_all, w.before _ s = true := fun w h => hts w (List.mem_cons_of_mem _ h)
  have hown : s.vm.findClass RX1 = some m.cls := findClass_of_methodNamed Bd.named
  have hlocks := Bd.notSynchronized
  subst hsz
  have hD := hD0.self (sz := s.heap.size)
  generalize hAe : va_A (w1 a cA B w n st go g wk ow tr tk wy rk ld kp ko) s.heap.size = A at hD ⊢
  have hA : ∀ q : Nat, s.heap.size ≤ q → A q := fun q h => by rw [← hAe]; exact Or.inr h
  have E : x1E p s m c cX1_noCell _ dC dI cA := ⟨hx, hb, hts, hown, hK⟩
  have hX : wd (dC, dI) A s.heap (w1 a cA B w n st go g wk ow tr tk wy rk ld kp ko) s.heap [] := ⟨hP, hD, va_S.rf⟩
  have hl := lv_entry ([.ref (a 0), .int x]) (n := 2) (Nat.le_of_ble_eq_true rfl)
  rw [lg_entry_eq]
  generalize (lg_sl ([.ref (a 0), .int x]) ++ List.replicate (2 - (lg_sl ([.ref (a 0), .int x])).length) Slot.unset).toArray = ls at hl ⊢
  have hl : lv_has ls 2 [(0, .ref (a 0)), (1, .int x)] := hl
  refine lv_iload_n hx hb dX1_noCell_0 rfl (lv_at hl 1 rfl) ?_
  refine jnV (pc := 15) (ls := ls) (rest := []) (b2 (decide (x < 0 ∨ nI 30 ≤ x))) (fun J => ?_) ?_
  · refine lv_if_lt (tgt := 10) hx hb dX1_noCell_1 (by decide) (fun c1 => ?_) (fun c1 => ?_)
    · refine lv_iconst (v := (nI 1)) hx hb dX1_noCell_10 (by decide) ?_
      refine lv_goto (tgt := 15) hx hb dX1_noCell_11 (by decide) ?_
      exact J _ (by rw [decide_eq_true (Or.inl c1)]; rfl)
    · refine lv_iload_n hx hb dX1_noCell_4 rfl (lv_at hl 1 rfl) ?_
      refine lv_bipush (v := (nI 29)) hx hb dX1_noCell_5 (by decide) ?_
      refine lv_icmp_le (tgt := 14) hx hb dX1_noCell_7 (by decide) (fun c2 => ?_) (fun c2 => ?_)
      · refine lv_iconst (v := (nI 0)) hx hb dX1_noCell_14 (by decide) ?_
        exact J _ (by rw [decide_eq_false (by rintro (q | q); exact c1 q; exact pf_no29 c2 q)]; rfl)
      · refine lv_iconst (v := (nI 1)) hx hb dX1_noCell_10 (by decide) ?_
        refine lv_goto (tgt := 15) hx hb dX1_noCell_11 (by decide) ?_
        exact J _ (by rw [decide_eq_true (Or.inr (pf_no30 c2))]; rfl)
  · exact W.zret (v := (b2 (decide (x < 0 ∨ nI 30 ≤ x)))) hx hb hr (b2_nar _) (fun T9 hT9 hW9 => ⟨⟨(b2 (decide (x < 0 ∨ nI 30 ≤ x))), (), rfl, rfl, by rw [hT9]; exact hX.1, va_K.moved hW9.alike hK, hX.2.1⟩, hX.2.2.F hT9⟩) hX.2.2.2.2 dX1_noCell_15
set_option maxHeartbeats 4000000 in
set_option maxRecDepth 100000 in
theorem metX1_unload (l : Launch) (dC : Nat → ClassId) (dI : Nat → Nat → Nat) (a : Nat → Nat) (cA : Nat → ClassId) (hz : Nat) (B : Nat → Bool) (w : Nat → Int32) (n : Nat) (st : Nat → Nat) (go : Nat → Nat) (g : Nat) (wk : Nat → Nat) (ow : Nat → Nat) (tr : Nat → Nat) (tk : Nat → Bool) (wy : Nat → Int32) (rk : Int32) (ld : Nat) (kp : Nat → Nat) (ko : Nat → Nat)   : Met l yX1_unload (ws_ yX1_unload cX1_unload 1 none) ({ frames := 0, cells := 0, slots := 0, locals := 0 }) (va_Pc [.ref (a 0)] (pcW (dC, dI) (t1 cA) hz (w1 a cA B w n st go g wk ow tr tk wy rk ld kp ko))) (va_Qv (fun (u9 : Unit) => match u9 with | _ => True) (fun (u9 : Unit) t => bW (dC, dI) (t1 cA) (va_A (w1 a cA B w n st go g wk ow tr tk wy rk ld kp ko) hz) (match u9 with | _ => (w1 a cA B w n st go g wk ow tr tk wy (-4) 0 kp ko)) t) (va_A (w1 a cA B w n st go g wk ow tr tk wy rk ld kp ko) hz)) 0 0 (va_A (w1 a cA B w n st go g wk ow tr tk wy rk ld kp ko) hz) := by
  refine Met.ofW (cc := cX1_unload) (maxL := 1) (ret := none) (by decide) rfl ?_
  intro p e s m args below meth c s₁ Bd hml hv
  obtain ⟨rfl, hsz, hP, hK, hD0⟩ := hv
  have hx := Bd.exec
  have hb := Bd.bytes
  have hr := Bd.returns
  have hts := atoms_spec (ws := ws_ yX1_unload cX1_unload 1 none) Bd.pre
  have hts : ∀ w ∈ lw_all, w.before _ s = true := fun w h => hts w (List.mem_cons_of_mem _ h)
  have hown : s.vm.findClass RX1 = some m.cls := findClass_of_methodNamed Bd.named
  have hlocks := Bd.notSynchronized
  subst hsz
  have hD := hD0.self (sz := s.heap.size)
  generalize hAe : va_A (w1 a cA B w n st go g wk ow tr tk wy rk ld kp ko) s.heap.size = A at hD ⊢
  have hA : ∀ q : Nat, s.heap.size ≤ q → A q := fun q h => by rw [← hAe]; exact Or.inr h
  have E : x1E p s m c cX1_unload _ dC dI cA := ⟨hx, hb, hts, hown, hK⟩
  have hX : wd (dC, dI) A s.heap (w1 a cA B w n st go g wk ow tr tk wy rk ld kp ko) s.heap [] := ⟨hP, hD, va_S.rf⟩
  have hl := lv_entry ([.ref (a 0)]) (n := 1) (Nat.le_of_ble_eq_true rfl)
  rw [lg_entry_eq]
  generalize (lg_sl ([.ref (a 0)]) ++ List.replicate (1 - (lg_sl ([.ref (a 0)])).length) Slot.unset).toArray = ls at hl ⊢
  have hl : lv_has ls 1 [(0, .ref (a 0))] := hl
  refine lv_aload_n hx hb dX1_unload_0 rfl (lv_at hl 0 rfl) ?_
  refine lv_bipush (v := (-4)) hx hb dX1_unload_1 (by decide) ?_
  refine x1_p11 E hX dX1_unload_3 (fun H locs hX => ?_)
  refine lv_aload_n hx hb dX1_unload_6 rfl (lv_at hl 0 rfl) ?_
  refine lv_iconst (v := (nI 0)) hx hb dX1_unload_7 (by decide) ?_
  refine x1_p12 E hX dX1_unload_8 (fun H locs hX => ?_)
  exact W.vret hx hb hr (fun T9 hT9 hW9 => ⟨⟨(), rfl, trivial, by rw [hT9]; exact hX.1, va_K.moved hW9.alike hK, hX.2.1⟩, hX.2.2.F hT9⟩) hX.2.2.2.2 dX1_unload_11
set_option maxHeartbeats 4000000 in
set_option maxRecDepth 100000 in
theorem metX1_ends (l : Launch) (dC : Nat → ClassId) (dI : Nat → Nat → Nat) (a : Nat → Nat) (cA : Nat → ClassId) (hz : Nat) (B : Nat → Bool) (w : Nat → Int32) (n : Nat) (st : Nat → Nat) (go : Nat → Nat) (g : Nat) (wk : Nat → Nat) (ow : Nat → Nat) (tr : Nat → Nat) (tk : Nat → Bool) (wy : Nat → Int32) (rk : Int32) (ld : Nat) (kp : Nat → Nat) (ko : Nat → Nat) (x : Int32) (y : Int32)  : Met l yX1_ends (ws_ yX1_ends cX1_ends 7 (some .int)) ({ frames := 1, cells := 0, slots := 0, locals := 23 }) (va_Pc [.ref (a 0), .int x, .int y] (pcW (dC, dI) (t1 cA) hz (w1 a cA B w n st go g wk ow tr tk wy rk ld kp ko))) (va_Qi (fun (r : Int32) (u9 : Nat × (Nat → Nat) × (Nat → Nat) × Int32 × Nat) => match u9 with | (n9, s9, g9, k9, l9) => r = (if pf_eo x y = true then nI n9 else -1) ∧ (n9, s9, g9) = op_en n st go x y ∧ k9 = (if pf_eo x y = true then -4 else rk) ∧ l9 = (if pf_eo x y = true then 0 else ld)) (fun (u9 : Nat × (Nat → Nat) × (Nat → Nat) × Int32 × Nat) t => bW (dC, dI) (t1 cA) (va_A (w1 a cA B w n st go g wk ow tr tk wy rk ld kp ko) hz) (match u9 with | (n9, s9, g9, k9, l9) => (w1 a cA B w n9 s9 g9 g wk ow tr tk wy k9 l9 kp ko)) t) (va_A (w1 a cA B w n st go g wk ow tr tk wy rk ld kp ko) hz)) 0 0 (va_A (w1 a cA B w n st go g wk ow tr tk wy rk ld kp ko) hz) := by
  refine Met.ofW (cc := cX1_ends) (maxL := 7) (ret := (some .int)) (by decide) rfl ?_
  intro p e s m args below meth c s₁ Bd hml hv
  obtain ⟨rfl, hsz, hP, hK, hD0⟩ := hv
  have hx := Bd.exec
  have hb := Bd.bytes
  have hr := Bd.returns
  have hts := atoms_spec (ws := ws_ yX1_ends cX1_ends 7 (some .int)) Bd.pre
  have hts : ∀ w ∈ lw_all, w.before _ s = true := fun w h => hts w (List.mem_cons_of_mem _ h)
  have hown : s.vm.findClass RX1 = some m.cls := findClass_of_methodNamed Bd.named
  have hlocks := Bd.notSynchronized
  subst hsz
  have hD := hD0.self (sz := s.heap.size)
  generalize hAe : va_A (w1 a cA B w n st go g wk ow tr tk wy rk ld kp ko) s.heap.size = A at hD ⊢
  have hA : ∀ q : Nat, s.heap.size ≤ q → A q := fun q h => by rw [← hAe]; exact Or.inr h
  have E : x1E p s m c cX1_ends _ dC dI cA := ⟨hx, hb, hts, hown, hK⟩
  have hX : wd (dC, dI) A s.heap (w1 a cA B w n st go g wk ow tr tk wy rk ld kp ko) s.heap [] := ⟨hP, hD, va_S.rf⟩
  have hl := lv_entry ([.ref (a 0), .int x, .int y]) (n := 7) (Nat.le_of_ble_eq_true rfl)
  rw [lg_entry_eq]
  generalize (lg_sl ([.ref (a 0), .int x, .int y]) ++ List.replicate (7 - (lg_sl ([.ref (a 0), .int x, .int y])).length) Slot.unset).toArray = ls at hl ⊢
  have hl : lv_has ls 7 [(0, .ref (a 0)), (1, .int x), (2, .int y)] := hl
  refine lv_iload_n hx hb dX1_ends_0 rfl (lv_at hl 1 rfl) ?_
  refine lv_iconst (v := (nI 1)) hx hb dX1_ends_1 (by decide) ?_
  refine lv_icmp_lt (tgt := 22) hx hb dX1_ends_2 (by decide) (fun c1 => ?_) (fun c1 => ?_)
  · refine lv_iconst (v := (-1)) hx hb dX1_ends_22 (by decide) ?_
    have he := pf_eo_1 (x := x) (y := y) (Or.inl c1)
    exact W.iret (v := (-1)) hx hb hr (fun T9 hT9 hW9 => ⟨⟨(-1), (n, st, go, rk, ld), rfl, ⟨by rw [he]; rfl, (op_en_out he).symm, by rw [he]; rfl, by rw [he]; rfl⟩, by rw [hT9]; exact hX.1, va_K.moved hW9.alike hK, hX.2.1⟩, hX.2.2.F hT9⟩) hX.2.2.2.2 dX1_ends_23
  · refine lv_iload_n hx hb dX1_ends_5 rfl (lv_at hl 1 rfl) ?_
    refine lv_bipush (v := (nI 31)) hx hb dX1_ends_6 (by decide) ?_
    refine lv_icmp_gt (tgt := 22) hx hb dX1_ends_8 (by decide) (fun c2 => ?_) (fun c2 => ?_)
    · refine lv_iconst (v := (-1)) hx hb dX1_ends_22 (by decide) ?_
      have he := pf_eo_1 (x := x) (y := y) (Or.inr (Or.inl c2))
      exact W.iret (v := (-1)) hx hb hr (fun T9 hT9 hW9 => ⟨⟨(-1), (n, st, go, rk, ld), rfl, ⟨by rw [he]; rfl, (op_en_out he).symm, by rw [he]; rfl, by rw [he]; rfl⟩, by rw [hT9]; exact hX.1, va_K.moved hW9.alike hK, hX.2.1⟩, hX.2.2.F hT9⟩) hX.2.2.2.2 dX1_ends_23
    · refine lv_iload_n hx hb dX1_ends_11 rfl (lv_at hl 2 rfl) ?_
      refine lv_iconst (v := (nI 1)) hx hb dX1_ends_12 (by decide) ?_
      refine lv_icmp_lt (tgt := 22) hx hb dX1_ends_13 (by decide) (fun c3 => ?_) (fun c3 => ?_)
      · refine lv_iconst (v := (-1)) hx hb dX1_ends_22 (by decide) ?_
        have he := pf_eo_1 (x := x) (y := y) (Or.inr (Or.inr (Or.inl c3)))
        exact W.iret (v := (-1)) hx hb hr (fun T9 hT9 hW9 => ⟨⟨(-1), (n, st, go, rk, ld), rfl, ⟨by rw [he]; rfl, (op_en_out he).symm, by rw [he]; rfl, by rw [he]; rfl⟩, by rw [hT9]; exact hX.1, va_K.moved hW9.alike hK, hX.2.1⟩, hX.2.2.F hT9⟩) hX.2.2.2.2 dX1_ends_23
      · refine lv_iload_n hx hb dX1_ends_16 rfl (lv_at hl 2 rfl) ?_
        refine lv_bipush (v := (nI 31)) hx hb dX1_ends_17 (by decide) ?_
        refine lv_icmp_le (tgt := 24) hx hb dX1_ends_19 (by decide) (fun c4 => ?_) (fun c4 => ?_)
        · obtain ⟨j, hj1, hj2, rfl⟩ := pf_32 c1 c2
          obtain ⟨k, hk1, hk2, rfl⟩ := pf_32 c3 (Int32.not_lt.mpr c4)
          refine lv_aload_n hx hb dX1_ends_24 rfl (lv_at hl 0 rfl) ?_
          refine lv_iload_n hx hb dX1_ends_25 rfl (lv_at hl 1 rfl) ?_
          refine ca_i (ci := 1) (As := [.int (nI j)]) (rest := []) ⟨hx, hb, hml, hown, hts⟩ hK hX hA (metX1_size l dC dI a cA _ B w n st go g wk ow tr tk wy rk ld kp ko j hj2) (cwV 1 hts (lw_V q242 q244 qs14 q26 q245) rfl rfl rfl (by decide +kernel) ⟨Nat.le_of_ble_eq_true rfl, Nat.le_of_ble_eq_true rfl⟩) rfl rfl rfl rfl hl.1 rfl (Nat.le_of_ble_eq_true rfl) dX1_ends_26 ⟨Nat.le_of_ble_eq_true rfl, Nat.le_of_ble_eq_true rfl⟩ (fun r1 _ H locs hr1 hX => ?_)
          subst hr1
          refine lv_istore_n (lv' := [(3, .int (nI (pf_pc j 5))), (0, .ref (a 0)), (1, .int (nI j)), (2, .int (nI k))]) hx hb dX1_ends_29 rfl hl (by decide) rfl (fun ls hl => ?_)
          refine lv_iload_n hx hb dX1_ends_30 rfl (lv_at hl 0 rfl) ?_
          refine lv_aload_n hx hb dX1_ends_31 rfl (lv_at hl 1 rfl) ?_
          refine lv_iload_n hx hb dX1_ends_32 rfl (lv_at hl 3 rfl) ?_
          refine ca_i (ci := 1) (As := [.int (nI k)]) (rest := [.int (nI (pf_pc j 5))]) ⟨hx, hb, hml, hown, hts⟩ hK hX hA (metX1_size l dC dI a cA _ B w n st go g wk ow tr tk wy rk ld kp ko k hk2) (cwV 1 hts (lw_V q242 q244 qs14 q26 q245) rfl rfl rfl (by decide +kernel) ⟨Nat.le_of_ble_eq_true rfl, Nat.le_of_ble_eq_true rfl⟩) rfl rfl rfl rfl hl.1 rfl (Nat.le_of_ble_eq_true rfl) dX1_ends_33 ⟨Nat.le_of_ble_eq_true rfl, Nat.le_of_ble_eq_true rfl⟩ (fun r2 _ H locs hr2 hX => ?_)
          subst hr2
          have hpj := pf_pc_le j 5
          have hpk := pf_pc_le k 5
          refine bn_ne (tgt := 44) hx hb (by omega) (by omega) dX1_ends_36 (by decide) (fun c5 => ?_) (fun c5 => ?_)
          · have he : pf_eo (nI j) (nI k) = false := by rw [pf_eo_in hj1 hj2 hk1 hk2]; exact decide_eq_false (fun q => c5 q.1)
            refine lv_iconst (v := (-1)) hx hb dX1_ends_44 (by decide) ?_
            exact W.iret (v := (-1)) hx hb hr (fun T9 hT9 hW9 => ⟨⟨(-1), (n, st, go, rk, ld), rfl, ⟨by rw [he]; rfl, (op_en_out he).symm, by rw [he]; rfl, by rw [he]; rfl⟩, by rw [hT9]; exact hX.1, va_K.moved hW9.alike hK, hX.2.1⟩, hX.2.2.F hT9⟩) hX.2.2.2.2 dX1_ends_45
          · refine lv_iload_n hx hb dX1_ends_39 rfl (lv_at hl 0 rfl) ?_
            refine lv_iconst (v := (nI 4)) hx hb dX1_ends_40 (by decide) ?_
            refine bn_le (tgt := 46) hx hb (by omega) (by omega) dX1_ends_41 (by decide) (fun c6 => ?_) (fun c6 => ?_)
            · refine lv_aload_n hx hb dX1_ends_46 rfl (lv_at hl 1 rfl) ?_
              refine lv_iload_n hx hb dX1_ends_47 rfl (lv_at hl 0 rfl) ?_
              refine x1_p2 E hX dX1_ends_48 (fun H locs hX => ?_)
              refine lv_iconst (v := (nI 0)) hx hb dX1_ends_51 (by decide) ?_
              refine lv_istore (lv' := [(4, .int (nI 0)), (3, .int (nI (pf_pc j 5))), (0, .ref (a 0)), (1, .int (nI j)), (2, .int (nI k))]) hx hb dX1_ends_52 hl (by decide) rfl (fun ls hl => ?_)
              refine lv_iconst (v := (nI 0)) hx hb dX1_ends_54 (by decide) ?_
              refine lv_istore (lv' := [(5, .int (nI 0)), (4, .int (nI 0)), (3, .int (nI (pf_pc j 5))), (0, .ref (a 0)), (1, .int (nI j)), (2, .int (nI k))]) hx hb dX1_ends_55 hl (by decide) rfl (fun ls hl => ?_)
              refine lv_iconst (v := (nI 0)) hx hb dX1_ends_57 (by decide) ?_
              refine lv_istore (lv' := [(6, .int (nI 0)), (5, .int (nI 0)), (4, .int (nI 0)), (3, .int (nI (pf_pc j 5))), (0, .ref (a 0)), (1, .int (nI j)), (2, .int (nI k))]) hx hb dX1_ends_58 hl (by decide) rfl (fun ls hl => ?_)
              refine lpW (α := Nat) (F := fun _ ls => F0 m 60 ls []) (I := fun q9 H locs ls => match q9 with | q => q ≤ 5 ∧ wd (dC, dI) A s.heap (w1 a cA B w (pf_pc j 5) (pf_pos st 0 j q) (pf_pos go 25 k q) g wk ow tr tk wy rk ld kp ko) H locs ∧ lv_has ls 7 [(6, .int (nI q)), (5, .int (nI (pf_pc k q))), (4, .int (nI (pf_pc j q))), (3, .int (nI (pf_pc j 5))), (2, .int (nI k)), (1, .int (nI j)), (0, .ref (a 0))]) (μ := fun q9 => match q9 with | q => 5 - q) ?_ 0 ⟨Nat.zero_le 5, hX, lv_sub hl [0, 1, 2, 3, 6, 5, 4] rfl⟩
              · intro q H locs ls hI ih
                obtain ⟨hq, hX, hl⟩ := hI
                have hpj := pf_pc_le j q
                have hpk := pf_pc_le k q
                refine lv_iload hx hb dX1_ends_60 (lv_at hl 0 rfl) ?_
                refine lv_iconst (v := (nI 5)) hx hb dX1_ends_62 (by decide) ?_
                refine bn_ge (tgt := 119) hx hb (by omega) (by omega) dX1_ends_63 (by decide) (fun c7 => ?_) (fun c7 => ?_)
                · obtain rfl : q = 5 := by omega
                  refine lv_aload_n hx hb dX1_ends_119 rfl (lv_at hl 6 rfl) ?_
                  refine ca_v (ci := 1) (As := []) (rest := []) ⟨hx, hb, hml, hown, hts⟩ hK hX hA (metX1_unload l dC dI a cA _ B w (pf_pc j 5) (pf_pos st 0 j 5) (pf_pos go 25 k 5) g wk ow tr tk wy rk ld kp ko) (cwV 0 hts (lw_V q246 q248 qs15 q26 q249) rfl rfl rfl (by decide +kernel) ⟨Nat.le_of_ble_eq_true rfl, Nat.le_of_ble_eq_true rfl⟩) rfl rfl rfl rfl hl.1 rfl (Nat.le_of_ble_eq_true rfl) dX1_ends_120 ⟨Nat.le_of_ble_eq_true rfl, Nat.le_of_ble_eq_true rfl⟩ (fun _ H locs _ hX => ?_)
                  have hX : wd (dC, dI) A s.heap (w1 a cA B w (pf_pc j 5) (pf_pos st 0 j 5) (pf_pos go 25 k 5) g wk ow tr tk wy (-4) 0 kp ko) H locs := hX
                  refine lv_iload_n hx hb dX1_ends_123 rfl (lv_at hl 3 rfl) ?_
                  have he : pf_eo (nI j) (nI k) = true := by rw [pf_eo_in hj1 hj2 hk1 hk2]; exact decide_eq_true ⟨c5, c6⟩
                  exact W.iret (v := (nI (pf_pc j 5))) hx hb hr (fun T9 hT9 hW9 => ⟨⟨(nI (pf_pc j 5)), (pf_pc j 5, pf_pos st 0 j 5, pf_pos go 25 k 5, -4, 0), rfl, ⟨by rw [he]; rfl, (op_en_in hj1 hj2 hk1 hk2 c5 c6).symm, by rw [he]; rfl, by rw [he]; rfl⟩, by rw [hT9]; exact hX.1, va_K.moved hW9.alike hK, hX.2.1⟩, hX.2.2.F hT9⟩) hX.2.2.2.2 dX1_ends_124
                · refine lv_iload_n hx hb dX1_ends_66 rfl (lv_at hl 5 rfl) ?_
                  refine lv_iload hx hb dX1_ends_67 (lv_at hl 0 rfl) ?_
                  refine lv_ishr hx hb dX1_ends_69 ?_
                  refine lv_iconst (v := (nI 1)) hx hb dX1_ends_70 (by decide) ?_
                  refine lv_iand hx hb dX1_ends_71 ?_
                  refine tp (y := (nI (j / 2 ^ q % 2))) (pf_bit hj2 c7) ?_
                  refine lv_iconst (v := (nI 1)) hx hb dX1_ends_72 (by decide) ?_
                  have hbit : j / 2 ^ q % 2 < 2 := Nat.mod_lt _ (by decide)
                  refine jnW (α := Unit) (F := fun _ ls => F0 m 88 ls []) (I := fun q9 H locs ls => match q9 with | _ => wd (dC, dI) A s.heap (w1 a cA B w (pf_pc j 5) (pf_pos st 0 j (q + 1)) (pf_pos go 25 k q) g wk ow tr tk wy rk ld kp ko) H locs ∧ lv_has ls 7 [(6, .int (nI q)), (5, .int (nI (pf_pc k q))), (4, .int (nI (pf_pc j (q + 1)))), (3, .int (nI (pf_pc j 5))), (2, .int (nI k)), (1, .int (nI j)), (0, .ref (a 0))]) (fun J1 => ?_) ?_
                  · refine bn_ne (tgt := 88) hx hb (by omega) (by omega) dX1_ends_73 (by decide) (fun c8 => ?_) (fun c8 => ?_)
                    · exact J1 () _ _ _ ⟨by rw [pf_pos_0 c8]; exact hX, by rw [pf_pc_0 c8]; exact lv_sub hl [0, 1, 2, 3, 4, 5, 6] rfl⟩
                    · have hlt : pf_pc j q < 4 := by have h1 := pf_pc_le j q; have h2 := pf_pc_1 c8; have h3 := pf_pc_5 (j := j) (show q + 1 ≤ 5 by omega); omega
                      refine lv_aload_n hx hb dX1_ends_76 rfl (lv_at hl 6 rfl) ?_
                      refine x1_g3 E hX dX1_ends_77 ?_
                      refine lv_iload hx hb dX1_ends_80 (lv_at hl 2 rfl) ?_
                      refine lv_iload hx hb dX1_ends_82 (lv_at hl 0 rfl) ?_
                      refine x1_s3 E hX (by omega) dX1_ends_84 (fun H locs hX => ?_)
                      refine lv_iinc (v := (nI (pf_pc j q + 1))) (lv' := [(4, .int (nI (pf_pc j q + 1))), (6, .int (nI q)), (5, .int (nI (pf_pc k q))), (3, .int (nI (pf_pc j 5))), (2, .int (nI k)), (1, .int (nI j)), (0, .ref (a 0))]) hx hb dX1_ends_85 hl (k := 2) rfl (nI_1 _) (by decide) rfl (fun ls hl => ?_)
                      exact J1 () _ _ _ ⟨by rw [pf_pos_1 c8, Nat.zero_add]; exact hX, by rw [pf_pc_1 c8]; exact lv_sub hl [1, 2, 0, 3, 4, 5, 6] rfl⟩
                  · intro _ H locs ls hI
                    obtain ⟨hX, hl⟩ := hI
                    have hbit2 : k / 2 ^ q % 2 < 2 := Nat.mod_lt _ (by decide)
                    refine lv_iload_n hx hb dX1_ends_88 rfl (lv_at hl 4 rfl) ?_
                    refine lv_iload hx hb dX1_ends_89 (lv_at hl 0 rfl) ?_
                    refine lv_ishr hx hb dX1_ends_91 ?_
                    refine lv_iconst (v := (nI 1)) hx hb dX1_ends_92 (by decide) ?_
                    refine lv_iand hx hb dX1_ends_93 ?_
                    refine tp (y := (nI (k / 2 ^ q % 2))) (pf_bit hk2 c7) ?_
                    refine lv_iconst (v := (nI 1)) hx hb dX1_ends_94 (by decide) ?_
                    refine jnW (α := Unit) (F := fun _ ls => F0 m 113 ls []) (I := fun q9 H locs ls => match q9 with | _ => wd (dC, dI) A s.heap (w1 a cA B w (pf_pc j 5) (pf_pos st 0 j (q + 1)) (pf_pos go 25 k (q + 1)) g wk ow tr tk wy rk ld kp ko) H locs ∧ lv_has ls 7 [(6, .int (nI q)), (5, .int (nI (pf_pc k (q + 1)))), (4, .int (nI (pf_pc j (q + 1)))), (3, .int (nI (pf_pc j 5))), (2, .int (nI k)), (1, .int (nI j)), (0, .ref (a 0))]) (fun J2 => ?_) ?_
                    · refine bn_ne (tgt := 113) hx hb (by omega) (by omega) dX1_ends_95 (by decide) (fun c9 => ?_) (fun c9 => ?_)
                      · exact J2 () _ _ _ ⟨by rw [pf_pos_0 c9]; exact hX, by rw [pf_pc_0 c9]; exact lv_sub hl [0, 1, 2, 3, 4, 5, 6] rfl⟩
                      · have hlt : pf_pc k q < 4 := by have h1 := pf_pc_le k q; have h2 := pf_pc_1 c9; have h3 := pf_pc_5 (j := k) (show q + 1 ≤ 5 by omega); omega
                        refine lv_aload_n hx hb dX1_ends_98 rfl (lv_at hl 6 rfl) ?_
                        refine x1_g4 E hX dX1_ends_99 ?_
                        refine lv_iload hx hb dX1_ends_102 (lv_at hl 1 rfl) ?_
                        refine lv_bipush (v := (nI 25)) hx hb dX1_ends_104 (by decide) ?_
                        refine lv_iload hx hb dX1_ends_106 (lv_at hl 0 rfl) ?_
                        refine lv_iadd hx hb dX1_ends_108 ?_
                        refine tp (y := (nI (25 + q))) (nI_add _ _) ?_
                        refine x1_s4 E hX (by omega) dX1_ends_109 (fun H locs hX => ?_)
                        refine lv_iinc (v := (nI (pf_pc k q + 1))) (lv' := [(5, .int (nI (pf_pc k q + 1))), (6, .int (nI q)), (4, .int (nI (pf_pc j (q + 1)))), (3, .int (nI (pf_pc j 5))), (2, .int (nI k)), (1, .int (nI j)), (0, .ref (a 0))]) hx hb dX1_ends_110 hl (k := 1) rfl (nI_1 _) (by decide) rfl (fun ls hl => ?_)
                        exact J2 () _ _ _ ⟨by rw [pf_pos_1 c9]; exact hX, by rw [pf_pc_1 c9]; exact lv_sub hl [1, 0, 2, 3, 4, 5, 6] rfl⟩
                    · intro _ H locs ls hI
                      obtain ⟨hX, hl⟩ := hI
                      refine lv_iinc (v := (nI (q + 1))) (lv' := [(6, .int (nI (q + 1))), (5, .int (nI (pf_pc k (q + 1)))), (4, .int (nI (pf_pc j (q + 1)))), (3, .int (nI (pf_pc j 5))), (2, .int (nI k)), (1, .int (nI j)), (0, .ref (a 0))]) hx hb dX1_ends_113 hl (k := 0) rfl (nI_1 _) (by decide) rfl (fun ls hl => ?_)
                      refine lv_goto (tgt := 60) hx hb dX1_ends_116 (by decide) ?_
                      exact ih (q + 1) _ _ _ ⟨by omega, hX, lv_sub hl [0, 1, 2, 3, 4, 5, 6] rfl⟩ (by dsimp only; omega)
            · have he : pf_eo (nI j) (nI k) = false := by rw [pf_eo_in hj1 hj2 hk1 hk2]; exact decide_eq_false (fun q => absurd q.2 (by omega))
              refine lv_iconst (v := (-1)) hx hb dX1_ends_44 (by decide) ?_
              exact W.iret (v := (-1)) hx hb hr (fun T9 hT9 hW9 => ⟨⟨(-1), (n, st, go, rk, ld), rfl, ⟨by rw [he]; rfl, (op_en_out he).symm, by rw [he]; rfl, by rw [he]; rfl⟩, by rw [hT9]; exact hX.1, va_K.moved hW9.alike hK, hX.2.1⟩, hX.2.2.F hT9⟩) hX.2.2.2.2 dX1_ends_45
        · refine lv_iconst (v := (-1)) hx hb dX1_ends_22 (by decide) ?_
          have he := pf_eo_1 (x := x) (y := y) (Or.inr (Or.inr (Or.inr (Int32.not_le.mp c4))))
          exact W.iret (v := (-1)) hx hb hr (fun T9 hT9 hW9 => ⟨⟨(-1), (n, st, go, rk, ld), rfl, ⟨by rw [he]; rfl, (op_en_out he).symm, by rw [he]; rfl, by rw [he]; rfl⟩, by rw [hT9]; exact hX.1, va_K.moved hW9.alike hK, hX.2.1⟩, hX.2.2.F hT9⟩) hX.2.2.2.2 dX1_ends_23
set_option maxHeartbeats 4000000 in
set_option maxRecDepth 100000 in
theorem metX1_block (l : Launch) (dC : Nat → ClassId) (dI : Nat → Nat → Nat) (a : Nat → Nat) (cA : Nat → ClassId) (hz : Nat) (B : Nat → Bool) (w : Nat → Int32) (n : Nat) (st : Nat → Nat) (go : Nat → Nat) (g : Nat) (wk : Nat → Nat) (ow : Nat → Nat) (tr : Nat → Nat) (tk : Nat → Bool) (wy : Nat → Int32) (rk : Int32) (ld : Nat) (kp : Nat → Nat) (ko : Nat → Nat) (x : Int32) (y : Int32)  : Met l yX1_block (ws_ yX1_block cX1_block 4 (some .int)) ({ frames := 1, cells := 0, slots := 0, locals := 21 }) (va_Pc [.ref (a 0), .int x, .int y] (pcW (dC, dI) (t1 cA) hz (w1 a cA B w n st go g wk ow tr tk wy rk ld kp ko))) (va_Qi (fun (r : Int32) (u9 : (Nat → Bool) × Int32 × Nat) => match u9 with | (B9, k9, l9) => r = op_bR B x ∧ B9 = op_bB B x y ∧ k9 = (if (ix x 30).isSome = true then -4 else rk) ∧ l9 = (if (ix x 30).isSome = true then 0 else ld)) (fun (u9 : (Nat → Bool) × Int32 × Nat) t => bW (dC, dI) (t1 cA) (va_A (w1 a cA B w n st go g wk ow tr tk wy rk ld kp ko) hz) (match u9 with | (B9, k9, l9) => (w1 a cA B9 w n st go g wk ow tr tk wy k9 l9 kp ko)) t) (va_A (w1 a cA B w n st go g wk ow tr tk wy rk ld kp ko) hz)) 0 0 (va_A (w1 a cA B w n st go g wk ow tr tk wy rk ld kp ko) hz) := by
  refine Met.ofW (cc := cX1_block) (maxL := 4) (ret := (some .int)) (by decide) rfl ?_
  intro p e s m args below meth c s₁ Bd hml hv
  obtain ⟨rfl, hsz, hP, hK, hD0⟩ := hv
  have hx := Bd.exec
  have hb := Bd.bytes
  have hr := Bd.returns
  have hts := atoms_spec (ws := ws_ yX1_block cX1_block 4 (some .int)) Bd.pre
  have hts : ∀ w ∈ lw_all, w.before _ s = true := fun w h => hts w (List.mem_cons_of_mem _ h)
  have hown : s.vm.findClass RX1 = some m.cls := findClass_of_methodNamed Bd.named
  have hlocks := Bd.notSynchronized
  subst hsz
  have hD := hD0.self (sz := s.heap.size)
  generalize hAe : va_A (w1 a cA B w n st go g wk ow tr tk wy rk ld kp ko) s.heap.size = A at hD ⊢
  have hA : ∀ q : Nat, s.heap.size ≤ q → A q := fun q h => by rw [← hAe]; exact Or.inr h
  have E : x1E p s m c cX1_block _ dC dI cA := ⟨hx, hb, hts, hown, hK⟩
  have hX : wd (dC, dI) A s.heap (w1 a cA B w n st go g wk ow tr tk wy rk ld kp ko) s.heap [] := ⟨hP, hD, va_S.rf⟩
  have hl := lv_entry ([.ref (a 0), .int x, .int y]) (n := 4) (Nat.le_of_ble_eq_true rfl)
  rw [lg_entry_eq]
  generalize (lg_sl ([.ref (a 0), .int x, .int y]) ++ List.replicate (4 - (lg_sl ([.ref (a 0), .int x, .int y])).length) Slot.unset).toArray = ls at hl ⊢
  have hl : lv_has ls 4 [(0, .ref (a 0)), (1, .int x), (2, .int y)] := hl
  refine lv_aload_n hx hb dX1_block_0 rfl (lv_at hl 0 rfl) ?_
  refine lv_iload_n hx hb dX1_block_1 rfl (lv_at hl 1 rfl) ?_
  refine ca_i (ci := 1) (As := [.int x]) (rest := []) ⟨hx, hb, hml, hown, hts⟩ hK hX hA (metX1_noCell l dC dI a cA _ B w n st go g wk ow tr tk wy rk ld kp ko x) (cwV 1 hts (lw_V q254 q256 qs16 q26 q257) rfl rfl rfl (by decide +kernel) ⟨Nat.le_of_ble_eq_true rfl, Nat.le_of_ble_eq_true rfl⟩) rfl rfl rfl rfl hl.1 rfl (Nat.le_of_ble_eq_true rfl) dX1_block_2 ⟨Nat.le_of_ble_eq_true rfl, Nat.le_of_ble_eq_true rfl⟩ (fun r1 _ H locs hr1 hX => ?_)
  subst hr1
  refine bz_eq (tgt := 10) hx hb dX1_block_5 (by decide) (fun c1 => ?_) (fun c1 => ?_)
  · have c19 := of_decide_eq_false c1
    obtain ⟨j, hj, rfl⟩ := pf_ix (fun q => c19 (Or.inl q)) (fun q => c19 (Or.inr q)) (by decide)
    have hix : ix (nI j) 30 = some j := ix_in hj (by decide)
    refine lv_aload_n hx hb dX1_block_10 rfl (lv_at hl 0 rfl) ?_
    refine x1_g0 E hX dX1_block_11 ?_
    refine lv_iload_n hx hb dX1_block_14 rfl (lv_at hl 1 rfl) ?_
    refine x1_l1 E hX (by omega) dX1_block_15 ?_
    refine jnV (pc := 24) (ls := ls) (rest := []) (b2 (B j)) (fun J1 => ?_) ?_
    · refine bz_eq (tgt := 23) hx hb dX1_block_16 (by decide) (fun c2 => ?_) (fun c2 => ?_)
      · refine lv_iconst (v := (nI 0)) hx hb dX1_block_23 (by decide) ?_
        exact J1 _ (by rw [c2]; rfl)
      · refine lv_iconst (v := (nI 1)) hx hb dX1_block_19 (by decide) ?_
        refine lv_goto (tgt := 24) hx hb dX1_block_20 (by decide) ?_
        exact J1 _ (by rw [c2]; rfl)
    · refine lv_istore_n (lv' := [(3, .int (b2 (B j))), (0, .ref (a 0)), (1, .int (nI j)), (2, .int y)]) hx hb dX1_block_24 rfl hl (by decide) rfl (fun ls hl => ?_)
      refine lv_aload_n hx hb dX1_block_25 rfl (lv_at hl 1 rfl) ?_
      refine x1_g0 E hX dX1_block_26 ?_
      refine lv_iload_n hx hb dX1_block_29 rfl (lv_at hl 2 rfl) ?_
      refine lv_iload_n hx hb dX1_block_30 rfl (lv_at hl 3 rfl) ?_
      refine jnV (pc := 39) (ls := ls) (rest := [.int (nI j), .ref (a 1)]) (b2 (!decide (y = 0))) (fun J2 => ?_) ?_
      · refine lv_if_eq (tgt := 38) hx hb dX1_block_31 (by decide) (fun c2 => ?_) (fun c2 => ?_)
        · refine lv_iconst (v := (nI 0)) hx hb dX1_block_38 (by decide) ?_
          exact J2 _ (by rw [decide_eq_true c2]; rfl)
        · refine lv_iconst (v := (nI 1)) hx hb dX1_block_34 (by decide) ?_
          refine lv_goto (tgt := 39) hx hb dX1_block_35 (by decide) ?_
          exact J2 _ (by rw [decide_eq_false c2]; rfl)
      · refine x1_s1 E hX (by omega) dX1_block_39 (fun H locs hX => ?_)
        refine lv_aload_n hx hb dX1_block_40 rfl (lv_at hl 1 rfl) ?_
        refine ca_v (ci := 1) (As := []) (rest := []) ⟨hx, hb, hml, hown, hts⟩ hK hX hA (metX1_unload l dC dI a cA _ (va_up B j (!decide (y = 0))) w n st go g wk ow tr tk wy rk ld kp ko) (cwV 0 hts (lw_V q246 q248 qs15 q26 q249) rfl rfl rfl (by decide +kernel) ⟨Nat.le_of_ble_eq_true rfl, Nat.le_of_ble_eq_true rfl⟩) rfl rfl rfl rfl hl.1 rfl (Nat.le_of_ble_eq_true rfl) dX1_block_41 ⟨Nat.le_of_ble_eq_true rfl, Nat.le_of_ble_eq_true rfl⟩ (fun _ H locs _ hX => ?_)
        have hX : wd (dC, dI) A s.heap (w1 a cA (va_up B j (!decide (y = 0))) w n st go g wk ow tr tk wy (-4) 0 kp ko) H locs := hX
        refine lv_iload_n hx hb dX1_block_44 rfl (lv_at hl 0 rfl) ?_
        exact W.iret (v := (b2 (B j))) hx hb hr (fun T9 hT9 hW9 => ⟨⟨(b2 (B j)), (va_up B j (!decide (y = 0)), -4, 0), rfl, ⟨by unfold op_bR; rw [hix], by unfold op_bB; rw [hix], by rw [hix]; rfl, by rw [hix]; rfl⟩, by rw [hT9]; exact hX.1, va_K.moved hW9.alike hK, hX.2.1⟩, hX.2.2.F hT9⟩) hX.2.2.2.2 dX1_block_45
  · have hix : ix x 30 = none := if_pos (of_decide_eq_true c1)
    refine lv_iconst (v := (-1)) hx hb dX1_block_8 (by decide) ?_
    exact W.iret (v := (-1)) hx hb hr (fun T9 hT9 hW9 => ⟨⟨(-1), (B, rk, ld), rfl, ⟨by unfold op_bR; rw [hix], by unfold op_bB; rw [hix], by rw [hix]; rfl, by rw [hix]; rfl⟩, by rw [hT9]; exact hX.1, va_K.moved hW9.alike hK, hX.2.1⟩, hX.2.2.F hT9⟩) hX.2.2.2.2 dX1_block_9
set_option maxHeartbeats 4000000 in
set_option maxRecDepth 100000 in
theorem metX1_weight (l : Launch) (dC : Nat → ClassId) (dI : Nat → Nat → Nat) (a : Nat → Nat) (cA : Nat → ClassId) (hz : Nat) (B : Nat → Bool) (w : Nat → Int32) (n : Nat) (st : Nat → Nat) (go : Nat → Nat) (g : Nat) (wk : Nat → Nat) (ow : Nat → Nat) (tr : Nat → Nat) (tk : Nat → Bool) (wy : Nat → Int32) (rk : Int32) (ld : Nat) (kp : Nat → Nat) (ko : Nat → Nat) (x : Int32) (y : Int32)  : Met l yX1_weight (ws_ yX1_weight cX1_weight 3 (some .int)) ({ frames := 1, cells := 0, slots := 0, locals := 21 }) (va_Pc [.ref (a 0), .int x, .int y] (pcW (dC, dI) (t1 cA) hz (w1 a cA B w n st go g wk ow tr tk wy rk ld kp ko))) (va_Qi (fun (r : Int32) (u9 : Nat → Int32) => match u9 with | w9 => r = op_wR x ∧ w9 = op_wW w x y) (fun (u9 : Nat → Int32) t => bW (dC, dI) (t1 cA) (va_A (w1 a cA B w n st go g wk ow tr tk wy rk ld kp ko) hz) (match u9 with | w9 => (w1 a cA B w9 n st go g wk ow tr tk wy rk ld kp ko)) t) (va_A (w1 a cA B w n st go g wk ow tr tk wy rk ld kp ko) hz)) 0 0 (va_A (w1 a cA B w n st go g wk ow tr tk wy rk ld kp ko) hz) := by
  refine Met.ofW (cc := cX1_weight) (maxL := 3) (ret := (some .int)) (by decide) rfl ?_
  intro p e s m args below meth c s₁ Bd hml hv
  obtain ⟨rfl, hsz, hP, hK, hD0⟩ := hv
  have hx := Bd.exec
  have hb := Bd.bytes
  have hr := Bd.returns
  have hts := atoms_spec (ws := ws_ yX1_weight cX1_weight 3 (some .int)) Bd.pre
  have hts : ∀ w ∈ lw_all, w.before _ s = true := fun w h => hts w (List.mem_cons_of_mem _ h)
  have hown : s.vm.findClass RX1 = some m.cls := findClass_of_methodNamed Bd.named
  have hlocks := Bd.notSynchronized
  subst hsz
  have hD := hD0.self (sz := s.heap.size)
  generalize hAe : va_A (w1 a cA B w n st go g wk ow tr tk wy rk ld kp ko) s.heap.size = A at hD ⊢
  have hA : ∀ q : Nat, s.heap.size ≤ q → A q := fun q h => by rw [← hAe]; exact Or.inr h
  have E : x1E p s m c cX1_weight _ dC dI cA := ⟨hx, hb, hts, hown, hK⟩
  have hX : wd (dC, dI) A s.heap (w1 a cA B w n st go g wk ow tr tk wy rk ld kp ko) s.heap [] := ⟨hP, hD, va_S.rf⟩
  have hl := lv_entry ([.ref (a 0), .int x, .int y]) (n := 3) (Nat.le_of_ble_eq_true rfl)
  rw [lg_entry_eq]
  generalize (lg_sl ([.ref (a 0), .int x, .int y]) ++ List.replicate (3 - (lg_sl ([.ref (a 0), .int x, .int y])).length) Slot.unset).toArray = ls at hl ⊢
  have hl : lv_has ls 3 [(0, .ref (a 0)), (1, .int x), (2, .int y)] := hl
  refine lv_aload_n hx hb dX1_weight_0 rfl (lv_at hl 0 rfl) ?_
  refine lv_iload_n hx hb dX1_weight_1 rfl (lv_at hl 1 rfl) ?_
  refine ca_i (ci := 1) (As := [.int x]) (rest := []) ⟨hx, hb, hml, hown, hts⟩ hK hX hA (metX1_noCell l dC dI a cA _ B w n st go g wk ow tr tk wy rk ld kp ko x) (cwV 1 hts (lw_V q254 q256 qs16 q26 q257) rfl rfl rfl (by decide +kernel) ⟨Nat.le_of_ble_eq_true rfl, Nat.le_of_ble_eq_true rfl⟩) rfl rfl rfl rfl hl.1 rfl (Nat.le_of_ble_eq_true rfl) dX1_weight_2 ⟨Nat.le_of_ble_eq_true rfl, Nat.le_of_ble_eq_true rfl⟩ (fun r1 _ H locs hr1 hX => ?_)
  subst hr1
  refine bz_eq (tgt := 10) hx hb dX1_weight_5 (by decide) (fun c1 => ?_) (fun c1 => ?_)
  · have c19 := of_decide_eq_false c1
    obtain ⟨j, hj, rfl⟩ := pf_ix (fun q => c19 (Or.inl q)) (fun q => c19 (Or.inr q)) (by decide)
    have hix : ix (nI j) 30 = some j := ix_in hj (by decide)
    refine lv_aload_n hx hb dX1_weight_10 rfl (lv_at hl 0 rfl) ?_
    refine x1_g1 E hX dX1_weight_11 ?_
    refine lv_iload_n hx hb dX1_weight_14 rfl (lv_at hl 1 rfl) ?_
    refine lv_iload_n hx hb dX1_weight_15 rfl (lv_at hl 2 rfl) ?_
    refine x1_s2 E hX (by omega) dX1_weight_16 (fun H locs hX => ?_)
    refine lv_iconst (v := (nI 0)) hx hb dX1_weight_17 (by decide) ?_
    exact W.iret (v := (nI 0)) hx hb hr (fun T9 hT9 hW9 => ⟨⟨(nI 0), upd w j y, rfl, ⟨by unfold op_wR; rw [hix]; rfl, by unfold op_wW; rw [hix]⟩, by rw [hT9]; exact hX.1, va_K.moved hW9.alike hK, hX.2.1⟩, hX.2.2.F hT9⟩) hX.2.2.2.2 dX1_weight_18
  · have hix : ix x 30 = none := if_pos (of_decide_eq_true c1)
    refine lv_iconst (v := (-1)) hx hb dX1_weight_8 (by decide) ?_
    exact W.iret (v := (-1)) hx hb hr (fun T9 hT9 hW9 => ⟨⟨(-1), w, rfl, ⟨by unfold op_wR; rw [hix], by unfold op_wW; rw [hix]⟩, by rw [hT9]; exact hX.1, va_K.moved hW9.alike hK, hX.2.1⟩, hX.2.2.F hT9⟩) hX.2.2.2.2 dX1_weight_9
set_option maxHeartbeats 4000000 in
set_option maxRecDepth 100000 in
theorem metX1_ways (l : Launch) (dC : Nat → ClassId) (dI : Nat → Nat → Nat) (a : Nat → Nat) (cA : Nat → ClassId) (hz : Nat) (B : Nat → Bool) (w : Nat → Int32) (n : Nat) (st : Nat → Nat) (go : Nat → Nat) (g : Nat) (wk : Nat → Nat) (ow : Nat → Nat) (tr : Nat → Nat) (tk : Nat → Bool) (wy : Nat → Int32) (rk : Int32) (ld : Nat) (kp : Nat → Nat) (ko : Nat → Nat) (v : Nat) (z : Nat) (hz2 : z < 30) (hv : v < 2 ^ 31) : Met l yX1_ways (ws_ yX1_ways cX1_ways 4 (some .int)) ({ frames := 0, cells := 0, slots := 0, locals := 0 }) (va_Pc [.ref (a 0), .int (nI v), .int (nI z)] (pcW (dC, dI) (t1 cA) hz (w1 a cA B w n st go g wk ow tr tk wy rk ld kp ko))) (va_Qi (fun (r : Int32) (u9 : Nat → Int32) => match u9 with | y9 => r = pf_W (pf_aT B (fun _ => 1)) v z) (fun (u9 : Nat → Int32) t => bW (dC, dI) (t1 cA) (va_A (w1 a cA B w n st go g wk ow tr tk wy rk ld kp ko) hz) (match u9 with | y9 => (w1 a cA B w n st go g wk ow tr tk y9 rk ld kp ko)) t) (va_A (w1 a cA B w n st go g wk ow tr tk wy rk ld kp ko) hz)) 0 0 (va_A (w1 a cA B w n st go g wk ow tr tk wy rk ld kp ko) hz) := by
  refine Met.ofW (cc := cX1_ways) (maxL := 4) (ret := (some .int)) (by decide) rfl ?_
  intro p e s m args below meth c s₁ Bd hml hv
  obtain ⟨rfl, hsz, hP, hK, hD0⟩ := hv
  have hx := Bd.exec
  have hb := Bd.bytes
  have hr := Bd.returns
  have hts := atoms_spec (ws := ws_ yX1_ways cX1_ways 4 (some .int)) Bd.pre
  have hts : ∀ w ∈ lw_all, w.before _ s = true := fun w h => hts w (List.mem_cons_of_mem _ h)
  have hown : s.vm.findClass RX1 = some m.cls := findClass_of_methodNamed Bd.named
  have hlocks := Bd.notSynchronized
  subst hsz
  have hD := hD0.self (sz := s.heap.size)
  generalize hAe : va_A (w1 a cA B w n st go g wk ow tr tk wy rk ld kp ko) s.heap.size = A at hD ⊢
  have hA : ∀ q : Nat, s.heap.size ≤ q → A q := fun q h => by rw [← hAe]; exact Or.inr h
  have E : x1E p s m c cX1_ways _ dC dI cA := ⟨hx, hb, hts, hown, hK⟩
  have hX : wd (dC, dI) A s.heap (w1 a cA B w n st go g wk ow tr tk wy rk ld kp ko) s.heap [] := ⟨hP, hD, va_S.rf⟩
  have hl := lv_entry ([.ref (a 0), .int (nI v), .int (nI z)]) (n := 4) (Nat.le_of_ble_eq_true rfl)
  rw [lg_entry_eq]
  generalize (lg_sl ([.ref (a 0), .int (nI v), .int (nI z)]) ++ List.replicate (4 - (lg_sl ([.ref (a 0), .int (nI v), .int (nI z)])).length) Slot.unset).toArray = ls at hl ⊢
  have hl : lv_has ls 4 [(0, .ref (a 0)), (1, .int (nI v)), (2, .int (nI z))] := hl
  refine lv_iconst (v := (nI 0)) hx hb dX1_ways_0 (by decide) ?_
  refine lv_istore_n (lv' := [(3, .int (nI 0)), (0, .ref (a 0)), (1, .int (nI v)), (2, .int (nI z))]) hx hb dX1_ways_1 rfl hl (by decide) rfl (fun ls hl => ?_)
  refine lpW (α := Nat × (Nat → Int32)) (F := fun _ ls => F0 m 2 ls []) (I := fun q9 H locs ls => match q9 with | (q, y9) => (q ≤ 30 ∧ (∀ j, j < q → y9 j = pf_W (pf_aT B (fun _ => 1)) v j) ∧ v < 2 ^ 31) ∧ wd (dC, dI) A s.heap (w1 a cA B w n st go g wk ow tr tk y9 rk ld kp ko) H locs ∧ lv_has ls 4 [(3, .int (nI q)), (2, .int (nI z)), (1, .int (nI v)), (0, .ref (a 0))]) (μ := fun q9 => match q9 with | (q, y9) => 30 - q) ?_ (0, wy) ⟨⟨Nat.zero_le 30, fun j hj => absurd hj (Nat.not_lt_zero j), hv⟩, hX, lv_sub hl [0, 3, 2, 1] rfl⟩
  · intro ⟨q, y9⟩ H locs ls hI ih
    obtain ⟨⟨hq, hy, hv31⟩, hX, hl⟩ := hI
    refine lv_iload_n hx hb dX1_ways_2 rfl (lv_at hl 0 rfl) ?_
    refine lv_bipush (v := (nI 30)) hx hb dX1_ways_3 (by decide) ?_
    refine bn_ge (tgt := 91) hx hb (by omega) (by omega) dX1_ways_5 (by decide) (fun c1 => ?_) (fun c1 => ?_)
    · obtain rfl : q = 30 := by omega
      refine lv_aload_n hx hb dX1_ways_91 rfl (lv_at hl 3 rfl) ?_
      refine x1_g10 E hX dX1_ways_92 ?_
      refine lv_iload_n hx hb dX1_ways_95 rfl (lv_at hl 1 rfl) ?_
      refine x1_l9 E hX (by omega) dX1_ways_96 ?_
      exact W.iret (v := (y9 z)) hx hb hr (fun T9 hT9 hW9 => ⟨⟨(y9 z), y9, rfl, hy z hz2, by rw [hT9]; exact hX.1, va_K.moved hW9.alike hK, hX.2.1⟩, hX.2.2.F hT9⟩) hX.2.2.2.2 dX1_ways_97
    · refine lv_aload_n hx hb dX1_ways_8 rfl (lv_at hl 3 rfl) ?_
      refine x1_g10 E hX dX1_ways_9 ?_
      refine lv_iload_n hx hb dX1_ways_12 rfl (lv_at hl 0 rfl) ?_
      refine lv_iload_n hx hb dX1_ways_13 rfl (lv_at hl 0 rfl) ?_
      refine lv_iload_n hx hb dX1_ways_14 rfl (lv_at hl 2 rfl) ?_
      refine jnV (pc := 23) (ls := ls) (rest := [.int (nI q), .ref (a 9)]) (if q = v then 1 else 0) (fun J1 => ?_) ?_
      · refine bn_ne (tgt := 22) hx hb (by omega) (by omega) dX1_ways_15 (by decide) (fun c2 => ?_) (fun c2 => ?_)
        · refine lv_iconst (v := (nI 0)) hx hb dX1_ways_22 (by decide) ?_
          exact J1 _ (by rw [if_neg c2]; rfl)
        · refine lv_iconst (v := (nI 1)) hx hb dX1_ways_18 (by decide) ?_
          refine lv_goto (tgt := 23) hx hb dX1_ways_19 (by decide) ?_
          exact J1 _ (by rw [if_pos c2]; rfl)
      · refine x1_s9 E hX (by omega) dX1_ways_23 (fun H locs hX => ?_)
        refine lv_iload_n hx hb dX1_ways_24 rfl (lv_at hl 0 rfl) ?_
        refine lv_iconst (v := (nI 5)) hx hb dX1_ways_25 (by decide) ?_
        have hA1 : ∀ j, j ≠ q → (upd y9 q (if q = v then 1 else 0)) j = y9 j := fun j hj => pk_un hj
        have hA2 : (upd y9 q (if q = v then 1 else 0)) q = (if q = v then 1 else 0) := pk_us
        generalize upd y9 q (if q = v then 1 else 0) = y1 at hX hA1 hA2
        refine jnW (α := Nat → Int32) (F := fun _ ls => F0 m 46 ls []) (I := fun q9 H locs ls => match q9 with | y2 => ((∀ j, j ≠ q → y2 j = y9 j) ∧ y2 q = ((if q = v then 1 else 0) + (if 5 ≤ q then y9 (q - 5) else 0))) ∧ wd (dC, dI) A s.heap (w1 a cA B w n st go g wk ow tr tk y2 rk ld kp ko) H locs ∧ lv_has ls 4 [(3, .int (nI q)), (2, .int (nI z)), (1, .int (nI v)), (0, .ref (a 0))]) (fun J2 => ?_) ?_
        · refine bn_lt (tgt := 46) hx hb (by omega) (by omega) dX1_ways_26 (by decide) (fun c2 => ?_) (fun c2 => ?_)
          · exact J2 y1 _ _ _ ⟨⟨hA1, by rw [hA2, if_neg (show ¬ 5 ≤ q by omega)]; simp⟩, hX, lv_sub hl [0, 1, 2, 3] rfl⟩
          · refine lv_aload_n hx hb dX1_ways_29 rfl (lv_at hl 3 rfl) ?_
            refine x1_g10 E hX dX1_ways_30 ?_
            refine lv_iload_n hx hb dX1_ways_33 rfl (lv_at hl 0 rfl) ?_
            refine lv_dup2_11 hx hb dX1_ways_34 rfl rfl ?_
            refine x1_l9 E hX (by omega) dX1_ways_35 ?_
            refine lv_aload_n hx hb dX1_ways_36 rfl (lv_at hl 3 rfl) ?_
            refine x1_g10 E hX dX1_ways_37 ?_
            refine lv_iload_n hx hb dX1_ways_40 rfl (lv_at hl 0 rfl) ?_
            refine lv_iconst (v := (nI 5)) hx hb dX1_ways_41 (by decide) ?_
            refine lv_isub hx hb dX1_ways_42 ?_
            refine tp (y := (nI (q - 5))) (pk_sub (by omega)) ?_
            refine x1_l9 E hX (by omega) dX1_ways_43 ?_
            refine lv_iadd hx hb dX1_ways_44 ?_
            refine x1_s9 E hX (by omega) dX1_ways_45 (fun H locs hX => ?_)
            exact J2 _ _ _ _ ⟨⟨fun j hj => (pk_un hj).trans (hA1 j hj), by rw [pk_us, hA2, hA1 (q - 5) (by omega), if_pos c2]⟩, hX, lv_sub hl [0, 1, 2, 3] rfl⟩
        · intro y2 H locs ls hI
          obtain ⟨⟨hB1, hB2⟩, hX, hl⟩ := hI
          refine lv_iload_n hx hb dX1_ways_46 rfl (lv_at hl 0 rfl) ?_
          refine lv_iconst (v := (nI 5)) hx hb dX1_ways_47 (by decide) ?_
          refine lv_irem hx hb dX1_ways_48 (by decide) ?_
          refine tp (y := (nI (q % 5))) (pk_rem (by omega) (by decide) (by decide)) ?_
          refine jnW (α := Nat → Int32) (F := fun _ ls => F0 m 69 ls []) (I := fun q9 H locs ls => match q9 with | y3 => ((∀ j, j ≠ q → y3 j = y9 j) ∧ y3 q = (((if q = v then 1 else 0) + (if 5 ≤ q then y9 (q - 5) else 0)) + (if 0 < q % 5 then y9 (q - 1) else 0))) ∧ wd (dC, dI) A s.heap (w1 a cA B w n st go g wk ow tr tk y3 rk ld kp ko) H locs ∧ lv_has ls 4 [(3, .int (nI q)), (2, .int (nI z)), (1, .int (nI v)), (0, .ref (a 0))]) (fun J3 => ?_) ?_
          · refine b0_le (tgt := 69) hx hb (by omega) dX1_ways_49 (by decide) (fun c2 => ?_) (fun c2 => ?_)
            · exact J3 y2 _ _ _ ⟨⟨hB1, by rw [hB2, if_neg (show ¬ 0 < q % 5 by omega)]; simp⟩, hX, lv_sub hl [0, 1, 2, 3] rfl⟩
            · refine lv_aload_n hx hb dX1_ways_52 rfl (lv_at hl 3 rfl) ?_
              refine x1_g10 E hX dX1_ways_53 ?_
              refine lv_iload_n hx hb dX1_ways_56 rfl (lv_at hl 0 rfl) ?_
              refine lv_dup2_11 hx hb dX1_ways_57 rfl rfl ?_
              refine x1_l9 E hX (by omega) dX1_ways_58 ?_
              refine lv_aload_n hx hb dX1_ways_59 rfl (lv_at hl 3 rfl) ?_
              refine x1_g10 E hX dX1_ways_60 ?_
              refine lv_iload_n hx hb dX1_ways_63 rfl (lv_at hl 0 rfl) ?_
              refine lv_iconst (v := (nI 1)) hx hb dX1_ways_64 (by decide) ?_
              refine lv_isub hx hb dX1_ways_65 ?_
              refine tp (y := (nI (q - 1))) (pk_sub (by omega)) ?_
              refine x1_l9 E hX (by omega) dX1_ways_66 ?_
              refine lv_iadd hx hb dX1_ways_67 ?_
              refine x1_s9 E hX (by omega) dX1_ways_68 (fun H locs hX => ?_)
              exact J3 _ _ _ _ ⟨⟨fun j hj => (pk_un hj).trans (hB1 j hj), by rw [pk_us, hB2, hB1 (q - 1) (by omega), if_pos c2]⟩, hX, lv_sub hl [0, 1, 2, 3] rfl⟩
          · intro y3 H locs ls hI
            obtain ⟨⟨hC1, hC2⟩, hX, hl⟩ := hI
            refine lv_aload_n hx hb dX1_ways_69 rfl (lv_at hl 3 rfl) ?_
            refine x1_g0 E hX dX1_ways_70 ?_
            refine lv_iload_n hx hb dX1_ways_73 rfl (lv_at hl 0 rfl) ?_
            refine x1_l1 E hX (by omega) dX1_ways_74 ?_
            refine jnW (α := Nat → Int32) (F := fun _ ls => F0 m 85 ls []) (I := fun q9 H locs ls => match q9 with | y4 => ((∀ j, j ≠ q → y4 j = y9 j) ∧ y4 q = (if B q = true then 0 else ((if q = v then 1 else 0) + (if 5 ≤ q then y9 (q - 5) else 0)) + (if 0 < q % 5 then y9 (q - 1) else 0))) ∧ wd (dC, dI) A s.heap (w1 a cA B w n st go g wk ow tr tk y4 rk ld kp ko) H locs ∧ lv_has ls 4 [(3, .int (nI q)), (2, .int (nI z)), (1, .int (nI v)), (0, .ref (a 0))]) (fun J4 => ?_) ?_
            · refine bz_eq (tgt := 85) hx hb dX1_ways_75 (by decide) (fun c2 => ?_) (fun c2 => ?_)
              · exact J4 y3 _ _ _ ⟨⟨hC1, by rw [hC2, c2]; rfl⟩, hX, lv_sub hl [0, 1, 2, 3] rfl⟩
              · refine lv_aload_n hx hb dX1_ways_78 rfl (lv_at hl 3 rfl) ?_
                refine x1_g10 E hX dX1_ways_79 ?_
                refine lv_iload_n hx hb dX1_ways_82 rfl (lv_at hl 0 rfl) ?_
                refine lv_iconst (v := (nI 0)) hx hb dX1_ways_83 (by decide) ?_
                refine x1_s9 E hX (by omega) dX1_ways_84 (fun H locs hX => ?_)
                exact J4 _ _ _ _ ⟨⟨fun j hj => (pk_un hj).trans (hC1 j hj), by rw [pk_us, c2]; rfl⟩, hX, lv_sub hl [0, 1, 2, 3] rfl⟩
            · intro y4 H locs ls hI
              obtain ⟨⟨hD1, hD2⟩, hX, hl⟩ := hI
              refine lv_iinc (v := (nI (q + 1))) (lv' := [(3, .int (nI (q + 1))), (2, .int (nI z)), (1, .int (nI v)), (0, .ref (a 0))]) hx hb dX1_ways_85 hl (k := 0) rfl (nI_1 _) (by decide) rfl (fun ls hl => ?_)
              refine lv_goto (tgt := 2) hx hb dX1_ways_88 (by decide) ?_
              exact ih (q + 1, y4) _ _ _ ⟨⟨by omega, pf_W_model hy hD1 hD2, hv31⟩, hX, lv_sub hl [0, 1, 2, 3] rfl⟩ (by dsimp only; omega)
set_option maxHeartbeats 4000000 in
set_option maxRecDepth 100000 in
theorem metX1_paths (l : Launch) (dC : Nat → ClassId) (dI : Nat → Nat → Nat) (a : Nat → Nat) (cA : Nat → ClassId) (hz : Nat) (B : Nat → Bool) (w : Nat → Int32) (n : Nat) (st : Nat → Nat) (go : Nat → Nat) (g : Nat) (wk : Nat → Nat) (ow : Nat → Nat) (tr : Nat → Nat) (tk : Nat → Bool) (wy : Nat → Int32) (rk : Int32) (ld : Nat) (kp : Nat → Nat) (ko : Nat → Nat) (x : Int32) (y : Int32) (hwf : pf_wf n st go) : Met l yX1_paths (ws_ yX1_paths cX1_paths 3 (some .int)) ({ frames := 1, cells := 0, slots := 0, locals := 23 }) (va_Pc [.ref (a 0), .int x, .int y] (pcW (dC, dI) (t1 cA) hz (w1 a cA B w n st go g wk ow tr tk wy rk ld kp ko))) (va_Qi (fun (r : Int32) (u9 : Nat → Int32) => match u9 with | y9 => r = op_pt n st go B x y) (fun (u9 : Nat → Int32) t => bW (dC, dI) (t1 cA) (va_A (w1 a cA B w n st go g wk ow tr tk wy rk ld kp ko) hz) (match u9 with | y9 => (w1 a cA B w n st go g wk ow tr tk y9 rk ld kp ko)) t) (va_A (w1 a cA B w n st go g wk ow tr tk wy rk ld kp ko) hz)) 0 0 (va_A (w1 a cA B w n st go g wk ow tr tk wy rk ld kp ko) hz) := by
  refine Met.ofW (cc := cX1_paths) (maxL := 3) (ret := (some .int)) (by decide) rfl ?_
  intro p e s m args below meth c s₁ Bd hml hv
  obtain ⟨rfl, hsz, hP, hK, hD0⟩ := hv
  have hx := Bd.exec
  have hb := Bd.bytes
  have hr := Bd.returns
  have hts := atoms_spec (ws := ws_ yX1_paths cX1_paths 3 (some .int)) Bd.pre
  have hts : ∀ w ∈ lw_all, w.before _ s = true := fun w h => hts w (List.mem_cons_of_mem _ h)
  have hown : s.vm.findClass RX1 = some m.cls := findClass_of_methodNamed Bd.named
  have hlocks := Bd.notSynchronized
  subst hsz
  have hD := hD0.self (sz := s.heap.size)
  generalize hAe : va_A (w1 a cA B w n st go g wk ow tr tk wy rk ld kp ko) s.heap.size = A at hD ⊢
  have hA : ∀ q : Nat, s.heap.size ≤ q → A q := fun q h => by rw [← hAe]; exact Or.inr h
  have E : x1E p s m c cX1_paths _ dC dI cA := ⟨hx, hb, hts, hown, hK⟩
  have hX : wd (dC, dI) A s.heap (w1 a cA B w n st go g wk ow tr tk wy rk ld kp ko) s.heap [] := ⟨hP, hD, va_S.rf⟩
  have hl := lv_entry ([.ref (a 0), .int x, .int y]) (n := 3) (Nat.le_of_ble_eq_true rfl)
  rw [lg_entry_eq]
  generalize (lg_sl ([.ref (a 0), .int x, .int y]) ++ List.replicate (3 - (lg_sl ([.ref (a 0), .int x, .int y])).length) Slot.unset).toArray = ls at hl ⊢
  have hl : lv_has ls 3 [(0, .ref (a 0)), (1, .int x), (2, .int y)] := hl
  obtain ⟨hn1, hn4, hst, hgo, -, -⟩ := id hwf
  refine lv_iload_n hx hb dX1_paths_0 rfl (lv_at hl 1 rfl) ?_
  refine lv_if_lt (tgt := 24) hx hb dX1_paths_1 (by decide) (fun c1 => ?_) (fun c1 => ?_)
  · refine lv_iconst (v := (-1)) hx hb dX1_paths_24 (by decide) ?_
    refine lv_goto (tgt := 44) hx hb dX1_paths_25 (by decide) ?_
    have hix : ix x n = none := ix_lo c1
    exact W.iret (v := (-1)) hx hb hr (fun T9 hT9 hW9 => ⟨⟨(-1), wy, rfl, by unfold op_pt; rw [hix], by rw [hT9]; exact hX.1, va_K.moved hW9.alike hK, hX.2.1⟩, hX.2.2.F hT9⟩) hX.2.2.2.2 dX1_paths_44
  · refine lv_iload_n hx hb dX1_paths_4 rfl (lv_at hl 1 rfl) ?_
    refine lv_aload_n hx hb dX1_paths_5 rfl (lv_at hl 0 rfl) ?_
    refine x1_g2 E hX dX1_paths_6 ?_
    refine lv_icmp_ge (tgt := 24) hx hb dX1_paths_9 (by decide) (fun c2 => ?_) (fun c2 => ?_)
    · refine lv_iconst (v := (-1)) hx hb dX1_paths_24 (by decide) ?_
      refine lv_goto (tgt := 44) hx hb dX1_paths_25 (by decide) ?_
      have hix : ix x n = none := ix_hi c2
      exact W.iret (v := (-1)) hx hb hr (fun T9 hT9 hW9 => ⟨⟨(-1), wy, rfl, by unfold op_pt; rw [hix], by rw [hT9]; exact hX.1, va_K.moved hW9.alike hK, hX.2.1⟩, hX.2.2.F hT9⟩) hX.2.2.2.2 dX1_paths_44
    · obtain ⟨i, hi, rfl⟩ := pf_ix c1 c2 (by omega)
      have hix : ix (nI i) n = some i := ix_in hi (by omega)
      refine lv_iload_n hx hb dX1_paths_12 rfl (lv_at hl 2 rfl) ?_
      refine lv_if_lt (tgt := 24) hx hb dX1_paths_13 (by decide) (fun c3 => ?_) (fun c3 => ?_)
      · refine lv_iconst (v := (-1)) hx hb dX1_paths_24 (by decide) ?_
        refine lv_goto (tgt := 44) hx hb dX1_paths_25 (by decide) ?_
        have hiy : ix y n = none := ix_lo c3
        exact W.iret (v := (-1)) hx hb hr (fun T9 hT9 hW9 => ⟨⟨(-1), wy, rfl, by unfold op_pt; rw [hix]; simp only []; rw [hiy], by rw [hT9]; exact hX.1, va_K.moved hW9.alike hK, hX.2.1⟩, hX.2.2.F hT9⟩) hX.2.2.2.2 dX1_paths_44
      · refine lv_iload_n hx hb dX1_paths_16 rfl (lv_at hl 2 rfl) ?_
        refine lv_aload_n hx hb dX1_paths_17 rfl (lv_at hl 0 rfl) ?_
        refine x1_g2 E hX dX1_paths_18 ?_
        refine lv_icmp_lt (tgt := 28) hx hb dX1_paths_21 (by decide) (fun c4 => ?_) (fun c4 => ?_)
        · obtain ⟨j, hj, rfl⟩ := pf_ix c3 (Int32.not_le.mpr c4) (by omega)
          have hiy : ix (nI j) n = some j := ix_in hj (by omega)
          have hsi := hst i hi
          have hgj := hgo j hj
          refine lv_aload_n hx hb dX1_paths_28 rfl (lv_at hl 0 rfl) ?_
          refine lv_aload_n hx hb dX1_paths_29 rfl (lv_at hl 0 rfl) ?_
          refine x1_g3 E hX dX1_paths_30 ?_
          refine lv_iload_n hx hb dX1_paths_33 rfl (lv_at hl 1 rfl) ?_
          refine x1_l3 E hX (by omega) dX1_paths_34 ?_
          refine lv_aload_n hx hb dX1_paths_35 rfl (lv_at hl 0 rfl) ?_
          refine x1_g4 E hX dX1_paths_36 ?_
          refine lv_iload_n hx hb dX1_paths_39 rfl (lv_at hl 2 rfl) ?_
          refine x1_l4 E hX (by omega) dX1_paths_40 ?_
          refine ca_i (ci := 1) (As := [.int (nI (st i)), .int (nI (go j))]) (rest := []) ⟨hx, hb, hml, hown, hts⟩ hK hX hA (metX1_ways l dC dI a cA _ B w n st go g wk ow tr tk wy rk ld kp ko (st i) (go j) hgj.2 (by omega)) (cwV 2 hts (lw_V q266 q268 qs17 q26 q269) rfl rfl rfl (by decide +kernel) ⟨Nat.le_of_ble_eq_true rfl, Nat.le_of_ble_eq_true rfl⟩) rfl rfl rfl rfl hl.1 rfl (Nat.le_of_ble_eq_true rfl) dX1_paths_41 ⟨Nat.le_of_ble_eq_true rfl, Nat.le_of_ble_eq_true rfl⟩ (fun r1 y9 H locs hr1 hX => ?_)
          have hX : wd (dC, dI) A s.heap (w1 a cA B w n st go g wk ow tr tk y9 rk ld kp ko) H locs := hX
          exact W.iret (v := r1) hx hb hr (fun T9 hT9 hW9 => ⟨⟨r1, y9, rfl, by unfold op_pt; rw [hix]; simp only []; rw [hiy, hr1], by rw [hT9]; exact hX.1, va_K.moved hW9.alike hK, hX.2.1⟩, hX.2.2.F hT9⟩) hX.2.2.2.2 dX1_paths_44
        · refine lv_iconst (v := (-1)) hx hb dX1_paths_24 (by decide) ?_
          refine lv_goto (tgt := 44) hx hb dX1_paths_25 (by decide) ?_
          have hiy : ix y n = none := ix_hi (Int32.not_lt.mp c4)
          exact W.iret (v := (-1)) hx hb hr (fun T9 hT9 hW9 => ⟨⟨(-1), wy, rfl, by unfold op_pt; rw [hix]; simp only []; rw [hiy], by rw [hT9]; exact hX.1, va_K.moved hW9.alike hK, hX.2.1⟩, hX.2.2.F hT9⟩) hX.2.2.2.2 dX1_paths_44
end
section
set_option maxRecDepth 100000
set_option maxHeartbeats 4000000 in
set_option maxRecDepth 100000 in
theorem metX1_step (l : Launch) (dC : Nat → ClassId) (dI : Nat → Nat → Nat) (a : Nat → Nat) (cA : Nat → ClassId) (hz : Nat) (B : Nat → Bool) (w : Nat → Int32) (n : Nat) (st : Nat → Nat) (go : Nat → Nat) (g : Nat) (wk : Nat → Nat) (ow : Nat → Nat) (tr : Nat → Nat) (tk : Nat → Bool) (wy : Nat → Int32) (rk : Int32) (ld : Nat) (kp : Nat → Nat) (ko : Nat → Nat) (z : Nat) (j : Nat) (S : pf_K) (hz2 : z < 30) (hj : j < n) (hm : pf_mm n S g wk ow tr tk) : Met l yX1_step (ws_ yX1_step cX1_step 3 none) ({ frames := 0, cells := 0, slots := 0, locals := 0 }) (va_Pc [.ref (a 0), .int (nI z), .int (nI j)] (pcW (dC, dI) (t1 cA) hz (w1 a cA B w n st go g wk ow tr tk wy rk ld kp ko))) (va_Qv (fun (u9 : Nat × (Nat → Nat) × (Nat → Nat) × (Nat → Nat) × (Nat → Bool)) => match u9 with | (g9, k9, o9, t9, x9) => pf_mm n (pf_push B z j S) g9 k9 o9 t9 x9) (fun (u9 : Nat × (Nat → Nat) × (Nat → Nat) × (Nat → Nat) × (Nat → Bool)) t => bW (dC, dI) (t1 cA) (va_A (w1 a cA B w n st go g wk ow tr tk wy rk ld kp ko) hz) (match u9 with | (g9, k9, o9, t9, x9) => (w1 a cA B w n st go g9 k9 o9 t9 x9 wy rk ld kp ko)) t) (va_A (w1 a cA B w n st go g wk ow tr tk wy rk ld kp ko) hz)) 0 0 (va_A (w1 a cA B w n st go g wk ow tr tk wy rk ld kp ko) hz) := by
  refine Met.ofW (cc := cX1_step) (maxL := 3) (ret := none) (by decide) rfl ?_
  intro p e s m args below meth c s₁ Bd hml hv
  obtain ⟨rfl, hsz, hP, hK, hD0⟩ := hv
  have hx := Bd.exec
  have hb := Bd.bytes
  have hr := Bd.returns
  have hts := atoms_spec (ws := ws_ yX1_step cX1_step 3 none) Bd.pre
  have hts : ∀ w ∈ lw_all, w.before _ s = true := fun w h => hts w (List.mem_cons_of_mem _ h)
  have hown : s.vm.findClass RX1 = some m.cls := findClass_of_methodNamed Bd.named
  have hlocks := Bd.notSynchronized
  subst hsz
  have hD := hD0.self (sz := s.heap.size)
  generalize hAe : va_A (w1 a cA B w n st go g wk ow tr tk wy rk ld kp ko) s.heap.size = A at hD ⊢
  have hA : ∀ q : Nat, s.heap.size ≤ q → A q := fun q h => by rw [← hAe]; exact Or.inr h
  have E : x1E p s m c cX1_step _ dC dI cA := ⟨hx, hb, hts, hown, hK⟩
  have hX : wd (dC, dI) A s.heap (w1 a cA B w n st go g wk ow tr tk wy rk ld kp ko) s.heap [] := ⟨hP, hD, va_S.rf⟩
  have hl := lv_entry ([.ref (a 0), .int (nI z), .int (nI j)]) (n := 3) (Nat.le_of_ble_eq_true rfl)
  rw [lg_entry_eq]
  generalize (lg_sl ([.ref (a 0), .int (nI z), .int (nI j)]) ++ List.replicate (3 - (lg_sl ([.ref (a 0), .int (nI z), .int (nI j)])).length) Slot.unset).toArray = ls at hl ⊢
  have hl : lv_has ls 3 [(0, .ref (a 0)), (1, .int (nI z)), (2, .int (nI j))] := hl
  have hg := pf_mm_len hm
  refine lv_aload_n hx hb dX1_step_0 rfl (lv_at hl 0 rfl) ?_
  refine x1_g0 E hX dX1_step_1 ?_
  refine lv_iload_n hx hb dX1_step_4 rfl (lv_at hl 1 rfl) ?_
  refine x1_l1 E hX (by omega) dX1_step_5 ?_
  refine bz_ne (tgt := 18) hx hb dX1_step_6 (by decide) (fun c1 => ?_) (fun c1 => ?_)
  · exact W.vret hx hb hr (fun T9 hT9 hW9 => ⟨⟨(g, wk, ow, tr, tk), rfl, by rw [pf_mm_skip hm hz2 (Or.inl c1)]; exact hm, by rw [hT9]; exact hX.1, va_K.moved hW9.alike hK, hX.2.1⟩, hX.2.2.F hT9⟩) hX.2.2.2.2 dX1_step_18
  · refine lv_aload_n hx hb dX1_step_9 rfl (lv_at hl 0 rfl) ?_
    refine x1_g9 E hX dX1_step_10 ?_
    refine lv_iload_n hx hb dX1_step_13 rfl (lv_at hl 1 rfl) ?_
    refine x1_l8 E hX (by omega) dX1_step_14 ?_
    refine bz_eq (tgt := 19) hx hb dX1_step_15 (by decide) (fun c2 => ?_) (fun c2 => ?_)
    · refine lv_aload_n hx hb dX1_step_19 rfl (lv_at hl 0 rfl) ?_
      refine x1_g6 E hX dX1_step_20 ?_
      refine lv_aload_n hx hb dX1_step_23 rfl (lv_at hl 0 rfl) ?_
      refine x1_g5 E hX dX1_step_24 ?_
      refine lv_iload_n hx hb dX1_step_27 rfl (lv_at hl 1 rfl) ?_
      refine x1_s5 E hX (by omega) dX1_step_28 (fun H locs hX => ?_)
      refine lv_aload_n hx hb dX1_step_29 rfl (lv_at hl 0 rfl) ?_
      refine x1_g7 E hX dX1_step_30 ?_
      refine lv_aload_n hx hb dX1_step_33 rfl (lv_at hl 0 rfl) ?_
      refine x1_g5 E hX dX1_step_34 ?_
      refine lv_iload_n hx hb dX1_step_37 rfl (lv_at hl 2 rfl) ?_
      refine x1_s6 E hX (by omega) dX1_step_38 (fun H locs hX => ?_)
      refine lv_aload_n hx hb dX1_step_39 rfl (lv_at hl 0 rfl) ?_
      refine x1_g8 E hX dX1_step_40 ?_
      refine lv_aload_n hx hb dX1_step_43 rfl (lv_at hl 0 rfl) ?_
      refine x1_g5 E hX dX1_step_44 ?_
      refine lv_iconst (v := (nI 0)) hx hb dX1_step_47 (by decide) ?_
      refine x1_s7 E hX (by omega) dX1_step_48 (fun H locs hX => ?_)
      refine lv_aload_n hx hb dX1_step_49 rfl (lv_at hl 0 rfl) ?_
      refine x1_g9 E hX dX1_step_50 ?_
      refine lv_iload_n hx hb dX1_step_53 rfl (lv_at hl 1 rfl) ?_
      refine lv_iconst (v := (nI 1)) hx hb dX1_step_54 (by decide) ?_
      refine tp (y := (b2 true)) rfl ?_
      refine x1_s8 E hX (by omega) dX1_step_55 (fun H locs hX => ?_)
      refine lv_aload_n hx hb dX1_step_56 rfl (lv_at hl 0 rfl) ?_
      refine lv_dup hx hb dX1_step_57 rfl ?_
      refine x1_g5 E hX dX1_step_58 ?_
      refine lv_iconst (v := (nI 1)) hx hb dX1_step_61 (by decide) ?_
      refine lv_iadd hx hb dX1_step_62 ?_
      refine tp (y := (nI (g + 1))) (nI_add _ _) ?_
      refine x1_p5 E hX dX1_step_63 (fun H locs hX => ?_)
      exact W.vret hx hb hr (fun T9 hT9 hW9 => ⟨⟨(g + 1, va_up wk g z, va_up ow g j, va_up tr g 0, va_up tk z true), rfl, pf_mm_push hm hz2 hj c1 c2, by rw [hT9]; exact hX.1, va_K.moved hW9.alike hK, hX.2.1⟩, hX.2.2.F hT9⟩) hX.2.2.2.2 dX1_step_66
    · exact W.vret hx hb hr (fun T9 hT9 hW9 => ⟨⟨(g, wk, ow, tr, tk), rfl, by rw [pf_mm_skip hm hz2 (Or.inr c2)]; exact hm, by rw [hT9]; exact hX.1, va_K.moved hW9.alike hK, hX.2.1⟩, hX.2.2.F hT9⟩) hX.2.2.2.2 dX1_step_18
set_option maxHeartbeats 4000000 in
set_option maxRecDepth 100000 in
theorem metX1_begin (l : Launch) (dC : Nat → ClassId) (dI : Nat → Nat → Nat) (a : Nat → Nat) (cA : Nat → ClassId) (hz : Nat) (B : Nat → Bool) (w : Nat → Int32) (n : Nat) (st : Nat → Nat) (go : Nat → Nat) (g : Nat) (wk : Nat → Nat) (ow : Nat → Nat) (tr : Nat → Nat) (tk : Nat → Bool) (wy : Nat → Int32) (rk : Int32) (ld : Nat) (kp : Nat → Nat) (ko : Nat → Nat)  (hwf : pf_wf n st go) : Met l yX1_begin (ws_ yX1_begin cX1_begin 2 none) ({ frames := 1, cells := 0, slots := 0, locals := 22 }) (va_Pc [.ref (a 0)] (pcW (dC, dI) (t1 cA) hz (w1 a cA B w n st go g wk ow tr tk wy rk ld kp ko))) (va_Qv (fun (u9 : Nat × (Nat → Nat) × (Nat → Nat) × (Nat → Nat) × (Nat → Bool)) => match u9 with | (g9, k9, o9, t9, x9) => pf_mm n (pf_push B (st 0) 0 []) g9 k9 o9 t9 x9) (fun (u9 : Nat × (Nat → Nat) × (Nat → Nat) × (Nat → Nat) × (Nat → Bool)) t => bW (dC, dI) (t1 cA) (va_A (w1 a cA B w n st go g wk ow tr tk wy rk ld kp ko) hz) (match u9 with | (g9, k9, o9, t9, x9) => (w1 a cA B w n st go g9 k9 o9 t9 x9 wy rk ld kp ko)) t) (va_A (w1 a cA B w n st go g wk ow tr tk wy rk ld kp ko) hz)) 0 0 (va_A (w1 a cA B w n st go g wk ow tr tk wy rk ld kp ko) hz) := by
  refine Met.ofW (cc := cX1_begin) (maxL := 2) (ret := none) (by decide) rfl ?_
  intro p e s m args below meth c s₁ Bd hml hv
  obtain ⟨rfl, hsz, hP, hK, hD0⟩ := hv
  have hx := Bd.exec
  have hb := Bd.bytes
  have hr := Bd.returns
  have hts := atoms_spec (ws := ws_ yX1_begin cX1_begin 2 none) Bd.pre
  have hts : ∀ w ∈ lw_all, w.before _ s = true := fun w h => hts w (List.mem_cons_of_mem _ h)
  have hown : s.vm.findClass RX1 = some m.cls := findClass_of_methodNamed Bd.named
  have hlocks := Bd.notSynchronized
  subst hsz
  have hD := hD0.self (sz := s.heap.size)
  generalize hAe : va_A (w1 a cA B w n st go g wk ow tr tk wy rk ld kp ko) s.heap.size = A at hD ⊢
  have hA : ∀ q : Nat, s.heap.size ≤ q → A q := fun q h => by rw [← hAe]; exact Or.inr h
  have E : x1E p s m c cX1_begin _ dC dI cA := ⟨hx, hb, hts, hown, hK⟩
  have hX : wd (dC, dI) A s.heap (w1 a cA B w n st go g wk ow tr tk wy rk ld kp ko) s.heap [] := ⟨hP, hD, va_S.rf⟩
  have hl := lv_entry ([.ref (a 0)]) (n := 2) (Nat.le_of_ble_eq_true rfl)
  rw [lg_entry_eq]
  generalize (lg_sl ([.ref (a 0)]) ++ List.replicate (2 - (lg_sl ([.ref (a 0)])).length) Slot.unset).toArray = ls at hl ⊢
  have hl : lv_has ls 2 [(0, .ref (a 0))] := hl
  have hs0 := hwf.2.2.1 0 hwf.1
  refine lv_aload_n hx hb dX1_begin_0 rfl (lv_at hl 0 rfl) ?_
  refine lv_iconst (v := (nI 0)) hx hb dX1_begin_1 (by decide) ?_
  refine x1_p5 E hX dX1_begin_2 (fun H locs hX => ?_)
  refine lv_iconst (v := (nI 0)) hx hb dX1_begin_5 (by decide) ?_
  refine lv_istore_n (lv' := [(1, .int (nI 0)), (0, .ref (a 0))]) hx hb dX1_begin_6 rfl hl (by decide) rfl (fun ls hl => ?_)
  refine lpW (α := Nat × (Nat → Bool)) (F := fun _ ls => F0 m 7 ls []) (I := fun q9 H locs ls => match q9 with | (q, x9) => (q ≤ 30 ∧ (∀ j, j < q → x9 j = false)) ∧ wd (dC, dI) A s.heap (w1 a cA B w n st go 0 wk ow tr x9 wy rk ld kp ko) H locs ∧ lv_has ls 2 [(1, .int (nI q)), (0, .ref (a 0))]) (μ := fun q9 => match q9 with | (q, x9) => 30 - q) ?_ (0, tk) ⟨⟨Nat.zero_le 30, fun j hj => absurd hj (Nat.not_lt_zero j)⟩, hX, lv_sub hl [0, 1] rfl⟩
  · intro ⟨q, x9⟩ H locs ls hI ih
    obtain ⟨⟨hq, hc⟩, hX, hl⟩ := hI
    refine lv_iload_n hx hb dX1_begin_7 rfl (lv_at hl 0 rfl) ?_
    refine lv_bipush (v := (nI 30)) hx hb dX1_begin_8 (by decide) ?_
    refine bn_ge (tgt := 26) hx hb (by omega) (by omega) dX1_begin_10 (by decide) (fun c1 => ?_) (fun c1 => ?_)
    · obtain rfl : q = 30 := by omega
      have hm : pf_mm n [] 0 wk ow tr x9 := ⟨rfl, trivial, fun c hc9 => hc c hc9, trivial⟩
      refine lv_aload_n hx hb dX1_begin_26 rfl (lv_at hl 1 rfl) ?_
      refine lv_aload_n hx hb dX1_begin_27 rfl (lv_at hl 1 rfl) ?_
      refine x1_g3 E hX dX1_begin_28 ?_
      refine lv_iconst (v := (nI 0)) hx hb dX1_begin_31 (by decide) ?_
      refine x1_l3 E hX (by omega) dX1_begin_32 ?_
      refine lv_iconst (v := (nI 0)) hx hb dX1_begin_33 (by decide) ?_
      refine ca_v (ci := 1) (As := [.int (nI (st 0)), .int (nI 0)]) (rest := []) ⟨hx, hb, hml, hown, hts⟩ hK hX hA (metX1_step l dC dI a cA _ B w n st go 0 wk ow tr x9 wy rk ld kp ko (st 0) 0 [] (by omega) hwf.1 hm) (cwV 2 hts (lw_V q278 q280 qs19 q26 q281) rfl rfl rfl (by decide +kernel) ⟨Nat.le_of_ble_eq_true rfl, Nat.le_of_ble_eq_true rfl⟩) rfl rfl rfl rfl hl.1 rfl (Nat.le_of_ble_eq_true rfl) dX1_begin_34 ⟨Nat.le_of_ble_eq_true rfl, Nat.le_of_ble_eq_true rfl⟩ (fun ⟨g8, k8, o8, t8, x8⟩ H locs hw hX => ?_)
      have hX : wd (dC, dI) A s.heap (w1 a cA B w n st go g8 k8 o8 t8 x8 wy rk ld kp ko) H locs := hX
      exact W.vret hx hb hr (fun T9 hT9 hW9 => ⟨⟨(g8, k8, o8, t8, x8), rfl, hw, by rw [hT9]; exact hX.1, va_K.moved hW9.alike hK, hX.2.1⟩, hX.2.2.F hT9⟩) hX.2.2.2.2 dX1_begin_37
    · refine lv_aload_n hx hb dX1_begin_13 rfl (lv_at hl 1 rfl) ?_
      refine x1_g9 E hX dX1_begin_14 ?_
      refine lv_iload_n hx hb dX1_begin_17 rfl (lv_at hl 0 rfl) ?_
      refine lv_iconst (v := (nI 0)) hx hb dX1_begin_18 (by decide) ?_
      refine tp (y := (b2 false)) rfl ?_
      refine x1_s8 E hX (by omega) dX1_begin_19 (fun H locs hX => ?_)
      refine lv_iinc (v := (nI (q + 1))) (lv' := [(1, .int (nI (q + 1))), (0, .ref (a 0))]) hx hb dX1_begin_20 hl (k := 0) rfl (nI_1 _) (by decide) rfl (fun ls hl => ?_)
      refine lv_goto (tgt := 7) hx hb dX1_begin_23 (by decide) ?_
      have hf9 : ∀ j, j < q + 1 → (va_up x9 q false) j = false := by
        intro j hj
        by_cases e : j = q
        · exact if_pos e
        · exact (if_neg e).trans (hc j (by omega))
      exact ih (q + 1, va_up x9 q false) _ _ _ ⟨⟨by omega, hf9⟩, hX, lv_sub hl [0, 1] rfl⟩ (by dsimp only; omega)
set_option maxHeartbeats 4000000 in
set_option maxRecDepth 100000 in
theorem metX1_stepBack (l : Launch) (dC : Nat → ClassId) (dI : Nat → Nat → Nat) (a : Nat → Nat) (cA : Nat → ClassId) (hz : Nat) (B : Nat → Bool) (w : Nat → Int32) (n : Nat) (st : Nat → Nat) (go : Nat → Nat) (g : Nat) (wk : Nat → Nat) (ow : Nat → Nat) (tr : Nat → Nat) (tk : Nat → Bool) (wy : Nat → Int32) (rk : Int32) (ld : Nat) (kp : Nat → Nat) (ko : Nat → Nat) (v : Nat) (i : Nat) (t : Nat) (S : pf_K) (tr0 : Nat → Nat) (hm : pf_mm n ((v, i, t) :: S) g wk ow tr0 tk) (htr : ∀ k, k < S.length → tr k = tr0 k) : Met l yX1_stepBack (ws_ yX1_stepBack cX1_stepBack 1 none) ({ frames := 0, cells := 0, slots := 0, locals := 0 }) (va_Pc [.ref (a 0)] (pcW (dC, dI) (t1 cA) hz (w1 a cA B w n st go g wk ow tr tk wy rk ld kp ko))) (va_Qv (fun (u9 : Nat × (Nat → Bool)) => match u9 with | (g9, x9) => pf_mm n S g9 wk ow tr x9) (fun (u9 : Nat × (Nat → Bool)) t => bW (dC, dI) (t1 cA) (va_A (w1 a cA B w n st go g wk ow tr tk wy rk ld kp ko) hz) (match u9 with | (g9, x9) => (w1 a cA B w n st go g9 wk ow tr x9 wy rk ld kp ko)) t) (va_A (w1 a cA B w n st go g wk ow tr tk wy rk ld kp ko) hz)) 0 0 (va_A (w1 a cA B w n st go g wk ow tr tk wy rk ld kp ko) hz) := by
  refine Met.ofW (cc := cX1_stepBack) (maxL := 1) (ret := none) (by decide) rfl ?_
  intro p e s m args below meth c s₁ Bd hml hv
  obtain ⟨rfl, hsz, hP, hK, hD0⟩ := hv
  have hx := Bd.exec
  have hb := Bd.bytes
  have hr := Bd.returns
  have hts := atoms_spec (ws := ws_ yX1_stepBack cX1_stepBack 1 none) Bd.pre
  have hts : ∀ w ∈ lw_all, w.before _ s = true := fun w h => hts w (List.mem_cons_of_mem _ h)
  have hown : s.vm.findClass RX1 = some m.cls := findClass_of_methodNamed Bd.named
  have hlocks := Bd.notSynchronized
  subst hsz
  have hD := hD0.self (sz := s.heap.size)
  generalize hAe : va_A (w1 a cA B w n st go g wk ow tr tk wy rk ld kp ko) s.heap.size = A at hD ⊢
  have hA : ∀ q : Nat, s.heap.size ≤ q → A q := fun q h => by rw [← hAe]; exact Or.inr h
  have E : x1E p s m c cX1_stepBack _ dC dI cA := ⟨hx, hb, hts, hown, hK⟩
  have hX : wd (dC, dI) A s.heap (w1 a cA B w n st go g wk ow tr tk wy rk ld kp ko) s.heap [] := ⟨hP, hD, va_S.rf⟩
  have hl := lv_entry ([.ref (a 0)]) (n := 1) (Nat.le_of_ble_eq_true rfl)
  rw [lg_entry_eq]
  generalize (lg_sl ([.ref (a 0)]) ++ List.replicate (1 - (lg_sl ([.ref (a 0)])).length) Slot.unset).toArray = ls at hl ⊢
  have hl : lv_has ls 1 [(0, .ref (a 0))] := hl
  have hg := pf_mm_len hm
  obtain ⟨⟨hg1, hwk, -, -⟩, ⟨hv, -, -⟩⟩ := pf_mm_top hm
  refine lv_aload_n hx hb dX1_stepBack_0 rfl (lv_at hl 0 rfl) ?_
  refine lv_dup hx hb dX1_stepBack_1 rfl ?_
  refine x1_g5 E hX dX1_stepBack_2 ?_
  refine lv_iconst (v := (nI 1)) hx hb dX1_stepBack_5 (by decide) ?_
  refine lv_isub hx hb dX1_stepBack_6 ?_
  refine tp (y := (nI (g - 1))) (pk_sub (by omega)) ?_
  refine x1_p5 E hX dX1_stepBack_7 (fun H locs hX => ?_)
  refine lv_aload_n hx hb dX1_stepBack_10 rfl (lv_at hl 0 rfl) ?_
  refine x1_g9 E hX dX1_stepBack_11 ?_
  refine lv_aload_n hx hb dX1_stepBack_14 rfl (lv_at hl 0 rfl) ?_
  refine x1_g6 E hX dX1_stepBack_15 ?_
  refine lv_aload_n hx hb dX1_stepBack_18 rfl (lv_at hl 0 rfl) ?_
  refine x1_g5 E hX dX1_stepBack_19 ?_
  refine x1_l5 E hX (by omega) dX1_stepBack_22 ?_
  refine tp (y := (nI v)) (by rw [hwk]) ?_
  refine lv_iconst (v := (nI 0)) hx hb dX1_stepBack_23 (by decide) ?_
  refine tp (y := (b2 false)) rfl ?_
  refine x1_s8 E hX (by omega) dX1_stepBack_24 (fun H locs hX => ?_)
  exact W.vret hx hb hr (fun T9 hT9 hW9 => ⟨⟨(g - 1, va_up tk v false), rfl, pf_mm_pop hm htr, by rw [hT9]; exact hX.1, va_K.moved hW9.alike hK, hX.2.1⟩, hX.2.2.F hT9⟩) hX.2.2.2.2 dX1_stepBack_25
set_option maxHeartbeats 4000000 in
set_option maxRecDepth 100000 in
theorem metX1_goOn (l : Launch) (dC : Nat → ClassId) (dI : Nat → Nat → Nat) (a : Nat → Nat) (cA : Nat → ClassId) (hz : Nat) (B : Nat → Bool) (w : Nat → Int32) (n : Nat) (st : Nat → Nat) (go : Nat → Nat) (g : Nat) (wk : Nat → Nat) (ow : Nat → Nat) (tr : Nat → Nat) (tk : Nat → Bool) (wy : Nat → Int32) (rk : Int32) (ld : Nat) (kp : Nat → Nat) (ko : Nat → Nat) (v : Nat) (i : Nat) (t : Nat) (S : pf_K) (hwf : pf_wf n st go) (hm : pf_mm n ((v, i, t) :: S) g wk ow tr tk) : Met l yX1_goOn (ws_ yX1_goOn cX1_goOn 4 none) ({ frames := 1, cells := 0, slots := 0, locals := 22 }) (va_Pc [.ref (a 0)] (pcW (dC, dI) (t1 cA) hz (w1 a cA B w n st go g wk ow tr tk wy rk ld kp ko))) (va_Qv (fun (u9 : Nat × (Nat → Nat) × (Nat → Nat) × (Nat → Nat) × (Nat → Bool)) => match u9 with | (g9, k9, o9, t9, x9) => pf_mm n (pf_on n st go B ((v, i, t) :: S)) g9 k9 o9 t9 x9) (fun (u9 : Nat × (Nat → Nat) × (Nat → Nat) × (Nat → Nat) × (Nat → Bool)) t => bW (dC, dI) (t1 cA) (va_A (w1 a cA B w n st go g wk ow tr tk wy rk ld kp ko) hz) (match u9 with | (g9, k9, o9, t9, x9) => (w1 a cA B w n st go g9 k9 o9 t9 x9 wy rk ld kp ko)) t) (va_A (w1 a cA B w n st go g wk ow tr tk wy rk ld kp ko) hz)) 0 0 (va_A (w1 a cA B w n st go g wk ow tr tk wy rk ld kp ko) hz) := by
  refine Met.ofW (cc := cX1_goOn) (maxL := 4) (ret := none) (by decide) rfl ?_
  intro p e s m args below meth c s₁ Bd hml hv
  obtain ⟨rfl, hsz, hP, hK, hD0⟩ := hv
  have hx := Bd.exec
  have hb := Bd.bytes
  have hr := Bd.returns
  have hts := atoms_spec (ws := ws_ yX1_goOn cX1_goOn 4 none) Bd.pre
  have hts : ∀ w ∈ lw_all, w.before _ s = true := fun w h => hts w (List.mem_cons_of_mem _ h)
  have hown : s.vm.findClass RX1 = some m.cls := findClass_of_methodNamed Bd.named
  have hlocks := Bd.notSynchronized
  subst hsz
  have hD := hD0.self (sz := s.heap.size)
  generalize hAe : va_A (w1 a cA B w n st go g wk ow tr tk wy rk ld kp ko) s.heap.size = A at hD ⊢
  have hA : ∀ q : Nat, s.heap.size ≤ q → A q := fun q h => by rw [← hAe]; exact Or.inr h
  have E : x1E p s m c cX1_goOn _ dC dI cA := ⟨hx, hb, hts, hown, hK⟩
  have hX : wd (dC, dI) A s.heap (w1 a cA B w n st go g wk ow tr tk wy rk ld kp ko) s.heap [] := ⟨hP, hD, va_S.rf⟩
  have hl := lv_entry ([.ref (a 0)]) (n := 4) (Nat.le_of_ble_eq_true rfl)
  rw [lg_entry_eq]
  generalize (lg_sl ([.ref (a 0)]) ++ List.replicate (4 - (lg_sl ([.ref (a 0)])).length) Slot.unset).toArray = ls at hl ⊢
  have hl : lv_has ls 4 [(0, .ref (a 0))] := hl
  obtain ⟨hn1, hn4, hst, hgo, -, -⟩ := id hwf
  have hg := pf_mm_len hm
  obtain ⟨⟨hg1, hwk, how, htr⟩, ⟨hv, hi, ht⟩⟩ := pf_mm_top hm
  have hgi := hgo i hi
  refine lv_aload_n hx hb dX1_goOn_0 rfl (lv_at hl 0 rfl) ?_
  refine x1_g6 E hX dX1_goOn_1 ?_
  refine lv_aload_n hx hb dX1_goOn_4 rfl (lv_at hl 0 rfl) ?_
  refine x1_g5 E hX dX1_goOn_5 ?_
  refine lv_iconst (v := (nI 1)) hx hb dX1_goOn_8 (by decide) ?_
  refine lv_isub hx hb dX1_goOn_9 ?_
  refine tp (y := (nI (g - 1))) (pk_sub (by omega)) ?_
  refine x1_l5 E hX (by omega) dX1_goOn_10 ?_
  refine tp (y := (nI v)) (by rw [hwk]) ?_
  refine lv_istore_n (lv' := [(1, .int (nI v)), (0, .ref (a 0))]) hx hb dX1_goOn_11 rfl hl (by decide) rfl (fun ls hl => ?_)
  refine lv_aload_n hx hb dX1_goOn_12 rfl (lv_at hl 1 rfl) ?_
  refine x1_g7 E hX dX1_goOn_13 ?_
  refine lv_aload_n hx hb dX1_goOn_16 rfl (lv_at hl 1 rfl) ?_
  refine x1_g5 E hX dX1_goOn_17 ?_
  refine lv_iconst (v := (nI 1)) hx hb dX1_goOn_20 (by decide) ?_
  refine lv_isub hx hb dX1_goOn_21 ?_
  refine tp (y := (nI (g - 1))) (pk_sub (by omega)) ?_
  refine x1_l6 E hX (by omega) dX1_goOn_22 ?_
  refine tp (y := (nI i)) (by rw [how]) ?_
  refine lv_istore_n (lv' := [(2, .int (nI i)), (1, .int (nI v)), (0, .ref (a 0))]) hx hb dX1_goOn_23 rfl hl (by decide) rfl (fun ls hl => ?_)
  refine lv_aload_n hx hb dX1_goOn_24 rfl (lv_at hl 2 rfl) ?_
  refine x1_g8 E hX dX1_goOn_25 ?_
  refine lv_aload_n hx hb dX1_goOn_28 rfl (lv_at hl 2 rfl) ?_
  refine x1_g5 E hX dX1_goOn_29 ?_
  refine lv_iconst (v := (nI 1)) hx hb dX1_goOn_32 (by decide) ?_
  refine lv_isub hx hb dX1_goOn_33 ?_
  refine tp (y := (nI (g - 1))) (pk_sub (by omega)) ?_
  refine x1_l7 E hX (by omega) dX1_goOn_34 ?_
  refine tp (y := (nI t)) (by rw [htr]) ?_
  refine lv_istore_n (lv' := [(3, .int (nI t)), (2, .int (nI i)), (1, .int (nI v)), (0, .ref (a 0))]) hx hb dX1_goOn_35 rfl hl (by decide) rfl (fun ls hl => ?_)
  refine lv_aload_n hx hb dX1_goOn_36 rfl (lv_at hl 3 rfl) ?_
  refine x1_g8 E hX dX1_goOn_37 ?_
  refine lv_aload_n hx hb dX1_goOn_40 rfl (lv_at hl 3 rfl) ?_
  refine x1_g5 E hX dX1_goOn_41 ?_
  refine lv_iconst (v := (nI 1)) hx hb dX1_goOn_44 (by decide) ?_
  refine lv_isub hx hb dX1_goOn_45 ?_
  refine tp (y := (nI (g - 1))) (pk_sub (by omega)) ?_
  refine lv_iload_n hx hb dX1_goOn_46 rfl (lv_at hl 0 rfl) ?_
  refine lv_iconst (v := (nI 1)) hx hb dX1_goOn_47 (by decide) ?_
  refine lv_iadd hx hb dX1_goOn_48 ?_
  refine tp (y := (nI (t + 1))) (nI_add _ _) ?_
  refine x1_s7 E hX (by omega) dX1_goOn_49 (fun H locs hX => ?_)
  refine lv_iload_n hx hb dX1_goOn_50 rfl (lv_at hl 0 rfl) ?_
  refine lv_iconst (v := (nI 2)) hx hb dX1_goOn_51 (by decide) ?_
  refine bn_ne (tgt := 62) hx hb (by omega) (by omega) dX1_goOn_52 (by decide) (fun c1 => ?_) (fun c1 => ?_)
  · have hm1 := pf_mm_try hm (show t ≤ 1 by omega)
    refine lv_iload_n hx hb dX1_goOn_62 rfl (lv_at hl 2 rfl) ?_
    refine lv_aload_n hx hb dX1_goOn_63 rfl (lv_at hl 3 rfl) ?_
    refine x1_g4 E hX dX1_goOn_64 ?_
    refine lv_iload_n hx hb dX1_goOn_67 rfl (lv_at hl 1 rfl) ?_
    refine x1_l4 E hX (by omega) dX1_goOn_68 ?_
    refine bn_ne (tgt := 104) hx hb (by omega) (by omega) dX1_goOn_69 (by decide) (fun c2 => ?_) (fun c2 => ?_)
    · refine lv_iload_n hx hb dX1_goOn_104 rfl (lv_at hl 0 rfl) ?_
      refine b0_ne (tgt := 125) hx hb (by omega) dX1_goOn_105 (by decide) (fun c3 => ?_) (fun c3 => ?_)
      · refine lv_iload_n hx hb dX1_goOn_125 rfl (lv_at hl 2 rfl) ?_
        refine lv_iconst (v := (nI 5)) hx hb dX1_goOn_126 (by decide) ?_
        refine lv_irem hx hb dX1_goOn_127 (by decide) ?_
        refine tp (y := (nI (v % 5))) (pk_rem (by omega) (by decide) (by decide)) ?_
        refine lv_aload_n hx hb dX1_goOn_128 rfl (lv_at hl 3 rfl) ?_
        refine x1_g4 E hX dX1_goOn_129 ?_
        refine lv_iload_n hx hb dX1_goOn_132 rfl (lv_at hl 1 rfl) ?_
        refine x1_l4 E hX (by omega) dX1_goOn_133 ?_
        refine lv_iconst (v := (nI 5)) hx hb dX1_goOn_134 (by decide) ?_
        refine lv_irem hx hb dX1_goOn_135 (by decide) ?_
        refine tp (y := (nI ((go i) % 5))) (pk_rem (by omega) (by decide) (by decide)) ?_
        refine bn_ge (tgt := 147) hx hb (by omega) (by omega) dX1_goOn_136 (by decide) (fun c4 => ?_) (fun c4 => ?_)
        · have e9 : pf_on n st go B ((v, i, t) :: S) = (v, i, t + 1) :: S := by
            show (if t = 2 then _ else if v = go i then (if t = 0 ∧ i + 1 < n then _ else _) else if t = 0 then (if v < 25 then _ else _) else (if v % 5 < go i % 5 then _ else _)) = _
            rw [if_neg c1, if_neg c2, if_neg c3, if_neg (by omega)]
          exact W.vret hx hb hr (fun T9 hT9 hW9 => ⟨⟨(g, wk, ow, va_up tr (g - 1) (t + 1), tk), rfl, by rw [e9]; exact hm1, by rw [hT9]; exact hX.1, va_K.moved hW9.alike hK, hX.2.1⟩, hX.2.2.F hT9⟩) hX.2.2.2.2 dX1_goOn_147
        · refine lv_aload_n hx hb dX1_goOn_139 rfl (lv_at hl 3 rfl) ?_
          refine lv_iload_n hx hb dX1_goOn_140 rfl (lv_at hl 2 rfl) ?_
          refine lv_iconst (v := (nI 1)) hx hb dX1_goOn_141 (by decide) ?_
          refine lv_iadd hx hb dX1_goOn_142 ?_
          refine tp (y := (nI (v + 1))) (nI_add _ _) ?_
          refine lv_iload_n hx hb dX1_goOn_143 rfl (lv_at hl 1 rfl) ?_
          refine ca_v (ci := 1) (As := [.int (nI (v + 1)), .int (nI i)]) (rest := []) ⟨hx, hb, hml, hown, hts⟩ hK hX hA (metX1_step l dC dI a cA _ B w n st go g wk ow (va_up tr (g - 1) (t + 1)) tk wy rk ld kp ko (v + 1) i ((v, i, t + 1) :: S) (by omega) hi hm1) (cwV 2 hts (lw_V q278 q280 qs19 q26 q281) rfl rfl rfl (by decide +kernel) ⟨Nat.le_of_ble_eq_true rfl, Nat.le_of_ble_eq_true rfl⟩) rfl rfl rfl rfl hl.1 rfl (Nat.le_of_ble_eq_true rfl) dX1_goOn_144 ⟨Nat.le_of_ble_eq_true rfl, Nat.le_of_ble_eq_true rfl⟩ (fun ⟨g8, k8, o8, t8, x8⟩ H locs hw hX => ?_)
          have hX : wd (dC, dI) A s.heap (w1 a cA B w n st go g8 k8 o8 t8 x8 wy rk ld kp ko) H locs := hX
          have e9 : pf_on n st go B ((v, i, t) :: S) = pf_push B (v + 1) i ((v, i, t + 1) :: S) := by
            show (if t = 2 then _ else if v = go i then (if t = 0 ∧ i + 1 < n then _ else _) else if t = 0 then (if v < 25 then _ else _) else (if v % 5 < go i % 5 then _ else _)) = _
            rw [if_neg c1, if_neg c2, if_neg c3, if_pos c4]
          exact W.vret hx hb hr (fun T9 hT9 hW9 => ⟨⟨(g8, k8, o8, t8, x8), rfl, by rw [e9]; exact hw, by rw [hT9]; exact hX.1, va_K.moved hW9.alike hK, hX.2.1⟩, hX.2.2.F hT9⟩) hX.2.2.2.2 dX1_goOn_147
      · refine lv_iload_n hx hb dX1_goOn_108 rfl (lv_at hl 2 rfl) ?_
        refine lv_bipush (v := (nI 25)) hx hb dX1_goOn_109 (by decide) ?_
        refine bn_ge (tgt := 147) hx hb (by omega) (by omega) dX1_goOn_111 (by decide) (fun c4 => ?_) (fun c4 => ?_)
        · have e9 : pf_on n st go B ((v, i, t) :: S) = (v, i, t + 1) :: S := by
            show (if t = 2 then _ else if v = go i then (if t = 0 ∧ i + 1 < n then _ else _) else if t = 0 then (if v < 25 then _ else _) else (if v % 5 < go i % 5 then _ else _)) = _
            rw [if_neg c1, if_neg c2, if_pos c3, if_neg (by omega)]
          exact W.vret hx hb hr (fun T9 hT9 hW9 => ⟨⟨(g, wk, ow, va_up tr (g - 1) (t + 1), tk), rfl, by rw [e9]; exact hm1, by rw [hT9]; exact hX.1, va_K.moved hW9.alike hK, hX.2.1⟩, hX.2.2.F hT9⟩) hX.2.2.2.2 dX1_goOn_147
        · refine lv_aload_n hx hb dX1_goOn_114 rfl (lv_at hl 3 rfl) ?_
          refine lv_iload_n hx hb dX1_goOn_115 rfl (lv_at hl 2 rfl) ?_
          refine lv_iconst (v := (nI 5)) hx hb dX1_goOn_116 (by decide) ?_
          refine lv_iadd hx hb dX1_goOn_117 ?_
          refine tp (y := (nI (v + 5))) (nI_add _ _) ?_
          refine lv_iload_n hx hb dX1_goOn_118 rfl (lv_at hl 1 rfl) ?_
          refine ca_v (ci := 1) (As := [.int (nI (v + 5)), .int (nI i)]) (rest := []) ⟨hx, hb, hml, hown, hts⟩ hK hX hA (metX1_step l dC dI a cA _ B w n st go g wk ow (va_up tr (g - 1) (t + 1)) tk wy rk ld kp ko (v + 5) i ((v, i, t + 1) :: S) (by omega) hi hm1) (cwV 2 hts (lw_V q278 q280 qs19 q26 q281) rfl rfl rfl (by decide +kernel) ⟨Nat.le_of_ble_eq_true rfl, Nat.le_of_ble_eq_true rfl⟩) rfl rfl rfl rfl hl.1 rfl (Nat.le_of_ble_eq_true rfl) dX1_goOn_119 ⟨Nat.le_of_ble_eq_true rfl, Nat.le_of_ble_eq_true rfl⟩ (fun ⟨g8, k8, o8, t8, x8⟩ H locs hw hX => ?_)
          have hX : wd (dC, dI) A s.heap (w1 a cA B w n st go g8 k8 o8 t8 x8 wy rk ld kp ko) H locs := hX
          refine lv_goto (tgt := 147) hx hb dX1_goOn_122 (by decide) ?_
          have e9 : pf_on n st go B ((v, i, t) :: S) = pf_push B (v + 5) i ((v, i, t + 1) :: S) := by
            show (if t = 2 then _ else if v = go i then (if t = 0 ∧ i + 1 < n then _ else _) else if t = 0 then (if v < 25 then _ else _) else (if v % 5 < go i % 5 then _ else _)) = _
            rw [if_neg c1, if_neg c2, if_pos c3, if_pos c4]
          exact W.vret hx hb hr (fun T9 hT9 hW9 => ⟨⟨(g8, k8, o8, t8, x8), rfl, by rw [e9]; exact hw, by rw [hT9]; exact hX.1, va_K.moved hW9.alike hK, hX.2.1⟩, hX.2.2.F hT9⟩) hX.2.2.2.2 dX1_goOn_147
    · refine lv_iload_n hx hb dX1_goOn_72 rfl (lv_at hl 0 rfl) ?_
      refine b0_ne (tgt := 147) hx hb (by omega) dX1_goOn_73 (by decide) (fun c3 => ?_) (fun c3 => ?_)
      · have e9 : pf_on n st go B ((v, i, t) :: S) = (v, i, t + 1) :: S := by
          show (if t = 2 then _ else if v = go i then (if t = 0 ∧ i + 1 < n then _ else _) else if t = 0 then (if v < 25 then _ else _) else (if v % 5 < go i % 5 then _ else _)) = _
          rw [if_neg c1, if_pos c2, if_neg (fun q => c3 q.1)]
        exact W.vret hx hb hr (fun T9 hT9 hW9 => ⟨⟨(g, wk, ow, va_up tr (g - 1) (t + 1), tk), rfl, by rw [e9]; exact hm1, by rw [hT9]; exact hX.1, va_K.moved hW9.alike hK, hX.2.1⟩, hX.2.2.F hT9⟩) hX.2.2.2.2 dX1_goOn_147
      · refine lv_iload_n hx hb dX1_goOn_76 rfl (lv_at hl 1 rfl) ?_
        refine lv_iconst (v := (nI 1)) hx hb dX1_goOn_77 (by decide) ?_
        refine lv_iadd hx hb dX1_goOn_78 ?_
        refine tp (y := (nI (i + 1))) (nI_add _ _) ?_
        refine lv_aload_n hx hb dX1_goOn_79 rfl (lv_at hl 3 rfl) ?_
        refine x1_g2 E hX dX1_goOn_80 ?_
        refine bn_ge (tgt := 147) hx hb (by omega) (by omega) dX1_goOn_83 (by decide) (fun c4 => ?_) (fun c4 => ?_)
        · have e9 : pf_on n st go B ((v, i, t) :: S) = (v, i, t + 1) :: S := by
            show (if t = 2 then _ else if v = go i then (if t = 0 ∧ i + 1 < n then _ else _) else if t = 0 then (if v < 25 then _ else _) else (if v % 5 < go i % 5 then _ else _)) = _
            rw [if_neg c1, if_pos c2, if_neg (fun q => absurd q.2 (by omega))]
          exact W.vret hx hb hr (fun T9 hT9 hW9 => ⟨⟨(g, wk, ow, va_up tr (g - 1) (t + 1), tk), rfl, by rw [e9]; exact hm1, by rw [hT9]; exact hX.1, va_K.moved hW9.alike hK, hX.2.1⟩, hX.2.2.F hT9⟩) hX.2.2.2.2 dX1_goOn_147
        · have hs9 := hst (i + 1) c4
          refine lv_aload_n hx hb dX1_goOn_86 rfl (lv_at hl 3 rfl) ?_
          refine lv_aload_n hx hb dX1_goOn_87 rfl (lv_at hl 3 rfl) ?_
          refine x1_g3 E hX dX1_goOn_88 ?_
          refine lv_iload_n hx hb dX1_goOn_91 rfl (lv_at hl 1 rfl) ?_
          refine lv_iconst (v := (nI 1)) hx hb dX1_goOn_92 (by decide) ?_
          refine lv_iadd hx hb dX1_goOn_93 ?_
          refine tp (y := (nI (i + 1))) (nI_add _ _) ?_
          refine x1_l3 E hX (by omega) dX1_goOn_94 ?_
          refine lv_iload_n hx hb dX1_goOn_95 rfl (lv_at hl 1 rfl) ?_
          refine lv_iconst (v := (nI 1)) hx hb dX1_goOn_96 (by decide) ?_
          refine lv_iadd hx hb dX1_goOn_97 ?_
          refine tp (y := (nI (i + 1))) (nI_add _ _) ?_
          refine ca_v (ci := 1) (As := [.int (nI (st (i + 1))), .int (nI (i + 1))]) (rest := []) ⟨hx, hb, hml, hown, hts⟩ hK hX hA (metX1_step l dC dI a cA _ B w n st go g wk ow (va_up tr (g - 1) (t + 1)) tk wy rk ld kp ko (st (i + 1)) (i + 1) ((v, i, t + 1) :: S) (by omega) c4 hm1) (cwV 2 hts (lw_V q278 q280 qs19 q26 q281) rfl rfl rfl (by decide +kernel) ⟨Nat.le_of_ble_eq_true rfl, Nat.le_of_ble_eq_true rfl⟩) rfl rfl rfl rfl hl.1 rfl (Nat.le_of_ble_eq_true rfl) dX1_goOn_98 ⟨Nat.le_of_ble_eq_true rfl, Nat.le_of_ble_eq_true rfl⟩ (fun ⟨g8, k8, o8, t8, x8⟩ H locs hw hX => ?_)
          have hX : wd (dC, dI) A s.heap (w1 a cA B w n st go g8 k8 o8 t8 x8 wy rk ld kp ko) H locs := hX
          refine lv_goto (tgt := 147) hx hb dX1_goOn_101 (by decide) ?_
          have e9 : pf_on n st go B ((v, i, t) :: S) = pf_push B (st (i + 1)) (i + 1) ((v, i, t + 1) :: S) := by
            show (if t = 2 then _ else if v = go i then (if t = 0 ∧ i + 1 < n then _ else _) else if t = 0 then (if v < 25 then _ else _) else (if v % 5 < go i % 5 then _ else _)) = _
            rw [if_neg c1, if_pos c2, if_pos ⟨c3, c4⟩]
          exact W.vret hx hb hr (fun T9 hT9 hW9 => ⟨⟨(g8, k8, o8, t8, x8), rfl, by rw [e9]; exact hw, by rw [hT9]; exact hX.1, va_K.moved hW9.alike hK, hX.2.1⟩, hX.2.2.F hT9⟩) hX.2.2.2.2 dX1_goOn_147
  · refine lv_aload_n hx hb dX1_goOn_55 rfl (lv_at hl 3 rfl) ?_
    refine ca_v (ci := 1) (As := []) (rest := []) ⟨hx, hb, hml, hown, hts⟩ hK hX hA (metX1_stepBack l dC dI a cA _ B w n st go g wk ow (va_up tr (g - 1) (t + 1)) tk wy rk ld kp ko v i t S tr hm (fun k hk => if_neg (by omega))) (cwV 0 hts (lw_V q290 q292 qs22 q26 q293) rfl rfl rfl (by decide +kernel) ⟨Nat.le_of_ble_eq_true rfl, Nat.le_of_ble_eq_true rfl⟩) rfl rfl rfl rfl hl.1 rfl (Nat.le_of_ble_eq_true rfl) dX1_goOn_56 ⟨Nat.le_of_ble_eq_true rfl, Nat.le_of_ble_eq_true rfl⟩ (fun ⟨g8, x8⟩ H locs hw hX => ?_)
    have hX : wd (dC, dI) A s.heap (w1 a cA B w n st go g8 wk ow (va_up tr (g - 1) (t + 1)) x8 wy rk ld kp ko) H locs := hX
    refine lv_goto (tgt := 147) hx hb dX1_goOn_59 (by decide) ?_
    have e9 : pf_on n st go B ((v, i, t) :: S) = S := by
      show (if t = 2 then _ else if v = go i then (if t = 0 ∧ i + 1 < n then _ else _) else if t = 0 then (if v < 25 then _ else _) else (if v % 5 < go i % 5 then _ else _)) = _
      rw [if_pos c1]
    exact W.vret hx hb hr (fun T9 hT9 hW9 => ⟨⟨(g8, wk, ow, va_up tr (g - 1) (t + 1), x8), rfl, by rw [e9]; exact hw, by rw [hT9]; exact hX.1, va_K.moved hW9.alike hK, hX.2.1⟩, hX.2.2.F hT9⟩) hX.2.2.2.2 dX1_goOn_147
set_option maxHeartbeats 4000000 in
set_option maxRecDepth 100000 in
theorem metX1_complete (l : Launch) (dC : Nat → ClassId) (dI : Nat → Nat → Nat) (a : Nat → Nat) (cA : Nat → ClassId) (hz : Nat) (B : Nat → Bool) (w : Nat → Int32) (n : Nat) (st : Nat → Nat) (go : Nat → Nat) (g : Nat) (wk : Nat → Nat) (ow : Nat → Nat) (tr : Nat → Nat) (tk : Nat → Bool) (wy : Nat → Int32) (rk : Int32) (ld : Nat) (kp : Nat → Nat) (ko : Nat → Nat) (v : Nat) (i : Nat) (t : Nat) (S : pf_K) (hwf : pf_wf n st go) (hm : pf_mm n ((v, i, t) :: S) g wk ow tr tk) : Met l yX1_complete (ws_ yX1_complete cX1_complete 1 (some .boolean)) ({ frames := 0, cells := 0, slots := 0, locals := 0 }) (va_Pc [.ref (a 0)] (pcW (dC, dI) (t1 cA) hz (w1 a cA B w n st go g wk ow tr tk wy rk ld kp ko))) (va_Qi (fun (r : Int32) (u9 : Unit) => match u9 with | _ => r = b2 (pf_done n go ((v, i, t) :: S))) (fun (u9 : Unit) t => bW (dC, dI) (t1 cA) (va_A (w1 a cA B w n st go g wk ow tr tk wy rk ld kp ko) hz) (match u9 with | _ => (w1 a cA B w n st go g wk ow tr tk wy rk ld kp ko)) t) (va_A (w1 a cA B w n st go g wk ow tr tk wy rk ld kp ko) hz)) 0 0 (va_A (w1 a cA B w n st go g wk ow tr tk wy rk ld kp ko) hz) := by
  refine Met.ofW (cc := cX1_complete) (maxL := 1) (ret := (some .boolean)) (by decide) rfl ?_
  intro p e s m args below meth c s₁ Bd hml hv
  obtain ⟨rfl, hsz, hP, hK, hD0⟩ := hv
  have hx := Bd.exec
  have hb := Bd.bytes
  have hr := Bd.returns
  have hts := atoms_spec (ws := ws_ yX1_complete cX1_complete 1 (some .boolean)) Bd.pre
  have hts : ∀ w ∈ lw_all, w.before _ s = true := fun w h => hts w (List.mem_cons_of_mem _ h)
  have hown : s.vm.findClass RX1 = some m.cls := findClass_of_methodNamed Bd.named
  have hlocks := Bd.notSynchronized
  subst hsz
  have hD := hD0.self (sz := s.heap.size)
  generalize hAe : va_A (w1 a cA B w n st go g wk ow tr tk wy rk ld kp ko) s.heap.size = A at hD ⊢
  have hA : ∀ q : Nat, s.heap.size ≤ q → A q := fun q h => by rw [← hAe]; exact Or.inr h
  have E : x1E p s m c cX1_complete _ dC dI cA := ⟨hx, hb, hts, hown, hK⟩
  have hX : wd (dC, dI) A s.heap (w1 a cA B w n st go g wk ow tr tk wy rk ld kp ko) s.heap [] := ⟨hP, hD, va_S.rf⟩
  have hl := lv_entry ([.ref (a 0)]) (n := 1) (Nat.le_of_ble_eq_true rfl)
  rw [lg_entry_eq]
  generalize (lg_sl ([.ref (a 0)]) ++ List.replicate (1 - (lg_sl ([.ref (a 0)])).length) Slot.unset).toArray = ls at hl ⊢
  have hl : lv_has ls 1 [(0, .ref (a 0))] := hl
  obtain ⟨hn1, hn4, hst, hgo, -, -⟩ := id hwf
  have hg := pf_mm_len hm
  obtain ⟨⟨hg1, hwk, how, htr⟩, ⟨hv, hi, ht⟩⟩ := pf_mm_top hm
  have hgn := hgo (n - 1) (by omega)
  refine lv_aload_n hx hb dX1_complete_0 rfl (lv_at hl 0 rfl) ?_
  refine x1_g6 E hX dX1_complete_1 ?_
  refine lv_aload_n hx hb dX1_complete_4 rfl (lv_at hl 0 rfl) ?_
  refine x1_g5 E hX dX1_complete_5 ?_
  refine lv_iconst (v := (nI 1)) hx hb dX1_complete_8 (by decide) ?_
  refine lv_isub hx hb dX1_complete_9 ?_
  refine tp (y := (nI (g - 1))) (pk_sub (by omega)) ?_
  refine x1_l5 E hX (by omega) dX1_complete_10 ?_
  refine tp (y := (nI v)) (by rw [hwk]) ?_
  refine lv_aload_n hx hb dX1_complete_11 rfl (lv_at hl 0 rfl) ?_
  refine x1_g4 E hX dX1_complete_12 ?_
  refine lv_aload_n hx hb dX1_complete_15 rfl (lv_at hl 0 rfl) ?_
  refine x1_g2 E hX dX1_complete_16 ?_
  refine lv_iconst (v := (nI 1)) hx hb dX1_complete_19 (by decide) ?_
  refine lv_isub hx hb dX1_complete_20 ?_
  refine tp (y := (nI (n - 1))) (pk_sub (by omega)) ?_
  refine x1_l4 E hX (by omega) dX1_complete_21 ?_
  refine jnV (pc := 64) (ls := ls) (rest := []) (b2 (pf_done n go ((v, i, t) :: S))) (fun J => ?_) ?_
  · refine bn_ne (tgt := 63) hx hb (by omega) (by omega) dX1_complete_22 (by decide) (fun c1 => ?_) (fun c1 => ?_)
    · refine lv_iconst (v := (nI 0)) hx hb dX1_complete_63 (by decide) ?_
      exact J _ (by rw [show pf_done n go ((v, i, t) :: S) = false from decide_eq_false (fun q => c1 q.1)]; rfl)
    · refine lv_aload_n hx hb dX1_complete_25 rfl (lv_at hl 0 rfl) ?_
      refine x1_g7 E hX dX1_complete_26 ?_
      refine lv_aload_n hx hb dX1_complete_29 rfl (lv_at hl 0 rfl) ?_
      refine x1_g5 E hX dX1_complete_30 ?_
      refine lv_iconst (v := (nI 1)) hx hb dX1_complete_33 (by decide) ?_
      refine lv_isub hx hb dX1_complete_34 ?_
      refine tp (y := (nI (g - 1))) (pk_sub (by omega)) ?_
      refine x1_l6 E hX (by omega) dX1_complete_35 ?_
      refine tp (y := (nI i)) (by rw [how]) ?_
      refine lv_aload_n hx hb dX1_complete_36 rfl (lv_at hl 0 rfl) ?_
      refine x1_g2 E hX dX1_complete_37 ?_
      refine lv_iconst (v := (nI 1)) hx hb dX1_complete_40 (by decide) ?_
      refine lv_isub hx hb dX1_complete_41 ?_
      refine tp (y := (nI (n - 1))) (pk_sub (by omega)) ?_
      refine bn_ne (tgt := 63) hx hb (by omega) (by omega) dX1_complete_42 (by decide) (fun c2 => ?_) (fun c2 => ?_)
      · refine lv_iconst (v := (nI 0)) hx hb dX1_complete_63 (by decide) ?_
        exact J _ (by rw [show pf_done n go ((v, i, t) :: S) = false from decide_eq_false (fun q => c2 q.2.1)]; rfl)
      · refine lv_aload_n hx hb dX1_complete_45 rfl (lv_at hl 0 rfl) ?_
        refine x1_g8 E hX dX1_complete_46 ?_
        refine lv_aload_n hx hb dX1_complete_49 rfl (lv_at hl 0 rfl) ?_
        refine x1_g5 E hX dX1_complete_50 ?_
        refine lv_iconst (v := (nI 1)) hx hb dX1_complete_53 (by decide) ?_
        refine lv_isub hx hb dX1_complete_54 ?_
        refine tp (y := (nI (g - 1))) (pk_sub (by omega)) ?_
        refine x1_l7 E hX (by omega) dX1_complete_55 ?_
        refine tp (y := (nI t)) (by rw [htr]) ?_
        refine b0_ne (tgt := 63) hx hb (by omega) dX1_complete_56 (by decide) (fun c3 => ?_) (fun c3 => ?_)
        · refine lv_iconst (v := (nI 0)) hx hb dX1_complete_63 (by decide) ?_
          exact J _ (by rw [show pf_done n go ((v, i, t) :: S) = false from decide_eq_false (fun q => c3 q.2.2)]; rfl)
        · refine lv_iconst (v := (nI 1)) hx hb dX1_complete_59 (by decide) ?_
          refine lv_goto (tgt := 64) hx hb dX1_complete_60 (by decide) ?_
          exact J _ (by rw [show pf_done n go ((v, i, t) :: S) = true from decide_eq_true ⟨c1, c2, c3⟩]; rfl)
  · exact W.zret (v := (b2 (pf_done n go ((v, i, t) :: S)))) hx hb hr (b2_nar _) (fun T9 hT9 hW9 => ⟨⟨(b2 (pf_done n go ((v, i, t) :: S))), (), rfl, rfl, by rw [hT9]; exact hX.1, va_K.moved hW9.alike hK, hX.2.1⟩, hX.2.2.F hT9⟩) hX.2.2.2.2 dX1_complete_64
set_option maxHeartbeats 4000000 in
set_option maxRecDepth 100000 in
theorem metX1_nextFamily (l : Launch) (dC : Nat → ClassId) (dI : Nat → Nat → Nat) (a : Nat → Nat) (cA : Nat → ClassId) (hz : Nat) (B : Nat → Bool) (w : Nat → Int32) (n : Nat) (st : Nat → Nat) (go : Nat → Nat) (g : Nat) (wk : Nat → Nat) (ow : Nat → Nat) (tr : Nat → Nat) (tk : Nat → Bool) (wy : Nat → Int32) (rk : Int32) (ld : Nat) (kp : Nat → Nat) (ko : Nat → Nat) (fb : Bool) (S : pf_K) (L : List (List (Nat × Nat))) (hwf : pf_wf n st go) (hm : pf_mm n S g wk ow tr tk) (hgo9 : pf_go n st go B (if fb = true then S else pf_on n st go B S) L []) (hne : fb = false → S ≠ []) : Met l yX1_nextFamily (ws_ yX1_nextFamily cX1_nextFamily 2 (some .boolean)) ({ frames := 2, cells := 0, slots := 0, locals := 45 }) (va_Pc [.ref (a 0), .int (b2 fb)] (pcW (dC, dI) (t1 cA) hz (w1 a cA B w n st go g wk ow tr tk wy rk ld kp ko))) (va_Qi (fun (r : Int32) (u9 : Nat × (Nat → Nat) × (Nat → Nat) × (Nat → Nat) × (Nat → Bool)) => match u9 with | (g9, k9, o9, t9, x9) => ∃ (S9 : pf_K) (b9 : Bool), r = b2 b9 ∧ pf_mm n S9 g9 k9 o9 t9 x9 ∧ pf_nx n st go B L b9 S9) (fun (u9 : Nat × (Nat → Nat) × (Nat → Nat) × (Nat → Nat) × (Nat → Bool)) t => bW (dC, dI) (t1 cA) (va_A (w1 a cA B w n st go g wk ow tr tk wy rk ld kp ko) hz) (match u9 with | (g9, k9, o9, t9, x9) => (w1 a cA B w n st go g9 k9 o9 t9 x9 wy rk ld kp ko)) t) (va_A (w1 a cA B w n st go g wk ow tr tk wy rk ld kp ko) hz)) 0 0 (va_A (w1 a cA B w n st go g wk ow tr tk wy rk ld kp ko) hz) := by
  refine Met.ofW (cc := cX1_nextFamily) (maxL := 2) (ret := (some .boolean)) (by decide) rfl ?_
  intro p e s m args below meth c s₁ Bd hml hv
  obtain ⟨rfl, hsz, hP, hK, hD0⟩ := hv
  have hx := Bd.exec
  have hb := Bd.bytes
  have hr := Bd.returns
  have hts := atoms_spec (ws := ws_ yX1_nextFamily cX1_nextFamily 2 (some .boolean)) Bd.pre
  have hts : ∀ w ∈ lw_all, w.before _ s = true := fun w h => hts w (List.mem_cons_of_mem _ h)
  have hown : s.vm.findClass RX1 = some m.cls := findClass_of_methodNamed Bd.named
  have hlocks := Bd.notSynchronized
  subst hsz
  have hD := hD0.self (sz := s.heap.size)
  generalize hAe : va_A (w1 a cA B w n st go g wk ow tr tk wy rk ld kp ko) s.heap.size = A at hD ⊢
  have hA : ∀ q : Nat, s.heap.size ≤ q → A q := fun q h => by rw [← hAe]; exact Or.inr h
  have E : x1E p s m c cX1_nextFamily _ dC dI cA := ⟨hx, hb, hts, hown, hK⟩
  have hX : wd (dC, dI) A s.heap (w1 a cA B w n st go g wk ow tr tk wy rk ld kp ko) s.heap [] := ⟨hP, hD, va_S.rf⟩
  have hl := lv_entry ([.ref (a 0), .int (b2 fb)]) (n := 2) (Nat.le_of_ble_eq_true rfl)
  rw [lg_entry_eq]
  generalize (lg_sl ([.ref (a 0), .int (b2 fb)]) ++ List.replicate (2 - (lg_sl ([.ref (a 0), .int (b2 fb)])).length) Slot.unset).toArray = ls at hl ⊢
  have hl : lv_has ls 2 [(0, .ref (a 0)), (1, .int (b2 fb))] := hl
  refine lv_iload_n hx hb dX1_nextFamily_0 rfl (lv_at hl 1 rfl) ?_
  refine jnW (α := pf_K × Nat × (Nat → Nat) × (Nat → Nat) × (Nat → Nat) × (Nat → Bool)) (F := fun _ ls => F0 m 8 ls []) (I := fun q9 H locs ls => match q9 with | (S9, g9, k9, o9, t9, x9) => (pf_mm n S9 g9 k9 o9 t9 x9 ∧ pf_go n st go B S9 L []) ∧ wd (dC, dI) A s.heap (w1 a cA B w n st go g9 k9 o9 t9 x9 wy rk ld kp ko) H locs ∧ lv_has ls 2 [(0, .ref (a 0))]) (fun J => ?_) ?_
  · refine bz_ne (tgt := 8) hx hb dX1_nextFamily_1 (by decide) (fun c1 => ?_) (fun c1 => ?_)
    · rw [if_pos c1] at hgo9
      exact J (S, g, wk, ow, tr, tk) _ _ _ ⟨⟨hm, hgo9⟩, hX, lv_sub hl [0] rfl⟩
    · rw [if_neg (by rw [c1]; decide)] at hgo9
      obtain ⟨v, i, t, S2, rfl⟩ : ∃ v i t S2, S = (v, i, t) :: S2 := by
        cases S with
        | nil => exact absurd rfl (hne c1)
        | cons q S => exact ⟨q.1, q.2.1, q.2.2, S, rfl⟩
      refine lv_aload_n hx hb dX1_nextFamily_4 rfl (lv_at hl 0 rfl) ?_
      refine ca_v (ci := 1) (As := []) (rest := []) ⟨hx, hb, hml, hown, hts⟩ hK hX hA (metX1_goOn l dC dI a cA _ B w n st go g wk ow tr tk wy rk ld kp ko v i t S2 hwf hm) (cwV 0 hts (lw_V q286 q288 qs21 q26 q289) rfl rfl rfl (by decide +kernel) ⟨Nat.le_of_ble_eq_true rfl, Nat.le_of_ble_eq_true rfl⟩) rfl rfl rfl rfl hl.1 rfl (Nat.le_of_ble_eq_true rfl) dX1_nextFamily_5 ⟨Nat.le_of_ble_eq_true rfl, Nat.le_of_ble_eq_true rfl⟩ (fun ⟨g8, k8, o8, t8, x8⟩ H locs hw hX => ?_)
      have hX : wd (dC, dI) A s.heap (w1 a cA B w n st go g8 k8 o8 t8 x8 wy rk ld kp ko) H locs := hX
      exact J (_, g8, k8, o8, t8, x8) _ _ _ ⟨⟨hw, hgo9⟩, hX, lv_sub hl [0] rfl⟩
  · intro ⟨S9, g9, k9, o9, t9, x9⟩ H locs ls hI
    obtain ⟨⟨hm9, m9, hit, hem⟩, hX, hl⟩ := hI
    refine lpW (α := Nat × pf_K × Nat × (Nat → Nat) × (Nat → Nat) × (Nat → Nat) × (Nat → Bool)) (F := fun _ ls => F0 m 8 ls []) (I := fun q9 H locs ls => match q9 with | (m8, S8, g8, k8, o8, t8, x8) => (pf_mm n S8 g8 k8 o8 t8 x8 ∧ pf_it n st go B m8 S8 = [] ∧ pf_em n st go B m8 S8 = L) ∧ wd (dC, dI) A s.heap (w1 a cA B w n st go g8 k8 o8 t8 x8 wy rk ld kp ko) H locs ∧ lv_has ls 2 [(0, .ref (a 0))]) (μ := fun q9 => match q9 with | (m8, S8, g8, k8, o8, t8, x8) => m8) ?_ (m9, S9, g9, k9, o9, t9, x9) ⟨⟨hm9, hit, hem⟩, hX, lv_sub hl [0] rfl⟩
    · intro ⟨m8, S8, g8, k8, o8, t8, x8⟩ H locs ls hI ih
      obtain ⟨⟨hm8, hit8, hem8⟩, hX, hl⟩ := hI
      have hg8 := pf_mm_len hm8
      refine lv_aload_n hx hb dX1_nextFamily_8 rfl (lv_at hl 0 rfl) ?_
      refine x1_g5 E hX dX1_nextFamily_9 ?_
      refine b0_le (tgt := 31) hx hb (by omega) dX1_nextFamily_12 (by decide) (fun c2 => ?_) (fun c2 => ?_)
      · obtain rfl : S8 = [] := pf_mm_nil hm8 c2
        rw [pf_em_nil] at hem8
        subst hem8
        refine lv_iconst (v := (nI 0)) hx hb dX1_nextFamily_31 (by decide) ?_
        refine tp (y := (b2 false)) rfl ?_
        exact W.zret (v := (b2 false)) hx hb hr (b2_nar _) (fun T9 hT9 hW9 => ⟨⟨(b2 false), (g8, k8, o8, t8, x8), rfl, ⟨[], false, rfl, hm8, rfl, rfl⟩, by rw [hT9]; exact hX.1, va_K.moved hW9.alike hK, hX.2.1⟩, hX.2.2.F hT9⟩) hX.2.2.2.2 dX1_nextFamily_32
      · obtain ⟨v, i, t, S7, rfl⟩ := pf_mm_cons hm8 c2
        obtain ⟨m7, rfl⟩ : ∃ m7, m8 = m7 + 1 := by
          cases m8 with
          | zero => exact absurd hit8 (by simp [pf_it])
          | succ m => exact ⟨m, rfl⟩
        have hem7 : (if pf_done n go ((v, i, t) :: S7) = true then [pf_fam ((v, i, t) :: S7)] else []) ++ pf_em n st go B m7 (pf_on n st go B ((v, i, t) :: S7)) = L := hem8
        refine lv_aload_n hx hb dX1_nextFamily_15 rfl (lv_at hl 0 rfl) ?_
        refine ca_i (ci := 1) (As := []) (rest := []) ⟨hx, hb, hml, hown, hts⟩ hK hX hA (metX1_complete l dC dI a cA _ B w n st go g8 k8 o8 t8 x8 wy rk ld kp ko v i t S7 hwf hm8) (cwV 0 hts (lw_V q294 q296 qs23 q26 q297) rfl rfl rfl (by decide +kernel) ⟨Nat.le_of_ble_eq_true rfl, Nat.le_of_ble_eq_true rfl⟩) rfl rfl rfl rfl hl.1 rfl (Nat.le_of_ble_eq_true rfl) dX1_nextFamily_16 ⟨Nat.le_of_ble_eq_true rfl, Nat.le_of_ble_eq_true rfl⟩ (fun r1 _ H locs hr1 hX => ?_)
        subst hr1
        refine bz_eq (tgt := 24) hx hb dX1_nextFamily_19 (by decide) (fun c3 => ?_) (fun c3 => ?_)
        · rw [c3, if_neg (by decide), List.nil_append] at hem7
          refine lv_aload_n hx hb dX1_nextFamily_24 rfl (lv_at hl 0 rfl) ?_
          refine ca_v (ci := 1) (As := []) (rest := []) ⟨hx, hb, hml, hown, hts⟩ hK hX hA (metX1_goOn l dC dI a cA _ B w n st go g8 k8 o8 t8 x8 wy rk ld kp ko v i t S7 hwf hm8) (cwV 0 hts (lw_V q286 q288 qs21 q26 q289) rfl rfl rfl (by decide +kernel) ⟨Nat.le_of_ble_eq_true rfl, Nat.le_of_ble_eq_true rfl⟩) rfl rfl rfl rfl hl.1 rfl (Nat.le_of_ble_eq_true rfl) dX1_nextFamily_25 ⟨Nat.le_of_ble_eq_true rfl, Nat.le_of_ble_eq_true rfl⟩ (fun ⟨g6, k6, o6, t6, x6⟩ H locs hw hX => ?_)
          have hX : wd (dC, dI) A s.heap (w1 a cA B w n st go g6 k6 o6 t6 x6 wy rk ld kp ko) H locs := hX
          refine lv_goto (tgt := 8) hx hb dX1_nextFamily_28 (by decide) ?_
          exact ih (m7, _, g6, k6, o6, t6, x6) _ _ _ ⟨⟨hw, hit8, hem7⟩, hX, lv_sub hl [0] rfl⟩ (by exact Nat.lt_succ_self m7)
        · rw [if_pos c3] at hem7
          subst hem7
          refine lv_iconst (v := (nI 1)) hx hb dX1_nextFamily_22 (by decide) ?_
          refine tp (y := (b2 true)) rfl ?_
          exact W.zret (v := (b2 true)) hx hb hr (b2_nar _) (fun T9 hT9 hW9 => ⟨⟨(b2 true), (g8, k8, o8, t8, x8), rfl, ⟨(v, i, t) :: S7, true, rfl, hm8, rfl, by simp, rfl, m7, hit8, rfl⟩, by rw [hT9]; exact hX.1, va_K.moved hW9.alike hK, hX.2.1⟩, hX.2.2.F hT9⟩) hX.2.2.2.2 dX1_nextFamily_23
end
section
set_option maxRecDepth 100000
set_option maxHeartbeats 4000000 in
set_option maxRecDepth 100000 in
theorem metX1_families (l : Launch) (dC : Nat → ClassId) (dI : Nat → Nat → Nat) (a : Nat → Nat) (cA : Nat → ClassId) (hz : Nat) (B : Nat → Bool) (w : Nat → Int32) (n : Nat) (st : Nat → Nat) (go : Nat → Nat) (g : Nat) (wk : Nat → Nat) (ow : Nat → Nat) (tr : Nat → Nat) (tk : Nat → Bool) (wy : Nat → Int32) (rk : Int32) (ld : Nat) (kp : Nat → Nat) (ko : Nat → Nat)  (hwf : pf_wf n st go) : Met l yX1_families (ws_ yX1_families cX1_families 3 (some .int)) ({ frames := 3, cells := 0, slots := 0, locals := 66 }) (va_Pc [.ref (a 0)] (pcW (dC, dI) (t1 cA) hz (w1 a cA B w n st go g wk ow tr tk wy rk ld kp ko))) (va_Qi (fun (r : Int32) (u9 : Nat × (Nat → Nat) × (Nat → Nat) × (Nat → Nat) × (Nat → Bool)) => match u9 with | (g9, k9, o9, t9, x9) => r = nI (pf_L n st go B).length) (fun (u9 : Nat × (Nat → Nat) × (Nat → Nat) × (Nat → Nat) × (Nat → Bool)) t => bW (dC, dI) (t1 cA) (va_A (w1 a cA B w n st go g wk ow tr tk wy rk ld kp ko) hz) (match u9 with | (g9, k9, o9, t9, x9) => (w1 a cA B w n st go g9 k9 o9 t9 x9 wy rk ld kp ko)) t) (va_A (w1 a cA B w n st go g wk ow tr tk wy rk ld kp ko) hz)) 0 0 (va_A (w1 a cA B w n st go g wk ow tr tk wy rk ld kp ko) hz) := by
  refine Met.ofW (cc := cX1_families) (maxL := 3) (ret := (some .int)) (by decide) rfl ?_
  intro p e s m args below meth c s₁ Bd hml hv
  obtain ⟨rfl, hsz, hP, hK, hD0⟩ := hv
  have hx := Bd.exec
  have hb := Bd.bytes
  have hr := Bd.returns
  have hts := atoms_spec (ws := ws_ yX1_families cX1_families 3 (some .int)) Bd.pre
  have hts : ∀ w ∈ lw_all, w.before _ s = true := fun w h => hts w (List.mem_cons_of_mem _ h)
  have hown : s.vm.findClass RX1 = some m.cls := findClass_of_methodNamed Bd.named
  have hlocks := Bd.notSynchronized
  subst hsz
  have hD := hD0.self (sz := s.heap.size)
  generalize hAe : va_A (w1 a cA B w n st go g wk ow tr tk wy rk ld kp ko) s.heap.size = A at hD ⊢
  have hA : ∀ q : Nat, s.heap.size ≤ q → A q := fun q h => by rw [← hAe]; exact Or.inr h
  have E : x1E p s m c cX1_families _ dC dI cA := ⟨hx, hb, hts, hown, hK⟩
  have hX : wd (dC, dI) A s.heap (w1 a cA B w n st go g wk ow tr tk wy rk ld kp ko) s.heap [] := ⟨hP, hD, va_S.rf⟩
  have hl := lv_entry ([.ref (a 0)]) (n := 3) (Nat.le_of_ble_eq_true rfl)
  rw [lg_entry_eq]
  generalize (lg_sl ([.ref (a 0)]) ++ List.replicate (3 - (lg_sl ([.ref (a 0)])).length) Slot.unset).toArray = ls at hl ⊢
  have hl : lv_has ls 3 [(0, .ref (a 0))] := hl
  refine lv_aload_n hx hb dX1_families_0 rfl (lv_at hl 0 rfl) ?_
  refine ca_v (ci := 1) (As := []) (rest := []) ⟨hx, hb, hml, hown, hts⟩ hK hX hA (metX1_begin l dC dI a cA _ B w n st go g wk ow tr tk wy rk ld kp ko hwf) (cwV 0 hts (lw_V q274 q276 qs18 q26 q277) rfl rfl rfl (by decide +kernel) ⟨Nat.le_of_ble_eq_true rfl, Nat.le_of_ble_eq_true rfl⟩) rfl rfl rfl rfl hl.1 rfl (Nat.le_of_ble_eq_true rfl) dX1_families_1 ⟨Nat.le_of_ble_eq_true rfl, Nat.le_of_ble_eq_true rfl⟩ (fun ⟨g8, k8, o8, t8, x8⟩ H locs hw0 hX => ?_)
  have hX : wd (dC, dI) A s.heap (w1 a cA B w n st go g8 k8 o8 t8 x8 wy rk ld kp ko) H locs := hX
  refine lv_iconst (v := (nI 0)) hx hb dX1_families_4 (by decide) ?_
  refine lv_istore_n (lv' := [(1, .int (nI 0)), (0, .ref (a 0))]) hx hb dX1_families_5 rfl hl (by decide) rfl (fun ls hl => ?_)
  refine lv_aload_n hx hb dX1_families_6 rfl (lv_at hl 1 rfl) ?_
  refine lv_iconst (v := (nI 1)) hx hb dX1_families_7 (by decide) ?_
  refine tp (y := (b2 true)) rfl ?_
  refine ca_i (ci := 1) (As := [.int (b2 true)]) (rest := []) ⟨hx, hb, hml, hown, hts⟩ hK hX hA (metX1_nextFamily l dC dI a cA _ B w n st go g8 k8 o8 t8 x8 wy rk ld kp ko true (pf_push B (st 0) 0 []) (pf_L n st go B) hwf hw0 (by rw [if_pos rfl]; exact pf_begin hwf) (fun h => by cases h)) (cwV 1 hts (lw_V q282 q284 qs20 q26 q285) rfl rfl rfl (by decide +kernel) ⟨Nat.le_of_ble_eq_true rfl, Nat.le_of_ble_eq_true rfl⟩) rfl rfl rfl rfl hl.1 rfl (Nat.le_of_ble_eq_true rfl) dX1_families_8 ⟨Nat.le_of_ble_eq_true rfl, Nat.le_of_ble_eq_true rfl⟩ (fun r1 ⟨g8, k8, o8, t8, x8⟩ H locs hw1 hX => ?_)
  have hX : wd (dC, dI) A s.heap (w1 a cA B w n st go g8 k8 o8 t8 x8 wy rk ld kp ko) H locs := hX
  obtain ⟨S8, b8, hr1, hm8, hnx8⟩ := hw1
  subst hr1
  refine lv_istore_n (lv' := [(2, .int (b2 b8)), (1, .int (nI 0)), (0, .ref (a 0))]) hx hb dX1_families_11 rfl hl (by decide) rfl (fun ls hl => ?_)
  refine lpW (α := (List (List (Nat × Nat)) × pf_K × Bool × Nat) × Nat × (Nat → Nat) × (Nat → Nat) × (Nat → Nat) × (Nat → Bool)) (F := fun _ ls => F0 m 12 ls []) (I := fun q9 H locs ls => match q9 with | ((Lr, Sr, br, cn), g9, k9, o9, t9, x9) => (pf_mm n Sr g9 k9 o9 t9 x9 ∧ pf_nx n st go B Lr br Sr ∧ cn + Lr.length = (pf_L n st go B).length) ∧ wd (dC, dI) A s.heap (w1 a cA B w n st go g9 k9 o9 t9 x9 wy rk ld kp ko) H locs ∧ lv_has ls 3 [(2, .int (b2 br)), (1, .int (nI cn)), (0, .ref (a 0))]) (μ := fun q9 => match q9 with | ((Lr, Sr, br, cn), g9, k9, o9, t9, x9) => Lr.length) ?_ (((pf_L n st go B), S8, b8, 0), g8, k8, o8, t8, x8) ⟨⟨hm8, hnx8, Nat.zero_add _⟩, hX, lv_sub hl [0, 1, 2] rfl⟩
  · intro ⟨⟨Lr, Sr, br, cn⟩, g9, k9, o9, t9, x9⟩ H locs ls hI ih
    obtain ⟨⟨hmr, hnx, hcn⟩, hX, hl⟩ := hI
    refine lv_iload_n hx hb dX1_families_12 rfl (lv_at hl 0 rfl) ?_
    refine bz_eq (tgt := 28) hx hb dX1_families_13 (by decide) (fun c1 => ?_) (fun c1 => ?_)
    · obtain rfl := pf_nx_f hnx c1
      refine lv_iload_n hx hb dX1_families_28 rfl (lv_at hl 1 rfl) ?_
      exact W.iret (v := (nI cn)) hx hb hr (fun T9 hT9 hW9 => ⟨⟨(nI cn), (g9, k9, o9, t9, x9), rfl, by rw [← hcn]; rfl, by rw [hT9]; exact hX.1, va_K.moved hW9.alike hK, hX.2.1⟩, hX.2.2.F hT9⟩) hX.2.2.2.2 dX1_families_29
    · obtain ⟨L2, rfl, hne, hgo2⟩ := pf_nx_t hnx c1
      rw [List.length_cons] at hcn
      refine lv_iinc (v := (nI (cn + 1))) (lv' := [(1, .int (nI (cn + 1))), (2, .int (b2 br)), (0, .ref (a 0))]) hx hb dX1_families_16 hl (k := 1) rfl (nI_1 _) (by decide) rfl (fun ls hl => ?_)
      refine lv_aload_n hx hb dX1_families_19 rfl (lv_at hl 2 rfl) ?_
      refine lv_iconst (v := (nI 0)) hx hb dX1_families_20 (by decide) ?_
      refine tp (y := (b2 false)) rfl ?_
      refine ca_i (ci := 1) (As := [.int (b2 false)]) (rest := []) ⟨hx, hb, hml, hown, hts⟩ hK hX hA (metX1_nextFamily l dC dI a cA _ B w n st go g9 k9 o9 t9 x9 wy rk ld kp ko false Sr L2 hwf hmr (by rw [if_neg (by decide)]; exact hgo2) (fun _ => hne)) (cwV 1 hts (lw_V q282 q284 qs20 q26 q285) rfl rfl rfl (by decide +kernel) ⟨Nat.le_of_ble_eq_true rfl, Nat.le_of_ble_eq_true rfl⟩) rfl rfl rfl rfl hl.1 rfl (Nat.le_of_ble_eq_true rfl) dX1_families_21 ⟨Nat.le_of_ble_eq_true rfl, Nat.le_of_ble_eq_true rfl⟩ (fun r2 ⟨g8, k8, o8, t8, x8⟩ H locs hw2 hX => ?_)
      have hX : wd (dC, dI) A s.heap (w1 a cA B w n st go g8 k8 o8 t8 x8 wy rk ld kp ko) H locs := hX
      obtain ⟨S8, b8, hr2, hm8, hnx8⟩ := hw2
      subst hr2
      refine lv_istore_n (lv' := [(2, .int (b2 b8)), (1, .int (nI (cn + 1))), (0, .ref (a 0))]) hx hb dX1_families_24 rfl hl (by decide) rfl (fun ls hl => ?_)
      refine lv_goto (tgt := 12) hx hb dX1_families_25 (by decide) ?_
      exact ih ((L2, S8, b8, cn + 1), g8, k8, o8, t8, x8) _ _ _ ⟨⟨hm8, hnx8, by omega⟩, hX, lv_sub hl [0, 1, 2] rfl⟩ (by exact Nat.lt_succ_self _)
set_option maxHeartbeats 4000000 in
set_option maxRecDepth 100000 in
theorem metX1_sum (l : Launch) (dC : Nat → ClassId) (dI : Nat → Nat → Nat) (a : Nat → Nat) (cA : Nat → ClassId) (hz : Nat) (B : Nat → Bool) (w : Nat → Int32) (n : Nat) (st : Nat → Nat) (go : Nat → Nat) (g : Nat) (wk : Nat → Nat) (ow : Nat → Nat) (tr : Nat → Nat) (tk : Nat → Bool) (wy : Nat → Int32) (rk : Int32) (ld : Nat) (kp : Nat → Nat) (ko : Nat → Nat)  (hwf : pf_wf n st go) : Met l yX1_sum (ws_ yX1_sum cX1_sum 5 (some .int)) ({ frames := 3, cells := 0, slots := 0, locals := 66 }) (va_Pc [.ref (a 0)] (pcW (dC, dI) (t1 cA) hz (w1 a cA B w n st go g wk ow tr tk wy rk ld kp ko))) (va_Qi (fun (r : Int32) (u9 : Nat × (Nat → Nat) × (Nat → Nat) × (Nat → Nat) × (Nat → Bool)) => match u9 with | (g9, k9, o9, t9, x9) => r = pf_sum ((pf_L n st go B).map (pf_prod w))) (fun (u9 : Nat × (Nat → Nat) × (Nat → Nat) × (Nat → Nat) × (Nat → Bool)) t => bW (dC, dI) (t1 cA) (va_A (w1 a cA B w n st go g wk ow tr tk wy rk ld kp ko) hz) (match u9 with | (g9, k9, o9, t9, x9) => (w1 a cA B w n st go g9 k9 o9 t9 x9 wy rk ld kp ko)) t) (va_A (w1 a cA B w n st go g wk ow tr tk wy rk ld kp ko) hz)) 0 0 (va_A (w1 a cA B w n st go g wk ow tr tk wy rk ld kp ko) hz) := by
  refine Met.ofW (cc := cX1_sum) (maxL := 5) (ret := (some .int)) (by decide) rfl ?_
  intro p e s m args below meth c s₁ Bd hml hv
  obtain ⟨rfl, hsz, hP, hK, hD0⟩ := hv
  have hx := Bd.exec
  have hb := Bd.bytes
  have hr := Bd.returns
  have hts := atoms_spec (ws := ws_ yX1_sum cX1_sum 5 (some .int)) Bd.pre
  have hts : ∀ w ∈ lw_all, w.before _ s = true := fun w h => hts w (List.mem_cons_of_mem _ h)
  have hown : s.vm.findClass RX1 = some m.cls := findClass_of_methodNamed Bd.named
  have hlocks := Bd.notSynchronized
  subst hsz
  have hD := hD0.self (sz := s.heap.size)
  generalize hAe : va_A (w1 a cA B w n st go g wk ow tr tk wy rk ld kp ko) s.heap.size = A at hD ⊢
  have hA : ∀ q : Nat, s.heap.size ≤ q → A q := fun q h => by rw [← hAe]; exact Or.inr h
  have E : x1E p s m c cX1_sum _ dC dI cA := ⟨hx, hb, hts, hown, hK⟩
  have hX : wd (dC, dI) A s.heap (w1 a cA B w n st go g wk ow tr tk wy rk ld kp ko) s.heap [] := ⟨hP, hD, va_S.rf⟩
  have hl := lv_entry ([.ref (a 0)]) (n := 5) (Nat.le_of_ble_eq_true rfl)
  rw [lg_entry_eq]
  generalize (lg_sl ([.ref (a 0)]) ++ List.replicate (5 - (lg_sl ([.ref (a 0)])).length) Slot.unset).toArray = ls at hl ⊢
  have hl : lv_has ls 5 [(0, .ref (a 0))] := hl
  refine lv_aload_n hx hb dX1_sum_0 rfl (lv_at hl 0 rfl) ?_
  refine ca_v (ci := 1) (As := []) (rest := []) ⟨hx, hb, hml, hown, hts⟩ hK hX hA (metX1_begin l dC dI a cA _ B w n st go g wk ow tr tk wy rk ld kp ko hwf) (cwV 0 hts (lw_V q274 q276 qs18 q26 q277) rfl rfl rfl (by decide +kernel) ⟨Nat.le_of_ble_eq_true rfl, Nat.le_of_ble_eq_true rfl⟩) rfl rfl rfl rfl hl.1 rfl (Nat.le_of_ble_eq_true rfl) dX1_sum_1 ⟨Nat.le_of_ble_eq_true rfl, Nat.le_of_ble_eq_true rfl⟩ (fun ⟨g8, k8, o8, t8, x8⟩ H locs hw0 hX => ?_)
  have hX : wd (dC, dI) A s.heap (w1 a cA B w n st go g8 k8 o8 t8 x8 wy rk ld kp ko) H locs := hX
  refine lv_iconst (v := (nI 0)) hx hb dX1_sum_4 (by decide) ?_
  refine lv_istore_n (lv' := [(1, .int (nI 0)), (0, .ref (a 0))]) hx hb dX1_sum_5 rfl hl (by decide) rfl (fun ls hl => ?_)
  refine lv_aload_n hx hb dX1_sum_6 rfl (lv_at hl 1 rfl) ?_
  refine lv_iconst (v := (nI 1)) hx hb dX1_sum_7 (by decide) ?_
  refine tp (y := (b2 true)) rfl ?_
  refine ca_i (ci := 1) (As := [.int (b2 true)]) (rest := []) ⟨hx, hb, hml, hown, hts⟩ hK hX hA (metX1_nextFamily l dC dI a cA _ B w n st go g8 k8 o8 t8 x8 wy rk ld kp ko true (pf_push B (st 0) 0 []) (pf_L n st go B) hwf hw0 (by rw [if_pos rfl]; exact pf_begin hwf) (fun h => by cases h)) (cwV 1 hts (lw_V q282 q284 qs20 q26 q285) rfl rfl rfl (by decide +kernel) ⟨Nat.le_of_ble_eq_true rfl, Nat.le_of_ble_eq_true rfl⟩) rfl rfl rfl rfl hl.1 rfl (Nat.le_of_ble_eq_true rfl) dX1_sum_8 ⟨Nat.le_of_ble_eq_true rfl, Nat.le_of_ble_eq_true rfl⟩ (fun r1 ⟨g8, k8, o8, t8, x8⟩ H locs hw1 hX => ?_)
  have hX : wd (dC, dI) A s.heap (w1 a cA B w n st go g8 k8 o8 t8 x8 wy rk ld kp ko) H locs := hX
  obtain ⟨S8, b8, hr1, hm8, hnx8⟩ := hw1
  subst hr1
  refine lv_istore_n (lv' := [(2, .int (b2 b8)), (1, .int (nI 0)), (0, .ref (a 0))]) hx hb dX1_sum_11 rfl hl (by decide) rfl (fun ls hl => ?_)
  refine lpW (α := (List (List (Nat × Nat)) × pf_K × Bool × Int32) × Nat × (Nat → Nat) × (Nat → Nat) × (Nat → Nat) × (Nat → Bool)) (F := fun _ ls => F0 m 12 ls []) (I := fun q9 H locs ls => match q9 with | ((Lr, Sr, br, cn), g9, k9, o9, t9, x9) => (pf_mm n Sr g9 k9 o9 t9 x9 ∧ pf_nx n st go B Lr br Sr ∧ cn + pf_sum (Lr.map (pf_prod w)) = pf_sum ((pf_L n st go B).map (pf_prod w))) ∧ wd (dC, dI) A s.heap (w1 a cA B w n st go g9 k9 o9 t9 x9 wy rk ld kp ko) H locs ∧ lv_has ls 5 [(2, .int (b2 br)), (1, .int cn), (0, .ref (a 0))]) (μ := fun q9 => match q9 with | ((Lr, Sr, br, cn), g9, k9, o9, t9, x9) => Lr.length) ?_ (((pf_L n st go B), S8, b8, nI 0), g8, k8, o8, t8, x8) ⟨⟨hm8, hnx8, Int32.zero_add _⟩, hX, lv_sub hl [0, 1, 2] rfl⟩
  · intro ⟨⟨Lr, Sr, br, cn⟩, g9, k9, o9, t9, x9⟩ H locs ls hI ih
    obtain ⟨⟨hmr, hnx, hcn⟩, hX, hl⟩ := hI
    refine lv_iload_n hx hb dX1_sum_12 rfl (lv_at hl 0 rfl) ?_
    refine bz_eq (tgt := 64) hx hb dX1_sum_13 (by decide) (fun c1 => ?_) (fun c1 => ?_)
    · obtain rfl := pf_nx_f hnx c1
      refine lv_iload_n hx hb dX1_sum_64 rfl (lv_at hl 1 rfl) ?_
      exact W.iret (v := cn) hx hb hr (fun T9 hT9 hW9 => ⟨⟨cn, (g9, k9, o9, t9, x9), rfl, by rw [← hcn]; exact (Int32.add_zero _).symm, by rw [hT9]; exact hX.1, va_K.moved hW9.alike hK, hX.2.1⟩, hX.2.2.F hT9⟩) hX.2.2.2.2 dX1_sum_65
    · obtain ⟨L2, rfl, hne, hgo2⟩ := pf_nx_t hnx c1
      have hg9 := pf_mm_len hmr
      refine lv_iconst (v := (nI 1)) hx hb dX1_sum_16 (by decide) ?_
      refine lv_istore_n (lv' := [(3, .int (nI 1)), (2, .int (b2 br)), (1, .int cn), (0, .ref (a 0))]) hx hb dX1_sum_17 rfl hl (by decide) rfl (fun ls hl => ?_)
      refine lv_iconst (v := (nI 0)) hx hb dX1_sum_18 (by decide) ?_
      refine lv_istore (lv' := [(4, .int (nI 0)), (3, .int (nI 1)), (2, .int (b2 br)), (1, .int cn), (0, .ref (a 0))]) hx hb dX1_sum_19 hl (by decide) rfl (fun ls hl => ?_)
      refine lpW (α := Nat) (F := fun _ ls => F0 m 21 ls []) (I := fun q9 H locs ls => match q9 with | q => q ≤ g9 ∧ wd (dC, dI) A s.heap (w1 a cA B w n st go g9 k9 o9 t9 x9 wy rk ld kp ko) H locs ∧ lv_has ls 5 [(4, .int (nI q)), (3, .int (pf_prod w (pf_tak k9 o9 q))), (2, .int (b2 br)), (1, .int cn), (0, .ref (a 0))]) (μ := fun q9 => match q9 with | q => g9 - q) ?_ 0 ⟨Nat.zero_le _, hX, lv_sub hl [0, 1, 2, 3, 4] rfl⟩
      · intro q H locs ls hI ih2
        obtain ⟨hq, hX, hl⟩ := hI
        refine lv_iload hx hb dX1_sum_21 (lv_at hl 0 rfl) ?_
        refine lv_aload_n hx hb dX1_sum_23 rfl (lv_at hl 4 rfl) ?_
        refine x1_g5 E hX dX1_sum_24 ?_
        refine bn_ge (tgt := 51) hx hb (by omega) (by omega) dX1_sum_27 (by decide) (fun c2 => ?_) (fun c2 => ?_)
        · have e9 : q = g9 := by omega
          have hp9 : pf_prod w (pf_tak k9 o9 q) = pf_prod w (pf_fam Sr) := by rw [e9, pf_mm_tak hmr]
          refine lv_iload_n hx hb dX1_sum_51 rfl (lv_at hl 3 rfl) ?_
          refine lv_iload_n hx hb dX1_sum_52 rfl (lv_at hl 1 rfl) ?_
          refine lv_iadd hx hb dX1_sum_53 ?_
          refine lv_istore_n (lv' := [(1, .int (cn + (pf_prod w (pf_tak k9 o9 q)))), (4, .int (nI q)), (3, .int (pf_prod w (pf_tak k9 o9 q))), (2, .int (b2 br)), (0, .ref (a 0))]) hx hb dX1_sum_54 rfl hl (by decide) rfl (fun ls hl => ?_)
          refine lv_aload_n hx hb dX1_sum_55 rfl (lv_at hl 4 rfl) ?_
          refine lv_iconst (v := (nI 0)) hx hb dX1_sum_56 (by decide) ?_
          refine tp (y := (b2 false)) rfl ?_
          refine ca_i (ci := 1) (As := [.int (b2 false)]) (rest := []) ⟨hx, hb, hml, hown, hts⟩ hK hX hA (metX1_nextFamily l dC dI a cA _ B w n st go g9 k9 o9 t9 x9 wy rk ld kp ko false Sr L2 hwf hmr (by rw [if_neg (by decide)]; exact hgo2) (fun _ => hne)) (cwV 1 hts (lw_V q282 q284 qs20 q26 q285) rfl rfl rfl (by decide +kernel) ⟨Nat.le_of_ble_eq_true rfl, Nat.le_of_ble_eq_true rfl⟩) rfl rfl rfl rfl hl.1 rfl (Nat.le_of_ble_eq_true rfl) dX1_sum_57 ⟨Nat.le_of_ble_eq_true rfl, Nat.le_of_ble_eq_true rfl⟩ (fun r2 ⟨g8, k8, o8, t8, x8⟩ H locs hw2 hX => ?_)
          have hX : wd (dC, dI) A s.heap (w1 a cA B w n st go g8 k8 o8 t8 x8 wy rk ld kp ko) H locs := hX
          obtain ⟨S8, b8, hr2, hm8, hnx8⟩ := hw2
          subst hr2
          refine lv_istore_n (lv' := [(2, .int (b2 b8)), (1, .int (cn + (pf_prod w (pf_tak k9 o9 q)))), (4, .int (nI q)), (3, .int (pf_prod w (pf_tak k9 o9 q))), (0, .ref (a 0))]) hx hb dX1_sum_60 rfl hl (by decide) rfl (fun ls hl => ?_)
          refine lv_goto (tgt := 12) hx hb dX1_sum_61 (by decide) ?_
          exact ih ((L2, S8, b8, cn + (pf_prod w (pf_tak k9 o9 q))), g8, k8, o8, t8, x8) _ _ _ ⟨⟨hm8, hnx8, by rw [← hcn, hp9]; exact Int32.add_assoc _ _ _⟩, hX, lv_sub hl [0, 1, 4] rfl⟩ (by exact Nat.lt_succ_self _)
        · have hw9 := pf_mm_lt hmr q c2
          refine lv_iload_n hx hb dX1_sum_30 rfl (lv_at hl 1 rfl) ?_
          refine lv_aload_n hx hb dX1_sum_31 rfl (lv_at hl 4 rfl) ?_
          refine x1_g1 E hX dX1_sum_32 ?_
          refine lv_aload_n hx hb dX1_sum_35 rfl (lv_at hl 4 rfl) ?_
          refine x1_g6 E hX dX1_sum_36 ?_
          refine lv_iload hx hb dX1_sum_39 (lv_at hl 0 rfl) ?_
          refine x1_l5 E hX (by omega) dX1_sum_41 ?_
          refine x1_l2 E hX (by omega) dX1_sum_42 ?_
          refine lv_imul hx hb dX1_sum_43 ?_
          refine lv_istore_n (lv' := [(3, .int ((pf_prod w (pf_tak k9 o9 q)) * (w (k9 q)))), (4, .int (nI q)), (2, .int (b2 br)), (1, .int cn), (0, .ref (a 0))]) hx hb dX1_sum_44 rfl hl (by decide) rfl (fun ls hl => ?_)
          refine lv_iinc (v := (nI (q + 1))) (lv' := [(4, .int (nI (q + 1))), (3, .int ((pf_prod w (pf_tak k9 o9 q)) * (w (k9 q)))), (2, .int (b2 br)), (1, .int cn), (0, .ref (a 0))]) hx hb dX1_sum_45 hl (k := 1) rfl (nI_1 _) (by decide) rfl (fun ls hl => ?_)
          refine lv_goto (tgt := 21) hx hb dX1_sum_48 (by decide) ?_
          have e9 : pf_prod w (pf_tak k9 o9 (q + 1)) = pf_prod w (pf_tak k9 o9 q) * w (k9 q) := by
            show pf_prod w (pf_tak k9 o9 q ++ [(k9 q, o9 q)]) = _
            rw [pf_prod_app]
            show _ * (w (k9 q) * 1) = _
            rw [Int32.mul_one]
          exact ih2 (q + 1) _ _ _ ⟨by omega, hX, by rw [e9]; exact lv_sub hl [0, 1, 2, 3, 4] rfl⟩ (by dsimp only; omega)
set_option maxHeartbeats 4000000 in
set_option maxRecDepth 100000 in
theorem metX1_throughBoth (l : Launch) (dC : Nat → ClassId) (dI : Nat → Nat → Nat) (a : Nat → Nat) (cA : Nat → ClassId) (hz : Nat) (B : Nat → Bool) (w : Nat → Int32) (n : Nat) (st : Nat → Nat) (go : Nat → Nat) (g : Nat) (wk : Nat → Nat) (ow : Nat → Nat) (tr : Nat → Nat) (tk : Nat → Bool) (wy : Nat → Int32) (rk : Int32) (ld : Nat) (kp : Nat → Nat) (ko : Nat → Nat) (x : Int32) (y : Int32) (hwf : pf_wf n st go) : Met l yX1_throughBoth (ws_ yX1_throughBoth cX1_throughBoth 5 (some .int)) ({ frames := 3, cells := 0, slots := 0, locals := 66 }) (va_Pc [.ref (a 0), .int x, .int y] (pcW (dC, dI) (t1 cA) hz (w1 a cA B w n st go g wk ow tr tk wy rk ld kp ko))) (va_Qi (fun (r : Int32) (u9 : Nat × (Nat → Nat) × (Nat → Nat) × (Nat → Nat) × (Nat → Bool)) => match u9 with | (g9, k9, o9, t9, x9) => r = op_tb (pf_L n st go B) x y) (fun (u9 : Nat × (Nat → Nat) × (Nat → Nat) × (Nat → Nat) × (Nat → Bool)) t => bW (dC, dI) (t1 cA) (va_A (w1 a cA B w n st go g wk ow tr tk wy rk ld kp ko) hz) (match u9 with | (g9, k9, o9, t9, x9) => (w1 a cA B w n st go g9 k9 o9 t9 x9 wy rk ld kp ko)) t) (va_A (w1 a cA B w n st go g wk ow tr tk wy rk ld kp ko) hz)) 0 0 (va_A (w1 a cA B w n st go g wk ow tr tk wy rk ld kp ko) hz) := by
  refine Met.ofW (cc := cX1_throughBoth) (maxL := 5) (ret := (some .int)) (by decide) rfl ?_
  intro p e s m args below meth c s₁ Bd hml hv
  obtain ⟨rfl, hsz, hP, hK, hD0⟩ := hv
  have hx := Bd.exec
  have hb := Bd.bytes
  have hr := Bd.returns
  have hts := atoms_spec (ws := ws_ yX1_throughBoth cX1_throughBoth 5 (some .int)) Bd.pre
  have hts : ∀ w ∈ lw_all, w.before _ s = true := fun w h => hts w (List.mem_cons_of_mem _ h)
  have hown : s.vm.findClass RX1 = some m.cls := findClass_of_methodNamed Bd.named
  have hlocks := Bd.notSynchronized
  subst hsz
  have hD := hD0.self (sz := s.heap.size)
  generalize hAe : va_A (w1 a cA B w n st go g wk ow tr tk wy rk ld kp ko) s.heap.size = A at hD ⊢
  have hA : ∀ q : Nat, s.heap.size ≤ q → A q := fun q h => by rw [← hAe]; exact Or.inr h
  have E : x1E p s m c cX1_throughBoth _ dC dI cA := ⟨hx, hb, hts, hown, hK⟩
  have hX : wd (dC, dI) A s.heap (w1 a cA B w n st go g wk ow tr tk wy rk ld kp ko) s.heap [] := ⟨hP, hD, va_S.rf⟩
  have hl := lv_entry ([.ref (a 0), .int x, .int y]) (n := 5) (Nat.le_of_ble_eq_true rfl)
  rw [lg_entry_eq]
  generalize (lg_sl ([.ref (a 0), .int x, .int y]) ++ List.replicate (5 - (lg_sl ([.ref (a 0), .int x, .int y])).length) Slot.unset).toArray = ls at hl ⊢
  have hl : lv_has ls 5 [(0, .ref (a 0)), (1, .int x), (2, .int y)] := hl
  refine lv_aload_n hx hb dX1_throughBoth_0 rfl (lv_at hl 0 rfl) ?_
  refine lv_iload_n hx hb dX1_throughBoth_1 rfl (lv_at hl 1 rfl) ?_
  refine ca_i (ci := 1) (As := [.int x]) (rest := []) ⟨hx, hb, hml, hown, hts⟩ hK hX hA (metX1_noCell l dC dI a cA _ B w n st go g wk ow tr tk wy rk ld kp ko x) (cwV 1 hts (lw_V q254 q256 qs16 q26 q257) rfl rfl rfl (by decide +kernel) ⟨Nat.le_of_ble_eq_true rfl, Nat.le_of_ble_eq_true rfl⟩) rfl rfl rfl rfl hl.1 rfl (Nat.le_of_ble_eq_true rfl) dX1_throughBoth_2 ⟨Nat.le_of_ble_eq_true rfl, Nat.le_of_ble_eq_true rfl⟩ (fun r1 _ H locs hr1 hX => ?_)
  subst hr1
  refine bz_ne (tgt := 16) hx hb dX1_throughBoth_5 (by decide) (fun c1 => ?_) (fun c1 => ?_)
  · have hix : ix x 30 = none := if_pos (of_decide_eq_true c1)
    refine lv_iconst (v := (-1)) hx hb dX1_throughBoth_16 (by decide) ?_
    exact W.iret (v := (-1)) hx hb hr (fun T9 hT9 hW9 => ⟨⟨(-1), (g, wk, ow, tr, tk), rfl, by unfold op_tb; rw [hix], by rw [hT9]; exact hX.1, va_K.moved hW9.alike hK, hX.2.1⟩, hX.2.2.F hT9⟩) hX.2.2.2.2 dX1_throughBoth_17
  · have c19 := of_decide_eq_false c1
    obtain ⟨j, hj, rfl⟩ := pf_ix (fun q => c19 (Or.inl q)) (fun q => c19 (Or.inr q)) (by decide)
    have hix : ix (nI j) 30 = some j := ix_in hj (by decide)
    refine lv_aload_n hx hb dX1_throughBoth_8 rfl (lv_at hl 0 rfl) ?_
    refine lv_iload_n hx hb dX1_throughBoth_9 rfl (lv_at hl 2 rfl) ?_
    refine ca_i (ci := 1) (As := [.int y]) (rest := []) ⟨hx, hb, hml, hown, hts⟩ hK hX hA (metX1_noCell l dC dI a cA _ B w n st go g wk ow tr tk wy rk ld kp ko y) (cwV 1 hts (lw_V q254 q256 qs16 q26 q257) rfl rfl rfl (by decide +kernel) ⟨Nat.le_of_ble_eq_true rfl, Nat.le_of_ble_eq_true rfl⟩) rfl rfl rfl rfl hl.1 rfl (Nat.le_of_ble_eq_true rfl) dX1_throughBoth_10 ⟨Nat.le_of_ble_eq_true rfl, Nat.le_of_ble_eq_true rfl⟩ (fun r1 _ H locs hr1 hX => ?_)
    subst hr1
    refine bz_eq (tgt := 18) hx hb dX1_throughBoth_13 (by decide) (fun c2 => ?_) (fun c2 => ?_)
    · have c29 := of_decide_eq_false c2
      obtain ⟨i, hi, rfl⟩ := pf_ix (fun q => c29 (Or.inl q)) (fun q => c29 (Or.inr q)) (by decide)
      have hiy : ix (nI i) 30 = some i := ix_in hi (by decide)
      refine lv_aload_n hx hb dX1_throughBoth_18 rfl (lv_at hl 0 rfl) ?_
      refine ca_v (ci := 1) (As := []) (rest := []) ⟨hx, hb, hml, hown, hts⟩ hK hX hA (metX1_begin l dC dI a cA _ B w n st go g wk ow tr tk wy rk ld kp ko hwf) (cwV 0 hts (lw_V q274 q276 qs18 q26 q277) rfl rfl rfl (by decide +kernel) ⟨Nat.le_of_ble_eq_true rfl, Nat.le_of_ble_eq_true rfl⟩) rfl rfl rfl rfl hl.1 rfl (Nat.le_of_ble_eq_true rfl) dX1_throughBoth_19 ⟨Nat.le_of_ble_eq_true rfl, Nat.le_of_ble_eq_true rfl⟩ (fun ⟨g8, k8, o8, t8, x8⟩ H locs hw0 hX => ?_)
      have hX : wd (dC, dI) A s.heap (w1 a cA B w n st go g8 k8 o8 t8 x8 wy rk ld kp ko) H locs := hX
      refine lv_iconst (v := (nI 0)) hx hb dX1_throughBoth_22 (by decide) ?_
      refine lv_istore_n (lv' := [(3, .int (nI 0)), (0, .ref (a 0)), (1, .int (nI j)), (2, .int (nI i))]) hx hb dX1_throughBoth_23 rfl hl (by decide) rfl (fun ls hl => ?_)
      refine lv_aload_n hx hb dX1_throughBoth_24 rfl (lv_at hl 1 rfl) ?_
      refine lv_iconst (v := (nI 1)) hx hb dX1_throughBoth_25 (by decide) ?_
      refine tp (y := (b2 true)) rfl ?_
      refine ca_i (ci := 1) (As := [.int (b2 true)]) (rest := []) ⟨hx, hb, hml, hown, hts⟩ hK hX hA (metX1_nextFamily l dC dI a cA _ B w n st go g8 k8 o8 t8 x8 wy rk ld kp ko true (pf_push B (st 0) 0 []) (pf_L n st go B) hwf hw0 (by rw [if_pos rfl]; exact pf_begin hwf) (fun h => by cases h)) (cwV 1 hts (lw_V q282 q284 qs20 q26 q285) rfl rfl rfl (by decide +kernel) ⟨Nat.le_of_ble_eq_true rfl, Nat.le_of_ble_eq_true rfl⟩) rfl rfl rfl rfl hl.1 rfl (Nat.le_of_ble_eq_true rfl) dX1_throughBoth_26 ⟨Nat.le_of_ble_eq_true rfl, Nat.le_of_ble_eq_true rfl⟩ (fun r1 ⟨g8, k8, o8, t8, x8⟩ H locs hw1 hX => ?_)
      have hX : wd (dC, dI) A s.heap (w1 a cA B w n st go g8 k8 o8 t8 x8 wy rk ld kp ko) H locs := hX
      obtain ⟨S8, b8, hr1, hm8, hnx8⟩ := hw1
      subst hr1
      refine lv_istore (lv' := [(4, .int (b2 b8)), (3, .int (nI 0)), (0, .ref (a 0)), (1, .int (nI j)), (2, .int (nI i))]) hx hb dX1_throughBoth_29 hl (by decide) rfl (fun ls hl => ?_)
      refine lpW (α := (List (List (Nat × Nat)) × pf_K × Bool × Nat) × Nat × (Nat → Nat) × (Nat → Nat) × (Nat → Nat) × (Nat → Bool)) (F := fun _ ls => F0 m 31 ls []) (I := fun q9 H locs ls => match q9 with | ((Lr, Sr, br, cn), g9, k9, o9, t9, x9) => (pf_mm n Sr g9 k9 o9 t9 x9 ∧ pf_nx n st go B Lr br Sr ∧ cn + Lr.countP (fun F => pf_has j F && pf_has i F) = (pf_L n st go B).countP (fun F => pf_has j F && pf_has i F)) ∧ wd (dC, dI) A s.heap (w1 a cA B w n st go g9 k9 o9 t9 x9 wy rk ld kp ko) H locs ∧ lv_has ls 5 [(4, .int (b2 br)), (3, .int (nI cn)), (2, .int (nI i)), (1, .int (nI j)), (0, .ref (a 0))]) (μ := fun q9 => match q9 with | ((Lr, Sr, br, cn), g9, k9, o9, t9, x9) => Lr.length) ?_ (((pf_L n st go B), S8, b8, 0), g8, k8, o8, t8, x8) ⟨⟨hm8, hnx8, Nat.zero_add _⟩, hX, lv_sub hl [0, 1, 4, 3, 2] rfl⟩
      · intro ⟨⟨Lr, Sr, br, cn⟩, g9, k9, o9, t9, x9⟩ H locs ls hI ih
        obtain ⟨⟨hmr, hnx, hcn⟩, hX, hl⟩ := hI
        refine lv_iload hx hb dX1_throughBoth_31 (lv_at hl 0 rfl) ?_
        refine bz_eq (tgt := 67) hx hb dX1_throughBoth_33 (by decide) (fun c3 => ?_) (fun c3 => ?_)
        · obtain rfl := pf_nx_f hnx c3
          refine lv_iload_n hx hb dX1_throughBoth_67 rfl (lv_at hl 1 rfl) ?_
          exact W.iret (v := (nI cn)) hx hb hr (fun T9 hT9 hW9 => ⟨⟨(nI cn), (g9, k9, o9, t9, x9), rfl, by unfold op_tb; rw [hix]; simp only []; rw [hiy]; simp only []; rw [← hcn]; rfl, by rw [hT9]; exact hX.1, va_K.moved hW9.alike hK, hX.2.1⟩, hX.2.2.F hT9⟩) hX.2.2.2.2 dX1_throughBoth_68
        · obtain ⟨L2, rfl, hne, hgo2⟩ := pf_nx_t hnx c3
          rw [List.countP_cons] at hcn
          have hxj : x9 j = pf_has j (pf_fam Sr) := by rw [hmr.2.2.1 j hj, pf_has_fam]
          have hxi : x9 i = pf_has i (pf_fam Sr) := by rw [hmr.2.2.1 i hi, pf_has_fam]
          refine lv_aload_n hx hb dX1_throughBoth_36 rfl (lv_at hl 4 rfl) ?_
          refine x1_g9 E hX dX1_throughBoth_37 ?_
          refine lv_iload_n hx hb dX1_throughBoth_40 rfl (lv_at hl 3 rfl) ?_
          refine x1_l8 E hX (by omega) dX1_throughBoth_41 ?_
          refine jnW (α := Unit) (F := fun _ ls => F0 m 57 ls []) (I := fun q9 H locs ls => match q9 with | _ => wd (dC, dI) A s.heap (w1 a cA B w n st go g9 k9 o9 t9 x9 wy rk ld kp ko) H locs ∧ lv_has ls 5 [(3, .int (nI (cn + (if (x9 j && x9 i) = true then 1 else 0)))), (2, .int (nI i)), (1, .int (nI j)), (0, .ref (a 0))]) (fun J => ?_) ?_
          · refine bz_eq (tgt := 57) hx hb dX1_throughBoth_42 (by decide) (fun c4 => ?_) (fun c4 => ?_)
            · exact J () _ _ _ ⟨hX, by rw [c4]; exact lv_sub hl [1, 2, 3, 4] rfl⟩
            · refine lv_aload_n hx hb dX1_throughBoth_45 rfl (lv_at hl 4 rfl) ?_
              refine x1_g9 E hX dX1_throughBoth_46 ?_
              refine lv_iload_n hx hb dX1_throughBoth_49 rfl (lv_at hl 2 rfl) ?_
              refine x1_l8 E hX (by omega) dX1_throughBoth_50 ?_
              refine bz_eq (tgt := 57) hx hb dX1_throughBoth_51 (by decide) (fun c5 => ?_) (fun c5 => ?_)
              · exact J () _ _ _ ⟨hX, by rw [c4, c5]; exact lv_sub hl [1, 2, 3, 4] rfl⟩
              · refine lv_iinc (v := (nI (cn + 1))) (lv' := [(3, .int (nI (cn + 1))), (4, .int (b2 br)), (2, .int (nI i)), (1, .int (nI j)), (0, .ref (a 0))]) hx hb dX1_throughBoth_54 hl (k := 1) rfl (nI_1 _) (by decide) rfl (fun ls hl => ?_)
                exact J () _ _ _ ⟨hX, by rw [c4, c5]; exact lv_sub hl [0, 2, 3, 4] rfl⟩
          · intro _ H locs ls hI
            obtain ⟨hX, hl⟩ := hI
            refine lv_aload_n hx hb dX1_throughBoth_57 rfl (lv_at hl 3 rfl) ?_
            refine lv_iconst (v := (nI 0)) hx hb dX1_throughBoth_58 (by decide) ?_
            refine tp (y := (b2 false)) rfl ?_
            refine ca_i (ci := 1) (As := [.int (b2 false)]) (rest := []) ⟨hx, hb, hml, hown, hts⟩ hK hX hA (metX1_nextFamily l dC dI a cA _ B w n st go g9 k9 o9 t9 x9 wy rk ld kp ko false Sr L2 hwf hmr (by rw [if_neg (by decide)]; exact hgo2) (fun _ => hne)) (cwV 1 hts (lw_V q282 q284 qs20 q26 q285) rfl rfl rfl (by decide +kernel) ⟨Nat.le_of_ble_eq_true rfl, Nat.le_of_ble_eq_true rfl⟩) rfl rfl rfl rfl hl.1 rfl (Nat.le_of_ble_eq_true rfl) dX1_throughBoth_59 ⟨Nat.le_of_ble_eq_true rfl, Nat.le_of_ble_eq_true rfl⟩ (fun r2 ⟨g8, k8, o8, t8, x8⟩ H locs hw2 hX => ?_)
            have hX : wd (dC, dI) A s.heap (w1 a cA B w n st go g8 k8 o8 t8 x8 wy rk ld kp ko) H locs := hX
            obtain ⟨S8, b8, hr2, hm8, hnx8⟩ := hw2
            subst hr2
            refine lv_istore (lv' := [(4, .int (b2 b8)), (3, .int (nI (cn + (if (x9 j && x9 i) = true then 1 else 0)))), (2, .int (nI i)), (1, .int (nI j)), (0, .ref (a 0))]) hx hb dX1_throughBoth_62 hl (by decide) rfl (fun ls hl => ?_)
            refine lv_goto (tgt := 31) hx hb dX1_throughBoth_64 (by decide) ?_
            exact ih ((L2, S8, b8, cn + (if (x9 j && x9 i) = true then 1 else 0)), g8, k8, o8, t8, x8) _ _ _ ⟨⟨hm8, hnx8, by rw [← hcn, hxj, hxi]; omega⟩, hX, lv_sub hl [0, 1, 2, 3, 4] rfl⟩ (by exact Nat.lt_succ_self _)
    · have hiy : ix y 30 = none := if_pos (of_decide_eq_true c2)
      refine lv_iconst (v := (-1)) hx hb dX1_throughBoth_16 (by decide) ?_
      exact W.iret (v := (-1)) hx hb hr (fun T9 hT9 hW9 => ⟨⟨(-1), (g, wk, ow, tr, tk), rfl, by unfold op_tb; rw [hix]; simp only []; rw [hiy], by rw [hT9]; exact hX.1, va_K.moved hW9.alike hK, hX.2.1⟩, hX.2.2.F hT9⟩) hX.2.2.2.2 dX1_throughBoth_17
set_option maxHeartbeats 4000000 in
set_option maxRecDepth 100000 in
theorem metX1_through (l : Launch) (dC : Nat → ClassId) (dI : Nat → Nat → Nat) (a : Nat → Nat) (cA : Nat → ClassId) (hz : Nat) (B : Nat → Bool) (w : Nat → Int32) (n : Nat) (st : Nat → Nat) (go : Nat → Nat) (g : Nat) (wk : Nat → Nat) (ow : Nat → Nat) (tr : Nat → Nat) (tk : Nat → Bool) (wy : Nat → Int32) (rk : Int32) (ld : Nat) (kp : Nat → Nat) (ko : Nat → Nat) (x : Int32) (hwf : pf_wf n st go) : Met l yX1_through (ws_ yX1_through cX1_through 2 (some .int)) ({ frames := 4, cells := 0, slots := 0, locals := 90 }) (va_Pc [.ref (a 0), .int x] (pcW (dC, dI) (t1 cA) hz (w1 a cA B w n st go g wk ow tr tk wy rk ld kp ko))) (va_Qi (fun (r : Int32) (u9 : Nat × (Nat → Nat) × (Nat → Nat) × (Nat → Nat) × (Nat → Bool)) => match u9 with | (g9, k9, o9, t9, x9) => r = op_tb (pf_L n st go B) x x) (fun (u9 : Nat × (Nat → Nat) × (Nat → Nat) × (Nat → Nat) × (Nat → Bool)) t => bW (dC, dI) (t1 cA) (va_A (w1 a cA B w n st go g wk ow tr tk wy rk ld kp ko) hz) (match u9 with | (g9, k9, o9, t9, x9) => (w1 a cA B w n st go g9 k9 o9 t9 x9 wy rk ld kp ko)) t) (va_A (w1 a cA B w n st go g wk ow tr tk wy rk ld kp ko) hz)) 0 0 (va_A (w1 a cA B w n st go g wk ow tr tk wy rk ld kp ko) hz) := by
  refine Met.ofW (cc := cX1_through) (maxL := 2) (ret := (some .int)) (by decide) rfl ?_
  intro p e s m args below meth c s₁ Bd hml hv
  obtain ⟨rfl, hsz, hP, hK, hD0⟩ := hv
  have hx := Bd.exec
  have hb := Bd.bytes
  have hr := Bd.returns
  have hts := atoms_spec (ws := ws_ yX1_through cX1_through 2 (some .int)) Bd.pre
  have hts : ∀ w ∈ lw_all, w.before _ s = true := fun w h => hts w (List.mem_cons_of_mem _ h)
  have hown : s.vm.findClass RX1 = some m.cls := findClass_of_methodNamed Bd.named
  have hlocks := Bd.notSynchronized
  subst hsz
  have hD := hD0.self (sz := s.heap.size)
  generalize hAe : va_A (w1 a cA B w n st go g wk ow tr tk wy rk ld kp ko) s.heap.size = A at hD ⊢
  have hA : ∀ q : Nat, s.heap.size ≤ q → A q := fun q h => by rw [← hAe]; exact Or.inr h
  have E : x1E p s m c cX1_through _ dC dI cA := ⟨hx, hb, hts, hown, hK⟩
  have hX : wd (dC, dI) A s.heap (w1 a cA B w n st go g wk ow tr tk wy rk ld kp ko) s.heap [] := ⟨hP, hD, va_S.rf⟩
  have hl := lv_entry ([.ref (a 0), .int x]) (n := 2) (Nat.le_of_ble_eq_true rfl)
  rw [lg_entry_eq]
  generalize (lg_sl ([.ref (a 0), .int x]) ++ List.replicate (2 - (lg_sl ([.ref (a 0), .int x])).length) Slot.unset).toArray = ls at hl ⊢
  have hl : lv_has ls 2 [(0, .ref (a 0)), (1, .int x)] := hl
  refine lv_aload_n hx hb dX1_through_0 rfl (lv_at hl 0 rfl) ?_
  refine lv_iload_n hx hb dX1_through_1 rfl (lv_at hl 1 rfl) ?_
  refine lv_iload_n hx hb dX1_through_2 rfl (lv_at hl 1 rfl) ?_
  refine ca_i (ci := 1) (As := [.int x, .int x]) (rest := []) ⟨hx, hb, hml, hown, hts⟩ hK hX hA (metX1_throughBoth l dC dI a cA _ B w n st go g wk ow tr tk wy rk ld kp ko x x hwf) (cwV 2 hts (lw_V q306 q307 q308 q26 q309) rfl rfl rfl (by decide +kernel) ⟨Nat.le_of_ble_eq_true rfl, Nat.le_of_ble_eq_true rfl⟩) rfl rfl rfl rfl hl.1 rfl (Nat.le_of_ble_eq_true rfl) dX1_through_3 ⟨Nat.le_of_ble_eq_true rfl, Nat.le_of_ble_eq_true rfl⟩ (fun r1 ⟨g8, k8, o8, t8, x8⟩ H locs hw hX => ?_)
  have hX : wd (dC, dI) A s.heap (w1 a cA B w n st go g8 k8 o8 t8 x8 wy rk ld kp ko) H locs := hX
  exact W.iret (v := r1) hx hb hr (fun T9 hT9 hW9 => ⟨⟨r1, (g8, k8, o8, t8, x8), rfl, hw, by rw [hT9]; exact hX.1, va_K.moved hW9.alike hK, hX.2.1⟩, hX.2.2.F hT9⟩) hX.2.2.2.2 dX1_through_6
set_option maxHeartbeats 4000000 in
set_option maxRecDepth 100000 in
theorem metX1_musts (l : Launch) (dC : Nat → ClassId) (dI : Nat → Nat → Nat) (a : Nat → Nat) (cA : Nat → ClassId) (hz : Nat) (B : Nat → Bool) (w : Nat → Int32) (n : Nat) (st : Nat → Nat) (go : Nat → Nat) (g : Nat) (wk : Nat → Nat) (ow : Nat → Nat) (tr : Nat → Nat) (tk : Nat → Bool) (wy : Nat → Int32) (rk : Int32) (ld : Nat) (kp : Nat → Nat) (ko : Nat → Nat)  (hwf : pf_wf n st go) : Met l yX1_musts (ws_ yX1_musts cX1_musts 5 (some .int)) ({ frames := 5, cells := 0, slots := 0, locals := 111 }) (va_Pc [.ref (a 0)] (pcW (dC, dI) (t1 cA) hz (w1 a cA B w n st go g wk ow tr tk wy rk ld kp ko))) (va_Qi (fun (r : Int32) (u9 : Nat × (Nat → Nat) × (Nat → Nat) × (Nat → Nat) × (Nat → Bool)) => match u9 with | (g9, k9, o9, t9, x9) => r = if (pf_L n st go B).length = 0 then 0 else nI (op_mu (pf_L n st go B) 30)) (fun (u9 : Nat × (Nat → Nat) × (Nat → Nat) × (Nat → Nat) × (Nat → Bool)) t => bW (dC, dI) (t1 cA) (va_A (w1 a cA B w n st go g wk ow tr tk wy rk ld kp ko) hz) (match u9 with | (g9, k9, o9, t9, x9) => (w1 a cA B w n st go g9 k9 o9 t9 x9 wy rk ld kp ko)) t) (va_A (w1 a cA B w n st go g wk ow tr tk wy rk ld kp ko) hz)) 0 0 (va_A (w1 a cA B w n st go g wk ow tr tk wy rk ld kp ko) hz) := by
  refine Met.ofW (cc := cX1_musts) (maxL := 5) (ret := (some .int)) (by decide) rfl ?_
  intro p e s m args below meth c s₁ Bd hml hv
  obtain ⟨rfl, hsz, hP, hK, hD0⟩ := hv
  have hx := Bd.exec
  have hb := Bd.bytes
  have hr := Bd.returns
  have hts := atoms_spec (ws := ws_ yX1_musts cX1_musts 5 (some .int)) Bd.pre
  have hts : ∀ w ∈ lw_all, w.before _ s = true := fun w h => hts w (List.mem_cons_of_mem _ h)
  have hown : s.vm.findClass RX1 = some m.cls := findClass_of_methodNamed Bd.named
  have hlocks := Bd.notSynchronized
  subst hsz
  have hD := hD0.self (sz := s.heap.size)
  generalize hAe : va_A (w1 a cA B w n st go g wk ow tr tk wy rk ld kp ko) s.heap.size = A at hD ⊢
  have hA : ∀ q : Nat, s.heap.size ≤ q → A q := fun q h => by rw [← hAe]; exact Or.inr h
  have E : x1E p s m c cX1_musts _ dC dI cA := ⟨hx, hb, hts, hown, hK⟩
  have hX : wd (dC, dI) A s.heap (w1 a cA B w n st go g wk ow tr tk wy rk ld kp ko) s.heap [] := ⟨hP, hD, va_S.rf⟩
  have hl := lv_entry ([.ref (a 0)]) (n := 5) (Nat.le_of_ble_eq_true rfl)
  rw [lg_entry_eq]
  generalize (lg_sl ([.ref (a 0)]) ++ List.replicate (5 - (lg_sl ([.ref (a 0)])).length) Slot.unset).toArray = ls at hl ⊢
  have hl : lv_has ls 5 [(0, .ref (a 0))] := hl
  have hLl := pf_L_len (n := n) (st := st) (go := go) (B := B)
  refine lv_aload_n hx hb dX1_musts_0 rfl (lv_at hl 0 rfl) ?_
  refine ca_i (ci := 1) (As := []) (rest := []) ⟨hx, hb, hml, hown, hts⟩ hK hX hA (metX1_families l dC dI a cA _ B w n st go g wk ow tr tk wy rk ld kp ko hwf) (cwV 0 hts (lw_V q315 q271 q272 q26 q273) rfl rfl rfl (by decide +kernel) ⟨Nat.le_of_ble_eq_true rfl, Nat.le_of_ble_eq_true rfl⟩) rfl rfl rfl rfl hl.1 rfl (Nat.le_of_ble_eq_true rfl) dX1_musts_1 ⟨Nat.le_of_ble_eq_true rfl, Nat.le_of_ble_eq_true rfl⟩ (fun r1 ⟨g8, k8, o8, t8, x8⟩ H locs hr1 hX => ?_)
  have hX : wd (dC, dI) A s.heap (w1 a cA B w n st go g8 k8 o8 t8 x8 wy rk ld kp ko) H locs := hX
  subst hr1
  refine lv_istore_n (lv' := [(1, .int (nI ((pf_L n st go B).length))), (0, .ref (a 0))]) hx hb dX1_musts_4 rfl hl (by decide) rfl (fun ls hl => ?_)
  refine lv_iconst (v := (nI 0)) hx hb dX1_musts_5 (by decide) ?_
  refine lv_istore_n (lv' := [(2, .int (nI 0)), (1, .int (nI ((pf_L n st go B).length))), (0, .ref (a 0))]) hx hb dX1_musts_6 rfl hl (by decide) rfl (fun ls hl => ?_)
  refine lv_iconst (v := (nI 0)) hx hb dX1_musts_7 (by decide) ?_
  refine lv_istore_n (lv' := [(3, .int (nI 0)), (2, .int (nI 0)), (1, .int (nI ((pf_L n st go B).length))), (0, .ref (a 0))]) hx hb dX1_musts_8 rfl hl (by decide) rfl (fun ls hl => ?_)
  refine lpW (α := Nat × Nat × (Nat → Nat) × (Nat → Nat) × (Nat → Nat) × (Nat → Bool)) (F := fun _ ls => F0 m 9 ls []) (I := fun q9 H locs ls => match q9 with | (q, g9, k9, o9, t9, x9) => (q ≤ 30 ∧ ((pf_L n st go B).length = 0 → q = 0)) ∧ wd (dC, dI) A s.heap (w1 a cA B w n st go g9 k9 o9 t9 x9 wy rk ld kp ko) H locs ∧ lv_has ls 5 [(3, .int (nI q)), (2, .int (nI (op_mu (pf_L n st go B) q))), (1, .int (nI ((pf_L n st go B).length))), (0, .ref (a 0))]) (μ := fun q9 => match q9 with | (q, g9, k9, o9, t9, x9) => 30 - q) ?_ (0, g8, k8, o8, t8, x8) ⟨⟨Nat.zero_le 30, fun _ => rfl⟩, hX, lv_sub hl [0, 1, 2, 3] rfl⟩
  · intro ⟨q, g9, k9, o9, t9, x9⟩ H locs ls hI ih
    obtain ⟨⟨hq, hq0⟩, hX, hl⟩ := hI
    refine lv_iload_n hx hb dX1_musts_9 rfl (lv_at hl 0 rfl) ?_
    refine lv_bipush (v := (nI 30)) hx hb dX1_musts_10 (by decide) ?_
    refine bn_ge (tgt := 41) hx hb (by omega) (by omega) dX1_musts_12 (by decide) (fun c1 => ?_) (fun c1 => ?_)
    · obtain rfl : q = 30 := by omega
      refine lv_iload_n hx hb dX1_musts_41 rfl (lv_at hl 1 rfl) ?_
      exact W.iret (v := (nI (op_mu (pf_L n st go B) 30))) hx hb hr (fun T9 hT9 hW9 => ⟨⟨(nI (op_mu (pf_L n st go B) 30)), (g9, k9, o9, t9, x9), rfl, by rw [if_neg (fun h => absurd (hq0 h) (by decide))], by rw [hT9]; exact hX.1, va_K.moved hW9.alike hK, hX.2.1⟩, hX.2.2.F hT9⟩) hX.2.2.2.2 dX1_musts_42
    · refine lv_iload_n hx hb dX1_musts_15 rfl (lv_at hl 2 rfl) ?_
      refine b0_le (tgt := 41) hx hb (by omega) dX1_musts_16 (by decide) (fun c2 => ?_) (fun c2 => ?_)
      · obtain rfl : q = 0 := hq0 c2
        refine lv_iload_n hx hb dX1_musts_41 rfl (lv_at hl 1 rfl) ?_
        exact W.iret (v := (nI (op_mu (pf_L n st go B) 0))) hx hb hr (fun T9 hT9 hW9 => ⟨⟨(nI (op_mu (pf_L n st go B) 0)), (g9, k9, o9, t9, x9), rfl, by rw [if_pos c2]; rfl, by rw [hT9]; exact hX.1, va_K.moved hW9.alike hK, hX.2.1⟩, hX.2.2.F hT9⟩) hX.2.2.2.2 dX1_musts_42
      · refine lv_aload_n hx hb dX1_musts_19 rfl (lv_at hl 3 rfl) ?_
        refine lv_iload_n hx hb dX1_musts_20 rfl (lv_at hl 0 rfl) ?_
        refine ca_i (ci := 1) (As := [.int (nI q)]) (rest := []) ⟨hx, hb, hml, hown, hts⟩ hK hX hA (metX1_through l dC dI a cA _ B w n st go g9 k9 o9 t9 x9 wy rk ld kp ko (nI q) hwf) (cwV 1 hts (lw_V q316 q303 q304 q26 q305) rfl rfl rfl (by decide +kernel) ⟨Nat.le_of_ble_eq_true rfl, Nat.le_of_ble_eq_true rfl⟩) rfl rfl rfl rfl hl.1 rfl (Nat.le_of_ble_eq_true rfl) dX1_musts_21 ⟨Nat.le_of_ble_eq_true rfl, Nat.le_of_ble_eq_true rfl⟩ (fun r2 ⟨g8, k8, o8, t8, x8⟩ H locs hr2 hX => ?_)
        have hX : wd (dC, dI) A s.heap (w1 a cA B w n st go g8 k8 o8 t8 x8 wy rk ld kp ko) H locs := hX
        have hcp : (pf_L n st go B).countP (fun F => pf_has q F && pf_has q F) ≤ (pf_L n st go B).length := List.countP_le_length
        unfold op_tb at hr2
        rw [ix_in c1 (by decide)] at hr2
        simp only [] at hr2
        subst hr2
        refine lv_istore (lv' := [(4, .int (nI ((pf_L n st go B).countP (fun F => pf_has q F && pf_has q F)))), (3, .int (nI q)), (2, .int (nI (op_mu (pf_L n st go B) q))), (1, .int (nI ((pf_L n st go B).length))), (0, .ref (a 0))]) hx hb dX1_musts_24 hl (by decide) rfl (fun ls hl => ?_)
        refine lv_iload hx hb dX1_musts_26 (lv_at hl 0 rfl) ?_
        refine lv_iload_n hx hb dX1_musts_28 rfl (lv_at hl 3 rfl) ?_
        refine jnW (α := Unit) (F := fun _ ls => F0 m 35 ls []) (I := fun q9 H locs ls => match q9 with | _ => wd (dC, dI) A s.heap (w1 a cA B w n st go g8 k8 o8 t8 x8 wy rk ld kp ko) H locs ∧ lv_has ls 5 [(3, .int (nI q)), (2, .int (nI (op_mu (pf_L n st go B) (q + 1)))), (1, .int (nI ((pf_L n st go B).length))), (0, .ref (a 0))]) (fun J => ?_) ?_
        · refine bn_ne (tgt := 35) hx hb (by omega) (by omega) dX1_musts_29 (by decide) (fun c3 => ?_) (fun c3 => ?_)
          · have e1 : op_mu (pf_L n st go B) (q + 1) = op_mu (pf_L n st go B) q := by
              show op_mu _ q + (if _ then 1 else 0) = _
              rw [if_neg c3]; rfl
            exact J () _ _ _ ⟨hX, by rw [e1]; exact lv_sub hl [1, 2, 3, 4] rfl⟩
          · refine lv_iinc (v := (nI (op_mu (pf_L n st go B) q + 1))) (lv' := [(2, .int (nI (op_mu (pf_L n st go B) q + 1))), (4, .int (nI ((pf_L n st go B).countP (fun F => pf_has q F && pf_has q F)))), (3, .int (nI q)), (1, .int (nI ((pf_L n st go B).length))), (0, .ref (a 0))]) hx hb dX1_musts_32 hl (k := 2) rfl (nI_1 _) (by decide) rfl (fun ls hl => ?_)
            have e1 : op_mu (pf_L n st go B) (q + 1) = op_mu (pf_L n st go B) q + 1 := by
              show op_mu _ q + (if _ then 1 else 0) = _
              rw [if_pos c3]
            exact J () _ _ _ ⟨hX, by rw [e1]; exact lv_sub hl [2, 0, 3, 4] rfl⟩
        · intro _ H locs ls hI
          obtain ⟨hX, hl⟩ := hI
          refine lv_iinc (v := (nI (q + 1))) (lv' := [(3, .int (nI (q + 1))), (2, .int (nI (op_mu (pf_L n st go B) (q + 1)))), (1, .int (nI ((pf_L n st go B).length))), (0, .ref (a 0))]) hx hb dX1_musts_35 hl (k := 0) rfl (nI_1 _) (by decide) rfl (fun ls hl => ?_)
          refine lv_goto (tgt := 9) hx hb dX1_musts_38 (by decide) ?_
          exact ih (q + 1, g8, k8, o8, t8, x8) _ _ _ ⟨⟨by omega, fun h => absurd h (by omega)⟩, hX, lv_sub hl [0, 1, 2, 3] rfl⟩ (by dsimp only; omega)
set_option maxHeartbeats 4000000 in
set_option maxRecDepth 100000 in
theorem metX1_load (l : Launch) (dC : Nat → ClassId) (dI : Nat → Nat → Nat) (a : Nat → Nat) (cA : Nat → ClassId) (hz : Nat) (B : Nat → Bool) (w : Nat → Int32) (n : Nat) (st : Nat → Nat) (go : Nat → Nat) (g : Nat) (wk : Nat → Nat) (ow : Nat → Nat) (tr : Nat → Nat) (tk : Nat → Bool) (wy : Nat → Int32) (rk : Int32) (ld : Nat) (kp : Nat → Nat) (ko : Nat → Nat) (x : Int32) (hwf : pf_wf n st go) : Met l yX1_load (ws_ yX1_load cX1_load 4 (some .int)) ({ frames := 3, cells := 0, slots := 0, locals := 66 }) (va_Pc [.ref (a 0), .int x] (pcW (dC, dI) (t1 cA) hz (w1 a cA B w n st go g wk ow tr tk wy rk ld kp ko))) (va_Qi (fun (r : Int32) (u9 : (Nat × (Nat → Nat) × (Nat → Nat) × (Nat → Nat) × (Nat → Bool)) × Int32 × Nat × (Nat → Nat) × (Nat → Nat)) => match u9 with | ((g9, k9, o9, t9, x9), r9, l9, p9, q9) => match pf_at (pf_L n st go B) x with | none => r = -4 ∧ (r9, l9, p9, q9) = (rk, ld, kp, ko) | some F => r = 0 ∧ r9 = x ∧ pf_tak p9 q9 l9 = F ∧ 0 < l9 ∧ l9 ≤ 30 ∧ (∀ k, k < l9 → p9 k < 30)) (fun (u9 : (Nat × (Nat → Nat) × (Nat → Nat) × (Nat → Nat) × (Nat → Bool)) × Int32 × Nat × (Nat → Nat) × (Nat → Nat)) t => bW (dC, dI) (t1 cA) (va_A (w1 a cA B w n st go g wk ow tr tk wy rk ld kp ko) hz) (match u9 with | ((g9, k9, o9, t9, x9), r9, l9, p9, q9) => (w1 a cA B w n st go g9 k9 o9 t9 x9 wy r9 l9 p9 q9)) t) (va_A (w1 a cA B w n st go g wk ow tr tk wy rk ld kp ko) hz)) 0 0 (va_A (w1 a cA B w n st go g wk ow tr tk wy rk ld kp ko) hz) := by
  refine Met.ofW (cc := cX1_load) (maxL := 4) (ret := (some .int)) (by decide) rfl ?_
  intro p e s m args below meth c s₁ Bd hml hv
  obtain ⟨rfl, hsz, hP, hK, hD0⟩ := hv
  have hx := Bd.exec
  have hb := Bd.bytes
  have hr := Bd.returns
  have hts := atoms_spec (ws := ws_ yX1_load cX1_load 4 (some .int)) Bd.pre
  have hts : ∀ w ∈ lw_all, w.before _ s = true := fun w h => hts w (List.mem_cons_of_mem _ h)
  have hown : s.vm.findClass RX1 = some m.cls := findClass_of_methodNamed Bd.named
  have hlocks := Bd.notSynchronized
  subst hsz
  have hD := hD0.self (sz := s.heap.size)
  generalize hAe : va_A (w1 a cA B w n st go g wk ow tr tk wy rk ld kp ko) s.heap.size = A at hD ⊢
  have hA : ∀ q : Nat, s.heap.size ≤ q → A q := fun q h => by rw [← hAe]; exact Or.inr h
  have E : x1E p s m c cX1_load _ dC dI cA := ⟨hx, hb, hts, hown, hK⟩
  have hX : wd (dC, dI) A s.heap (w1 a cA B w n st go g wk ow tr tk wy rk ld kp ko) s.heap [] := ⟨hP, hD, va_S.rf⟩
  have hl := lv_entry ([.ref (a 0), .int x]) (n := 4) (Nat.le_of_ble_eq_true rfl)
  rw [lg_entry_eq]
  generalize (lg_sl ([.ref (a 0), .int x]) ++ List.replicate (4 - (lg_sl ([.ref (a 0), .int x])).length) Slot.unset).toArray = ls at hl ⊢
  have hl : lv_has ls 4 [(0, .ref (a 0)), (1, .int x)] := hl
  have hLl := pf_L_len (n := n) (st := st) (go := go) (B := B)
  refine lv_iload_n hx hb dX1_load_0 rfl (lv_at hl 1 rfl) ?_
  refine lv_if_ge (tgt := 7) hx hb dX1_load_1 (by decide) (fun c1 => ?_) (fun c1 => ?_)
  · obtain ⟨z, hz31, rfl⟩ := nI_of (Int32.not_lt.mpr c1)
    refine lv_aload_n hx hb dX1_load_7 rfl (lv_at hl 0 rfl) ?_
    refine ca_v (ci := 1) (As := []) (rest := []) ⟨hx, hb, hml, hown, hts⟩ hK hX hA (metX1_begin l dC dI a cA _ B w n st go g wk ow tr tk wy rk ld kp ko hwf) (cwV 0 hts (lw_V q274 q276 qs18 q26 q277) rfl rfl rfl (by decide +kernel) ⟨Nat.le_of_ble_eq_true rfl, Nat.le_of_ble_eq_true rfl⟩) rfl rfl rfl rfl hl.1 rfl (Nat.le_of_ble_eq_true rfl) dX1_load_8 ⟨Nat.le_of_ble_eq_true rfl, Nat.le_of_ble_eq_true rfl⟩ (fun ⟨g8, k8, o8, t8, x8⟩ H locs hw0 hX => ?_)
    have hX : wd (dC, dI) A s.heap (w1 a cA B w n st go g8 k8 o8 t8 x8 wy rk ld kp ko) H locs := hX
    refine lv_aload_n hx hb dX1_load_11 rfl (lv_at hl 0 rfl) ?_
    refine lv_iconst (v := (nI 1)) hx hb dX1_load_12 (by decide) ?_
    refine tp (y := (b2 true)) rfl ?_
    refine ca_i (ci := 1) (As := [.int (b2 true)]) (rest := []) ⟨hx, hb, hml, hown, hts⟩ hK hX hA (metX1_nextFamily l dC dI a cA _ B w n st go g8 k8 o8 t8 x8 wy rk ld kp ko true (pf_push B (st 0) 0 []) (pf_L n st go B) hwf hw0 (by rw [if_pos rfl]; exact pf_begin hwf) (fun h => by cases h)) (cwV 1 hts (lw_V q282 q284 qs20 q26 q285) rfl rfl rfl (by decide +kernel) ⟨Nat.le_of_ble_eq_true rfl, Nat.le_of_ble_eq_true rfl⟩) rfl rfl rfl rfl hl.1 rfl (Nat.le_of_ble_eq_true rfl) dX1_load_13 ⟨Nat.le_of_ble_eq_true rfl, Nat.le_of_ble_eq_true rfl⟩ (fun r1 ⟨g8, k8, o8, t8, x8⟩ H locs hw1 hX => ?_)
    have hX : wd (dC, dI) A s.heap (w1 a cA B w n st go g8 k8 o8 t8 x8 wy rk ld kp ko) H locs := hX
    obtain ⟨S8, b8, hr1, hm8, hnx8⟩ := hw1
    subst hr1
    refine lv_istore_n (lv' := [(2, .int (b2 b8)), (0, .ref (a 0)), (1, .int (nI z))]) hx hb dX1_load_16 rfl hl (by decide) rfl (fun ls hl => ?_)
    refine lv_iconst (v := (nI 0)) hx hb dX1_load_17 (by decide) ?_
    refine lv_istore_n (lv' := [(3, .int (nI 0)), (2, .int (b2 b8)), (0, .ref (a 0)), (1, .int (nI z))]) hx hb dX1_load_18 rfl hl (by decide) rfl (fun ls hl => ?_)
    refine lpW (α := (List (List (Nat × Nat)) × pf_K × Bool × Nat) × Nat × (Nat → Nat) × (Nat → Nat) × (Nat → Nat) × (Nat → Bool)) (F := fun _ ls => F0 m 19 ls []) (I := fun q9 H locs ls => match q9 with | ((Lr, Sr, br, cn), g9, k9, o9, t9, x9) => (pf_mm n Sr g9 k9 o9 t9 x9 ∧ pf_nx n st go B Lr br Sr ∧ cn ≤ z ∧ (pf_L n st go B).drop cn = Lr) ∧ wd (dC, dI) A s.heap (w1 a cA B w n st go g9 k9 o9 t9 x9 wy rk ld kp ko) H locs ∧ lv_has ls 4 [(3, .int (nI cn)), (2, .int (b2 br)), (1, .int (nI z)), (0, .ref (a 0))]) (μ := fun q9 => match q9 with | ((Lr, Sr, br, cn), g9, k9, o9, t9, x9) => Lr.length) ?_ (((pf_L n st go B), S8, b8, 0), g8, k8, o8, t8, x8) ⟨⟨hm8, hnx8, Nat.zero_le _, rfl⟩, hX, lv_sub hl [0, 1, 3, 2] rfl⟩
    · intro ⟨⟨Lr, Sr, br, cn⟩, g9, k9, o9, t9, x9⟩ H locs ls hI ih
      obtain ⟨⟨hmr, hnx, hcn, hdr⟩, hX, hl⟩ := hI
      refine jnW (α := Unit) (F := fun _ ls => F0 m 40 ls []) (I := fun q9 H locs ls => match q9 with | _ => (br = true → cn = z) ∧ wd (dC, dI) A s.heap (w1 a cA B w n st go g9 k9 o9 t9 x9 wy rk ld kp ko) H locs ∧ lv_has ls 4 [(2, .int (b2 br)), (1, .int (nI z)), (0, .ref (a 0))]) (fun J => ?_) ?_
      · refine lv_iload_n hx hb dX1_load_19 rfl (lv_at hl 0 rfl) ?_
        refine lv_iload_n hx hb dX1_load_20 rfl (lv_at hl 2 rfl) ?_
        refine bn_ge (tgt := 40) hx hb (by omega) (by omega) dX1_load_21 (by decide) (fun c2 => ?_) (fun c2 => ?_)
        · exact J () _ _ _ ⟨fun _ => by omega, hX, lv_sub hl [1, 2, 3] rfl⟩
        · refine lv_iload_n hx hb dX1_load_24 rfl (lv_at hl 1 rfl) ?_
          refine bz_eq (tgt := 40) hx hb dX1_load_25 (by decide) (fun c3 => ?_) (fun c3 => ?_)
          · exact J () _ _ _ ⟨fun h => absurd (c3.symm.trans h) (by decide), hX, lv_sub hl [1, 2, 3] rfl⟩
          · obtain ⟨L2, rfl, hne, hgo2⟩ := pf_nx_t hnx c3
            refine lv_aload_n hx hb dX1_load_28 rfl (lv_at hl 3 rfl) ?_
            refine lv_iconst (v := (nI 0)) hx hb dX1_load_29 (by decide) ?_
            refine tp (y := (b2 false)) rfl ?_
            refine ca_i (ci := 1) (As := [.int (b2 false)]) (rest := []) ⟨hx, hb, hml, hown, hts⟩ hK hX hA (metX1_nextFamily l dC dI a cA _ B w n st go g9 k9 o9 t9 x9 wy rk ld kp ko false Sr L2 hwf hmr (by rw [if_neg (by decide)]; exact hgo2) (fun _ => hne)) (cwV 1 hts (lw_V q282 q284 qs20 q26 q285) rfl rfl rfl (by decide +kernel) ⟨Nat.le_of_ble_eq_true rfl, Nat.le_of_ble_eq_true rfl⟩) rfl rfl rfl rfl hl.1 rfl (Nat.le_of_ble_eq_true rfl) dX1_load_30 ⟨Nat.le_of_ble_eq_true rfl, Nat.le_of_ble_eq_true rfl⟩ (fun r2 ⟨g8, k8, o8, t8, x8⟩ H locs hw2 hX => ?_)
            have hX : wd (dC, dI) A s.heap (w1 a cA B w n st go g8 k8 o8 t8 x8 wy rk ld kp ko) H locs := hX
            obtain ⟨S8, b8, hr2, hm8, hnx8⟩ := hw2
            subst hr2
            refine lv_istore_n (lv' := [(2, .int (b2 b8)), (3, .int (nI cn)), (1, .int (nI z)), (0, .ref (a 0))]) hx hb dX1_load_33 rfl hl (by decide) rfl (fun ls hl => ?_)
            refine lv_iinc (v := (nI (cn + 1))) (lv' := [(3, .int (nI (cn + 1))), (2, .int (b2 b8)), (1, .int (nI z)), (0, .ref (a 0))]) hx hb dX1_load_34 hl (k := 1) rfl (nI_1 _) (by decide) rfl (fun ls hl => ?_)
            refine lv_goto (tgt := 19) hx hb dX1_load_37 (by decide) ?_
            exact ih ((L2, S8, b8, cn + 1), g8, k8, o8, t8, x8) _ _ _ ⟨⟨hm8, hnx8, by omega, (pf_drop_cons hdr).2⟩, hX, lv_sub hl [0, 1, 2, 3] rfl⟩ (by exact Nat.lt_succ_self _)
      · intro _ H locs ls hI
        obtain ⟨hz9, hX, hl⟩ := hI
        refine lv_iload_n hx hb dX1_load_40 rfl (lv_at hl 0 rfl) ?_
        refine bz_ne (tgt := 47) hx hb dX1_load_41 (by decide) (fun c4 => ?_) (fun c4 => ?_)
        · obtain ⟨L2, rfl, hne, hgo2⟩ := pf_nx_t hnx c4
          obtain rfl := hz9 c4
          have hat : pf_at (pf_L n st go B) (nI cn) = some (pf_fam Sr) := by
            have hg := (pf_drop_cons hdr).1
            rw [pf_at_in hLl (List.getElem?_eq_some_iff.mp hg).1]; exact hg
          have hg9 := pf_mm_len hmr
          have hg0 : 0 < g9 := by
            rw [hmr.1]
            exact List.length_pos_iff.mpr hne
          refine lv_aload_n hx hb dX1_load_47 rfl (lv_at hl 2 rfl) ?_
          refine lv_iload_n hx hb dX1_load_48 rfl (lv_at hl 1 rfl) ?_
          refine x1_p11 E hX dX1_load_49 (fun H locs hX => ?_)
          refine lv_aload_n hx hb dX1_load_52 rfl (lv_at hl 2 rfl) ?_
          refine lv_aload_n hx hb dX1_load_53 rfl (lv_at hl 2 rfl) ?_
          refine x1_g5 E hX dX1_load_54 ?_
          refine x1_p12 E hX dX1_load_57 (fun H locs hX => ?_)
          refine lv_iconst (v := (nI 0)) hx hb dX1_load_60 (by decide) ?_
          refine lv_istore_n (lv' := [(3, .int (nI 0)), (2, .int (b2 br)), (1, .int (nI cn)), (0, .ref (a 0))]) hx hb dX1_load_61 rfl hl (by decide) rfl (fun ls hl => ?_)
          refine lpW (α := Nat × (Nat → Nat) × (Nat → Nat)) (F := fun _ ls => F0 m 62 ls []) (I := fun q9 H locs ls => match q9 with | (q, p9, q9) => (q ≤ g9 ∧ (∀ j, j < q → p9 j = k9 j ∧ q9 j = o9 j)) ∧ wd (dC, dI) A s.heap (w1 a cA B w n st go g9 k9 o9 t9 x9 wy ((nI cn)) g9 p9 q9) H locs ∧ lv_has ls 4 [(3, .int (nI q)), (1, .int (nI cn)), (0, .ref (a 0))]) (μ := fun q9 => match q9 with | (q, p9, q9) => g9 - q) ?_ (0, kp, ko) ⟨⟨Nat.zero_le _, fun j hj => absurd hj (Nat.not_lt_zero j)⟩, hX, lv_sub hl [0, 2, 3] rfl⟩
          · intro ⟨q, p9, q9⟩ H locs ls hI ih2
            obtain ⟨⟨hq, hcp⟩, hX, hl⟩ := hI
            refine lv_iload_n hx hb dX1_load_62 rfl (lv_at hl 0 rfl) ?_
            refine lv_aload_n hx hb dX1_load_63 rfl (lv_at hl 2 rfl) ?_
            refine x1_g5 E hX dX1_load_64 ?_
            refine bn_ge (tgt := 100) hx hb (by omega) (by omega) dX1_load_67 (by decide) (fun c5 => ?_) (fun c5 => ?_)
            · have e9 : q = g9 := by omega
              rw [e9] at hcp
              refine lv_iconst (v := (nI 0)) hx hb dX1_load_100 (by decide) ?_
              exact W.iret (v := (nI 0)) hx hb hr (fun T9 hT9 hW9 => ⟨⟨(nI 0), ((g9, k9, o9, t9, x9), (nI cn), g9, p9, q9), rfl, by rw [hat]; exact ⟨rfl, rfl, by rw [pf_tak_congr g9 hcp]; exact pf_mm_tak hmr, hg0, hg9, fun k hk => by rw [(hcp k hk).1]; exact pf_mm_lt hmr k hk⟩, by rw [hT9]; exact hX.1, va_K.moved hW9.alike hK, hX.2.1⟩, hX.2.2.F hT9⟩) hX.2.2.2.2 dX1_load_101
            · refine lv_aload_n hx hb dX1_load_70 rfl (lv_at hl 2 rfl) ?_
              refine x1_g13 E hX dX1_load_71 ?_
              refine lv_iload_n hx hb dX1_load_74 rfl (lv_at hl 0 rfl) ?_
              refine lv_aload_n hx hb dX1_load_75 rfl (lv_at hl 2 rfl) ?_
              refine x1_g6 E hX dX1_load_76 ?_
              refine lv_iload_n hx hb dX1_load_79 rfl (lv_at hl 0 rfl) ?_
              refine x1_l5 E hX (by omega) dX1_load_80 ?_
              refine x1_s10 E hX (by omega) dX1_load_81 (fun H locs hX => ?_)
              refine lv_aload_n hx hb dX1_load_82 rfl (lv_at hl 2 rfl) ?_
              refine x1_g14 E hX dX1_load_83 ?_
              refine lv_iload_n hx hb dX1_load_86 rfl (lv_at hl 0 rfl) ?_
              refine lv_aload_n hx hb dX1_load_87 rfl (lv_at hl 2 rfl) ?_
              refine x1_g7 E hX dX1_load_88 ?_
              refine lv_iload_n hx hb dX1_load_91 rfl (lv_at hl 0 rfl) ?_
              refine x1_l6 E hX (by omega) dX1_load_92 ?_
              refine x1_s11 E hX (by omega) dX1_load_93 (fun H locs hX => ?_)
              refine lv_iinc (v := (nI (q + 1))) (lv' := [(3, .int (nI (q + 1))), (1, .int (nI cn)), (0, .ref (a 0))]) hx hb dX1_load_94 hl (k := 0) rfl (nI_1 _) (by decide) rfl (fun ls hl => ?_)
              refine lv_goto (tgt := 62) hx hb dX1_load_97 (by decide) ?_
              have hf9 : ∀ j, j < q + 1 → (va_up p9 q (k9 q)) j = k9 j ∧ (va_up q9 q (o9 q)) j = o9 j := by
                intro j hj
                by_cases e : j = q
                · rw [e]; exact ⟨if_pos rfl, if_pos rfl⟩
                · exact ⟨(if_neg e).trans (hcp j (by omega)).1, (if_neg e).trans (hcp j (by omega)).2⟩
              exact ih2 (q + 1, va_up p9 q (k9 q), va_up q9 q (o9 q)) _ _ _ ⟨⟨by omega, hf9⟩, hX, lv_sub hl [0, 1, 2] rfl⟩ (by dsimp only; omega)
        · have hn9 := pf_nx_f hnx c4
          rw [hn9] at hdr
          have hlen : (pf_L n st go B).length ≤ cn := List.drop_eq_nil_iff.mp hdr
          have hat : pf_at (pf_L n st go B) (nI z) = none := pf_at_hi hLl (nI_pos hz31) (nI_nlt (by omega) hz31)
          refine lv_bipush (v := (-4)) hx hb dX1_load_44 (by decide) ?_
          exact W.iret (v := (-4)) hx hb hr (fun T9 hT9 hW9 => ⟨⟨(-4), ((g9, k9, o9, t9, x9), rk, ld, kp, ko), rfl, by rw [hat]; exact ⟨rfl, rfl⟩, by rw [hT9]; exact hX.1, va_K.moved hW9.alike hK, hX.2.1⟩, hX.2.2.F hT9⟩) hX.2.2.2.2 dX1_load_46
  · refine lv_bipush (v := (-4)) hx hb dX1_load_4 (by decide) ?_
    exact W.iret (v := (-4)) hx hb hr (fun T9 hT9 hW9 => ⟨⟨(-4), ((g, wk, ow, tr, tk), rk, ld, kp, ko), rfl, by rw [pf_at_lo (Int32.not_le.mp c1)]; exact ⟨rfl, rfl⟩, by rw [hT9]; exact hX.1, va_K.moved hW9.alike hK, hX.2.1⟩, hX.2.2.F hT9⟩) hX.2.2.2.2 dX1_load_6
set_option maxHeartbeats 4000000 in
set_option maxRecDepth 100000 in
theorem metX1_cell (l : Launch) (dC : Nat → ClassId) (dI : Nat → Nat → Nat) (a : Nat → Nat) (cA : Nat → ClassId) (hz : Nat) (B : Nat → Bool) (w : Nat → Int32) (n : Nat) (st : Nat → Nat) (go : Nat → Nat) (g : Nat) (wk : Nat → Nat) (ow : Nat → Nat) (tr : Nat → Nat) (tk : Nat → Bool) (wy : Nat → Int32) (rk : Int32) (ld : Nat) (kp : Nat → Nat) (ko : Nat → Nat) (x : Int32) (y : Int32) (hld : ld ≤ 30) : Met l yX1_cell (ws_ yX1_cell cX1_cell 5 (some .int)) ({ frames := 0, cells := 0, slots := 0, locals := 0 }) (va_Pc [.ref (a 0), .int x, .int y] (pcW (dC, dI) (t1 cA) hz (w1 a cA B w n st go g wk ow tr tk wy rk ld kp ko))) (va_Qi (fun (r : Int32) (u9 : Unit) => match u9 with | _ => r = pf_cl x y (pf_tak kp ko ld) 0) (fun (u9 : Unit) t => bW (dC, dI) (t1 cA) (va_A (w1 a cA B w n st go g wk ow tr tk wy rk ld kp ko) hz) (match u9 with | _ => (w1 a cA B w n st go g wk ow tr tk wy rk ld kp ko)) t) (va_A (w1 a cA B w n st go g wk ow tr tk wy rk ld kp ko) hz)) 0 0 (va_A (w1 a cA B w n st go g wk ow tr tk wy rk ld kp ko) hz) := by
  refine Met.ofW (cc := cX1_cell) (maxL := 5) (ret := (some .int)) (by decide) rfl ?_
  intro p e s m args below meth c s₁ Bd hml hv
  obtain ⟨rfl, hsz, hP, hK, hD0⟩ := hv
  have hx := Bd.exec
  have hb := Bd.bytes
  have hr := Bd.returns
  have hts := atoms_spec (ws := ws_ yX1_cell cX1_cell 5 (some .int)) Bd.pre
  have hts : ∀ w ∈ lw_all, w.before _ s = true := fun w h => hts w (List.mem_cons_of_mem _ h)
  have hown : s.vm.findClass RX1 = some m.cls := findClass_of_methodNamed Bd.named
  have hlocks := Bd.notSynchronized
  subst hsz
  have hD := hD0.self (sz := s.heap.size)
  generalize hAe : va_A (w1 a cA B w n st go g wk ow tr tk wy rk ld kp ko) s.heap.size = A at hD ⊢
  have hA : ∀ q : Nat, s.heap.size ≤ q → A q := fun q h => by rw [← hAe]; exact Or.inr h
  have E : x1E p s m c cX1_cell _ dC dI cA := ⟨hx, hb, hts, hown, hK⟩
  have hX : wd (dC, dI) A s.heap (w1 a cA B w n st go g wk ow tr tk wy rk ld kp ko) s.heap [] := ⟨hP, hD, va_S.rf⟩
  have hl := lv_entry ([.ref (a 0), .int x, .int y]) (n := 5) (Nat.le_of_ble_eq_true rfl)
  rw [lg_entry_eq]
  generalize (lg_sl ([.ref (a 0), .int x, .int y]) ++ List.replicate (5 - (lg_sl ([.ref (a 0), .int x, .int y])).length) Slot.unset).toArray = ls at hl ⊢
  have hl : lv_has ls 5 [(0, .ref (a 0)), (1, .int x), (2, .int y)] := hl
  refine lv_iconst (v := (nI 0)) hx hb dX1_cell_0 (by decide) ?_
  refine lv_istore_n (lv' := [(3, .int (nI 0)), (0, .ref (a 0)), (1, .int x), (2, .int y)]) hx hb dX1_cell_1 rfl hl (by decide) rfl (fun ls hl => ?_)
  refine lv_iconst (v := (nI 0)) hx hb dX1_cell_2 (by decide) ?_
  refine lv_istore (lv' := [(4, .int (nI 0)), (3, .int (nI 0)), (0, .ref (a 0)), (1, .int x), (2, .int y)]) hx hb dX1_cell_3 hl (by decide) rfl (fun ls hl => ?_)
  refine lpW (α := Nat × Nat) (F := fun _ ls => F0 m 5 ls []) (I := fun q9 H locs ls => match q9 with | (q, b9) => (q ≤ ld ∧ pf_cl x y (pf_tkf kp ko q (ld - q)) b9 = pf_cl x y (pf_tak kp ko ld) 0) ∧ wd (dC, dI) A s.heap (w1 a cA B w n st go g wk ow tr tk wy rk ld kp ko) H locs ∧ lv_has ls 5 [(4, .int (nI q)), (3, .int (nI b9)), (2, .int y), (1, .int x), (0, .ref (a 0))]) (μ := fun q9 => match q9 with | (q, b9) => ld - q) ?_ (0, 0) ⟨⟨Nat.zero_le _, by rw [Nat.sub_zero, pf_tkf_tak]⟩, hX, lv_sub hl [0, 1, 4, 3, 2] rfl⟩
  · intro ⟨q, b9⟩ H locs ls hI ih
    obtain ⟨⟨hq, hcl⟩, hX, hl⟩ := hI
    refine lv_iload hx hb dX1_cell_5 (lv_at hl 0 rfl) ?_
    refine lv_aload_n hx hb dX1_cell_7 rfl (lv_at hl 4 rfl) ?_
    refine x1_g12 E hX dX1_cell_8 ?_
    refine bn_ge (tgt := 47) hx hb (by omega) (by omega) dX1_cell_11 (by decide) (fun c1 => ?_) (fun c1 => ?_)
    · rw [show ld - q = 0 by omega] at hcl
      refine lv_bipush (v := (-4)) hx hb dX1_cell_47 (by decide) ?_
      exact W.iret (v := (-4)) hx hb hr (fun T9 hT9 hW9 => ⟨⟨(-4), (), rfl, by rw [← hcl]; rfl, by rw [hT9]; exact hX.1, va_K.moved hW9.alike hK, hX.2.1⟩, hX.2.2.F hT9⟩) hX.2.2.2.2 dX1_cell_49
    · rw [show ld - q = (ld - (q + 1)) + 1 by omega] at hcl
      have hcl : (if nI (ko q) = x then (if nI b9 = y then nI (kp q) else pf_cl x y (pf_tkf kp ko (q + 1) (ld - (q + 1))) (b9 + 1)) else pf_cl x y (pf_tkf kp ko (q + 1) (ld - (q + 1))) b9) = _ := hcl
      refine lv_aload_n hx hb dX1_cell_14 rfl (lv_at hl 4 rfl) ?_
      refine x1_g14 E hX dX1_cell_15 ?_
      refine lv_iload hx hb dX1_cell_18 (lv_at hl 0 rfl) ?_
      refine x1_l11 E hX (by omega) dX1_cell_20 ?_
      refine lv_iload_n hx hb dX1_cell_21 rfl (lv_at hl 3 rfl) ?_
      refine lv_icmp_ne (tgt := 41) hx hb dX1_cell_22 (by decide) (fun c2 => ?_) (fun c2 => ?_)
      · rw [if_neg c2] at hcl
        refine lv_iinc (v := (nI (q + 1))) (lv' := [(4, .int (nI (q + 1))), (3, .int (nI b9)), (2, .int y), (1, .int x), (0, .ref (a 0))]) hx hb dX1_cell_41 hl (k := 0) rfl (nI_1 _) (by decide) rfl (fun ls hl => ?_)
        refine lv_goto (tgt := 5) hx hb dX1_cell_44 (by decide) ?_
        exact ih (q + 1, b9) _ _ _ ⟨⟨by omega, hcl⟩, hX, lv_sub hl [0, 1, 2, 3, 4] rfl⟩ (by dsimp only; omega)
      · rw [if_pos c2] at hcl
        refine lv_iload_n hx hb dX1_cell_25 rfl (lv_at hl 1 rfl) ?_
        refine lv_iload_n hx hb dX1_cell_26 rfl (lv_at hl 2 rfl) ?_
        refine lv_icmp_ne (tgt := 38) hx hb dX1_cell_27 (by decide) (fun c3 => ?_) (fun c3 => ?_)
        · rw [if_neg c3] at hcl
          refine lv_iinc (v := (nI (b9 + 1))) (lv' := [(3, .int (nI (b9 + 1))), (4, .int (nI q)), (2, .int y), (1, .int x), (0, .ref (a 0))]) hx hb dX1_cell_38 hl (k := 1) rfl (nI_1 _) (by decide) rfl (fun ls hl => ?_)
          refine lv_iinc (v := (nI (q + 1))) (lv' := [(4, .int (nI (q + 1))), (3, .int (nI (b9 + 1))), (2, .int y), (1, .int x), (0, .ref (a 0))]) hx hb dX1_cell_41 hl (k := 1) rfl (nI_1 _) (by decide) rfl (fun ls hl => ?_)
          refine lv_goto (tgt := 5) hx hb dX1_cell_44 (by decide) ?_
          exact ih (q + 1, b9 + 1) _ _ _ ⟨⟨by omega, hcl⟩, hX, lv_sub hl [0, 1, 2, 3, 4] rfl⟩ (by dsimp only; omega)
        · rw [if_pos c3] at hcl
          refine lv_aload_n hx hb dX1_cell_30 rfl (lv_at hl 4 rfl) ?_
          refine x1_g13 E hX dX1_cell_31 ?_
          refine lv_iload hx hb dX1_cell_34 (lv_at hl 0 rfl) ?_
          refine x1_l10 E hX (by omega) dX1_cell_36 ?_
          exact W.iret (v := (nI (kp q))) hx hb hr (fun T9 hT9 hW9 => ⟨⟨(nI (kp q)), (), rfl, hcl, by rw [hT9]; exact hX.1, va_K.moved hW9.alike hK, hX.2.1⟩, hX.2.2.F hT9⟩) hX.2.2.2.2 dX1_cell_37
set_option maxHeartbeats 4000000 in
set_option maxRecDepth 100000 in
theorem metX1_loadedWeight (l : Launch) (dC : Nat → ClassId) (dI : Nat → Nat → Nat) (a : Nat → Nat) (cA : Nat → ClassId) (hz : Nat) (B : Nat → Bool) (w : Nat → Int32) (n : Nat) (st : Nat → Nat) (go : Nat → Nat) (g : Nat) (wk : Nat → Nat) (ow : Nat → Nat) (tr : Nat → Nat) (tk : Nat → Bool) (wy : Nat → Int32) (rk : Int32) (ld : Nat) (kp : Nat → Nat) (ko : Nat → Nat)  (hld : ld ≤ 30) (hkp : ∀ k, k < ld → kp k < 30) : Met l yX1_loadedWeight (ws_ yX1_loadedWeight cX1_loadedWeight 3 (some .int)) ({ frames := 0, cells := 0, slots := 0, locals := 0 }) (va_Pc [.ref (a 0)] (pcW (dC, dI) (t1 cA) hz (w1 a cA B w n st go g wk ow tr tk wy rk ld kp ko))) (va_Qi (fun (r : Int32) (u9 : Unit) => match u9 with | _ => r = (if ld = 0 then 0 else pf_prod w (pf_tak kp ko ld))) (fun (u9 : Unit) t => bW (dC, dI) (t1 cA) (va_A (w1 a cA B w n st go g wk ow tr tk wy rk ld kp ko) hz) (match u9 with | _ => (w1 a cA B w n st go g wk ow tr tk wy rk ld kp ko)) t) (va_A (w1 a cA B w n st go g wk ow tr tk wy rk ld kp ko) hz)) 0 0 (va_A (w1 a cA B w n st go g wk ow tr tk wy rk ld kp ko) hz) := by
  refine Met.ofW (cc := cX1_loadedWeight) (maxL := 3) (ret := (some .int)) (by decide) rfl ?_
  intro p e s m args below meth c s₁ Bd hml hv
  obtain ⟨rfl, hsz, hP, hK, hD0⟩ := hv
  have hx := Bd.exec
  have hb := Bd.bytes
  have hr := Bd.returns
  have hts := atoms_spec (ws := ws_ yX1_loadedWeight cX1_loadedWeight 3 (some .int)) Bd.pre
  have hts : ∀ w ∈ lw_all, w.before _ s = true := fun w h => hts w (List.mem_cons_of_mem _ h)
  have hown : s.vm.findClass RX1 = some m.cls := findClass_of_methodNamed Bd.named
  have hlocks := Bd.notSynchronized
  subst hsz
  have hD := hD0.self (sz := s.heap.size)
  generalize hAe : va_A (w1 a cA B w n st go g wk ow tr tk wy rk ld kp ko) s.heap.size = A at hD ⊢
  have hA : ∀ q : Nat, s.heap.size ≤ q → A q := fun q h => by rw [← hAe]; exact Or.inr h
  have E : x1E p s m c cX1_loadedWeight _ dC dI cA := ⟨hx, hb, hts, hown, hK⟩
  have hX : wd (dC, dI) A s.heap (w1 a cA B w n st go g wk ow tr tk wy rk ld kp ko) s.heap [] := ⟨hP, hD, va_S.rf⟩
  have hl := lv_entry ([.ref (a 0)]) (n := 3) (Nat.le_of_ble_eq_true rfl)
  rw [lg_entry_eq]
  generalize (lg_sl ([.ref (a 0)]) ++ List.replicate (3 - (lg_sl ([.ref (a 0)])).length) Slot.unset).toArray = ls at hl ⊢
  have hl : lv_has ls 3 [(0, .ref (a 0))] := hl
  refine lv_aload_n hx hb dX1_loadedWeight_0 rfl (lv_at hl 0 rfl) ?_
  refine x1_g12 E hX dX1_loadedWeight_1 ?_
  refine b0_ne (tgt := 9) hx hb (by omega) dX1_loadedWeight_4 (by decide) (fun c1 => ?_) (fun c1 => ?_)
  · refine lv_iconst (v := (nI 1)) hx hb dX1_loadedWeight_9 (by decide) ?_
    refine lv_istore_n (lv' := [(1, .int (nI 1)), (0, .ref (a 0))]) hx hb dX1_loadedWeight_10 rfl hl (by decide) rfl (fun ls hl => ?_)
    refine lv_iconst (v := (nI 0)) hx hb dX1_loadedWeight_11 (by decide) ?_
    refine lv_istore_n (lv' := [(2, .int (nI 0)), (1, .int (nI 1)), (0, .ref (a 0))]) hx hb dX1_loadedWeight_12 rfl hl (by decide) rfl (fun ls hl => ?_)
    refine lpW (α := Nat) (F := fun _ ls => F0 m 13 ls []) (I := fun q9 H locs ls => match q9 with | q => q ≤ ld ∧ wd (dC, dI) A s.heap (w1 a cA B w n st go g wk ow tr tk wy rk ld kp ko) H locs ∧ lv_has ls 3 [(2, .int (nI q)), (1, .int (pf_prod w (pf_tak kp ko q))), (0, .ref (a 0))]) (μ := fun q9 => match q9 with | q => ld - q) ?_ 0 ⟨Nat.zero_le _, hX, lv_sub hl [0, 1, 2] rfl⟩
    · intro q H locs ls hI ih
      obtain ⟨hq, hX, hl⟩ := hI
      refine lv_iload_n hx hb dX1_loadedWeight_13 rfl (lv_at hl 0 rfl) ?_
      refine lv_aload_n hx hb dX1_loadedWeight_14 rfl (lv_at hl 2 rfl) ?_
      refine x1_g12 E hX dX1_loadedWeight_15 ?_
      refine bn_ge (tgt := 41) hx hb (by omega) (by omega) dX1_loadedWeight_18 (by decide) (fun c2 => ?_) (fun c2 => ?_)
      · have e9 : q = ld := by omega
        refine lv_iload_n hx hb dX1_loadedWeight_41 rfl (lv_at hl 1 rfl) ?_
        exact W.iret (v := (pf_prod w (pf_tak kp ko q))) hx hb hr (fun T9 hT9 hW9 => ⟨⟨(pf_prod w (pf_tak kp ko q)), (), rfl, by rw [if_neg c1, e9], by rw [hT9]; exact hX.1, va_K.moved hW9.alike hK, hX.2.1⟩, hX.2.2.F hT9⟩) hX.2.2.2.2 dX1_loadedWeight_42
      · have hk9 := hkp q c2
        refine lv_iload_n hx hb dX1_loadedWeight_21 rfl (lv_at hl 1 rfl) ?_
        refine lv_aload_n hx hb dX1_loadedWeight_22 rfl (lv_at hl 2 rfl) ?_
        refine x1_g1 E hX dX1_loadedWeight_23 ?_
        refine lv_aload_n hx hb dX1_loadedWeight_26 rfl (lv_at hl 2 rfl) ?_
        refine x1_g13 E hX dX1_loadedWeight_27 ?_
        refine lv_iload_n hx hb dX1_loadedWeight_30 rfl (lv_at hl 0 rfl) ?_
        refine x1_l10 E hX (by omega) dX1_loadedWeight_31 ?_
        refine x1_l2 E hX (by omega) dX1_loadedWeight_32 ?_
        refine lv_imul hx hb dX1_loadedWeight_33 ?_
        refine lv_istore_n (lv' := [(1, .int ((pf_prod w (pf_tak kp ko q)) * (w (kp q)))), (2, .int (nI q)), (0, .ref (a 0))]) hx hb dX1_loadedWeight_34 rfl hl (by decide) rfl (fun ls hl => ?_)
        refine lv_iinc (v := (nI (q + 1))) (lv' := [(2, .int (nI (q + 1))), (1, .int ((pf_prod w (pf_tak kp ko q)) * (w (kp q)))), (0, .ref (a 0))]) hx hb dX1_loadedWeight_35 hl (k := 1) rfl (nI_1 _) (by decide) rfl (fun ls hl => ?_)
        refine lv_goto (tgt := 13) hx hb dX1_loadedWeight_38 (by decide) ?_
        have e9 : pf_prod w (pf_tak kp ko (q + 1)) = pf_prod w (pf_tak kp ko q) * w (kp q) := by
          show pf_prod w (pf_tak kp ko q ++ [(kp q, ko q)]) = _
          rw [pf_prod_app]
          show _ * (w (kp q) * 1) = _
          rw [Int32.mul_one]
        exact ih (q + 1) _ _ _ ⟨by omega, hX, by rw [e9]; exact lv_sub hl [0, 1, 2] rfl⟩ (by dsimp only; omega)
  · refine lv_iconst (v := (nI 0)) hx hb dX1_loadedWeight_7 (by decide) ?_
    exact W.iret (v := (nI 0)) hx hb hr (fun T9 hT9 hW9 => ⟨⟨(nI 0), (), rfl, by rw [if_pos c1]; rfl, by rw [hT9]; exact hX.1, va_K.moved hW9.alike hK, hX.2.1⟩, hX.2.2.F hT9⟩) hX.2.2.2.2 dX1_loadedWeight_8
set_option maxHeartbeats 4000000 in
set_option maxRecDepth 100000 in
theorem metX1_rank (l : Launch) (dC : Nat → ClassId) (dI : Nat → Nat → Nat) (a : Nat → Nat) (cA : Nat → ClassId) (hz : Nat) (B : Nat → Bool) (w : Nat → Int32) (n : Nat) (st : Nat → Nat) (go : Nat → Nat) (g : Nat) (wk : Nat → Nat) (ow : Nat → Nat) (tr : Nat → Nat) (tk : Nat → Bool) (wy : Nat → Int32) (rk : Int32) (ld : Nat) (kp : Nat → Nat) (ko : Nat → Nat)   : Met l yX1_rank (ws_ yX1_rank cX1_rank 1 (some .int)) ({ frames := 0, cells := 0, slots := 0, locals := 0 }) (va_Pc [.ref (a 0)] (pcW (dC, dI) (t1 cA) hz (w1 a cA B w n st go g wk ow tr tk wy rk ld kp ko))) (va_Qi (fun (r : Int32) (u9 : Unit) => match u9 with | _ => r = rk) (fun (u9 : Unit) t => bW (dC, dI) (t1 cA) (va_A (w1 a cA B w n st go g wk ow tr tk wy rk ld kp ko) hz) (match u9 with | _ => (w1 a cA B w n st go g wk ow tr tk wy rk ld kp ko)) t) (va_A (w1 a cA B w n st go g wk ow tr tk wy rk ld kp ko) hz)) 0 0 (va_A (w1 a cA B w n st go g wk ow tr tk wy rk ld kp ko) hz) := by
  refine Met.ofW (cc := cX1_rank) (maxL := 1) (ret := (some .int)) (by decide) rfl ?_
  intro p e s m args below meth c s₁ Bd hml hv
  obtain ⟨rfl, hsz, hP, hK, hD0⟩ := hv
  have hx := Bd.exec
  have hb := Bd.bytes
  have hr := Bd.returns
  have hts := atoms_spec (ws := ws_ yX1_rank cX1_rank 1 (some .int)) Bd.pre
  have hts : ∀ w ∈ lw_all, w.before _ s = true := fun w h => hts w (List.mem_cons_of_mem _ h)
  have hown : s.vm.findClass RX1 = some m.cls := findClass_of_methodNamed Bd.named
  have hlocks := Bd.notSynchronized
  subst hsz
  have hD := hD0.self (sz := s.heap.size)
  generalize hAe : va_A (w1 a cA B w n st go g wk ow tr tk wy rk ld kp ko) s.heap.size = A at hD ⊢
  have hA : ∀ q : Nat, s.heap.size ≤ q → A q := fun q h => by rw [← hAe]; exact Or.inr h
  have E : x1E p s m c cX1_rank _ dC dI cA := ⟨hx, hb, hts, hown, hK⟩
  have hX : wd (dC, dI) A s.heap (w1 a cA B w n st go g wk ow tr tk wy rk ld kp ko) s.heap [] := ⟨hP, hD, va_S.rf⟩
  have hl := lv_entry ([.ref (a 0)]) (n := 1) (Nat.le_of_ble_eq_true rfl)
  rw [lg_entry_eq]
  generalize (lg_sl ([.ref (a 0)]) ++ List.replicate (1 - (lg_sl ([.ref (a 0)])).length) Slot.unset).toArray = ls at hl ⊢
  have hl : lv_has ls 1 [(0, .ref (a 0))] := hl
  refine lv_aload_n hx hb dX1_rank_0 rfl (lv_at hl 0 rfl) ?_
  refine x1_g11 E hX dX1_rank_1 ?_
  exact W.iret (v := rk) hx hb hr (fun T9 hT9 hW9 => ⟨⟨rk, (), rfl, rfl, by rw [hT9]; exact hX.1, va_K.moved hW9.alike hK, hX.2.1⟩, hX.2.2.F hT9⟩) hX.2.2.2.2 dX1_rank_4
end
section
/-! PURE 10: the loaded family, seen from both sides; the two classes' states side by side -/
theorem pf_cl_skip {x y : Int32} : ∀ (F R : List (Nat × Nat)) (b : Nat), (∀ q ∈ F, nI q.2 ≠ x) → pf_cl x y (F ++ R) b = pf_cl x y R b := by
  intro F
  induction F with
  | nil => intro R b _; rfl
  | cons q F ih =>
    intro R b h
    show (if nI q.2 = x then (if nI b = y then nI q.1 else pf_cl x y (F ++ R) (b + 1)) else pf_cl x y (F ++ R) b) = _
    rw [if_neg (h q List.mem_cons_self)]
    exact ih R b (fun r hr => h r (List.mem_cons_of_mem _ hr))
theorem pf_seg_own {pa : Nat → Nat} {i : Nat} : ∀ m, ∀ q ∈ pf_seg pa i m, q.2 = i := by
  intro m
  induction m with
  | zero => intro q h; exact absurd h List.not_mem_nil
  | succ m ih =>
    intro q h
    rcases List.mem_append.mp (show q ∈ pf_seg pa i m ++ [(pa (10 * i + m), i)] from h) with h | h
    · exact ih q h
    · rw [List.mem_singleton.mp h]
theorem pf_lay_own {sz pa : Nat → Nat} : ∀ i, ∀ q ∈ pf_lay sz pa i, q.2 < i := by
  intro i
  induction i with
  | zero => intro q h; exact absurd h List.not_mem_nil
  | succ i ih =>
    intro q h
    rcases List.mem_append.mp (show q ∈ pf_lay sz pa i ++ pf_seg pa i (sz i) from h) with h | h
    · exact Nat.lt_succ_of_lt (ih q h)
    · rw [pf_seg_own _ q h]; exact Nat.lt_succ_self i
theorem pf_lay_split {sz pa : Nat → Nat} {i : Nat} : ∀ n, i < n → ∃ R, pf_lay sz pa n = pf_lay sz pa i ++ (pf_seg pa i (sz i) ++ R) ∧ ∀ q ∈ R, i < q.2 ∧ q.2 < n := by
  intro n
  induction n with
  | zero => intro h; exact absurd h (Nat.not_lt_zero i)
  | succ n ih =>
    intro h
    by_cases e : i = n
    · subst e
      refine ⟨[], ?_, fun q hq => absurd hq List.not_mem_nil⟩
      rw [List.append_nil]; rfl
    · obtain ⟨R, h1, h2⟩ := ih (by omega)
      refine ⟨R ++ pf_seg pa n (sz n), ?_, fun q hq => ?_⟩
      · show pf_lay sz pa n ++ pf_seg pa n (sz n) = _
        rw [h1, List.append_assoc, List.append_assoc]
      · rcases List.mem_append.mp hq with hq | hq
        · have := h2 q hq; omega
        · have := pf_seg_own _ q hq; omega
theorem pf_cl_seg {pa : Nat → Nat} {i : Nat} {y : Int32} : ∀ (m : Nat) (R : List (Nat × Nat)), m ≤ 10 → (∀ j, j < m → y = nI j → pf_cl (nI i) y (pf_seg pa i m ++ R) 0 = nI (pa (10 * i + j))) ∧ ((∀ j, j < m → y ≠ nI j) → pf_cl (nI i) y (pf_seg pa i m ++ R) 0 = pf_cl (nI i) y R m) := by
  intro m
  induction m with
  | zero => intro R _; exact ⟨fun j hj => absurd hj (Nat.not_lt_zero j), fun _ => rfl⟩
  | succ m ih =>
    intro R hm
    obtain ⟨h1, h2⟩ := ih ((pa (10 * i + m), i) :: R) (by omega)
    have e : pf_seg pa i (m + 1) ++ R = pf_seg pa i m ++ ((pa (10 * i + m), i) :: R) := by
      show (pf_seg pa i m ++ [(pa (10 * i + m), i)]) ++ R = _
      rw [List.append_assoc]; rfl
    have e2 : pf_cl (nI i) y ((pa (10 * i + m), i) :: R) m = if nI m = y then nI (pa (10 * i + m)) else pf_cl (nI i) y R (m + 1) := by
      show (if nI i = nI i then _ else _) = _
      rw [if_pos rfl]
    rw [e]
    refine ⟨fun j hj hy => ?_, fun hy => ?_⟩
    · by_cases c : j = m
      · subst c
        rw [h2 (fun k hk q => absurd ((nI_eq (by omega) (by omega)).mp (hy.symm.trans q)) (by omega)), e2, if_pos hy.symm]
      · exact h1 j (by omega) hy
    · rw [h2 (fun j hj => hy j (by omega)), e2, if_neg (fun q => hy m (by omega) q.symm)]
theorem ix_some {x : Int32} {n i : Nat} (hn : n < 2 ^ 31) (h : ix x n = some i) : i < n ∧ x = nI i := by
  by_cases c : x < 0 ∨ nI n ≤ x
  · rw [show ix x n = none from if_pos c] at h
    cases h
  · obtain ⟨j, hj, rfl⟩ := pf_ix (fun q => c (Or.inl q)) (fun q => c (Or.inr q)) hn
    rw [ix_in hj hn] at h
    cases h
    exact ⟨hj, rfl⟩
/-- a cell of the loaded family, found by its place or by counting -/
theorem pf_cl_lay {n : Nat} {sz pa : Nat → Nat} {x y : Int32} (hn : n ≤ 4) (hsz : ∀ k, k < n → sz k ≤ 10) : pf_cl x y (pf_lay sz pa n) 0 = (match ix x n with | none => -4 | some i => match ix y (sz i) with | none => -4 | some q => nI (pa (10 * i + q))) := by
  cases hx : ix x n with
  | none =>
    have h := pf_cl_skip (x := x) (y := y) (pf_lay sz pa n) [] 0 (fun q hq e => by
      rw [← e, ix_in (pf_lay_own n q hq) (by omega)] at hx
      cases hx)
    rw [List.append_nil] at h
    exact h
  | some i =>
    obtain ⟨hi, rfl⟩ := ix_some (by omega) hx
    obtain ⟨R, h1, h2⟩ := pf_lay_split (sz := sz) (pa := pa) n hi
    have hs := hsz i hi
    rw [h1, pf_cl_skip _ _ _ (fun q hq e => by
      have h3 := pf_lay_own i q hq
      have h4 := (nI_eq (by omega) (by omega)).mp e
      omega)]
    have h5 := pf_cl_seg (pa := pa) (i := i) (y := y) (sz i) R hs
    simp only []
    cases hy : ix y (sz i) with
    | none =>
      rw [h5.2 (fun j hj e => by
        rw [e, ix_in hj (by omega)] at hy
        cases hy)]
      have h := pf_cl_skip (x := nI i) (y := y) R [] (sz i) (fun q hq e => by
        have h3 := h2 q hq
        have h4 := (nI_eq (by omega) (by omega)).mp e
        omega)
      rw [List.append_nil] at h
      exact h
    | some q =>
      obtain ⟨hq, hy2⟩ := ix_some (by omega) hy
      exact h5.1 q hq hy2
/-- the loaded weight, by places or cell by cell -/
theorem pf_lw_lay {w : Nat → Int32} {sz pa : Nat → Nat} : ∀ n, (∀ k, k < n → sz k ≤ 10) → pf_lw w sz pa (10 * n) = pf_prod w (pf_lay sz pa n) := by
  intro n
  induction n with
  | zero => intro _; rfl
  | succ n ih =>
    intro h
    have h0 := ih (fun k hk => h k (by omega))
    have hs := h n (by omega)
    have key : ∀ m, m ≤ 10 → pf_lw w sz pa (10 * n + m) = pf_prod w (pf_lay sz pa n) * pf_prod w (pf_seg pa n (min m (sz n))) := by
      intro m
      induction m with
      | zero =>
        intro _
        rw [Nat.zero_min, Nat.add_zero, h0]
        show _ = _ * 1
        rw [Int32.mul_one]
      | succ m ihm =>
        intro hm
        show (if (10 * n + m) % 10 < sz ((10 * n + m) / 10) then pf_lw w sz pa (10 * n + m) * w (pa (10 * n + m)) else pf_lw w sz pa (10 * n + m)) = _
        rw [show (10 * n + m) % 10 = m by omega, show (10 * n + m) / 10 = n by omega, ihm (by omega)]
        by_cases c : m < sz n
        · rw [if_pos c, show min (m + 1) (sz n) = m + 1 by omega, show min m (sz n) = m by omega]
          show _ = _ * pf_prod w (pf_seg pa n m ++ [(pa (10 * n + m), n)])
          rw [pf_prod_app]
          show _ = _ * (_ * (w (pa (10 * n + m)) * 1))
          rw [Int32.mul_one, Int32.mul_assoc]
        · rw [if_neg c, show min (m + 1) (sz n) = min m (sz n) by omega]
    have h1 := key 10 (by omega)
    rw [show min 10 (sz n) = sz n by omega] at h1
    rw [show 10 * (n + 1) = 10 * n + 10 by omega, h1]
    show _ = pf_prod w (pf_lay sz pa n ++ pf_seg pa n (sz n))
    rw [pf_prod_app]
/-- the loaded families of the two agree -/
def pf_eq (n : Nat) (ld : Bool) (nu : Int32) (sz pa : Nat → Nat) (rk : Int32) (l : Nat) (kp ko : Nat → Nat) : Prop :=
  (ld = false ∧ rk = -4 ∧ l = 0) ∨ (ld = true ∧ rk = nu ∧ (0 < l ∧ l ≤ 30) ∧ (∀ k, k < l → kp k < 30) ∧ pf_tak kp ko l = pf_lay sz pa n ∧ (∀ k, k < n → sz k ≤ 10 ∧ ∀ j, j < sz k → pa (10 * k + j) < 30))
theorem eq_len {n : Nat} {ld : Bool} {nu rk : Int32} {sz pa kp ko : Nat → Nat} {l : Nat} (h : pf_eq n ld nu sz pa rk l kp ko) : l ≤ 30 := by
  rcases h with ⟨-, -, h⟩ | ⟨-, -, ⟨-, h⟩, -⟩
  · rw [h]; exact Nat.zero_le _
  · exact h
theorem eq_kp {n : Nat} {ld : Bool} {nu rk : Int32} {sz pa kp ko : Nat → Nat} {l : Nat} (h : pf_eq n ld nu sz pa rk l kp ko) : ∀ k, k < l → kp k < 30 := by
  rcases h with ⟨-, -, h⟩ | ⟨-, -, -, h, -⟩
  · intro k hk; rw [h] at hk; exact absurd hk (Nat.not_lt_zero k)
  · exact h
theorem eq_sz {n : Nat} {ld : Bool} {nu rk : Int32} {sz pa kp ko : Nat → Nat} {l : Nat} (h : pf_eq n ld nu sz pa rk l kp ko) : ld = true → ∀ k, k < n → sz k ≤ 10 ∧ ∀ j, j < sz k → pa (10 * k + j) < 30 := by
  rcases h with ⟨h, -⟩ | ⟨-, -, -, -, -, h⟩
  · intro q; exact absurd (h.symm.trans q) (by decide)
  · exact fun _ => h
theorem eq_cell {n : Nat} {ld : Bool} {nu rk : Int32} {sz pa kp ko : Nat → Nat} {l : Nat} (hn : n ≤ 4) (h : pf_eq n ld nu sz pa rk l kp ko) (x y : Int32) : (if ld = true then (match ix x n with | none => -4 | some i => match ix y (sz i) with | none => -4 | some q => nI (pa (10 * i + q))) else -4) = pf_cl x y (pf_tak kp ko l) 0 := by
  rcases h with ⟨h1, -, h3⟩ | ⟨h1, -, -, -, h5, h6⟩
  · rw [h1, h3]; rfl
  · rw [if_pos h1, h5, pf_cl_lay hn (fun k hk => (h6 k hk).1)]
theorem eq_lw {n : Nat} {ld : Bool} {nu rk : Int32} {sz pa kp ko : Nat → Nat} {l : Nat} (h : pf_eq n ld nu sz pa rk l kp ko) (w : Nat → Int32) : (if ld = true then pf_lw w sz pa (10 * n) else 0) = (if l = 0 then 0 else pf_prod w (pf_tak kp ko l)) := by
  rcases h with ⟨h1, -, h3⟩ | ⟨h1, -, h3, -, h5, h6⟩
  · rw [h1, h3]; rfl
  · rw [if_pos h1, if_neg (by omega), h5, pf_lw_lay n (fun k hk => (h6 k hk).1)]
theorem eq_rank {n : Nat} {ld : Bool} {nu rk : Int32} {sz pa kp ko : Nat → Nat} {l : Nat} (h : pf_eq n ld nu sz pa rk l kp ko) : (if ld = true then nu else -4) = rk := by
  rcases h with ⟨h1, h2, -⟩ | ⟨h1, h2, -⟩
  · rw [h1, h2]; rfl
  · rw [if_pos h1, h2]
theorem eq_off {n n9 : Nat} {ld : Bool} {nu rk : Int32} {sz pa kp ko : Nat → Nat} {l : Nat} (b : Bool) (hb : b = false → n9 = n) (h : pf_eq n ld nu sz pa rk l kp ko) : pf_eq n9 (if b = true then false else ld) nu sz pa (if b = true then -4 else rk) (if b = true then 0 else l) kp ko := by
  cases b with
  | true => exact Or.inl ⟨rfl, rfl, rfl⟩
  | false => rw [hb rfl]; exact h
theorem eq_load {n : Nat} {ld l9 : Bool} {nu rk x r r' u9 r9 : Int32} {sz pa kp ko s9 p9 k9 o9 : Nat → Nat} {l m9 : Nat} {L : List (List (Nat × Nat))} (h : pf_eq n ld nu sz pa rk l kp ko)
    (h1 : match pf_at L x with | none => r = -4 ∧ (l9, u9, s9, p9) = (ld, nu, sz, pa) | some F => r = 0 ∧ l9 = true ∧ u9 = x ∧ pf_lay s9 p9 n = F ∧ (∀ k, k < n → s9 k ≤ 10 ∧ ∀ j, j < s9 k → p9 (10 * k + j) < 30))
    (h2 : match pf_at L x with | none => r' = -4 ∧ (r9, m9, k9, o9) = (rk, l, kp, ko) | some F => r' = 0 ∧ r9 = x ∧ pf_tak k9 o9 m9 = F ∧ 0 < m9 ∧ m9 ≤ 30 ∧ (∀ k, k < m9 → k9 k < 30)) : r = r' ∧ pf_eq n l9 u9 s9 p9 r9 m9 k9 o9 := by
  cases hp : pf_at L x with
  | none =>
    rw [hp] at h1 h2
    obtain ⟨a1, a2⟩ := h1
    obtain ⟨b1, b2⟩ := h2
    cases a2
    cases b2
    exact ⟨a1.trans b1.symm, h⟩
  | some F =>
    rw [hp] at h1 h2
    obtain ⟨a1, a2, a3, a4, a5⟩ := h1
    obtain ⟨b1, b2, b3, b4, b5, b6⟩ := h2
    exact ⟨a1.trans b1.symm, Or.inr ⟨a2, b2.trans a3.symm, ⟨b4, b5⟩, b6, b3.trans a4.symm, a5⟩⟩
theorem wf_ends {n n9 : Nat} {st go s9 g9 : Nat → Nat} {x y : Int32} (hwf : pf_wf n st go) (h : (n9, s9, g9) = op_en n st go x y) : pf_wf n9 s9 g9 := by
  by_cases c : pf_eo x y = true
  · have c2 := of_decide_eq_true c
    obtain ⟨j, hj1, hj2, rfl⟩ := pf_32 c2.1.1 c2.1.2
    obtain ⟨k, hk1, hk2, rfl⟩ := pf_32 c2.2.1.1 c2.2.1.2
    rw [pf_eo_in hj1 hj2 hk1 hk2] at c
    obtain ⟨d1, d2⟩ := of_decide_eq_true c
    rw [op_en_in hj1 hj2 hk1 hk2 d1 d2] at h
    cases h
    exact pf_wf_ends hj1 hj2 d1 d2
  · rw [op_en_out (by simpa using c)] at h
    cases h
    exact hwf
theorem en_n {n n9 : Nat} {st go s9 g9 : Nat → Nat} {x y : Int32} (h : (n9, s9, g9) = op_en n st go x y) (hb : pf_eo x y = false) : n9 = n := by
  rw [op_en_out hb] at h
  cases h
  rfl
/-- weights of one on the first cells -/
def pf_ones (q : Nat) : Nat → Int32 := fun k => if k < q then 1 else 0
theorem pf_ones_0 : pf_ones 0 = fun _ => 0 := by
  funext k
  exact if_neg (Nat.not_lt_zero k)
theorem pf_ones_up (q : Nat) : upd (pf_ones q) q (nI 1) = pf_ones (q + 1) := by
  funext k
  by_cases c : k = q
  · rw [c, pk_us]
    exact (if_pos (Nat.lt_succ_self q)).symm
  · rw [pk_un c]
    unfold pf_ones
    by_cases d : k < q
    · rw [if_pos d, if_pos (by omega)]
    · rw [if_neg d, if_neg (by omega)]
theorem pf_wf_0 : pf_wf 1 (va_up (fun _ => 0) 0 0) (va_up (fun _ => 0) 0 29) := by
  refine ⟨Nat.le_refl 1, by decide, fun k hk => ?_, fun k hk => ?_, fun j k h1 h2 => absurd h2 (by omega), fun j k h1 h2 => absurd h2 (by omega)⟩
  · rw [show k = 0 by omega]; decide
  · rw [show k = 0 by omega]; decide
/-- the law's loop: whether three more ints are there -/
theorem lw_more {i L : Nat} (hi : i ≤ 192) (hL : L ≤ 192) (h : ¬ nI L - nI 3 < nI i) : i + 3 ≤ L := by
  by_cases c : 3 ≤ L
  · rw [pk_sub c] at h
    rcases Nat.lt_or_ge (L - 3) i with q | q
    · exact absurd (nI_lt q (by omega)) h
    · omega
  · exfalso
    apply h
    have h0 : nI L - nI 3 < 0 := by
      rcases (show L = 0 ∨ L = 1 ∨ L = 2 by omega) with e | e | e <;> (rw [e]; decide)
    exact Int32.lt_of_lt_of_le h0 (Int32.not_lt.mp (nI_pos (by omega)))
end
section
set_option maxRecDepth 100000
theorem ini_z (n : Nat) (cI : ClassId) : vp_cell cI (n, .inl (bz (fun _ => false))) = arrV cI n (fun _ => defaultValue .boolean) := rfl
theorem ini_b (n : Nat) (cI : ClassId) : vp_cell cI (n, .inl (nz (fun _ => 0))) = arrV cI n (fun _ => defaultValue .byte) := rfl
theorem ini_n (n : Nat) (cI : ClassId) : vp_cell cI (n, .inl (nz (fun _ => 0))) = arrV cI n (fun _ => defaultValue .int) := rfl
theorem ini_i (n : Nat) (cI : ClassId) : vp_cell cI (n, .inl (fun _ => 0)) = arrV cI n (fun _ => defaultValue .int) := rfl
theorem ini_o (n : Nat) (cI : ClassId) : vp_cell cI (n, .inl (pf_ones 0)) = arrV cI n (fun _ => defaultValue .int) := by
  rw [pf_ones_0]; rfl
abbrev fX0 : List Value := [.null, .null, .int (nI 0), .null, .null, .null, .null, .null, .null, .int (b2 false), .int 0, .null, .null]
set_option maxHeartbeats 4000000 in
set_option maxRecDepth 100000 in
theorem metX0_init (l : Launch) (dC : Nat → ClassId) (dI : Nat → Nat → Nat) (h0 hz : Nat) : Met l yX0_init (ws_ yX0_init cX0_init 2 none) ({ frames := 1, cells := 10, slots := 192, locals := 12 }) (va_Pc [.ref h0] (pcW (dC, dI) [] hz [(h0, .inr (0, fX0))])) (va_Qv (fun (u9 : (Nat → Nat) × (Nat → ClassId)) => u9.1 0 = h0) (fun (u9 : (Nat → Nat) × (Nat → ClassId)) t => bW (dC, dI) (t0 u9.2) (va_A [(h0, .inr (0, fX0))] hz) (w0 u9.1 u9.2 (fun _ => false) (pf_ones 30) 1 (va_up (fun _ => 0) 0 0) (va_up (fun _ => 0) 0 29) (fun _ => false) (fun _ => 0) (fun _ => 0) (fun _ => 0) false 0 (fun _ => 0) (fun _ => 0)) t) (va_A [(h0, .inr (0, fX0))] hz)) 10 192 (va_A [(h0, .inr (0, fX0))] hz) := by
  refine Met.ofW (cc := cX0_init) (maxL := 2) (ret := none) (by decide) rfl ?_
  intro p e s m args below meth c s₁ Bd hml hv
  obtain ⟨rfl, hsz, hP, hK, hD0⟩ := hv
  have hx := Bd.exec
  have hb := Bd.bytes
  have hr := Bd.returns
  have hts := atoms_spec (ws := ws_ yX0_init cX0_init 2 none) Bd.pre
  have hts : ∀ w ∈ lw_all, w.before _ s = true := fun w h => hts w (List.mem_cons_of_mem _ h)
  have hown : s.vm.findClass RX0 = some m.cls := findClass_of_methodNamed Bd.named
  have hlocks := Bd.notSynchronized
  have hin : meth.name = "<init>" := (name_of_methodNamed Bd.named Bd.method).1
  subst hsz
  have hD := hD0.self (sz := s.heap.size)
  generalize hAe : va_A [(h0, .inr (0, fX0))] s.heap.size = A at hD ⊢
  have hA : ∀ q : Nat, s.heap.size ≤ q → A q := fun q h => by rw [← hAe]; exact Or.inr h
  have hS : va_S A s.heap s.heap [] := va_S.rf
  have hP : va_P (dC, dI) vwCl [(h0, .inr (0, fX0))] s.heap := hP
  have hl := lv_entry ([.ref h0]) (n := 2) (Nat.le_of_ble_eq_true rfl)
  rw [lg_entry_eq]
  generalize (lg_sl ([.ref h0]) ++ List.replicate (2 - (lg_sl ([.ref h0])).length) Slot.unset).toArray = ls at hl ⊢
  have hl : lv_has ls 2 [(0, .ref h0)] := hl
  refine lv_aload_n hx hb dX0_init_0 rfl (lv_at hl 0 rfl) ?_
  refine W.objInit hx hb hown (hts _ q32) (hts _ q33) (hts _ q34) rfl (by rw [hml]; exact hl.1) rfl dX0_init_1 (Nat.le_of_ble_eq_true rfl) (Nat.le_of_ble_eq_true rfl) ?_
  refine W.eq (g2 := F0 m 4 ls []) rfl ?_
  refine lv_aload_n hx hb dX0_init_4 rfl (lv_at hl 0 rfl) ?_
  refine lv_bipush (v := nI 30) hx hb dX0_init_5 (by decide) ?_
  refine va_newa (atype := .boolean) (ty := .boolean) (N' := 30) (a0 := (30, .inl (bz (fun _ => false)))) hx hb (hts _ q75) rfl hK hP hD hS hA (ini_z 30) (nI_pos (by decide)) (nI_clamp (by decide)) (by decide) (Nat.le_of_ble_eq_true rfl) (Nat.le_of_ble_eq_true rfl) dX0_init_7 (fun q1_ c1_ H hK hP hD hS => ?_)
  have hK : va_K (dC, dI) vwCl [(c1_, .boolean)] s := hK
  have hP : va_P (dC, dI) vwCl [(h0, .inr (0, [.null, .null, .int (nI 0), .null, .null, .null, .null, .null, .null, .int (b2 false), .int 0, .null, .null])), (q1_, .inl (c1_, 30, .inl (bz (fun _ => false))))] H := hP
  have hD : va_D A [(h0, .inr (0, [.null, .null, .int (nI 0), .null, .null, .null, .null, .null, .null, .int (b2 false), .int 0, .null, .null])), (q1_, .inl (c1_, 30, .inl (bz (fun _ => false))))] := hD
  refine va_putF (D := (dC, dI)) (ci := 0) (v := .ref q1_) (ty := .array .boolean) (C := RX0) (T := TX0) (N := 13) hx hb hts in_X0 tyX0 tyX0_ok nmX0 hown hK hP hD hS 0 rfl rfl 0 (by decide) (hts _ q35) (fun _ h9 => h9) rfl hin rfl (by decide +kernel) rfl rfl (Nat.le_of_ble_eq_true rfl) dX0_init_9 (fun H locs hP hD hS => ?_)
  have hP : va_P (dC, dI) vwCl [(h0, .inr (0, [.ref q1_, .null, .int (nI 0), .null, .null, .null, .null, .null, .null, .int (b2 false), .int 0, .null, .null])), (q1_, .inl (c1_, 30, .inl (bz (fun _ => false))))] H := hP
  have hD : va_D A [(h0, .inr (0, [.ref q1_, .null, .int (nI 0), .null, .null, .null, .null, .null, .null, .int (b2 false), .int 0, .null, .null])), (q1_, .inl (c1_, 30, .inl (bz (fun _ => false))))] := hD
  refine lv_aload_n hx hb dX0_init_12 rfl (lv_at hl 0 rfl) ?_
  refine lv_bipush (v := nI 30) hx hb dX0_init_13 (by decide) ?_
  refine va_newa (atype := .int) (ty := .int) (N' := 30) (a0 := (30, .inl (pf_ones 0))) hx hb (hts _ q76) rfl hK hP hD hS hA (ini_o 30) (nI_pos (by decide)) (nI_clamp (by decide)) (by decide) (Nat.le_of_ble_eq_true rfl) (Nat.le_of_ble_eq_true rfl) dX0_init_15 (fun q2_ c2_ H hK hP hD hS => ?_)
  have hK : va_K (dC, dI) vwCl [(c1_, .boolean), (c2_, .int)] s := hK
  have hP : va_P (dC, dI) vwCl [(h0, .inr (0, [.ref q1_, .null, .int (nI 0), .null, .null, .null, .null, .null, .null, .int (b2 false), .int 0, .null, .null])), (q1_, .inl (c1_, 30, .inl (bz (fun _ => false)))), (q2_, .inl (c2_, 30, .inl (pf_ones 0)))] H := hP
  have hD : va_D A [(h0, .inr (0, [.ref q1_, .null, .int (nI 0), .null, .null, .null, .null, .null, .null, .int (b2 false), .int 0, .null, .null])), (q1_, .inl (c1_, 30, .inl (bz (fun _ => false)))), (q2_, .inl (c2_, 30, .inl (pf_ones 0)))] := hD
  refine va_putF (D := (dC, dI)) (ci := 0) (v := .ref q2_) (ty := .array .int) (C := RX0) (T := TX0) (N := 13) hx hb hts in_X0 tyX0 tyX0_ok nmX0 hown hK hP hD hS 0 rfl rfl 1 (by decide) (hts _ q36) (fun _ h9 => h9) rfl hin rfl (by decide +kernel) rfl rfl (Nat.le_of_ble_eq_true rfl) dX0_init_17 (fun H locs hP hD hS => ?_)
  have hP : va_P (dC, dI) vwCl [(h0, .inr (0, [.ref q1_, .ref q2_, .int (nI 0), .null, .null, .null, .null, .null, .null, .int (b2 false), .int 0, .null, .null])), (q1_, .inl (c1_, 30, .inl (bz (fun _ => false)))), (q2_, .inl (c2_, 30, .inl (pf_ones 0)))] H := hP
  have hD : va_D A [(h0, .inr (0, [.ref q1_, .ref q2_, .int (nI 0), .null, .null, .null, .null, .null, .null, .int (b2 false), .int 0, .null, .null])), (q1_, .inl (c1_, 30, .inl (bz (fun _ => false)))), (q2_, .inl (c2_, 30, .inl (pf_ones 0)))] := hD
  refine lv_aload_n hx hb dX0_init_20 rfl (lv_at hl 0 rfl) ?_
  refine lv_iconst (v := nI 4) hx hb dX0_init_21 (by decide) ?_
  refine va_newa (atype := .byte) (ty := .byte) (N' := 4) (a0 := (4, .inl (nz (fun _ => 0)))) hx hb (hts _ q77) rfl hK hP hD hS hA (ini_b 4) (nI_pos (by decide)) (nI_clamp (by decide)) (by decide) (Nat.le_of_ble_eq_true rfl) (Nat.le_of_ble_eq_true rfl) dX0_init_22 (fun q3_ c3_ H hK hP hD hS => ?_)
  have hK : va_K (dC, dI) vwCl [(c1_, .boolean), (c2_, .int), (c3_, .byte)] s := hK
  have hP : va_P (dC, dI) vwCl [(h0, .inr (0, [.ref q1_, .ref q2_, .int (nI 0), .null, .null, .null, .null, .null, .null, .int (b2 false), .int 0, .null, .null])), (q1_, .inl (c1_, 30, .inl (bz (fun _ => false)))), (q2_, .inl (c2_, 30, .inl (pf_ones 0))), (q3_, .inl (c3_, 4, .inl (nz (fun _ => 0))))] H := hP
  have hD : va_D A [(h0, .inr (0, [.ref q1_, .ref q2_, .int (nI 0), .null, .null, .null, .null, .null, .null, .int (b2 false), .int 0, .null, .null])), (q1_, .inl (c1_, 30, .inl (bz (fun _ => false)))), (q2_, .inl (c2_, 30, .inl (pf_ones 0))), (q3_, .inl (c3_, 4, .inl (nz (fun _ => 0))))] := hD
  refine va_putF (D := (dC, dI)) (ci := 0) (v := .ref q3_) (ty := .array .byte) (C := RX0) (T := TX0) (N := 13) hx hb hts in_X0 tyX0 tyX0_ok nmX0 hown hK hP hD hS 0 rfl rfl 3 (by decide) (hts _ q38) (fun _ h9 => h9) rfl hin rfl (by decide +kernel) rfl rfl (Nat.le_of_ble_eq_true rfl) dX0_init_24 (fun H locs hP hD hS => ?_)
  have hP : va_P (dC, dI) vwCl [(h0, .inr (0, [.ref q1_, .ref q2_, .int (nI 0), .ref q3_, .null, .null, .null, .null, .null, .int (b2 false), .int 0, .null, .null])), (q1_, .inl (c1_, 30, .inl (bz (fun _ => false)))), (q2_, .inl (c2_, 30, .inl (pf_ones 0))), (q3_, .inl (c3_, 4, .inl (nz (fun _ => 0))))] H := hP
  have hD : va_D A [(h0, .inr (0, [.ref q1_, .ref q2_, .int (nI 0), .ref q3_, .null, .null, .null, .null, .null, .int (b2 false), .int 0, .null, .null])), (q1_, .inl (c1_, 30, .inl (bz (fun _ => false)))), (q2_, .inl (c2_, 30, .inl (pf_ones 0))), (q3_, .inl (c3_, 4, .inl (nz (fun _ => 0))))] := hD
  refine lv_aload_n hx hb dX0_init_27 rfl (lv_at hl 0 rfl) ?_
  refine lv_iconst (v := nI 4) hx hb dX0_init_28 (by decide) ?_
  refine va_newa (atype := .byte) (ty := .byte) (N' := 4) (a0 := (4, .inl (nz (fun _ => 0)))) hx hb (hts _ q77) rfl hK hP hD hS hA (ini_b 4) (nI_pos (by decide)) (nI_clamp (by decide)) (by decide) (Nat.le_of_ble_eq_true rfl) (Nat.le_of_ble_eq_true rfl) dX0_init_29 (fun q4_ c4_ H hK hP hD hS => ?_)
  have hK : va_K (dC, dI) vwCl [(c1_, .boolean), (c2_, .int), (c3_, .byte), (c4_, .byte)] s := hK
  have hP : va_P (dC, dI) vwCl [(h0, .inr (0, [.ref q1_, .ref q2_, .int (nI 0), .ref q3_, .null, .null, .null, .null, .null, .int (b2 false), .int 0, .null, .null])), (q1_, .inl (c1_, 30, .inl (bz (fun _ => false)))), (q2_, .inl (c2_, 30, .inl (pf_ones 0))), (q3_, .inl (c3_, 4, .inl (nz (fun _ => 0)))), (q4_, .inl (c4_, 4, .inl (nz (fun _ => 0))))] H := hP
  have hD : va_D A [(h0, .inr (0, [.ref q1_, .ref q2_, .int (nI 0), .ref q3_, .null, .null, .null, .null, .null, .int (b2 false), .int 0, .null, .null])), (q1_, .inl (c1_, 30, .inl (bz (fun _ => false)))), (q2_, .inl (c2_, 30, .inl (pf_ones 0))), (q3_, .inl (c3_, 4, .inl (nz (fun _ => 0)))), (q4_, .inl (c4_, 4, .inl (nz (fun _ => 0))))] := hD
  refine va_putF (D := (dC, dI)) (ci := 0) (v := .ref q4_) (ty := .array .byte) (C := RX0) (T := TX0) (N := 13) hx hb hts in_X0 tyX0 tyX0_ok nmX0 hown hK hP hD hS 0 rfl rfl 4 (by decide) (hts _ q39) (fun _ h9 => h9) rfl hin rfl (by decide +kernel) rfl rfl (Nat.le_of_ble_eq_true rfl) dX0_init_31 (fun H locs hP hD hS => ?_)
  have hP : va_P (dC, dI) vwCl [(h0, .inr (0, [.ref q1_, .ref q2_, .int (nI 0), .ref q3_, .ref q4_, .null, .null, .null, .null, .int (b2 false), .int 0, .null, .null])), (q1_, .inl (c1_, 30, .inl (bz (fun _ => false)))), (q2_, .inl (c2_, 30, .inl (pf_ones 0))), (q3_, .inl (c3_, 4, .inl (nz (fun _ => 0)))), (q4_, .inl (c4_, 4, .inl (nz (fun _ => 0))))] H := hP
  have hD : va_D A [(h0, .inr (0, [.ref q1_, .ref q2_, .int (nI 0), .ref q3_, .ref q4_, .null, .null, .null, .null, .int (b2 false), .int 0, .null, .null])), (q1_, .inl (c1_, 30, .inl (bz (fun _ => false)))), (q2_, .inl (c2_, 30, .inl (pf_ones 0))), (q3_, .inl (c3_, 4, .inl (nz (fun _ => 0)))), (q4_, .inl (c4_, 4, .inl (nz (fun _ => 0))))] := hD
  refine lv_aload_n hx hb dX0_init_34 rfl (lv_at hl 0 rfl) ?_
  refine lv_bipush (v := nI 30) hx hb dX0_init_35 (by decide) ?_
  refine va_newa (atype := .boolean) (ty := .boolean) (N' := 30) (a0 := (30, .inl (bz (fun _ => false)))) hx hb (hts _ q75) rfl hK hP hD hS hA (ini_z 30) (nI_pos (by decide)) (nI_clamp (by decide)) (by decide) (Nat.le_of_ble_eq_true rfl) (Nat.le_of_ble_eq_true rfl) dX0_init_37 (fun q5_ c5_ H hK hP hD hS => ?_)
  have hK : va_K (dC, dI) vwCl [(c1_, .boolean), (c2_, .int), (c3_, .byte), (c4_, .byte), (c5_, .boolean)] s := hK
  have hP : va_P (dC, dI) vwCl [(h0, .inr (0, [.ref q1_, .ref q2_, .int (nI 0), .ref q3_, .ref q4_, .null, .null, .null, .null, .int (b2 false), .int 0, .null, .null])), (q1_, .inl (c1_, 30, .inl (bz (fun _ => false)))), (q2_, .inl (c2_, 30, .inl (pf_ones 0))), (q3_, .inl (c3_, 4, .inl (nz (fun _ => 0)))), (q4_, .inl (c4_, 4, .inl (nz (fun _ => 0)))), (q5_, .inl (c5_, 30, .inl (bz (fun _ => false))))] H := hP
  have hD : va_D A [(h0, .inr (0, [.ref q1_, .ref q2_, .int (nI 0), .ref q3_, .ref q4_, .null, .null, .null, .null, .int (b2 false), .int 0, .null, .null])), (q1_, .inl (c1_, 30, .inl (bz (fun _ => false)))), (q2_, .inl (c2_, 30, .inl (pf_ones 0))), (q3_, .inl (c3_, 4, .inl (nz (fun _ => 0)))), (q4_, .inl (c4_, 4, .inl (nz (fun _ => 0)))), (q5_, .inl (c5_, 30, .inl (bz (fun _ => false))))] := hD
  refine va_putF (D := (dC, dI)) (ci := 0) (v := .ref q5_) (ty := .array .boolean) (C := RX0) (T := TX0) (N := 13) hx hb hts in_X0 tyX0 tyX0_ok nmX0 hown hK hP hD hS 0 rfl rfl 5 (by decide) (hts _ q40) (fun _ h9 => h9) rfl hin rfl (by decide +kernel) rfl rfl (Nat.le_of_ble_eq_true rfl) dX0_init_39 (fun H locs hP hD hS => ?_)
  have hP : va_P (dC, dI) vwCl [(h0, .inr (0, [.ref q1_, .ref q2_, .int (nI 0), .ref q3_, .ref q4_, .ref q5_, .null, .null, .null, .int (b2 false), .int 0, .null, .null])), (q1_, .inl (c1_, 30, .inl (bz (fun _ => false)))), (q2_, .inl (c2_, 30, .inl (pf_ones 0))), (q3_, .inl (c3_, 4, .inl (nz (fun _ => 0)))), (q4_, .inl (c4_, 4, .inl (nz (fun _ => 0)))), (q5_, .inl (c5_, 30, .inl (bz (fun _ => false))))] H := hP
  have hD : va_D A [(h0, .inr (0, [.ref q1_, .ref q2_, .int (nI 0), .ref q3_, .ref q4_, .ref q5_, .null, .null, .null, .int (b2 false), .int 0, .null, .null])), (q1_, .inl (c1_, 30, .inl (bz (fun _ => false)))), (q2_, .inl (c2_, 30, .inl (pf_ones 0))), (q3_, .inl (c3_, 4, .inl (nz (fun _ => 0)))), (q4_, .inl (c4_, 4, .inl (nz (fun _ => 0)))), (q5_, .inl (c5_, 30, .inl (bz (fun _ => false))))] := hD
  refine lv_aload_n hx hb dX0_init_42 rfl (lv_at hl 0 rfl) ?_
  refine lv_iconst (v := nI 4) hx hb dX0_init_43 (by decide) ?_
  refine va_newa (atype := .byte) (ty := .byte) (N' := 4) (a0 := (4, .inl (nz (fun _ => 0)))) hx hb (hts _ q77) rfl hK hP hD hS hA (ini_b 4) (nI_pos (by decide)) (nI_clamp (by decide)) (by decide) (Nat.le_of_ble_eq_true rfl) (Nat.le_of_ble_eq_true rfl) dX0_init_44 (fun q6_ c6_ H hK hP hD hS => ?_)
  have hK : va_K (dC, dI) vwCl [(c1_, .boolean), (c2_, .int), (c3_, .byte), (c4_, .byte), (c5_, .boolean), (c6_, .byte)] s := hK
  have hP : va_P (dC, dI) vwCl [(h0, .inr (0, [.ref q1_, .ref q2_, .int (nI 0), .ref q3_, .ref q4_, .ref q5_, .null, .null, .null, .int (b2 false), .int 0, .null, .null])), (q1_, .inl (c1_, 30, .inl (bz (fun _ => false)))), (q2_, .inl (c2_, 30, .inl (pf_ones 0))), (q3_, .inl (c3_, 4, .inl (nz (fun _ => 0)))), (q4_, .inl (c4_, 4, .inl (nz (fun _ => 0)))), (q5_, .inl (c5_, 30, .inl (bz (fun _ => false)))), (q6_, .inl (c6_, 4, .inl (nz (fun _ => 0))))] H := hP
  have hD : va_D A [(h0, .inr (0, [.ref q1_, .ref q2_, .int (nI 0), .ref q3_, .ref q4_, .ref q5_, .null, .null, .null, .int (b2 false), .int 0, .null, .null])), (q1_, .inl (c1_, 30, .inl (bz (fun _ => false)))), (q2_, .inl (c2_, 30, .inl (pf_ones 0))), (q3_, .inl (c3_, 4, .inl (nz (fun _ => 0)))), (q4_, .inl (c4_, 4, .inl (nz (fun _ => 0)))), (q5_, .inl (c5_, 30, .inl (bz (fun _ => false)))), (q6_, .inl (c6_, 4, .inl (nz (fun _ => 0))))] := hD
  refine va_putF (D := (dC, dI)) (ci := 0) (v := .ref q6_) (ty := .array .byte) (C := RX0) (T := TX0) (N := 13) hx hb hts in_X0 tyX0 tyX0_ok nmX0 hown hK hP hD hS 0 rfl rfl 6 (by decide) (hts _ q41) (fun _ h9 => h9) rfl hin rfl (by decide +kernel) rfl rfl (Nat.le_of_ble_eq_true rfl) dX0_init_46 (fun H locs hP hD hS => ?_)
  have hP : va_P (dC, dI) vwCl [(h0, .inr (0, [.ref q1_, .ref q2_, .int (nI 0), .ref q3_, .ref q4_, .ref q5_, .ref q6_, .null, .null, .int (b2 false), .int 0, .null, .null])), (q1_, .inl (c1_, 30, .inl (bz (fun _ => false)))), (q2_, .inl (c2_, 30, .inl (pf_ones 0))), (q3_, .inl (c3_, 4, .inl (nz (fun _ => 0)))), (q4_, .inl (c4_, 4, .inl (nz (fun _ => 0)))), (q5_, .inl (c5_, 30, .inl (bz (fun _ => false)))), (q6_, .inl (c6_, 4, .inl (nz (fun _ => 0))))] H := hP
  have hD : va_D A [(h0, .inr (0, [.ref q1_, .ref q2_, .int (nI 0), .ref q3_, .ref q4_, .ref q5_, .ref q6_, .null, .null, .int (b2 false), .int 0, .null, .null])), (q1_, .inl (c1_, 30, .inl (bz (fun _ => false)))), (q2_, .inl (c2_, 30, .inl (pf_ones 0))), (q3_, .inl (c3_, 4, .inl (nz (fun _ => 0)))), (q4_, .inl (c4_, 4, .inl (nz (fun _ => 0)))), (q5_, .inl (c5_, 30, .inl (bz (fun _ => false)))), (q6_, .inl (c6_, 4, .inl (nz (fun _ => 0))))] := hD
  refine lv_aload_n hx hb dX0_init_49 rfl (lv_at hl 0 rfl) ?_
  refine lv_bipush (v := nI 30) hx hb dX0_init_50 (by decide) ?_
  refine va_newa (atype := .int) (ty := .int) (N' := 30) (a0 := (30, .inl (fun _ => 0))) hx hb (hts _ q76) rfl hK hP hD hS hA (ini_i 30) (nI_pos (by decide)) (nI_clamp (by decide)) (by decide) (Nat.le_of_ble_eq_true rfl) (Nat.le_of_ble_eq_true rfl) dX0_init_52 (fun q7_ c7_ H hK hP hD hS => ?_)
  have hK : va_K (dC, dI) vwCl [(c1_, .boolean), (c2_, .int), (c3_, .byte), (c4_, .byte), (c5_, .boolean), (c6_, .byte), (c7_, .int)] s := hK
  have hP : va_P (dC, dI) vwCl [(h0, .inr (0, [.ref q1_, .ref q2_, .int (nI 0), .ref q3_, .ref q4_, .ref q5_, .ref q6_, .null, .null, .int (b2 false), .int 0, .null, .null])), (q1_, .inl (c1_, 30, .inl (bz (fun _ => false)))), (q2_, .inl (c2_, 30, .inl (pf_ones 0))), (q3_, .inl (c3_, 4, .inl (nz (fun _ => 0)))), (q4_, .inl (c4_, 4, .inl (nz (fun _ => 0)))), (q5_, .inl (c5_, 30, .inl (bz (fun _ => false)))), (q6_, .inl (c6_, 4, .inl (nz (fun _ => 0)))), (q7_, .inl (c7_, 30, .inl (fun _ => 0)))] H := hP
  have hD : va_D A [(h0, .inr (0, [.ref q1_, .ref q2_, .int (nI 0), .ref q3_, .ref q4_, .ref q5_, .ref q6_, .null, .null, .int (b2 false), .int 0, .null, .null])), (q1_, .inl (c1_, 30, .inl (bz (fun _ => false)))), (q2_, .inl (c2_, 30, .inl (pf_ones 0))), (q3_, .inl (c3_, 4, .inl (nz (fun _ => 0)))), (q4_, .inl (c4_, 4, .inl (nz (fun _ => 0)))), (q5_, .inl (c5_, 30, .inl (bz (fun _ => false)))), (q6_, .inl (c6_, 4, .inl (nz (fun _ => 0)))), (q7_, .inl (c7_, 30, .inl (fun _ => 0)))] := hD
  refine va_putF (D := (dC, dI)) (ci := 0) (v := .ref q7_) (ty := .array .int) (C := RX0) (T := TX0) (N := 13) hx hb hts in_X0 tyX0 tyX0_ok nmX0 hown hK hP hD hS 0 rfl rfl 7 (by decide) (hts _ q42) (fun _ h9 => h9) rfl hin rfl (by decide +kernel) rfl rfl (Nat.le_of_ble_eq_true rfl) dX0_init_54 (fun H locs hP hD hS => ?_)
  have hP : va_P (dC, dI) vwCl [(h0, .inr (0, [.ref q1_, .ref q2_, .int (nI 0), .ref q3_, .ref q4_, .ref q5_, .ref q6_, .ref q7_, .null, .int (b2 false), .int 0, .null, .null])), (q1_, .inl (c1_, 30, .inl (bz (fun _ => false)))), (q2_, .inl (c2_, 30, .inl (pf_ones 0))), (q3_, .inl (c3_, 4, .inl (nz (fun _ => 0)))), (q4_, .inl (c4_, 4, .inl (nz (fun _ => 0)))), (q5_, .inl (c5_, 30, .inl (bz (fun _ => false)))), (q6_, .inl (c6_, 4, .inl (nz (fun _ => 0)))), (q7_, .inl (c7_, 30, .inl (fun _ => 0)))] H := hP
  have hD : va_D A [(h0, .inr (0, [.ref q1_, .ref q2_, .int (nI 0), .ref q3_, .ref q4_, .ref q5_, .ref q6_, .ref q7_, .null, .int (b2 false), .int 0, .null, .null])), (q1_, .inl (c1_, 30, .inl (bz (fun _ => false)))), (q2_, .inl (c2_, 30, .inl (pf_ones 0))), (q3_, .inl (c3_, 4, .inl (nz (fun _ => 0)))), (q4_, .inl (c4_, 4, .inl (nz (fun _ => 0)))), (q5_, .inl (c5_, 30, .inl (bz (fun _ => false)))), (q6_, .inl (c6_, 4, .inl (nz (fun _ => 0)))), (q7_, .inl (c7_, 30, .inl (fun _ => 0)))] := hD
  refine lv_aload_n hx hb dX0_init_57 rfl (lv_at hl 0 rfl) ?_
  refine lv_bipush (v := nI 16) hx hb dX0_init_58 (by decide) ?_
  refine va_newa (atype := .int) (ty := .int) (N' := 16) (a0 := (16, .inl (fun _ => 0))) hx hb (hts _ q76) rfl hK hP hD hS hA (ini_i 16) (nI_pos (by decide)) (nI_clamp (by decide)) (by decide) (Nat.le_of_ble_eq_true rfl) (Nat.le_of_ble_eq_true rfl) dX0_init_60 (fun q8_ c8_ H hK hP hD hS => ?_)
  have hK : va_K (dC, dI) vwCl [(c1_, .boolean), (c2_, .int), (c3_, .byte), (c4_, .byte), (c5_, .boolean), (c6_, .byte), (c7_, .int), (c8_, .int)] s := hK
  have hP : va_P (dC, dI) vwCl [(h0, .inr (0, [.ref q1_, .ref q2_, .int (nI 0), .ref q3_, .ref q4_, .ref q5_, .ref q6_, .ref q7_, .null, .int (b2 false), .int 0, .null, .null])), (q1_, .inl (c1_, 30, .inl (bz (fun _ => false)))), (q2_, .inl (c2_, 30, .inl (pf_ones 0))), (q3_, .inl (c3_, 4, .inl (nz (fun _ => 0)))), (q4_, .inl (c4_, 4, .inl (nz (fun _ => 0)))), (q5_, .inl (c5_, 30, .inl (bz (fun _ => false)))), (q6_, .inl (c6_, 4, .inl (nz (fun _ => 0)))), (q7_, .inl (c7_, 30, .inl (fun _ => 0))), (q8_, .inl (c8_, 16, .inl (fun _ => 0)))] H := hP
  have hD : va_D A [(h0, .inr (0, [.ref q1_, .ref q2_, .int (nI 0), .ref q3_, .ref q4_, .ref q5_, .ref q6_, .ref q7_, .null, .int (b2 false), .int 0, .null, .null])), (q1_, .inl (c1_, 30, .inl (bz (fun _ => false)))), (q2_, .inl (c2_, 30, .inl (pf_ones 0))), (q3_, .inl (c3_, 4, .inl (nz (fun _ => 0)))), (q4_, .inl (c4_, 4, .inl (nz (fun _ => 0)))), (q5_, .inl (c5_, 30, .inl (bz (fun _ => false)))), (q6_, .inl (c6_, 4, .inl (nz (fun _ => 0)))), (q7_, .inl (c7_, 30, .inl (fun _ => 0))), (q8_, .inl (c8_, 16, .inl (fun _ => 0)))] := hD
  refine va_putF (D := (dC, dI)) (ci := 0) (v := .ref q8_) (ty := .array .int) (C := RX0) (T := TX0) (N := 13) hx hb hts in_X0 tyX0 tyX0_ok nmX0 hown hK hP hD hS 0 rfl rfl 8 (by decide) (hts _ q43) (fun _ h9 => h9) rfl hin rfl (by decide +kernel) rfl rfl (Nat.le_of_ble_eq_true rfl) dX0_init_62 (fun H locs hP hD hS => ?_)
  have hP : va_P (dC, dI) vwCl [(h0, .inr (0, [.ref q1_, .ref q2_, .int (nI 0), .ref q3_, .ref q4_, .ref q5_, .ref q6_, .ref q7_, .ref q8_, .int (b2 false), .int 0, .null, .null])), (q1_, .inl (c1_, 30, .inl (bz (fun _ => false)))), (q2_, .inl (c2_, 30, .inl (pf_ones 0))), (q3_, .inl (c3_, 4, .inl (nz (fun _ => 0)))), (q4_, .inl (c4_, 4, .inl (nz (fun _ => 0)))), (q5_, .inl (c5_, 30, .inl (bz (fun _ => false)))), (q6_, .inl (c6_, 4, .inl (nz (fun _ => 0)))), (q7_, .inl (c7_, 30, .inl (fun _ => 0))), (q8_, .inl (c8_, 16, .inl (fun _ => 0)))] H := hP
  have hD : va_D A [(h0, .inr (0, [.ref q1_, .ref q2_, .int (nI 0), .ref q3_, .ref q4_, .ref q5_, .ref q6_, .ref q7_, .ref q8_, .int (b2 false), .int 0, .null, .null])), (q1_, .inl (c1_, 30, .inl (bz (fun _ => false)))), (q2_, .inl (c2_, 30, .inl (pf_ones 0))), (q3_, .inl (c3_, 4, .inl (nz (fun _ => 0)))), (q4_, .inl (c4_, 4, .inl (nz (fun _ => 0)))), (q5_, .inl (c5_, 30, .inl (bz (fun _ => false)))), (q6_, .inl (c6_, 4, .inl (nz (fun _ => 0)))), (q7_, .inl (c7_, 30, .inl (fun _ => 0))), (q8_, .inl (c8_, 16, .inl (fun _ => 0)))] := hD
  refine lv_aload_n hx hb dX0_init_65 rfl (lv_at hl 0 rfl) ?_
  refine lv_iconst (v := nI 4) hx hb dX0_init_66 (by decide) ?_
  refine va_newa (atype := .byte) (ty := .byte) (N' := 4) (a0 := (4, .inl (nz (fun _ => 0)))) hx hb (hts _ q77) rfl hK hP hD hS hA (ini_b 4) (nI_pos (by decide)) (nI_clamp (by decide)) (by decide) (Nat.le_of_ble_eq_true rfl) (Nat.le_of_ble_eq_true rfl) dX0_init_67 (fun q9_ c9_ H hK hP hD hS => ?_)
  have hK : va_K (dC, dI) vwCl [(c1_, .boolean), (c2_, .int), (c3_, .byte), (c4_, .byte), (c5_, .boolean), (c6_, .byte), (c7_, .int), (c8_, .int), (c9_, .byte)] s := hK
  have hP : va_P (dC, dI) vwCl [(h0, .inr (0, [.ref q1_, .ref q2_, .int (nI 0), .ref q3_, .ref q4_, .ref q5_, .ref q6_, .ref q7_, .ref q8_, .int (b2 false), .int 0, .null, .null])), (q1_, .inl (c1_, 30, .inl (bz (fun _ => false)))), (q2_, .inl (c2_, 30, .inl (pf_ones 0))), (q3_, .inl (c3_, 4, .inl (nz (fun _ => 0)))), (q4_, .inl (c4_, 4, .inl (nz (fun _ => 0)))), (q5_, .inl (c5_, 30, .inl (bz (fun _ => false)))), (q6_, .inl (c6_, 4, .inl (nz (fun _ => 0)))), (q7_, .inl (c7_, 30, .inl (fun _ => 0))), (q8_, .inl (c8_, 16, .inl (fun _ => 0))), (q9_, .inl (c9_, 4, .inl (nz (fun _ => 0))))] H := hP
  have hD : va_D A [(h0, .inr (0, [.ref q1_, .ref q2_, .int (nI 0), .ref q3_, .ref q4_, .ref q5_, .ref q6_, .ref q7_, .ref q8_, .int (b2 false), .int 0, .null, .null])), (q1_, .inl (c1_, 30, .inl (bz (fun _ => false)))), (q2_, .inl (c2_, 30, .inl (pf_ones 0))), (q3_, .inl (c3_, 4, .inl (nz (fun _ => 0)))), (q4_, .inl (c4_, 4, .inl (nz (fun _ => 0)))), (q5_, .inl (c5_, 30, .inl (bz (fun _ => false)))), (q6_, .inl (c6_, 4, .inl (nz (fun _ => 0)))), (q7_, .inl (c7_, 30, .inl (fun _ => 0))), (q8_, .inl (c8_, 16, .inl (fun _ => 0))), (q9_, .inl (c9_, 4, .inl (nz (fun _ => 0))))] := hD
  refine va_putF (D := (dC, dI)) (ci := 0) (v := .ref q9_) (ty := .array .byte) (C := RX0) (T := TX0) (N := 13) hx hb hts in_X0 tyX0 tyX0_ok nmX0 hown hK hP hD hS 0 rfl rfl 11 (by decide) (hts _ q46) (fun _ h9 => h9) rfl hin rfl (by decide +kernel) rfl rfl (Nat.le_of_ble_eq_true rfl) dX0_init_69 (fun H locs hP hD hS => ?_)
  have hP : va_P (dC, dI) vwCl [(h0, .inr (0, [.ref q1_, .ref q2_, .int (nI 0), .ref q3_, .ref q4_, .ref q5_, .ref q6_, .ref q7_, .ref q8_, .int (b2 false), .int 0, .ref q9_, .null])), (q1_, .inl (c1_, 30, .inl (bz (fun _ => false)))), (q2_, .inl (c2_, 30, .inl (pf_ones 0))), (q3_, .inl (c3_, 4, .inl (nz (fun _ => 0)))), (q4_, .inl (c4_, 4, .inl (nz (fun _ => 0)))), (q5_, .inl (c5_, 30, .inl (bz (fun _ => false)))), (q6_, .inl (c6_, 4, .inl (nz (fun _ => 0)))), (q7_, .inl (c7_, 30, .inl (fun _ => 0))), (q8_, .inl (c8_, 16, .inl (fun _ => 0))), (q9_, .inl (c9_, 4, .inl (nz (fun _ => 0))))] H := hP
  have hD : va_D A [(h0, .inr (0, [.ref q1_, .ref q2_, .int (nI 0), .ref q3_, .ref q4_, .ref q5_, .ref q6_, .ref q7_, .ref q8_, .int (b2 false), .int 0, .ref q9_, .null])), (q1_, .inl (c1_, 30, .inl (bz (fun _ => false)))), (q2_, .inl (c2_, 30, .inl (pf_ones 0))), (q3_, .inl (c3_, 4, .inl (nz (fun _ => 0)))), (q4_, .inl (c4_, 4, .inl (nz (fun _ => 0)))), (q5_, .inl (c5_, 30, .inl (bz (fun _ => false)))), (q6_, .inl (c6_, 4, .inl (nz (fun _ => 0)))), (q7_, .inl (c7_, 30, .inl (fun _ => 0))), (q8_, .inl (c8_, 16, .inl (fun _ => 0))), (q9_, .inl (c9_, 4, .inl (nz (fun _ => 0))))] := hD
  refine lv_aload_n hx hb dX0_init_72 rfl (lv_at hl 0 rfl) ?_
  refine lv_bipush (v := nI 40) hx hb dX0_init_73 (by decide) ?_
  refine va_newa (atype := .byte) (ty := .byte) (N' := 40) (a0 := (40, .inl (nz (fun _ => 0)))) hx hb (hts _ q77) rfl hK hP hD hS hA (ini_b 40) (nI_pos (by decide)) (nI_clamp (by decide)) (by decide) (Nat.le_of_ble_eq_true rfl) (Nat.le_of_ble_eq_true rfl) dX0_init_75 (fun q10_ c10_ H hK hP hD hS => ?_)
  have hK : va_K (dC, dI) vwCl [(c1_, .boolean), (c2_, .int), (c3_, .byte), (c4_, .byte), (c5_, .boolean), (c6_, .byte), (c7_, .int), (c8_, .int), (c9_, .byte), (c10_, .byte)] s := hK
  have hP : va_P (dC, dI) vwCl [(h0, .inr (0, [.ref q1_, .ref q2_, .int (nI 0), .ref q3_, .ref q4_, .ref q5_, .ref q6_, .ref q7_, .ref q8_, .int (b2 false), .int 0, .ref q9_, .null])), (q1_, .inl (c1_, 30, .inl (bz (fun _ => false)))), (q2_, .inl (c2_, 30, .inl (pf_ones 0))), (q3_, .inl (c3_, 4, .inl (nz (fun _ => 0)))), (q4_, .inl (c4_, 4, .inl (nz (fun _ => 0)))), (q5_, .inl (c5_, 30, .inl (bz (fun _ => false)))), (q6_, .inl (c6_, 4, .inl (nz (fun _ => 0)))), (q7_, .inl (c7_, 30, .inl (fun _ => 0))), (q8_, .inl (c8_, 16, .inl (fun _ => 0))), (q9_, .inl (c9_, 4, .inl (nz (fun _ => 0)))), (q10_, .inl (c10_, 40, .inl (nz (fun _ => 0))))] H := hP
  have hD : va_D A [(h0, .inr (0, [.ref q1_, .ref q2_, .int (nI 0), .ref q3_, .ref q4_, .ref q5_, .ref q6_, .ref q7_, .ref q8_, .int (b2 false), .int 0, .ref q9_, .null])), (q1_, .inl (c1_, 30, .inl (bz (fun _ => false)))), (q2_, .inl (c2_, 30, .inl (pf_ones 0))), (q3_, .inl (c3_, 4, .inl (nz (fun _ => 0)))), (q4_, .inl (c4_, 4, .inl (nz (fun _ => 0)))), (q5_, .inl (c5_, 30, .inl (bz (fun _ => false)))), (q6_, .inl (c6_, 4, .inl (nz (fun _ => 0)))), (q7_, .inl (c7_, 30, .inl (fun _ => 0))), (q8_, .inl (c8_, 16, .inl (fun _ => 0))), (q9_, .inl (c9_, 4, .inl (nz (fun _ => 0)))), (q10_, .inl (c10_, 40, .inl (nz (fun _ => 0))))] := hD
  refine va_putF (D := (dC, dI)) (ci := 0) (v := .ref q10_) (ty := .array .byte) (C := RX0) (T := TX0) (N := 13) hx hb hts in_X0 tyX0 tyX0_ok nmX0 hown hK hP hD hS 0 rfl rfl 12 (by decide) (hts _ q47) (fun _ h9 => h9) rfl hin rfl (by decide +kernel) rfl rfl (Nat.le_of_ble_eq_true rfl) dX0_init_77 (fun H locs hP hD hS => ?_)
  have hP : va_P (dC, dI) vwCl [(h0, .inr (0, [.ref q1_, .ref q2_, .int (nI 0), .ref q3_, .ref q4_, .ref q5_, .ref q6_, .ref q7_, .ref q8_, .int (b2 false), .int 0, .ref q9_, .ref q10_])), (q1_, .inl (c1_, 30, .inl (bz (fun _ => false)))), (q2_, .inl (c2_, 30, .inl (pf_ones 0))), (q3_, .inl (c3_, 4, .inl (nz (fun _ => 0)))), (q4_, .inl (c4_, 4, .inl (nz (fun _ => 0)))), (q5_, .inl (c5_, 30, .inl (bz (fun _ => false)))), (q6_, .inl (c6_, 4, .inl (nz (fun _ => 0)))), (q7_, .inl (c7_, 30, .inl (fun _ => 0))), (q8_, .inl (c8_, 16, .inl (fun _ => 0))), (q9_, .inl (c9_, 4, .inl (nz (fun _ => 0)))), (q10_, .inl (c10_, 40, .inl (nz (fun _ => 0))))] H := hP
  have hD : va_D A [(h0, .inr (0, [.ref q1_, .ref q2_, .int (nI 0), .ref q3_, .ref q4_, .ref q5_, .ref q6_, .ref q7_, .ref q8_, .int (b2 false), .int 0, .ref q9_, .ref q10_])), (q1_, .inl (c1_, 30, .inl (bz (fun _ => false)))), (q2_, .inl (c2_, 30, .inl (pf_ones 0))), (q3_, .inl (c3_, 4, .inl (nz (fun _ => 0)))), (q4_, .inl (c4_, 4, .inl (nz (fun _ => 0)))), (q5_, .inl (c5_, 30, .inl (bz (fun _ => false)))), (q6_, .inl (c6_, 4, .inl (nz (fun _ => 0)))), (q7_, .inl (c7_, 30, .inl (fun _ => 0))), (q8_, .inl (c8_, 16, .inl (fun _ => 0))), (q9_, .inl (c9_, 4, .inl (nz (fun _ => 0)))), (q10_, .inl (c10_, 40, .inl (nz (fun _ => 0))))] := hD
  obtain ⟨a, cA, ha0, hK, hX, hl⟩ : ∃ (a : Nat → Nat) (cA : Nat → ClassId), a 0 = h0 ∧ va_K (dC, dI) vwCl (t0 cA) s ∧ wd (dC, dI) A s.heap (w0 a cA (fun _ => false) (pf_ones 0) 0 (fun _ => 0) (fun _ => 0) (fun _ => false) (fun _ => 0) (fun _ => 0) (fun _ => 0) false 0 (fun _ => 0) (fun _ => 0)) H locs ∧ lv_has ls 2 [(0, .ref (a 0))] := ⟨fun k => match k with | 0 => h0 | 1 => q1_ | 2 => q2_ | 3 => q3_ | 4 => q4_ | 5 => q5_ | 6 => q6_ | 7 => q7_ | 8 => q8_ | 9 => q9_ | _ => q10_, fun k => match k with | 0 => c1_ | 1 => c1_ | 2 => c2_ | 3 => c3_ | 4 => c4_ | 5 => c5_ | 6 => c6_ | 7 => c7_ | 8 => c8_ | 9 => c9_ | _ => c10_, rfl, hK, ⟨hP, hD, hS⟩, hl⟩
  refine W.widen (k := 10) (n := 192) (Nat.le_of_ble_eq_true rfl) (Nat.le_of_ble_eq_true rfl) ?_
  have E : x0E p s m c cX0_init _ dC dI cA := ⟨hx, hb, hts, hown, hK⟩
  refine lv_iconst (v := (nI 0)) hx hb dX0_init_80 (by decide) ?_
  refine lv_istore_n (lv' := [(1, .int (nI 0)), (0, .ref (a 0))]) hx hb dX0_init_81 rfl hl (by decide) rfl (fun ls hl => ?_)
  refine lpW (α := Nat) (F := fun _ ls => F0 m 82 ls []) (I := fun q9 H locs ls => match q9 with | q => q ≤ 30 ∧ wd (dC, dI) A s.heap (w0 a cA (fun _ => false) (pf_ones q) 0 (fun _ => 0) (fun _ => 0) (fun _ => false) (fun _ => 0) (fun _ => 0) (fun _ => 0) false 0 (fun _ => 0) (fun _ => 0)) H locs ∧ lv_has ls 2 [(1, .int (nI q)), (0, .ref (a 0))]) (μ := fun q9 => match q9 with | q => 30 - q) ?_ 0 ⟨Nat.zero_le 30, hX, lv_sub hl [0, 1] rfl⟩
  · intro q H locs ls hI ih
    obtain ⟨hq, hX, hl⟩ := hI
    refine lv_iload_n hx hb dX0_init_82 rfl (lv_at hl 0 rfl) ?_
    refine lv_bipush (v := (nI 30)) hx hb dX0_init_83 (by decide) ?_
    refine bn_ge (tgt := 101) hx hb (by omega) (by omega) dX0_init_85 (by decide) (fun c1 => ?_) (fun c1 => ?_)
    · obtain rfl : q = 30 := by omega
      refine lv_aload_n hx hb dX0_init_101 rfl (lv_at hl 1 rfl) ?_
      refine lv_iconst (v := (nI 1)) hx hb dX0_init_102 (by decide) ?_
      refine x0_p2 E hX dX0_init_103 (fun H locs hX => ?_)
      refine lv_aload_n hx hb dX0_init_106 rfl (lv_at hl 1 rfl) ?_
      refine x0_g3 E hX dX0_init_107 ?_
      refine lv_iconst (v := (nI 0)) hx hb dX0_init_110 (by decide) ?_
      refine lv_iconst (v := (nI 0)) hx hb dX0_init_111 (by decide) ?_
      refine x0_s3 E hX (by omega) (by omega) dX0_init_112 (fun H locs hX => ?_)
      refine lv_aload_n hx hb dX0_init_113 rfl (lv_at hl 1 rfl) ?_
      refine x0_g4 E hX dX0_init_114 ?_
      refine lv_iconst (v := (nI 0)) hx hb dX0_init_117 (by decide) ?_
      refine lv_bipush (v := (nI 29)) hx hb dX0_init_118 (by decide) ?_
      refine x0_s4 E hX (by omega) (by omega) dX0_init_120 (fun H locs hX => ?_)
      exact W.vret hx hb hr (fun T9 hT9 hW9 => ⟨⟨(a, cA), rfl, ha0, by rw [hT9]; exact hX.1, va_K.moved hW9.alike hK, hX.2.1⟩, hX.2.2.F hT9⟩) hX.2.2.2.2 dX0_init_121
    · refine lv_aload_n hx hb dX0_init_88 rfl (lv_at hl 1 rfl) ?_
      refine x0_g1 E hX dX0_init_89 ?_
      refine lv_iload_n hx hb dX0_init_92 rfl (lv_at hl 0 rfl) ?_
      refine lv_iconst (v := (nI 1)) hx hb dX0_init_93 (by decide) ?_
      refine x0_s2 E hX (by omega) dX0_init_94 (fun H locs hX => ?_)
      refine lv_iinc (v := (nI (q + 1))) (lv' := [(1, .int (nI (q + 1))), (0, .ref (a 0))]) hx hb dX0_init_95 hl (k := 0) rfl (nI_1 _) (by decide) rfl (fun ls hl => ?_)
      refine lv_goto (tgt := 82) hx hb dX0_init_98 (by decide) ?_
      exact ih (q + 1) _ _ _ ⟨by omega, by rw [← pf_ones_up]; exact hX, lv_sub hl [0, 1] rfl⟩ (by dsimp only; omega)
abbrev fX1 : List Value := [.null, .null, .int (nI 0), .null, .null, .int (nI 0), .null, .null, .null, .null, .null, .int 0, .int (nI 0), .null, .null]
set_option maxHeartbeats 4000000 in
set_option maxRecDepth 100000 in
theorem metX1_init (l : Launch) (dC : Nat → ClassId) (dI : Nat → Nat → Nat) (h0 hz : Nat) : Met l yX1_init (ws_ yX1_init cX1_init 2 none) ({ frames := 1, cells := 11, slots := 328, locals := 12 }) (va_Pc [.ref h0] (pcW (dC, dI) [] hz [(h0, .inr (1, fX1))])) (va_Qv (fun (u9 : (Nat → Nat) × (Nat → ClassId)) => u9.1 0 = h0) (fun (u9 : (Nat → Nat) × (Nat → ClassId)) t => bW (dC, dI) (t1 u9.2) (va_A [(h0, .inr (1, fX1))] hz) (w1 u9.1 u9.2 (fun _ => false) (pf_ones 30) 1 (va_up (fun _ => 0) 0 0) (va_up (fun _ => 0) 0 29) 0 (fun _ => 0) (fun _ => 0) (fun _ => 0) (fun _ => false) (fun _ => 0) (-4) 0 (fun _ => 0) (fun _ => 0)) t) (va_A [(h0, .inr (1, fX1))] hz)) 11 328 (va_A [(h0, .inr (1, fX1))] hz) := by
  refine Met.ofW (cc := cX1_init) (maxL := 2) (ret := none) (by decide) rfl ?_
  intro p e s m args below meth c s₁ Bd hml hv
  obtain ⟨rfl, hsz, hP, hK, hD0⟩ := hv
  have hx := Bd.exec
  have hb := Bd.bytes
  have hr := Bd.returns
  have hts := atoms_spec (ws := ws_ yX1_init cX1_init 2 none) Bd.pre
  have hts : ∀ w ∈ lw_all, w.before _ s = true := fun w h => hts w (List.mem_cons_of_mem _ h)
  have hown : s.vm.findClass RX1 = some m.cls := findClass_of_methodNamed Bd.named
  have hlocks := Bd.notSynchronized
  have hin : meth.name = "<init>" := (name_of_methodNamed Bd.named Bd.method).1
  subst hsz
  have hD := hD0.self (sz := s.heap.size)
  generalize hAe : va_A [(h0, .inr (1, fX1))] s.heap.size = A at hD ⊢
  have hA : ∀ q : Nat, s.heap.size ≤ q → A q := fun q h => by rw [← hAe]; exact Or.inr h
  have hS : va_S A s.heap s.heap [] := va_S.rf
  have hP : va_P (dC, dI) vwCl [(h0, .inr (1, fX1))] s.heap := hP
  have hl := lv_entry ([.ref h0]) (n := 2) (Nat.le_of_ble_eq_true rfl)
  rw [lg_entry_eq]
  generalize (lg_sl ([.ref h0]) ++ List.replicate (2 - (lg_sl ([.ref h0])).length) Slot.unset).toArray = ls at hl ⊢
  have hl : lv_has ls 2 [(0, .ref h0)] := hl
  refine lv_aload_n hx hb dX1_init_0 rfl (lv_at hl 0 rfl) ?_
  refine W.objInit hx hb hown (hts _ q191) (hts _ q33) (hts _ q34) rfl (by rw [hml]; exact hl.1) rfl dX1_init_1 (Nat.le_of_ble_eq_true rfl) (Nat.le_of_ble_eq_true rfl) ?_
  refine W.eq (g2 := F0 m 4 ls []) rfl ?_
  refine lv_aload_n hx hb dX1_init_4 rfl (lv_at hl 0 rfl) ?_
  refine lv_bipush (v := nI 30) hx hb dX1_init_5 (by decide) ?_
  refine va_newa (atype := .boolean) (ty := .boolean) (N' := 30) (a0 := (30, .inl (bz (fun _ => false)))) hx hb (hts _ q75) rfl hK hP hD hS hA (ini_z 30) (nI_pos (by decide)) (nI_clamp (by decide)) (by decide) (Nat.le_of_ble_eq_true rfl) (Nat.le_of_ble_eq_true rfl) dX1_init_7 (fun q1_ c1_ H hK hP hD hS => ?_)
  have hK : va_K (dC, dI) vwCl [(c1_, .boolean)] s := hK
  have hP : va_P (dC, dI) vwCl [(h0, .inr (1, [.null, .null, .int (nI 0), .null, .null, .int (nI 0), .null, .null, .null, .null, .null, .int 0, .int (nI 0), .null, .null])), (q1_, .inl (c1_, 30, .inl (bz (fun _ => false))))] H := hP
  have hD : va_D A [(h0, .inr (1, [.null, .null, .int (nI 0), .null, .null, .int (nI 0), .null, .null, .null, .null, .null, .int 0, .int (nI 0), .null, .null])), (q1_, .inl (c1_, 30, .inl (bz (fun _ => false))))] := hD
  refine va_put (D := (dC, dI)) (ci := 1) (v := .ref q1_) (ty := .array .boolean) (C := RX1) (T := TX1) (N := 15) hx hb hts in_X1 tyX1 tyX1_ok nmX1 hown hK hP hD hS 0 rfl rfl 0 (by decide) (hts _ q192) (fun _ h9 => h9) rfl (by decide +kernel) rfl rfl (Nat.le_of_ble_eq_true rfl) dX1_init_9 (fun H locs hP hD hS => ?_)
  have hP : va_P (dC, dI) vwCl [(h0, .inr (1, [.ref q1_, .null, .int (nI 0), .null, .null, .int (nI 0), .null, .null, .null, .null, .null, .int 0, .int (nI 0), .null, .null])), (q1_, .inl (c1_, 30, .inl (bz (fun _ => false))))] H := hP
  have hD : va_D A [(h0, .inr (1, [.ref q1_, .null, .int (nI 0), .null, .null, .int (nI 0), .null, .null, .null, .null, .null, .int 0, .int (nI 0), .null, .null])), (q1_, .inl (c1_, 30, .inl (bz (fun _ => false))))] := hD
  refine lv_aload_n hx hb dX1_init_12 rfl (lv_at hl 0 rfl) ?_
  refine lv_bipush (v := nI 30) hx hb dX1_init_13 (by decide) ?_
  refine va_newa (atype := .int) (ty := .int) (N' := 30) (a0 := (30, .inl (pf_ones 0))) hx hb (hts _ q76) rfl hK hP hD hS hA (ini_o 30) (nI_pos (by decide)) (nI_clamp (by decide)) (by decide) (Nat.le_of_ble_eq_true rfl) (Nat.le_of_ble_eq_true rfl) dX1_init_15 (fun q2_ c2_ H hK hP hD hS => ?_)
  have hK : va_K (dC, dI) vwCl [(c1_, .boolean), (c2_, .int)] s := hK
  have hP : va_P (dC, dI) vwCl [(h0, .inr (1, [.ref q1_, .null, .int (nI 0), .null, .null, .int (nI 0), .null, .null, .null, .null, .null, .int 0, .int (nI 0), .null, .null])), (q1_, .inl (c1_, 30, .inl (bz (fun _ => false)))), (q2_, .inl (c2_, 30, .inl (pf_ones 0)))] H := hP
  have hD : va_D A [(h0, .inr (1, [.ref q1_, .null, .int (nI 0), .null, .null, .int (nI 0), .null, .null, .null, .null, .null, .int 0, .int (nI 0), .null, .null])), (q1_, .inl (c1_, 30, .inl (bz (fun _ => false)))), (q2_, .inl (c2_, 30, .inl (pf_ones 0)))] := hD
  refine va_put (D := (dC, dI)) (ci := 1) (v := .ref q2_) (ty := .array .int) (C := RX1) (T := TX1) (N := 15) hx hb hts in_X1 tyX1 tyX1_ok nmX1 hown hK hP hD hS 0 rfl rfl 1 (by decide) (hts _ q193) (fun _ h9 => h9) rfl (by decide +kernel) rfl rfl (Nat.le_of_ble_eq_true rfl) dX1_init_17 (fun H locs hP hD hS => ?_)
  have hP : va_P (dC, dI) vwCl [(h0, .inr (1, [.ref q1_, .ref q2_, .int (nI 0), .null, .null, .int (nI 0), .null, .null, .null, .null, .null, .int 0, .int (nI 0), .null, .null])), (q1_, .inl (c1_, 30, .inl (bz (fun _ => false)))), (q2_, .inl (c2_, 30, .inl (pf_ones 0)))] H := hP
  have hD : va_D A [(h0, .inr (1, [.ref q1_, .ref q2_, .int (nI 0), .null, .null, .int (nI 0), .null, .null, .null, .null, .null, .int 0, .int (nI 0), .null, .null])), (q1_, .inl (c1_, 30, .inl (bz (fun _ => false)))), (q2_, .inl (c2_, 30, .inl (pf_ones 0)))] := hD
  refine lv_aload_n hx hb dX1_init_20 rfl (lv_at hl 0 rfl) ?_
  refine lv_iconst (v := nI 4) hx hb dX1_init_21 (by decide) ?_
  refine va_newa (atype := .int) (ty := .int) (N' := 4) (a0 := (4, .inl (nz (fun _ => 0)))) hx hb (hts _ q76) rfl hK hP hD hS hA (ini_n 4) (nI_pos (by decide)) (nI_clamp (by decide)) (by decide) (Nat.le_of_ble_eq_true rfl) (Nat.le_of_ble_eq_true rfl) dX1_init_22 (fun q3_ c3_ H hK hP hD hS => ?_)
  have hK : va_K (dC, dI) vwCl [(c1_, .boolean), (c2_, .int), (c3_, .int)] s := hK
  have hP : va_P (dC, dI) vwCl [(h0, .inr (1, [.ref q1_, .ref q2_, .int (nI 0), .null, .null, .int (nI 0), .null, .null, .null, .null, .null, .int 0, .int (nI 0), .null, .null])), (q1_, .inl (c1_, 30, .inl (bz (fun _ => false)))), (q2_, .inl (c2_, 30, .inl (pf_ones 0))), (q3_, .inl (c3_, 4, .inl (nz (fun _ => 0))))] H := hP
  have hD : va_D A [(h0, .inr (1, [.ref q1_, .ref q2_, .int (nI 0), .null, .null, .int (nI 0), .null, .null, .null, .null, .null, .int 0, .int (nI 0), .null, .null])), (q1_, .inl (c1_, 30, .inl (bz (fun _ => false)))), (q2_, .inl (c2_, 30, .inl (pf_ones 0))), (q3_, .inl (c3_, 4, .inl (nz (fun _ => 0))))] := hD
  refine va_put (D := (dC, dI)) (ci := 1) (v := .ref q3_) (ty := .array .int) (C := RX1) (T := TX1) (N := 15) hx hb hts in_X1 tyX1 tyX1_ok nmX1 hown hK hP hD hS 0 rfl rfl 3 (by decide) (hts _ q195) (fun _ h9 => h9) rfl (by decide +kernel) rfl rfl (Nat.le_of_ble_eq_true rfl) dX1_init_24 (fun H locs hP hD hS => ?_)
  have hP : va_P (dC, dI) vwCl [(h0, .inr (1, [.ref q1_, .ref q2_, .int (nI 0), .ref q3_, .null, .int (nI 0), .null, .null, .null, .null, .null, .int 0, .int (nI 0), .null, .null])), (q1_, .inl (c1_, 30, .inl (bz (fun _ => false)))), (q2_, .inl (c2_, 30, .inl (pf_ones 0))), (q3_, .inl (c3_, 4, .inl (nz (fun _ => 0))))] H := hP
  have hD : va_D A [(h0, .inr (1, [.ref q1_, .ref q2_, .int (nI 0), .ref q3_, .null, .int (nI 0), .null, .null, .null, .null, .null, .int 0, .int (nI 0), .null, .null])), (q1_, .inl (c1_, 30, .inl (bz (fun _ => false)))), (q2_, .inl (c2_, 30, .inl (pf_ones 0))), (q3_, .inl (c3_, 4, .inl (nz (fun _ => 0))))] := hD
  refine lv_aload_n hx hb dX1_init_27 rfl (lv_at hl 0 rfl) ?_
  refine lv_iconst (v := nI 4) hx hb dX1_init_28 (by decide) ?_
  refine va_newa (atype := .int) (ty := .int) (N' := 4) (a0 := (4, .inl (nz (fun _ => 0)))) hx hb (hts _ q76) rfl hK hP hD hS hA (ini_n 4) (nI_pos (by decide)) (nI_clamp (by decide)) (by decide) (Nat.le_of_ble_eq_true rfl) (Nat.le_of_ble_eq_true rfl) dX1_init_29 (fun q4_ c4_ H hK hP hD hS => ?_)
  have hK : va_K (dC, dI) vwCl [(c1_, .boolean), (c2_, .int), (c3_, .int), (c4_, .int)] s := hK
  have hP : va_P (dC, dI) vwCl [(h0, .inr (1, [.ref q1_, .ref q2_, .int (nI 0), .ref q3_, .null, .int (nI 0), .null, .null, .null, .null, .null, .int 0, .int (nI 0), .null, .null])), (q1_, .inl (c1_, 30, .inl (bz (fun _ => false)))), (q2_, .inl (c2_, 30, .inl (pf_ones 0))), (q3_, .inl (c3_, 4, .inl (nz (fun _ => 0)))), (q4_, .inl (c4_, 4, .inl (nz (fun _ => 0))))] H := hP
  have hD : va_D A [(h0, .inr (1, [.ref q1_, .ref q2_, .int (nI 0), .ref q3_, .null, .int (nI 0), .null, .null, .null, .null, .null, .int 0, .int (nI 0), .null, .null])), (q1_, .inl (c1_, 30, .inl (bz (fun _ => false)))), (q2_, .inl (c2_, 30, .inl (pf_ones 0))), (q3_, .inl (c3_, 4, .inl (nz (fun _ => 0)))), (q4_, .inl (c4_, 4, .inl (nz (fun _ => 0))))] := hD
  refine va_put (D := (dC, dI)) (ci := 1) (v := .ref q4_) (ty := .array .int) (C := RX1) (T := TX1) (N := 15) hx hb hts in_X1 tyX1 tyX1_ok nmX1 hown hK hP hD hS 0 rfl rfl 4 (by decide) (hts _ q196) (fun _ h9 => h9) rfl (by decide +kernel) rfl rfl (Nat.le_of_ble_eq_true rfl) dX1_init_31 (fun H locs hP hD hS => ?_)
  have hP : va_P (dC, dI) vwCl [(h0, .inr (1, [.ref q1_, .ref q2_, .int (nI 0), .ref q3_, .ref q4_, .int (nI 0), .null, .null, .null, .null, .null, .int 0, .int (nI 0), .null, .null])), (q1_, .inl (c1_, 30, .inl (bz (fun _ => false)))), (q2_, .inl (c2_, 30, .inl (pf_ones 0))), (q3_, .inl (c3_, 4, .inl (nz (fun _ => 0)))), (q4_, .inl (c4_, 4, .inl (nz (fun _ => 0))))] H := hP
  have hD : va_D A [(h0, .inr (1, [.ref q1_, .ref q2_, .int (nI 0), .ref q3_, .ref q4_, .int (nI 0), .null, .null, .null, .null, .null, .int 0, .int (nI 0), .null, .null])), (q1_, .inl (c1_, 30, .inl (bz (fun _ => false)))), (q2_, .inl (c2_, 30, .inl (pf_ones 0))), (q3_, .inl (c3_, 4, .inl (nz (fun _ => 0)))), (q4_, .inl (c4_, 4, .inl (nz (fun _ => 0))))] := hD
  refine lv_aload_n hx hb dX1_init_34 rfl (lv_at hl 0 rfl) ?_
  refine lv_bipush (v := nI 40) hx hb dX1_init_35 (by decide) ?_
  refine va_newa (atype := .int) (ty := .int) (N' := 40) (a0 := (40, .inl (nz (fun _ => 0)))) hx hb (hts _ q76) rfl hK hP hD hS hA (ini_n 40) (nI_pos (by decide)) (nI_clamp (by decide)) (by decide) (Nat.le_of_ble_eq_true rfl) (Nat.le_of_ble_eq_true rfl) dX1_init_37 (fun q5_ c5_ H hK hP hD hS => ?_)
  have hK : va_K (dC, dI) vwCl [(c1_, .boolean), (c2_, .int), (c3_, .int), (c4_, .int), (c5_, .int)] s := hK
  have hP : va_P (dC, dI) vwCl [(h0, .inr (1, [.ref q1_, .ref q2_, .int (nI 0), .ref q3_, .ref q4_, .int (nI 0), .null, .null, .null, .null, .null, .int 0, .int (nI 0), .null, .null])), (q1_, .inl (c1_, 30, .inl (bz (fun _ => false)))), (q2_, .inl (c2_, 30, .inl (pf_ones 0))), (q3_, .inl (c3_, 4, .inl (nz (fun _ => 0)))), (q4_, .inl (c4_, 4, .inl (nz (fun _ => 0)))), (q5_, .inl (c5_, 40, .inl (nz (fun _ => 0))))] H := hP
  have hD : va_D A [(h0, .inr (1, [.ref q1_, .ref q2_, .int (nI 0), .ref q3_, .ref q4_, .int (nI 0), .null, .null, .null, .null, .null, .int 0, .int (nI 0), .null, .null])), (q1_, .inl (c1_, 30, .inl (bz (fun _ => false)))), (q2_, .inl (c2_, 30, .inl (pf_ones 0))), (q3_, .inl (c3_, 4, .inl (nz (fun _ => 0)))), (q4_, .inl (c4_, 4, .inl (nz (fun _ => 0)))), (q5_, .inl (c5_, 40, .inl (nz (fun _ => 0))))] := hD
  refine va_put (D := (dC, dI)) (ci := 1) (v := .ref q5_) (ty := .array .int) (C := RX1) (T := TX1) (N := 15) hx hb hts in_X1 tyX1 tyX1_ok nmX1 hown hK hP hD hS 0 rfl rfl 6 (by decide) (hts _ q198) (fun _ h9 => h9) rfl (by decide +kernel) rfl rfl (Nat.le_of_ble_eq_true rfl) dX1_init_39 (fun H locs hP hD hS => ?_)
  have hP : va_P (dC, dI) vwCl [(h0, .inr (1, [.ref q1_, .ref q2_, .int (nI 0), .ref q3_, .ref q4_, .int (nI 0), .ref q5_, .null, .null, .null, .null, .int 0, .int (nI 0), .null, .null])), (q1_, .inl (c1_, 30, .inl (bz (fun _ => false)))), (q2_, .inl (c2_, 30, .inl (pf_ones 0))), (q3_, .inl (c3_, 4, .inl (nz (fun _ => 0)))), (q4_, .inl (c4_, 4, .inl (nz (fun _ => 0)))), (q5_, .inl (c5_, 40, .inl (nz (fun _ => 0))))] H := hP
  have hD : va_D A [(h0, .inr (1, [.ref q1_, .ref q2_, .int (nI 0), .ref q3_, .ref q4_, .int (nI 0), .ref q5_, .null, .null, .null, .null, .int 0, .int (nI 0), .null, .null])), (q1_, .inl (c1_, 30, .inl (bz (fun _ => false)))), (q2_, .inl (c2_, 30, .inl (pf_ones 0))), (q3_, .inl (c3_, 4, .inl (nz (fun _ => 0)))), (q4_, .inl (c4_, 4, .inl (nz (fun _ => 0)))), (q5_, .inl (c5_, 40, .inl (nz (fun _ => 0))))] := hD
  refine lv_aload_n hx hb dX1_init_42 rfl (lv_at hl 0 rfl) ?_
  refine lv_bipush (v := nI 40) hx hb dX1_init_43 (by decide) ?_
  refine va_newa (atype := .int) (ty := .int) (N' := 40) (a0 := (40, .inl (nz (fun _ => 0)))) hx hb (hts _ q76) rfl hK hP hD hS hA (ini_n 40) (nI_pos (by decide)) (nI_clamp (by decide)) (by decide) (Nat.le_of_ble_eq_true rfl) (Nat.le_of_ble_eq_true rfl) dX1_init_45 (fun q6_ c6_ H hK hP hD hS => ?_)
  have hK : va_K (dC, dI) vwCl [(c1_, .boolean), (c2_, .int), (c3_, .int), (c4_, .int), (c5_, .int), (c6_, .int)] s := hK
  have hP : va_P (dC, dI) vwCl [(h0, .inr (1, [.ref q1_, .ref q2_, .int (nI 0), .ref q3_, .ref q4_, .int (nI 0), .ref q5_, .null, .null, .null, .null, .int 0, .int (nI 0), .null, .null])), (q1_, .inl (c1_, 30, .inl (bz (fun _ => false)))), (q2_, .inl (c2_, 30, .inl (pf_ones 0))), (q3_, .inl (c3_, 4, .inl (nz (fun _ => 0)))), (q4_, .inl (c4_, 4, .inl (nz (fun _ => 0)))), (q5_, .inl (c5_, 40, .inl (nz (fun _ => 0)))), (q6_, .inl (c6_, 40, .inl (nz (fun _ => 0))))] H := hP
  have hD : va_D A [(h0, .inr (1, [.ref q1_, .ref q2_, .int (nI 0), .ref q3_, .ref q4_, .int (nI 0), .ref q5_, .null, .null, .null, .null, .int 0, .int (nI 0), .null, .null])), (q1_, .inl (c1_, 30, .inl (bz (fun _ => false)))), (q2_, .inl (c2_, 30, .inl (pf_ones 0))), (q3_, .inl (c3_, 4, .inl (nz (fun _ => 0)))), (q4_, .inl (c4_, 4, .inl (nz (fun _ => 0)))), (q5_, .inl (c5_, 40, .inl (nz (fun _ => 0)))), (q6_, .inl (c6_, 40, .inl (nz (fun _ => 0))))] := hD
  refine va_put (D := (dC, dI)) (ci := 1) (v := .ref q6_) (ty := .array .int) (C := RX1) (T := TX1) (N := 15) hx hb hts in_X1 tyX1 tyX1_ok nmX1 hown hK hP hD hS 0 rfl rfl 7 (by decide) (hts _ q199) (fun _ h9 => h9) rfl (by decide +kernel) rfl rfl (Nat.le_of_ble_eq_true rfl) dX1_init_47 (fun H locs hP hD hS => ?_)
  have hP : va_P (dC, dI) vwCl [(h0, .inr (1, [.ref q1_, .ref q2_, .int (nI 0), .ref q3_, .ref q4_, .int (nI 0), .ref q5_, .ref q6_, .null, .null, .null, .int 0, .int (nI 0), .null, .null])), (q1_, .inl (c1_, 30, .inl (bz (fun _ => false)))), (q2_, .inl (c2_, 30, .inl (pf_ones 0))), (q3_, .inl (c3_, 4, .inl (nz (fun _ => 0)))), (q4_, .inl (c4_, 4, .inl (nz (fun _ => 0)))), (q5_, .inl (c5_, 40, .inl (nz (fun _ => 0)))), (q6_, .inl (c6_, 40, .inl (nz (fun _ => 0))))] H := hP
  have hD : va_D A [(h0, .inr (1, [.ref q1_, .ref q2_, .int (nI 0), .ref q3_, .ref q4_, .int (nI 0), .ref q5_, .ref q6_, .null, .null, .null, .int 0, .int (nI 0), .null, .null])), (q1_, .inl (c1_, 30, .inl (bz (fun _ => false)))), (q2_, .inl (c2_, 30, .inl (pf_ones 0))), (q3_, .inl (c3_, 4, .inl (nz (fun _ => 0)))), (q4_, .inl (c4_, 4, .inl (nz (fun _ => 0)))), (q5_, .inl (c5_, 40, .inl (nz (fun _ => 0)))), (q6_, .inl (c6_, 40, .inl (nz (fun _ => 0))))] := hD
  refine lv_aload_n hx hb dX1_init_50 rfl (lv_at hl 0 rfl) ?_
  refine lv_bipush (v := nI 40) hx hb dX1_init_51 (by decide) ?_
  refine va_newa (atype := .int) (ty := .int) (N' := 40) (a0 := (40, .inl (nz (fun _ => 0)))) hx hb (hts _ q76) rfl hK hP hD hS hA (ini_n 40) (nI_pos (by decide)) (nI_clamp (by decide)) (by decide) (Nat.le_of_ble_eq_true rfl) (Nat.le_of_ble_eq_true rfl) dX1_init_53 (fun q7_ c7_ H hK hP hD hS => ?_)
  have hK : va_K (dC, dI) vwCl [(c1_, .boolean), (c2_, .int), (c3_, .int), (c4_, .int), (c5_, .int), (c6_, .int), (c7_, .int)] s := hK
  have hP : va_P (dC, dI) vwCl [(h0, .inr (1, [.ref q1_, .ref q2_, .int (nI 0), .ref q3_, .ref q4_, .int (nI 0), .ref q5_, .ref q6_, .null, .null, .null, .int 0, .int (nI 0), .null, .null])), (q1_, .inl (c1_, 30, .inl (bz (fun _ => false)))), (q2_, .inl (c2_, 30, .inl (pf_ones 0))), (q3_, .inl (c3_, 4, .inl (nz (fun _ => 0)))), (q4_, .inl (c4_, 4, .inl (nz (fun _ => 0)))), (q5_, .inl (c5_, 40, .inl (nz (fun _ => 0)))), (q6_, .inl (c6_, 40, .inl (nz (fun _ => 0)))), (q7_, .inl (c7_, 40, .inl (nz (fun _ => 0))))] H := hP
  have hD : va_D A [(h0, .inr (1, [.ref q1_, .ref q2_, .int (nI 0), .ref q3_, .ref q4_, .int (nI 0), .ref q5_, .ref q6_, .null, .null, .null, .int 0, .int (nI 0), .null, .null])), (q1_, .inl (c1_, 30, .inl (bz (fun _ => false)))), (q2_, .inl (c2_, 30, .inl (pf_ones 0))), (q3_, .inl (c3_, 4, .inl (nz (fun _ => 0)))), (q4_, .inl (c4_, 4, .inl (nz (fun _ => 0)))), (q5_, .inl (c5_, 40, .inl (nz (fun _ => 0)))), (q6_, .inl (c6_, 40, .inl (nz (fun _ => 0)))), (q7_, .inl (c7_, 40, .inl (nz (fun _ => 0))))] := hD
  refine va_put (D := (dC, dI)) (ci := 1) (v := .ref q7_) (ty := .array .int) (C := RX1) (T := TX1) (N := 15) hx hb hts in_X1 tyX1 tyX1_ok nmX1 hown hK hP hD hS 0 rfl rfl 8 (by decide) (hts _ q200) (fun _ h9 => h9) rfl (by decide +kernel) rfl rfl (Nat.le_of_ble_eq_true rfl) dX1_init_55 (fun H locs hP hD hS => ?_)
  have hP : va_P (dC, dI) vwCl [(h0, .inr (1, [.ref q1_, .ref q2_, .int (nI 0), .ref q3_, .ref q4_, .int (nI 0), .ref q5_, .ref q6_, .ref q7_, .null, .null, .int 0, .int (nI 0), .null, .null])), (q1_, .inl (c1_, 30, .inl (bz (fun _ => false)))), (q2_, .inl (c2_, 30, .inl (pf_ones 0))), (q3_, .inl (c3_, 4, .inl (nz (fun _ => 0)))), (q4_, .inl (c4_, 4, .inl (nz (fun _ => 0)))), (q5_, .inl (c5_, 40, .inl (nz (fun _ => 0)))), (q6_, .inl (c6_, 40, .inl (nz (fun _ => 0)))), (q7_, .inl (c7_, 40, .inl (nz (fun _ => 0))))] H := hP
  have hD : va_D A [(h0, .inr (1, [.ref q1_, .ref q2_, .int (nI 0), .ref q3_, .ref q4_, .int (nI 0), .ref q5_, .ref q6_, .ref q7_, .null, .null, .int 0, .int (nI 0), .null, .null])), (q1_, .inl (c1_, 30, .inl (bz (fun _ => false)))), (q2_, .inl (c2_, 30, .inl (pf_ones 0))), (q3_, .inl (c3_, 4, .inl (nz (fun _ => 0)))), (q4_, .inl (c4_, 4, .inl (nz (fun _ => 0)))), (q5_, .inl (c5_, 40, .inl (nz (fun _ => 0)))), (q6_, .inl (c6_, 40, .inl (nz (fun _ => 0)))), (q7_, .inl (c7_, 40, .inl (nz (fun _ => 0))))] := hD
  refine lv_aload_n hx hb dX1_init_58 rfl (lv_at hl 0 rfl) ?_
  refine lv_bipush (v := nI 30) hx hb dX1_init_59 (by decide) ?_
  refine va_newa (atype := .boolean) (ty := .boolean) (N' := 30) (a0 := (30, .inl (bz (fun _ => false)))) hx hb (hts _ q75) rfl hK hP hD hS hA (ini_z 30) (nI_pos (by decide)) (nI_clamp (by decide)) (by decide) (Nat.le_of_ble_eq_true rfl) (Nat.le_of_ble_eq_true rfl) dX1_init_61 (fun q8_ c8_ H hK hP hD hS => ?_)
  have hK : va_K (dC, dI) vwCl [(c1_, .boolean), (c2_, .int), (c3_, .int), (c4_, .int), (c5_, .int), (c6_, .int), (c7_, .int), (c8_, .boolean)] s := hK
  have hP : va_P (dC, dI) vwCl [(h0, .inr (1, [.ref q1_, .ref q2_, .int (nI 0), .ref q3_, .ref q4_, .int (nI 0), .ref q5_, .ref q6_, .ref q7_, .null, .null, .int 0, .int (nI 0), .null, .null])), (q1_, .inl (c1_, 30, .inl (bz (fun _ => false)))), (q2_, .inl (c2_, 30, .inl (pf_ones 0))), (q3_, .inl (c3_, 4, .inl (nz (fun _ => 0)))), (q4_, .inl (c4_, 4, .inl (nz (fun _ => 0)))), (q5_, .inl (c5_, 40, .inl (nz (fun _ => 0)))), (q6_, .inl (c6_, 40, .inl (nz (fun _ => 0)))), (q7_, .inl (c7_, 40, .inl (nz (fun _ => 0)))), (q8_, .inl (c8_, 30, .inl (bz (fun _ => false))))] H := hP
  have hD : va_D A [(h0, .inr (1, [.ref q1_, .ref q2_, .int (nI 0), .ref q3_, .ref q4_, .int (nI 0), .ref q5_, .ref q6_, .ref q7_, .null, .null, .int 0, .int (nI 0), .null, .null])), (q1_, .inl (c1_, 30, .inl (bz (fun _ => false)))), (q2_, .inl (c2_, 30, .inl (pf_ones 0))), (q3_, .inl (c3_, 4, .inl (nz (fun _ => 0)))), (q4_, .inl (c4_, 4, .inl (nz (fun _ => 0)))), (q5_, .inl (c5_, 40, .inl (nz (fun _ => 0)))), (q6_, .inl (c6_, 40, .inl (nz (fun _ => 0)))), (q7_, .inl (c7_, 40, .inl (nz (fun _ => 0)))), (q8_, .inl (c8_, 30, .inl (bz (fun _ => false))))] := hD
  refine va_put (D := (dC, dI)) (ci := 1) (v := .ref q8_) (ty := .array .boolean) (C := RX1) (T := TX1) (N := 15) hx hb hts in_X1 tyX1 tyX1_ok nmX1 hown hK hP hD hS 0 rfl rfl 9 (by decide) (hts _ q201) (fun _ h9 => h9) rfl (by decide +kernel) rfl rfl (Nat.le_of_ble_eq_true rfl) dX1_init_63 (fun H locs hP hD hS => ?_)
  have hP : va_P (dC, dI) vwCl [(h0, .inr (1, [.ref q1_, .ref q2_, .int (nI 0), .ref q3_, .ref q4_, .int (nI 0), .ref q5_, .ref q6_, .ref q7_, .ref q8_, .null, .int 0, .int (nI 0), .null, .null])), (q1_, .inl (c1_, 30, .inl (bz (fun _ => false)))), (q2_, .inl (c2_, 30, .inl (pf_ones 0))), (q3_, .inl (c3_, 4, .inl (nz (fun _ => 0)))), (q4_, .inl (c4_, 4, .inl (nz (fun _ => 0)))), (q5_, .inl (c5_, 40, .inl (nz (fun _ => 0)))), (q6_, .inl (c6_, 40, .inl (nz (fun _ => 0)))), (q7_, .inl (c7_, 40, .inl (nz (fun _ => 0)))), (q8_, .inl (c8_, 30, .inl (bz (fun _ => false))))] H := hP
  have hD : va_D A [(h0, .inr (1, [.ref q1_, .ref q2_, .int (nI 0), .ref q3_, .ref q4_, .int (nI 0), .ref q5_, .ref q6_, .ref q7_, .ref q8_, .null, .int 0, .int (nI 0), .null, .null])), (q1_, .inl (c1_, 30, .inl (bz (fun _ => false)))), (q2_, .inl (c2_, 30, .inl (pf_ones 0))), (q3_, .inl (c3_, 4, .inl (nz (fun _ => 0)))), (q4_, .inl (c4_, 4, .inl (nz (fun _ => 0)))), (q5_, .inl (c5_, 40, .inl (nz (fun _ => 0)))), (q6_, .inl (c6_, 40, .inl (nz (fun _ => 0)))), (q7_, .inl (c7_, 40, .inl (nz (fun _ => 0)))), (q8_, .inl (c8_, 30, .inl (bz (fun _ => false))))] := hD
  refine lv_aload_n hx hb dX1_init_66 rfl (lv_at hl 0 rfl) ?_
  refine lv_bipush (v := nI 30) hx hb dX1_init_67 (by decide) ?_
  refine va_newa (atype := .int) (ty := .int) (N' := 30) (a0 := (30, .inl (fun _ => 0))) hx hb (hts _ q76) rfl hK hP hD hS hA (ini_i 30) (nI_pos (by decide)) (nI_clamp (by decide)) (by decide) (Nat.le_of_ble_eq_true rfl) (Nat.le_of_ble_eq_true rfl) dX1_init_69 (fun q9_ c9_ H hK hP hD hS => ?_)
  have hK : va_K (dC, dI) vwCl [(c1_, .boolean), (c2_, .int), (c3_, .int), (c4_, .int), (c5_, .int), (c6_, .int), (c7_, .int), (c8_, .boolean), (c9_, .int)] s := hK
  have hP : va_P (dC, dI) vwCl [(h0, .inr (1, [.ref q1_, .ref q2_, .int (nI 0), .ref q3_, .ref q4_, .int (nI 0), .ref q5_, .ref q6_, .ref q7_, .ref q8_, .null, .int 0, .int (nI 0), .null, .null])), (q1_, .inl (c1_, 30, .inl (bz (fun _ => false)))), (q2_, .inl (c2_, 30, .inl (pf_ones 0))), (q3_, .inl (c3_, 4, .inl (nz (fun _ => 0)))), (q4_, .inl (c4_, 4, .inl (nz (fun _ => 0)))), (q5_, .inl (c5_, 40, .inl (nz (fun _ => 0)))), (q6_, .inl (c6_, 40, .inl (nz (fun _ => 0)))), (q7_, .inl (c7_, 40, .inl (nz (fun _ => 0)))), (q8_, .inl (c8_, 30, .inl (bz (fun _ => false)))), (q9_, .inl (c9_, 30, .inl (fun _ => 0)))] H := hP
  have hD : va_D A [(h0, .inr (1, [.ref q1_, .ref q2_, .int (nI 0), .ref q3_, .ref q4_, .int (nI 0), .ref q5_, .ref q6_, .ref q7_, .ref q8_, .null, .int 0, .int (nI 0), .null, .null])), (q1_, .inl (c1_, 30, .inl (bz (fun _ => false)))), (q2_, .inl (c2_, 30, .inl (pf_ones 0))), (q3_, .inl (c3_, 4, .inl (nz (fun _ => 0)))), (q4_, .inl (c4_, 4, .inl (nz (fun _ => 0)))), (q5_, .inl (c5_, 40, .inl (nz (fun _ => 0)))), (q6_, .inl (c6_, 40, .inl (nz (fun _ => 0)))), (q7_, .inl (c7_, 40, .inl (nz (fun _ => 0)))), (q8_, .inl (c8_, 30, .inl (bz (fun _ => false)))), (q9_, .inl (c9_, 30, .inl (fun _ => 0)))] := hD
  refine va_put (D := (dC, dI)) (ci := 1) (v := .ref q9_) (ty := .array .int) (C := RX1) (T := TX1) (N := 15) hx hb hts in_X1 tyX1 tyX1_ok nmX1 hown hK hP hD hS 0 rfl rfl 10 (by decide) (hts _ q202) (fun _ h9 => h9) rfl (by decide +kernel) rfl rfl (Nat.le_of_ble_eq_true rfl) dX1_init_71 (fun H locs hP hD hS => ?_)
  have hP : va_P (dC, dI) vwCl [(h0, .inr (1, [.ref q1_, .ref q2_, .int (nI 0), .ref q3_, .ref q4_, .int (nI 0), .ref q5_, .ref q6_, .ref q7_, .ref q8_, .ref q9_, .int 0, .int (nI 0), .null, .null])), (q1_, .inl (c1_, 30, .inl (bz (fun _ => false)))), (q2_, .inl (c2_, 30, .inl (pf_ones 0))), (q3_, .inl (c3_, 4, .inl (nz (fun _ => 0)))), (q4_, .inl (c4_, 4, .inl (nz (fun _ => 0)))), (q5_, .inl (c5_, 40, .inl (nz (fun _ => 0)))), (q6_, .inl (c6_, 40, .inl (nz (fun _ => 0)))), (q7_, .inl (c7_, 40, .inl (nz (fun _ => 0)))), (q8_, .inl (c8_, 30, .inl (bz (fun _ => false)))), (q9_, .inl (c9_, 30, .inl (fun _ => 0)))] H := hP
  have hD : va_D A [(h0, .inr (1, [.ref q1_, .ref q2_, .int (nI 0), .ref q3_, .ref q4_, .int (nI 0), .ref q5_, .ref q6_, .ref q7_, .ref q8_, .ref q9_, .int 0, .int (nI 0), .null, .null])), (q1_, .inl (c1_, 30, .inl (bz (fun _ => false)))), (q2_, .inl (c2_, 30, .inl (pf_ones 0))), (q3_, .inl (c3_, 4, .inl (nz (fun _ => 0)))), (q4_, .inl (c4_, 4, .inl (nz (fun _ => 0)))), (q5_, .inl (c5_, 40, .inl (nz (fun _ => 0)))), (q6_, .inl (c6_, 40, .inl (nz (fun _ => 0)))), (q7_, .inl (c7_, 40, .inl (nz (fun _ => 0)))), (q8_, .inl (c8_, 30, .inl (bz (fun _ => false)))), (q9_, .inl (c9_, 30, .inl (fun _ => 0)))] := hD
  refine lv_aload_n hx hb dX1_init_74 rfl (lv_at hl 0 rfl) ?_
  refine lv_bipush (v := nI 40) hx hb dX1_init_75 (by decide) ?_
  refine va_newa (atype := .int) (ty := .int) (N' := 40) (a0 := (40, .inl (nz (fun _ => 0)))) hx hb (hts _ q76) rfl hK hP hD hS hA (ini_n 40) (nI_pos (by decide)) (nI_clamp (by decide)) (by decide) (Nat.le_of_ble_eq_true rfl) (Nat.le_of_ble_eq_true rfl) dX1_init_77 (fun q10_ c10_ H hK hP hD hS => ?_)
  have hK : va_K (dC, dI) vwCl [(c1_, .boolean), (c2_, .int), (c3_, .int), (c4_, .int), (c5_, .int), (c6_, .int), (c7_, .int), (c8_, .boolean), (c9_, .int), (c10_, .int)] s := hK
  have hP : va_P (dC, dI) vwCl [(h0, .inr (1, [.ref q1_, .ref q2_, .int (nI 0), .ref q3_, .ref q4_, .int (nI 0), .ref q5_, .ref q6_, .ref q7_, .ref q8_, .ref q9_, .int 0, .int (nI 0), .null, .null])), (q1_, .inl (c1_, 30, .inl (bz (fun _ => false)))), (q2_, .inl (c2_, 30, .inl (pf_ones 0))), (q3_, .inl (c3_, 4, .inl (nz (fun _ => 0)))), (q4_, .inl (c4_, 4, .inl (nz (fun _ => 0)))), (q5_, .inl (c5_, 40, .inl (nz (fun _ => 0)))), (q6_, .inl (c6_, 40, .inl (nz (fun _ => 0)))), (q7_, .inl (c7_, 40, .inl (nz (fun _ => 0)))), (q8_, .inl (c8_, 30, .inl (bz (fun _ => false)))), (q9_, .inl (c9_, 30, .inl (fun _ => 0))), (q10_, .inl (c10_, 40, .inl (nz (fun _ => 0))))] H := hP
  have hD : va_D A [(h0, .inr (1, [.ref q1_, .ref q2_, .int (nI 0), .ref q3_, .ref q4_, .int (nI 0), .ref q5_, .ref q6_, .ref q7_, .ref q8_, .ref q9_, .int 0, .int (nI 0), .null, .null])), (q1_, .inl (c1_, 30, .inl (bz (fun _ => false)))), (q2_, .inl (c2_, 30, .inl (pf_ones 0))), (q3_, .inl (c3_, 4, .inl (nz (fun _ => 0)))), (q4_, .inl (c4_, 4, .inl (nz (fun _ => 0)))), (q5_, .inl (c5_, 40, .inl (nz (fun _ => 0)))), (q6_, .inl (c6_, 40, .inl (nz (fun _ => 0)))), (q7_, .inl (c7_, 40, .inl (nz (fun _ => 0)))), (q8_, .inl (c8_, 30, .inl (bz (fun _ => false)))), (q9_, .inl (c9_, 30, .inl (fun _ => 0))), (q10_, .inl (c10_, 40, .inl (nz (fun _ => 0))))] := hD
  refine va_put (D := (dC, dI)) (ci := 1) (v := .ref q10_) (ty := .array .int) (C := RX1) (T := TX1) (N := 15) hx hb hts in_X1 tyX1 tyX1_ok nmX1 hown hK hP hD hS 0 rfl rfl 13 (by decide) (hts _ q205) (fun _ h9 => h9) rfl (by decide +kernel) rfl rfl (Nat.le_of_ble_eq_true rfl) dX1_init_79 (fun H locs hP hD hS => ?_)
  have hP : va_P (dC, dI) vwCl [(h0, .inr (1, [.ref q1_, .ref q2_, .int (nI 0), .ref q3_, .ref q4_, .int (nI 0), .ref q5_, .ref q6_, .ref q7_, .ref q8_, .ref q9_, .int 0, .int (nI 0), .ref q10_, .null])), (q1_, .inl (c1_, 30, .inl (bz (fun _ => false)))), (q2_, .inl (c2_, 30, .inl (pf_ones 0))), (q3_, .inl (c3_, 4, .inl (nz (fun _ => 0)))), (q4_, .inl (c4_, 4, .inl (nz (fun _ => 0)))), (q5_, .inl (c5_, 40, .inl (nz (fun _ => 0)))), (q6_, .inl (c6_, 40, .inl (nz (fun _ => 0)))), (q7_, .inl (c7_, 40, .inl (nz (fun _ => 0)))), (q8_, .inl (c8_, 30, .inl (bz (fun _ => false)))), (q9_, .inl (c9_, 30, .inl (fun _ => 0))), (q10_, .inl (c10_, 40, .inl (nz (fun _ => 0))))] H := hP
  have hD : va_D A [(h0, .inr (1, [.ref q1_, .ref q2_, .int (nI 0), .ref q3_, .ref q4_, .int (nI 0), .ref q5_, .ref q6_, .ref q7_, .ref q8_, .ref q9_, .int 0, .int (nI 0), .ref q10_, .null])), (q1_, .inl (c1_, 30, .inl (bz (fun _ => false)))), (q2_, .inl (c2_, 30, .inl (pf_ones 0))), (q3_, .inl (c3_, 4, .inl (nz (fun _ => 0)))), (q4_, .inl (c4_, 4, .inl (nz (fun _ => 0)))), (q5_, .inl (c5_, 40, .inl (nz (fun _ => 0)))), (q6_, .inl (c6_, 40, .inl (nz (fun _ => 0)))), (q7_, .inl (c7_, 40, .inl (nz (fun _ => 0)))), (q8_, .inl (c8_, 30, .inl (bz (fun _ => false)))), (q9_, .inl (c9_, 30, .inl (fun _ => 0))), (q10_, .inl (c10_, 40, .inl (nz (fun _ => 0))))] := hD
  refine lv_aload_n hx hb dX1_init_82 rfl (lv_at hl 0 rfl) ?_
  refine lv_bipush (v := nI 40) hx hb dX1_init_83 (by decide) ?_
  refine va_newa (atype := .int) (ty := .int) (N' := 40) (a0 := (40, .inl (nz (fun _ => 0)))) hx hb (hts _ q76) rfl hK hP hD hS hA (ini_n 40) (nI_pos (by decide)) (nI_clamp (by decide)) (by decide) (Nat.le_of_ble_eq_true rfl) (Nat.le_of_ble_eq_true rfl) dX1_init_85 (fun q11_ c11_ H hK hP hD hS => ?_)
  have hK : va_K (dC, dI) vwCl [(c1_, .boolean), (c2_, .int), (c3_, .int), (c4_, .int), (c5_, .int), (c6_, .int), (c7_, .int), (c8_, .boolean), (c9_, .int), (c10_, .int), (c11_, .int)] s := hK
  have hP : va_P (dC, dI) vwCl [(h0, .inr (1, [.ref q1_, .ref q2_, .int (nI 0), .ref q3_, .ref q4_, .int (nI 0), .ref q5_, .ref q6_, .ref q7_, .ref q8_, .ref q9_, .int 0, .int (nI 0), .ref q10_, .null])), (q1_, .inl (c1_, 30, .inl (bz (fun _ => false)))), (q2_, .inl (c2_, 30, .inl (pf_ones 0))), (q3_, .inl (c3_, 4, .inl (nz (fun _ => 0)))), (q4_, .inl (c4_, 4, .inl (nz (fun _ => 0)))), (q5_, .inl (c5_, 40, .inl (nz (fun _ => 0)))), (q6_, .inl (c6_, 40, .inl (nz (fun _ => 0)))), (q7_, .inl (c7_, 40, .inl (nz (fun _ => 0)))), (q8_, .inl (c8_, 30, .inl (bz (fun _ => false)))), (q9_, .inl (c9_, 30, .inl (fun _ => 0))), (q10_, .inl (c10_, 40, .inl (nz (fun _ => 0)))), (q11_, .inl (c11_, 40, .inl (nz (fun _ => 0))))] H := hP
  have hD : va_D A [(h0, .inr (1, [.ref q1_, .ref q2_, .int (nI 0), .ref q3_, .ref q4_, .int (nI 0), .ref q5_, .ref q6_, .ref q7_, .ref q8_, .ref q9_, .int 0, .int (nI 0), .ref q10_, .null])), (q1_, .inl (c1_, 30, .inl (bz (fun _ => false)))), (q2_, .inl (c2_, 30, .inl (pf_ones 0))), (q3_, .inl (c3_, 4, .inl (nz (fun _ => 0)))), (q4_, .inl (c4_, 4, .inl (nz (fun _ => 0)))), (q5_, .inl (c5_, 40, .inl (nz (fun _ => 0)))), (q6_, .inl (c6_, 40, .inl (nz (fun _ => 0)))), (q7_, .inl (c7_, 40, .inl (nz (fun _ => 0)))), (q8_, .inl (c8_, 30, .inl (bz (fun _ => false)))), (q9_, .inl (c9_, 30, .inl (fun _ => 0))), (q10_, .inl (c10_, 40, .inl (nz (fun _ => 0)))), (q11_, .inl (c11_, 40, .inl (nz (fun _ => 0))))] := hD
  refine va_put (D := (dC, dI)) (ci := 1) (v := .ref q11_) (ty := .array .int) (C := RX1) (T := TX1) (N := 15) hx hb hts in_X1 tyX1 tyX1_ok nmX1 hown hK hP hD hS 0 rfl rfl 14 (by decide) (hts _ q206) (fun _ h9 => h9) rfl (by decide +kernel) rfl rfl (Nat.le_of_ble_eq_true rfl) dX1_init_87 (fun H locs hP hD hS => ?_)
  have hP : va_P (dC, dI) vwCl [(h0, .inr (1, [.ref q1_, .ref q2_, .int (nI 0), .ref q3_, .ref q4_, .int (nI 0), .ref q5_, .ref q6_, .ref q7_, .ref q8_, .ref q9_, .int 0, .int (nI 0), .ref q10_, .ref q11_])), (q1_, .inl (c1_, 30, .inl (bz (fun _ => false)))), (q2_, .inl (c2_, 30, .inl (pf_ones 0))), (q3_, .inl (c3_, 4, .inl (nz (fun _ => 0)))), (q4_, .inl (c4_, 4, .inl (nz (fun _ => 0)))), (q5_, .inl (c5_, 40, .inl (nz (fun _ => 0)))), (q6_, .inl (c6_, 40, .inl (nz (fun _ => 0)))), (q7_, .inl (c7_, 40, .inl (nz (fun _ => 0)))), (q8_, .inl (c8_, 30, .inl (bz (fun _ => false)))), (q9_, .inl (c9_, 30, .inl (fun _ => 0))), (q10_, .inl (c10_, 40, .inl (nz (fun _ => 0)))), (q11_, .inl (c11_, 40, .inl (nz (fun _ => 0))))] H := hP
  have hD : va_D A [(h0, .inr (1, [.ref q1_, .ref q2_, .int (nI 0), .ref q3_, .ref q4_, .int (nI 0), .ref q5_, .ref q6_, .ref q7_, .ref q8_, .ref q9_, .int 0, .int (nI 0), .ref q10_, .ref q11_])), (q1_, .inl (c1_, 30, .inl (bz (fun _ => false)))), (q2_, .inl (c2_, 30, .inl (pf_ones 0))), (q3_, .inl (c3_, 4, .inl (nz (fun _ => 0)))), (q4_, .inl (c4_, 4, .inl (nz (fun _ => 0)))), (q5_, .inl (c5_, 40, .inl (nz (fun _ => 0)))), (q6_, .inl (c6_, 40, .inl (nz (fun _ => 0)))), (q7_, .inl (c7_, 40, .inl (nz (fun _ => 0)))), (q8_, .inl (c8_, 30, .inl (bz (fun _ => false)))), (q9_, .inl (c9_, 30, .inl (fun _ => 0))), (q10_, .inl (c10_, 40, .inl (nz (fun _ => 0)))), (q11_, .inl (c11_, 40, .inl (nz (fun _ => 0))))] := hD
  obtain ⟨a, cA, ha0, hK, hX, hl⟩ : ∃ (a : Nat → Nat) (cA : Nat → ClassId), a 0 = h0 ∧ va_K (dC, dI) vwCl (t1 cA) s ∧ wd (dC, dI) A s.heap (w1 a cA (fun _ => false) (pf_ones 0) 0 (fun _ => 0) (fun _ => 0) 0 (fun _ => 0) (fun _ => 0) (fun _ => 0) (fun _ => false) (fun _ => 0) 0 0 (fun _ => 0) (fun _ => 0)) H locs ∧ lv_has ls 2 [(0, .ref (a 0))] := ⟨fun k => match k with | 0 => h0 | 1 => q1_ | 2 => q2_ | 3 => q3_ | 4 => q4_ | 5 => q5_ | 6 => q6_ | 7 => q7_ | 8 => q8_ | 9 => q9_ | 10 => q10_ | _ => q11_, fun k => match k with | 0 => c1_ | 1 => c1_ | 2 => c2_ | 3 => c3_ | 4 => c4_ | 5 => c5_ | 6 => c6_ | 7 => c7_ | 8 => c8_ | 9 => c9_ | 10 => c10_ | _ => c11_, rfl, hK, ⟨hP, hD, hS⟩, hl⟩
  refine W.widen (k := 11) (n := 328) (Nat.le_of_ble_eq_true rfl) (Nat.le_of_ble_eq_true rfl) ?_
  have E : x1E p s m c cX1_init _ dC dI cA := ⟨hx, hb, hts, hown, hK⟩
  refine lv_iconst (v := (nI 0)) hx hb dX1_init_90 (by decide) ?_
  refine lv_istore_n (lv' := [(1, .int (nI 0)), (0, .ref (a 0))]) hx hb dX1_init_91 rfl hl (by decide) rfl (fun ls hl => ?_)
  refine lpW (α := Nat) (F := fun _ ls => F0 m 92 ls []) (I := fun q9 H locs ls => match q9 with | q => q ≤ 30 ∧ wd (dC, dI) A s.heap (w1 a cA (fun _ => false) (pf_ones q) 0 (fun _ => 0) (fun _ => 0) 0 (fun _ => 0) (fun _ => 0) (fun _ => 0) (fun _ => false) (fun _ => 0) 0 0 (fun _ => 0) (fun _ => 0)) H locs ∧ lv_has ls 2 [(1, .int (nI q)), (0, .ref (a 0))]) (μ := fun q9 => match q9 with | q => 30 - q) ?_ 0 ⟨Nat.zero_le 30, hX, lv_sub hl [0, 1] rfl⟩
  · intro q H locs ls hI ih
    obtain ⟨hq, hX, hl⟩ := hI
    refine lv_iload_n hx hb dX1_init_92 rfl (lv_at hl 0 rfl) ?_
    refine lv_bipush (v := (nI 30)) hx hb dX1_init_93 (by decide) ?_
    refine bn_ge (tgt := 111) hx hb (by omega) (by omega) dX1_init_95 (by decide) (fun c1 => ?_) (fun c1 => ?_)
    · obtain rfl : q = 30 := by omega
      refine lv_aload_n hx hb dX1_init_111 rfl (lv_at hl 1 rfl) ?_
      refine lv_iconst (v := (nI 1)) hx hb dX1_init_112 (by decide) ?_
      refine x1_p2 E hX dX1_init_113 (fun H locs hX => ?_)
      refine lv_aload_n hx hb dX1_init_116 rfl (lv_at hl 1 rfl) ?_
      refine x1_g3 E hX dX1_init_117 ?_
      refine lv_iconst (v := (nI 0)) hx hb dX1_init_120 (by decide) ?_
      refine lv_iconst (v := (nI 0)) hx hb dX1_init_121 (by decide) ?_
      refine x1_s3 E hX (by omega) dX1_init_122 (fun H locs hX => ?_)
      refine lv_aload_n hx hb dX1_init_123 rfl (lv_at hl 1 rfl) ?_
      refine x1_g4 E hX dX1_init_124 ?_
      refine lv_iconst (v := (nI 0)) hx hb dX1_init_127 (by decide) ?_
      refine lv_bipush (v := (nI 29)) hx hb dX1_init_128 (by decide) ?_
      refine x1_s4 E hX (by omega) dX1_init_130 (fun H locs hX => ?_)
      refine lv_aload_n hx hb dX1_init_131 rfl (lv_at hl 1 rfl) ?_
      refine lv_bipush (v := (-4)) hx hb dX1_init_132 (by decide) ?_
      refine x1_p11 E hX dX1_init_134 (fun H locs hX => ?_)
      exact W.vret hx hb hr (fun T9 hT9 hW9 => ⟨⟨(a, cA), rfl, ha0, by rw [hT9]; exact hX.1, va_K.moved hW9.alike hK, hX.2.1⟩, hX.2.2.F hT9⟩) hX.2.2.2.2 dX1_init_137
    · refine lv_aload_n hx hb dX1_init_98 rfl (lv_at hl 1 rfl) ?_
      refine x1_g1 E hX dX1_init_99 ?_
      refine lv_iload_n hx hb dX1_init_102 rfl (lv_at hl 0 rfl) ?_
      refine lv_iconst (v := (nI 1)) hx hb dX1_init_103 (by decide) ?_
      refine x1_s2 E hX (by omega) dX1_init_104 (fun H locs hX => ?_)
      refine lv_iinc (v := (nI (q + 1))) (lv' := [(1, .int (nI (q + 1))), (0, .ref (a 0))]) hx hb dX1_init_105 hl (k := 0) rfl (nI_1 _) (by decide) rfl (fun ls hl => ?_)
      refine lv_goto (tgt := 92) hx hb dX1_init_108 (by decide) ?_
      exact ih (q + 1) _ _ _ ⟨by omega, by rw [← pf_ones_up]; exact hX, lv_sub hl [0, 1] rfl⟩ (by dsimp only; omega)
end
section
set_option maxRecDepth 100000
/-! THE CLAIM OUT OF ONE WALK OF THE LAW'S BODY. Your part is whole_start (and what it stands on); all else here is the same for every law, but numbers. -/
def R_law : String := "PathFamiliesLaw"
def lw_P (b : Addr) (xs : List Int32) (args : Array Value) (s : State) : Prop := args = #[.ref b] ∧ s.IntsAt b xs ∧ xs.length ≤ 192 ∧ (Jvm.Cond.and given_1 narrow_1).before args s = true
def lw_Q (_ : Array Value) (s : State) (o : Outcome) (t : State) : Prop := o = .returned (some (.int 1)) ∧ Framed s o t [] 600000 7290000
def lw_Z (below : List Frame) (a : Array Value) (s : State) : State → Prop := fun t => ∃ o, t.status = .running ∧ Ended t below o ∧ lw_Q a s o t
/-- the law's own end, with 1 on the stack, nothing written that was there before, its room as the claim has it -/
theorem lw_ret {p : Program} {l : Launch} {e : Env} {s : State} {m : MethodId} {below : List Frame} {meth : Method} {c : Code} {b : Nat} (hx : p.tables.exec = Jvm.exec) (hb : c.code = code) (hr : meth.sig.returnType = ret) (hlocks : meth.locks = false) {pc : Nat} {H : Heap} {ls : Array Slot} (hdg : decode code pc = .ok (.ireturn, 1)) : W p l e room_1 s m #[Value.ref b] below meth c H [] 600000 7290000 (lw_Z below #[Value.ref b] s) (F0 m pc ls [.int 1]) := by
  intro T hT X
  obtain ⟨fs, hret, hrun, hended, hW, hframe⟩ := X.leave (v := some (.int 1)) (hlocks := hlocks) (fun h => by rw [hr] at h; cases h)
  have hmeth' : T.vm.method? m = some meth := X.method'
  refine ⟨T.setFrames fs, ?_, .returned (some (.int 1)), hrun, hended, rfl, ⟨_, rfl⟩, hW, hframe⟩
  jvm_step X.here [X.here.top, hx, hb, hdg, hmeth', hr, ret, narrow_b1]
  (try refine ⟨rfl, ?_⟩); (try refine ⟨rfl, ?_⟩)
  first | (intro acts; rw [hret _ acts rfl rfl rfl]) | rw [hret _ _ rfl rfl rfl]
  exact Steps.refl _
/-- what holds at the law's entry: the machine, the code, the tables' words (any of lw_tbl by 'hts w (by decide +kernel)'), the script of L ints xs at the cell b, what the Statement gives of the start (any of its parts by flat_of_before) -/
def lw_At (p : Program) (s : State) (m : MethodId) (meth : Method) (c : Code) (b L : Nat) (xs : Nat → Int32) : Prop :=
  p.tables.exec = Jvm.exec ∧ c.code = code ∧ meth.sig.returnType = ret ∧ c.maxLocals = 4 ∧ s.vm.findClass R_law = some m.cls ∧ (∀ w ∈ lw_tbl, w.before #[Value.ref b] s = true) ∧ va_X b L xs s s.heap ∧ b < s.heap.size ∧ meth.locks = false ∧ (Jvm.Cond.and given_1 narrow_1).before #[Value.ref b] s = true
section LB
variable {p : Program} {l : Launch} {e : Env} {s : State} {m : MethodId} {below : List Frame} {meth : Method} {c : Code} {H : Heap} {locs : List Loc} {cells slots : Nat} {Q : State → Prop}
variable {cc : ByteArray} {pc : Nat} {ls : Array Slot} {rest : List Value} {dC : Nat → ClassId} {dI : Nat → Nat → Nat} {A : Nat → Prop} {H0 : Heap}
/-- two worlds side by side -/
def wd2 (D : va_G) (A : Nat → Prop) (H0 : Heap) (wa wb : va_W) (H : Heap) (locs : List Loc) : Prop := va_P D vwCl wa H ∧ va_P D vwCl wb H ∧ (va_D A wa ∧ va_D A wb ∧ ∀ (i j : Nat) (x y : Nat × va_E), wa[i]? = some x → wb[j]? = some y → x.1 ≠ y.1) ∧ va_S A H0 H locs
theorem wd2_sw {D : va_G} {wa wb : va_W} (h : wd2 D A H0 wa wb H locs) : wd2 D A H0 wb wa H locs := ⟨h.2.1, h.1, ⟨h.2.2.1.2.1, h.2.2.1.1, fun i j x y hx hy e => h.2.2.1.2.2 j i y x hy hx e.symm⟩, h.2.2.2⟩
theorem wd2_of {D : va_G} {wa wb : va_W} (hP : va_P D vwCl (wa ++ wb) H) (hD : va_D A (wa ++ wb)) (hS : va_S A H0 H locs) : wd2 D A H0 wa wb H locs := by
  have hl : ∀ (k : Nat) (q : Nat × va_E), wa[k]? = some q → (wa ++ wb)[k]? = some q := by
    intro k q hk
    rw [List.getElem?_append_left (List.getElem?_eq_some_iff.mp hk).1]
    exact hk
  have hr : ∀ (k : Nat) (q : Nat × va_E), wb[k]? = some q → (wa ++ wb)[wa.length + k]? = some q := by
    intro k q hk
    rw [List.getElem?_append_right (Nat.le_add_right _ _), Nat.add_sub_cancel_left]
    exact hk
  refine ⟨fun k q hk => hP k q (hl k q hk), fun k q hk => hP _ q (hr k q hk), ⟨⟨fun i j x y hx hy e => hD.1 i j x y (hl i x hx) (hl j y hy) e, fun k q hk => hD.2 k q (hl k q hk)⟩, ⟨fun i j x y hx hy e => ?_, fun k q hk => hD.2 _ q (hr k q hk)⟩, fun i j x y hx hy e => ?_⟩, hS⟩
  · have := hD.1 _ _ x y (hr i x hx) (hr j y hy) e
    omega
  · have h1 := hD.1 _ _ x y (hl i x hx) (hr j y hy) e
    have h2 := (List.getElem?_eq_some_iff.mp hx).1
    omega
/-- a call at one of two worlds; the other stays -/
theorem cb_i {R : Room} {args : Array Value} {S : Type} {post : Int32 → S → Prop} {wf : S → va_W} {ws wr : va_W} {tys : List (ClassId × FieldType)} {y : MethodName} {wsy : List Cond} {bytes : ByteArray} {maxL nL index n ci b : Nat} {ret : Option FieldType} {rm : Room} {own C9 : String} {q9 : vw_C} {fs : List Value} {As st0 : List Value} {D : va_G} (F : CallFix p m c cc nL s args lw_all own) (hK : va_K D vwCl tys s) (hX : wd2 D A H0 ws wr H locs) (hA : ∀ q, H0.size ≤ q → A q) (hM : Met l y wsy rm (va_Pc (.ref b :: As) (pcW D tys H.size ws)) (va_Qi post (fun u t => bW D tys (va_A ws H.size) (wf u) t) (va_A ws H.size)) 0 0 (va_A ws H.size)) (cw : CallW R s args own C9 index y bytes maxL ret wsy rm 0 0 n) (hc : vwCl[ci]? = some q9) (hq : q9.1 = C9) (he : ws[0]? = some (b, .inr (ci, fs))) (hn : As.length = n) (hsize : ls.size = nL) (hst : st0 = As.reverse ++ .ref b :: rest) (hW : (rest.map fun v => v.category).sum ≤ 8) (hdg : decode cc pc = .ok (.invokevirtual index, 3)) (hf : cells ≤ R.cells ∧ slots ≤ R.slots) (kk : ∀ (r : Int32) (u : S) (H1 : Heap) (locs1 : List Loc), post r u → wd2 D A H0 (wf u) wr H1 locs1 → W p l e R s m args below meth c H1 locs1 cells slots Q (F0 m (pc + 3) ls (.int r :: rest))) : W p l e R s m args below meth c H locs cells slots Q (F0 m pc ls st0) := by
  have hFc : ∀ q, va_A ws H.size q → A q := by
    intro q h
    rcases h with ⟨k, e, h⟩ | h
    · exact hX.2.2.1.1.2 k (q, e) h
    · exact hA q (Nat.le_trans hX.2.2.2.1 h)
  have hap : ∀ (k : Nat) (q : Nat × va_E), wr[k]? = some q → q.1 < H.size ∧ ¬ va_A ws H.size q.1 := by
    intro k q hq
    have hl := (hX.2.1 k q hq).lt
    refine ⟨hl, fun h => ?_⟩
    rcases h with ⟨k2, e, h⟩ | h
    · exact hX.2.2.1.2.2 k2 k (q.1, e) q h hq rfl
    · omega
  refine va_calli (va_runV F hM cw ⟨fun a U g mk q => by obtain ⟨q0, q1, qP, qK, qD⟩ := q; exact ⟨q0, q1, qP, va_K.moved (u := U) (U := U.calling g mk a) (Vm.Alike.refl U.vm) qK, qD⟩, by rw [← hq]; exact va_recv hK hX.1 hc he, fun U hU hW => ⟨rfl, by rw [hU], by rw [hU]; exact hX.1, va_K.moved hW.alike hK, hX.2.2.1.1.weaken (fun _ _ _ _ => trivial)⟩⟩ rfl hn hsize hst (lv_room hW) hdg hf) hX.2.2.2 (fun q _ h => hFc q h) hFc (fun r u t H1 locs1 ht hvm hw hB hz hk hS => ?_)
  exact kk r u H1 locs1 hw ⟨by rw [← ht]; exact hB.1, hX.2.1.kept (fun k q hq => hk q.1 (hap k q hq).1 (hap k q hq).2), ⟨hB.2.2.weaken (fun _ _ _ h => hFc _ h), hX.2.2.1.2.1, fun i j x y hx hy e => (hap j y hy).2 (by rw [← e]; exact hB.2.2.2 i x hx)⟩, hS⟩
/-- what holds all through the law's walk -/
def lwE (p : Program) (s : State) (m : MethodId) (c : Code) (b L : Nat) (xs : Nat → Int32) (dC : Nat → ClassId) (dI : Nat → Nat → Nat) (A : Nat → Prop) (cA cM : Nat → ClassId) : Prop := (p.tables.exec = Jvm.exec ∧ c.code = code ∧ c.maxLocals = 4 ∧ s.vm.findClass R_law = some m.cls ∧ ∀ w ∈ lw_all, w.before #[Value.ref b] s = true) ∧ (va_K (dC, dI) vwCl (t0 cA) s ∧ va_K (dC, dI) vwCl (t1 cM) s) ∧ (va_X b L xs s s.heap ∧ b < s.heap.size ∧ ¬ A b ∧ L ≤ 192) ∧ (∀ q : Nat, s.heap.size ≤ q → A q)
/-- an int of the script -/
theorem sc_ld {b L : Nat} {xs : Nat → Int32} {cA cM : Nat → ClassId} {wa wb : va_W} (E : lwE p s m c b L xs dC dI A cA cM) (hX : wd2 (dC, dI) A s.heap wa wb H locs) {k : Nat} (hk : k < L) (hdg : decode code pc = .ok (.iaload, 1)) (kk : W p l e room_1 s m #[Value.ref b] below meth c H locs cells slots Q (F0 m (pc + 1) ls (.int (xs k) :: rest))) : W p l e room_1 s m #[Value.ref b] below meth c H locs cells slots Q (F0 m pc ls (.int (nI k) :: .ref b :: rest)) := by
  have hL := E.2.2.1.2.2.2
  refine va_sld E.1.1 E.1.2.1 E.2.2.1.1 E.2.2.1.2.1 E.2.2.1.2.2.1 hX.2.2.2 (vp_in_nI hk (by omega)) hdg ?_
  rw [nI_clamp (by omega)]
  exact kk
/-- the two objects agree -/
def lw_inv (s : State) (dC : Nat → ClassId) (dI : Nat → Nat → Nat) (A : Nat → Prop) (a aM : Nat → Nat) (cA cM : Nat → ClassId) (H : Heap) (locs : List Loc) : Prop := ∃ (B : Nat → Bool) (w : Nat → Int32) (n : Nat) (st go : Nat → Nat) (C : Nat → Bool) (fr : Nat → Nat) (wy mx : Nat → Int32) (ld : Bool) (nu : Int32) (sz pa : Nat → Nat) (g : Nat) (wk ow tr : Nat → Nat) (tk : Nat → Bool) (wz : Nat → Int32) (rk : Int32) (lm : Nat) (kp ko : Nat → Nat), pf_wf n st go ∧ pf_eq n ld nu sz pa rk lm kp ko ∧ wd2 (dC, dI) A s.heap (w0 a cA B w n st go C fr wy mx ld nu sz pa) (w1 aM cM B w n st go g wk ow tr tk wz rk lm kp ko) H locs
end LB
end
section
set_option maxRecDepth 100000
section LO
variable {p : Program} {l : Launch} {e : Env} {s : State} {m : MethodId} {below : List Frame} {meth : Method} {c : Code} {H : Heap} {locs : List Loc} {cells slots : Nat} {Q : State → Prop}
variable {cc : ByteArray} {pc : Nat} {ls : Array Slot} {rest : List Value} {dC : Nat → ClassId} {dI : Nat → Nat → Nat} {A : Nat → Prop} {H0 : Heap}
set_option maxHeartbeats 4000000 in
theorem lwop_ends {b L : Nat} {xs : Nat → Int32} {cA cM : Nat → ClassId} {a aM : Nat → Nat} (E : lwE p s m c b L xs dC dI A cA cM) (hf : cells ≤ room_1.cells ∧ slots ≤ room_1.slots) {i : Nat} (hi : i + 3 ≤ L) (hI : lw_inv s dC dI A a aM cA cM H locs) (hl : lv_has ls 4 [(3, .int (nI i)), (2, .ref (aM 0)), (1, .ref (a 0)), (0, .ref b)]) (kk : ∀ (H : Heap) (locs : List Loc), lw_inv s dC dI A a aM cA cM H locs → W p l e room_1 s m #[Value.ref b] below meth c H locs cells slots Q (F0 m 409 ls [])) : W p l e room_1 s m #[Value.ref b] below meth c H locs cells slots Q (F0 m 100 ls []) := by
  have hx := E.1.1
  have hb := E.1.2.1
  have hL := E.2.2.1.2.2.2
  have hts := E.1.2.2.2.2
  obtain ⟨B, w, n, st, go, C, fr, wy, mx, ld, nu, sz, pa, g, wk, ow, tr, tk, wz, rk, lm, kp, ko, hwf, heq, hX⟩ := hI
  refine lv_aload_n hx hb dL_law_100 rfl (lv_at hl 2 rfl) ?_
  refine lv_aload_n hx hb dL_law_101 rfl (lv_at hl 3 rfl) ?_
  refine lv_iload_n hx hb dL_law_102 rfl (lv_at hl 0 rfl) ?_
  refine lv_iconst (v := nI 1) hx hb dL_law_103 (by decide) ?_
  refine lv_iadd hx hb dL_law_104 ?_
  refine tp (y := nI (i + 1)) (nI_add _ _) ?_
  refine sc_ld E hX (by omega) dL_law_105 ?_
  refine lv_aload_n hx hb dL_law_106 rfl (lv_at hl 3 rfl) ?_
  refine lv_iload_n hx hb dL_law_107 rfl (lv_at hl 0 rfl) ?_
  refine lv_iconst (v := nI 2) hx hb dL_law_108 (by decide) ?_
  refine lv_iadd hx hb dL_law_109 ?_
  refine tp (y := nI (i + 2)) (nI_add _ _) ?_
  refine sc_ld E hX (by omega) dL_law_110 ?_
  refine cb_i (ci := 0) (As := [.int (xs (i + 1)), .int (xs (i + 2))]) (rest := []) E.1 E.2.1.1 hX E.2.2.2 (metX0_ends l dC dI a cA _ B w n st go C fr wy mx ld nu sz pa (xs (i + 1)) (xs (i + 2)) ) (cwV 2 hts (lw_V q78 q79 q80 q25 q81) rfl rfl rfl (by decide +kernel) ⟨Nat.le_of_ble_eq_true rfl, Nat.le_of_ble_eq_true rfl⟩) rfl rfl rfl rfl hl.1 rfl (Nat.le_of_ble_eq_true rfl) dL_law_111 hf (fun r1 ⟨n9, s9, g9, l9⟩ H locs hw1 hX => ?_)
  have hX : wd2 (dC, dI) A s.heap (w0 a cA B w n9 s9 g9 C fr wy mx l9 nu sz pa) (w1 aM cM B w n st go g wk ow tr tk wz rk lm kp ko) H locs := hX
  refine lv_aload_n hx hb dL_law_114 rfl (lv_at hl 1 rfl) ?_
  refine lv_aload_n hx hb dL_law_115 rfl (lv_at hl 3 rfl) ?_
  refine lv_iload_n hx hb dL_law_116 rfl (lv_at hl 0 rfl) ?_
  refine lv_iconst (v := nI 1) hx hb dL_law_117 (by decide) ?_
  refine lv_iadd hx hb dL_law_118 ?_
  refine tp (y := nI (i + 1)) (nI_add _ _) ?_
  refine sc_ld E hX (by omega) dL_law_119 ?_
  refine lv_aload_n hx hb dL_law_120 rfl (lv_at hl 3 rfl) ?_
  refine lv_iload_n hx hb dL_law_121 rfl (lv_at hl 0 rfl) ?_
  refine lv_iconst (v := nI 2) hx hb dL_law_122 (by decide) ?_
  refine lv_iadd hx hb dL_law_123 ?_
  refine tp (y := nI (i + 2)) (nI_add _ _) ?_
  refine sc_ld E hX (by omega) dL_law_124 ?_
  refine cb_i (ci := 1) (As := [.int (xs (i + 1)), .int (xs (i + 2))]) (rest := [.int r1]) E.1 E.2.1.2 (wd2_sw hX) E.2.2.2 (metX1_ends l dC dI aM cM _ B w n st go g wk ow tr tk wz rk lm kp ko (xs (i + 1)) (xs (i + 2)) ) (cwV 2 hts (lw_V q238 q239 q240 q26 q241) rfl rfl rfl (by decide +kernel) ⟨Nat.le_of_ble_eq_true rfl, Nat.le_of_ble_eq_true rfl⟩) rfl rfl rfl rfl hl.1 rfl (Nat.le_of_ble_eq_true rfl) dL_law_125 hf (fun r2 ⟨n8, s8, g8, k8, l8⟩ H locs hw2 hX => ?_)
  have hX : wd2 (dC, dI) A s.heap (w0 a cA B w n9 s9 g9 C fr wy mx l9 nu sz pa) (w1 aM cM B w n8 s8 g8 g wk ow tr tk wz k8 l8 kp ko) H locs := wd2_sw hX
  obtain ⟨hr1, hen1, hl1⟩ := hw1
  obtain ⟨hr2, hen2, hk2, hl2⟩ := hw2
  have hen3 := hen1.trans hen2.symm
  cases hen3
  subst hl1
  subst hk2
  subst hl2
  refine lv_icmp_eq (tgt := 409) hx hb dL_law_128 (by decide) (fun _ => kk H locs ⟨_, _, n9, s9, g9, _, _, _, _, _, _, _, _, _, _, _, _, _, _, _, _, _, _, wf_ends hwf hen1, eq_off (pf_eo (xs (i + 1)) (xs (i + 2))) (en_n hen1) heq, hX⟩) (fun c9 => absurd (hr1.trans hr2.symm) c9)
set_option maxHeartbeats 4000000 in
theorem lwop_block {b L : Nat} {xs : Nat → Int32} {cA cM : Nat → ClassId} {a aM : Nat → Nat} (E : lwE p s m c b L xs dC dI A cA cM) (hf : cells ≤ room_1.cells ∧ slots ≤ room_1.slots) {i : Nat} (hi : i + 3 ≤ L) (hI : lw_inv s dC dI A a aM cA cM H locs) (hl : lv_has ls 4 [(3, .int (nI i)), (2, .ref (aM 0)), (1, .ref (a 0)), (0, .ref b)]) (kk : ∀ (H : Heap) (locs : List Loc), lw_inv s dC dI A a aM cA cM H locs → W p l e room_1 s m #[Value.ref b] below meth c H locs cells slots Q (F0 m 409 ls [])) : W p l e room_1 s m #[Value.ref b] below meth c H locs cells slots Q (F0 m 133 ls []) := by
  have hx := E.1.1
  have hb := E.1.2.1
  have hL := E.2.2.1.2.2.2
  have hts := E.1.2.2.2.2
  obtain ⟨B, w, n, st, go, C, fr, wy, mx, ld, nu, sz, pa, g, wk, ow, tr, tk, wz, rk, lm, kp, ko, hwf, heq, hX⟩ := hI
  refine lv_aload_n hx hb dL_law_133 rfl (lv_at hl 2 rfl) ?_
  refine lv_aload_n hx hb dL_law_134 rfl (lv_at hl 3 rfl) ?_
  refine lv_iload_n hx hb dL_law_135 rfl (lv_at hl 0 rfl) ?_
  refine lv_iconst (v := nI 1) hx hb dL_law_136 (by decide) ?_
  refine lv_iadd hx hb dL_law_137 ?_
  refine tp (y := nI (i + 1)) (nI_add _ _) ?_
  refine sc_ld E hX (by omega) dL_law_138 ?_
  refine lv_aload_n hx hb dL_law_139 rfl (lv_at hl 3 rfl) ?_
  refine lv_iload_n hx hb dL_law_140 rfl (lv_at hl 0 rfl) ?_
  refine lv_iconst (v := nI 2) hx hb dL_law_141 (by decide) ?_
  refine lv_iadd hx hb dL_law_142 ?_
  refine tp (y := nI (i + 2)) (nI_add _ _) ?_
  refine sc_ld E hX (by omega) dL_law_143 ?_
  refine cb_i (ci := 0) (As := [.int (xs (i + 1)), .int (xs (i + 2))]) (rest := []) E.1 E.2.1.1 hX E.2.2.2 (metX0_block l dC dI a cA _ B w n st go C fr wy mx ld nu sz pa (xs (i + 1)) (xs (i + 2)) ) (cwV 2 hts (lw_V q86 q87 q88 q25 q89) rfl rfl rfl (by decide +kernel) ⟨Nat.le_of_ble_eq_true rfl, Nat.le_of_ble_eq_true rfl⟩) rfl rfl rfl rfl hl.1 rfl (Nat.le_of_ble_eq_true rfl) dL_law_144 hf (fun r1 ⟨B9, l9⟩ H locs hw1 hX => ?_)
  have hX : wd2 (dC, dI) A s.heap (w0 a cA B9 w n st go C fr wy mx l9 nu sz pa) (w1 aM cM B w n st go g wk ow tr tk wz rk lm kp ko) H locs := hX
  refine lv_aload_n hx hb dL_law_147 rfl (lv_at hl 1 rfl) ?_
  refine lv_aload_n hx hb dL_law_148 rfl (lv_at hl 3 rfl) ?_
  refine lv_iload_n hx hb dL_law_149 rfl (lv_at hl 0 rfl) ?_
  refine lv_iconst (v := nI 1) hx hb dL_law_150 (by decide) ?_
  refine lv_iadd hx hb dL_law_151 ?_
  refine tp (y := nI (i + 1)) (nI_add _ _) ?_
  refine sc_ld E hX (by omega) dL_law_152 ?_
  refine lv_aload_n hx hb dL_law_153 rfl (lv_at hl 3 rfl) ?_
  refine lv_iload_n hx hb dL_law_154 rfl (lv_at hl 0 rfl) ?_
  refine lv_iconst (v := nI 2) hx hb dL_law_155 (by decide) ?_
  refine lv_iadd hx hb dL_law_156 ?_
  refine tp (y := nI (i + 2)) (nI_add _ _) ?_
  refine sc_ld E hX (by omega) dL_law_157 ?_
  refine cb_i (ci := 1) (As := [.int (xs (i + 1)), .int (xs (i + 2))]) (rest := [.int r1]) E.1 E.2.1.2 (wd2_sw hX) E.2.2.2 (metX1_block l dC dI aM cM _ B w n st go g wk ow tr tk wz rk lm kp ko (xs (i + 1)) (xs (i + 2)) ) (cwV 2 hts (lw_V q250 q251 q252 q26 q253) rfl rfl rfl (by decide +kernel) ⟨Nat.le_of_ble_eq_true rfl, Nat.le_of_ble_eq_true rfl⟩) rfl rfl rfl rfl hl.1 rfl (Nat.le_of_ble_eq_true rfl) dL_law_158 hf (fun r2 ⟨B8, k8, l8⟩ H locs hw2 hX => ?_)
  have hX : wd2 (dC, dI) A s.heap (w0 a cA B9 w n st go C fr wy mx l9 nu sz pa) (w1 aM cM B8 w n st go g wk ow tr tk wz k8 l8 kp ko) H locs := wd2_sw hX
  obtain ⟨hr1, hB1, hl1⟩ := hw1
  obtain ⟨hr2, hB2, hk2, hl2⟩ := hw2
  subst hB1
  subst hB2
  subst hl1
  subst hk2
  subst hl2
  refine lv_icmp_eq (tgt := 409) hx hb dL_law_161 (by decide) (fun _ => kk H locs ⟨(op_bB B (xs (i + 1)) (xs (i + 2))), _, _, _, _, _, _, _, _, _, _, _, _, _, _, _, _, _, _, _, _, _, _, hwf, eq_off (ix (xs (i + 1)) 30).isSome (fun _ => rfl) heq, hX⟩) (fun c9 => absurd (hr1.trans hr2.symm) c9)
set_option maxHeartbeats 4000000 in
theorem lwop_weight {b L : Nat} {xs : Nat → Int32} {cA cM : Nat → ClassId} {a aM : Nat → Nat} (E : lwE p s m c b L xs dC dI A cA cM) (hf : cells ≤ room_1.cells ∧ slots ≤ room_1.slots) {i : Nat} (hi : i + 3 ≤ L) (hI : lw_inv s dC dI A a aM cA cM H locs) (hl : lv_has ls 4 [(3, .int (nI i)), (2, .ref (aM 0)), (1, .ref (a 0)), (0, .ref b)]) (kk : ∀ (H : Heap) (locs : List Loc), lw_inv s dC dI A a aM cA cM H locs → W p l e room_1 s m #[Value.ref b] below meth c H locs cells slots Q (F0 m 409 ls [])) : W p l e room_1 s m #[Value.ref b] below meth c H locs cells slots Q (F0 m 166 ls []) := by
  have hx := E.1.1
  have hb := E.1.2.1
  have hL := E.2.2.1.2.2.2
  have hts := E.1.2.2.2.2
  obtain ⟨B, w, n, st, go, C, fr, wy, mx, ld, nu, sz, pa, g, wk, ow, tr, tk, wz, rk, lm, kp, ko, hwf, heq, hX⟩ := hI
  refine lv_aload_n hx hb dL_law_166 rfl (lv_at hl 2 rfl) ?_
  refine lv_aload_n hx hb dL_law_167 rfl (lv_at hl 3 rfl) ?_
  refine lv_iload_n hx hb dL_law_168 rfl (lv_at hl 0 rfl) ?_
  refine lv_iconst (v := nI 1) hx hb dL_law_169 (by decide) ?_
  refine lv_iadd hx hb dL_law_170 ?_
  refine tp (y := nI (i + 1)) (nI_add _ _) ?_
  refine sc_ld E hX (by omega) dL_law_171 ?_
  refine lv_aload_n hx hb dL_law_172 rfl (lv_at hl 3 rfl) ?_
  refine lv_iload_n hx hb dL_law_173 rfl (lv_at hl 0 rfl) ?_
  refine lv_iconst (v := nI 2) hx hb dL_law_174 (by decide) ?_
  refine lv_iadd hx hb dL_law_175 ?_
  refine tp (y := nI (i + 2)) (nI_add _ _) ?_
  refine sc_ld E hX (by omega) dL_law_176 ?_
  refine cb_i (ci := 0) (As := [.int (xs (i + 1)), .int (xs (i + 2))]) (rest := []) E.1 E.2.1.1 hX E.2.2.2 (metX0_weight l dC dI a cA _ B w n st go C fr wy mx ld nu sz pa (xs (i + 1)) (xs (i + 2)) ) (cwV 2 hts (lw_V q94 q95 q96 q25 q97) rfl rfl rfl (by decide +kernel) ⟨Nat.le_of_ble_eq_true rfl, Nat.le_of_ble_eq_true rfl⟩) rfl rfl rfl rfl hl.1 rfl (Nat.le_of_ble_eq_true rfl) dL_law_177 hf (fun r1 w9 H locs hw1 hX => ?_)
  have hX : wd2 (dC, dI) A s.heap (w0 a cA B w9 n st go C fr wy mx ld nu sz pa) (w1 aM cM B w n st go g wk ow tr tk wz rk lm kp ko) H locs := hX
  refine lv_aload_n hx hb dL_law_180 rfl (lv_at hl 1 rfl) ?_
  refine lv_aload_n hx hb dL_law_181 rfl (lv_at hl 3 rfl) ?_
  refine lv_iload_n hx hb dL_law_182 rfl (lv_at hl 0 rfl) ?_
  refine lv_iconst (v := nI 1) hx hb dL_law_183 (by decide) ?_
  refine lv_iadd hx hb dL_law_184 ?_
  refine tp (y := nI (i + 1)) (nI_add _ _) ?_
  refine sc_ld E hX (by omega) dL_law_185 ?_
  refine lv_aload_n hx hb dL_law_186 rfl (lv_at hl 3 rfl) ?_
  refine lv_iload_n hx hb dL_law_187 rfl (lv_at hl 0 rfl) ?_
  refine lv_iconst (v := nI 2) hx hb dL_law_188 (by decide) ?_
  refine lv_iadd hx hb dL_law_189 ?_
  refine tp (y := nI (i + 2)) (nI_add _ _) ?_
  refine sc_ld E hX (by omega) dL_law_190 ?_
  refine cb_i (ci := 1) (As := [.int (xs (i + 1)), .int (xs (i + 2))]) (rest := [.int r1]) E.1 E.2.1.2 (wd2_sw hX) E.2.2.2 (metX1_weight l dC dI aM cM _ B w n st go g wk ow tr tk wz rk lm kp ko (xs (i + 1)) (xs (i + 2)) ) (cwV 2 hts (lw_V q258 q259 q260 q26 q261) rfl rfl rfl (by decide +kernel) ⟨Nat.le_of_ble_eq_true rfl, Nat.le_of_ble_eq_true rfl⟩) rfl rfl rfl rfl hl.1 rfl (Nat.le_of_ble_eq_true rfl) dL_law_191 hf (fun r2 w8 H locs hw2 hX => ?_)
  have hX : wd2 (dC, dI) A s.heap (w0 a cA B w9 n st go C fr wy mx ld nu sz pa) (w1 aM cM B w8 n st go g wk ow tr tk wz rk lm kp ko) H locs := wd2_sw hX
  obtain ⟨hr1, hB1⟩ := hw1
  obtain ⟨hr2, hB2⟩ := hw2
  subst hB1
  subst hB2
  refine lv_icmp_eq (tgt := 409) hx hb dL_law_194 (by decide) (fun _ => kk H locs ⟨_, (op_wW w (xs (i + 1)) (xs (i + 2))), _, _, _, _, _, _, _, _, _, _, _, _, _, _, _, _, _, _, _, _, _, hwf, heq, hX⟩) (fun c9 => absurd (hr1.trans hr2.symm) c9)
set_option maxHeartbeats 4000000 in
theorem lwop_paths {b L : Nat} {xs : Nat → Int32} {cA cM : Nat → ClassId} {a aM : Nat → Nat} (E : lwE p s m c b L xs dC dI A cA cM) (hf : cells ≤ room_1.cells ∧ slots ≤ room_1.slots) {i : Nat} (hi : i + 3 ≤ L) (hI : lw_inv s dC dI A a aM cA cM H locs) (hl : lv_has ls 4 [(3, .int (nI i)), (2, .ref (aM 0)), (1, .ref (a 0)), (0, .ref b)]) (kk : ∀ (H : Heap) (locs : List Loc), lw_inv s dC dI A a aM cA cM H locs → W p l e room_1 s m #[Value.ref b] below meth c H locs cells slots Q (F0 m 409 ls [])) : W p l e room_1 s m #[Value.ref b] below meth c H locs cells slots Q (F0 m 199 ls []) := by
  have hx := E.1.1
  have hb := E.1.2.1
  have hL := E.2.2.1.2.2.2
  have hts := E.1.2.2.2.2
  obtain ⟨B, w, n, st, go, C, fr, wy, mx, ld, nu, sz, pa, g, wk, ow, tr, tk, wz, rk, lm, kp, ko, hwf, heq, hX⟩ := hI
  refine lv_aload_n hx hb dL_law_199 rfl (lv_at hl 2 rfl) ?_
  refine lv_aload_n hx hb dL_law_200 rfl (lv_at hl 3 rfl) ?_
  refine lv_iload_n hx hb dL_law_201 rfl (lv_at hl 0 rfl) ?_
  refine lv_iconst (v := nI 1) hx hb dL_law_202 (by decide) ?_
  refine lv_iadd hx hb dL_law_203 ?_
  refine tp (y := nI (i + 1)) (nI_add _ _) ?_
  refine sc_ld E hX (by omega) dL_law_204 ?_
  refine lv_aload_n hx hb dL_law_205 rfl (lv_at hl 3 rfl) ?_
  refine lv_iload_n hx hb dL_law_206 rfl (lv_at hl 0 rfl) ?_
  refine lv_iconst (v := nI 2) hx hb dL_law_207 (by decide) ?_
  refine lv_iadd hx hb dL_law_208 ?_
  refine tp (y := nI (i + 2)) (nI_add _ _) ?_
  refine sc_ld E hX (by omega) dL_law_209 ?_
  refine cb_i (ci := 0) (As := [.int (xs (i + 1)), .int (xs (i + 2))]) (rest := []) E.1 E.2.1.1 hX E.2.2.2 (metX0_paths l dC dI a cA _ B w n st go C fr wy mx ld nu sz pa (xs (i + 1)) (xs (i + 2)) hwf) (cwV 2 hts (lw_V q98 q99 q100 q25 q101) rfl rfl rfl (by decide +kernel) ⟨Nat.le_of_ble_eq_true rfl, Nat.le_of_ble_eq_true rfl⟩) rfl rfl rfl rfl hl.1 rfl (Nat.le_of_ble_eq_true rfl) dL_law_210 hf (fun r1 ⟨C9, f9, y9⟩ H locs hw1 hX => ?_)
  have hX : wd2 (dC, dI) A s.heap (w0 a cA B w n st go C9 f9 y9 mx ld nu sz pa) (w1 aM cM B w n st go g wk ow tr tk wz rk lm kp ko) H locs := hX
  refine lv_aload_n hx hb dL_law_213 rfl (lv_at hl 1 rfl) ?_
  refine lv_aload_n hx hb dL_law_214 rfl (lv_at hl 3 rfl) ?_
  refine lv_iload_n hx hb dL_law_215 rfl (lv_at hl 0 rfl) ?_
  refine lv_iconst (v := nI 1) hx hb dL_law_216 (by decide) ?_
  refine lv_iadd hx hb dL_law_217 ?_
  refine tp (y := nI (i + 1)) (nI_add _ _) ?_
  refine sc_ld E hX (by omega) dL_law_218 ?_
  refine lv_aload_n hx hb dL_law_219 rfl (lv_at hl 3 rfl) ?_
  refine lv_iload_n hx hb dL_law_220 rfl (lv_at hl 0 rfl) ?_
  refine lv_iconst (v := nI 2) hx hb dL_law_221 (by decide) ?_
  refine lv_iadd hx hb dL_law_222 ?_
  refine tp (y := nI (i + 2)) (nI_add _ _) ?_
  refine sc_ld E hX (by omega) dL_law_223 ?_
  refine cb_i (ci := 1) (As := [.int (xs (i + 1)), .int (xs (i + 2))]) (rest := [.int r1]) E.1 E.2.1.2 (wd2_sw hX) E.2.2.2 (metX1_paths l dC dI aM cM _ B w n st go g wk ow tr tk wz rk lm kp ko (xs (i + 1)) (xs (i + 2)) hwf) (cwV 2 hts (lw_V q262 q263 q264 q26 q265) rfl rfl rfl (by decide +kernel) ⟨Nat.le_of_ble_eq_true rfl, Nat.le_of_ble_eq_true rfl⟩) rfl rfl rfl rfl hl.1 rfl (Nat.le_of_ble_eq_true rfl) dL_law_224 hf (fun r2 y8 H locs hw2 hX => ?_)
  have hX : wd2 (dC, dI) A s.heap (w0 a cA B w n st go C9 f9 y9 mx ld nu sz pa) (w1 aM cM B w n st go g wk ow tr tk y8 rk lm kp ko) H locs := wd2_sw hX
  have hr1 := hw1
  have hr2 := hw2
  refine lv_icmp_eq (tgt := 409) hx hb dL_law_227 (by decide) (fun _ => kk H locs ⟨_, _, _, _, _, _, _, _, _, _, _, _, _, _, _, _, _, _, _, _, _, _, _, hwf, heq, hX⟩) (fun c9 => absurd (hr1.trans hr2.symm) c9)
set_option maxHeartbeats 4000000 in
theorem lwop_families {b L : Nat} {xs : Nat → Int32} {cA cM : Nat → ClassId} {a aM : Nat → Nat} (E : lwE p s m c b L xs dC dI A cA cM) (hf : cells ≤ room_1.cells ∧ slots ≤ room_1.slots) {i : Nat} (hi : i + 3 ≤ L) (hI : lw_inv s dC dI A a aM cA cM H locs) (hl : lv_has ls 4 [(3, .int (nI i)), (2, .ref (aM 0)), (1, .ref (a 0)), (0, .ref b)]) (kk : ∀ (H : Heap) (locs : List Loc), lw_inv s dC dI A a aM cA cM H locs → W p l e room_1 s m #[Value.ref b] below meth c H locs cells slots Q (F0 m 409 ls [])) : W p l e room_1 s m #[Value.ref b] below meth c H locs cells slots Q (F0 m 232 ls []) := by
  have hx := E.1.1
  have hb := E.1.2.1
  have hL := E.2.2.1.2.2.2
  have hts := E.1.2.2.2.2
  obtain ⟨B, w, n, st, go, C, fr, wy, mx, ld, nu, sz, pa, g, wk, ow, tr, tk, wz, rk, lm, kp, ko, hwf, heq, hX⟩ := hI
  refine lv_aload_n hx hb dL_law_232 rfl (lv_at hl 2 rfl) ?_
  refine cb_i (ci := 0) (As := []) (rest := []) E.1 E.2.1.1 hX E.2.2.2 (metX0_families l dC dI a cA _ B w n st go C fr wy mx ld nu sz pa  hwf) (cwV 0 hts (lw_V q110 q111 q112 q25 q113) rfl rfl rfl (by decide +kernel) ⟨Nat.le_of_ble_eq_true rfl, Nat.le_of_ble_eq_true rfl⟩) rfl rfl rfl rfl hl.1 rfl (Nat.le_of_ble_eq_true rfl) dL_law_233 hf (fun r1 ⟨C9, f9, y9, m9⟩ H locs hw1 hX => ?_)
  have hX : wd2 (dC, dI) A s.heap (w0 a cA B w n st go C9 f9 y9 m9 ld nu sz pa) (w1 aM cM B w n st go g wk ow tr tk wz rk lm kp ko) H locs := hX
  refine lv_aload_n hx hb dL_law_236 rfl (lv_at hl 1 rfl) ?_
  refine cb_i (ci := 1) (As := []) (rest := [.int r1]) E.1 E.2.1.2 (wd2_sw hX) E.2.2.2 (metX1_families l dC dI aM cM _ B w n st go g wk ow tr tk wz rk lm kp ko  hwf) (cwV 0 hts (lw_V q270 q271 q272 q26 q273) rfl rfl rfl (by decide +kernel) ⟨Nat.le_of_ble_eq_true rfl, Nat.le_of_ble_eq_true rfl⟩) rfl rfl rfl rfl hl.1 rfl (Nat.le_of_ble_eq_true rfl) dL_law_237 hf (fun r2 ⟨g8, k8, o8, t8, x8⟩ H locs hw2 hX => ?_)
  have hX : wd2 (dC, dI) A s.heap (w0 a cA B w n st go C9 f9 y9 m9 ld nu sz pa) (w1 aM cM B w n st go g8 k8 o8 t8 x8 wz rk lm kp ko) H locs := wd2_sw hX
  have hr1 := hw1
  have hr2 := hw2
  refine lv_icmp_eq (tgt := 409) hx hb dL_law_240 (by decide) (fun _ => kk H locs ⟨_, _, _, _, _, _, _, _, _, _, _, _, _, _, _, _, _, _, _, _, _, _, _, hwf, heq, hX⟩) (fun c9 => absurd (hr1.trans hr2.symm) c9)
set_option maxHeartbeats 4000000 in
theorem lwop_sum {b L : Nat} {xs : Nat → Int32} {cA cM : Nat → ClassId} {a aM : Nat → Nat} (E : lwE p s m c b L xs dC dI A cA cM) (hf : cells ≤ room_1.cells ∧ slots ≤ room_1.slots) {i : Nat} (hi : i + 3 ≤ L) (hI : lw_inv s dC dI A a aM cA cM H locs) (hl : lv_has ls 4 [(3, .int (nI i)), (2, .ref (aM 0)), (1, .ref (a 0)), (0, .ref b)]) (kk : ∀ (H : Heap) (locs : List Loc), lw_inv s dC dI A a aM cA cM H locs → W p l e room_1 s m #[Value.ref b] below meth c H locs cells slots Q (F0 m 409 ls [])) : W p l e room_1 s m #[Value.ref b] below meth c H locs cells slots Q (F0 m 245 ls []) := by
  have hx := E.1.1
  have hb := E.1.2.1
  have hL := E.2.2.1.2.2.2
  have hts := E.1.2.2.2.2
  obtain ⟨B, w, n, st, go, C, fr, wy, mx, ld, nu, sz, pa, g, wk, ow, tr, tk, wz, rk, lm, kp, ko, hwf, heq, hX⟩ := hI
  refine lv_aload_n hx hb dL_law_245 rfl (lv_at hl 2 rfl) ?_
  refine cb_i (ci := 0) (As := []) (rest := []) E.1 E.2.1.1 hX E.2.2.2 (metX0_sum l dC dI a cA _ B w n st go C fr wy mx ld nu sz pa  hwf) (cwV 0 hts (lw_V q142 q143 q144 q25 q145) rfl rfl rfl (by decide +kernel) ⟨Nat.le_of_ble_eq_true rfl, Nat.le_of_ble_eq_true rfl⟩) rfl rfl rfl rfl hl.1 rfl (Nat.le_of_ble_eq_true rfl) dL_law_246 hf (fun r1 ⟨C9, f9, y9, m9⟩ H locs hw1 hX => ?_)
  have hX : wd2 (dC, dI) A s.heap (w0 a cA B w n st go C9 f9 y9 m9 ld nu sz pa) (w1 aM cM B w n st go g wk ow tr tk wz rk lm kp ko) H locs := hX
  refine lv_aload_n hx hb dL_law_249 rfl (lv_at hl 1 rfl) ?_
  refine cb_i (ci := 1) (As := []) (rest := [.int r1]) E.1 E.2.1.2 (wd2_sw hX) E.2.2.2 (metX1_sum l dC dI aM cM _ B w n st go g wk ow tr tk wz rk lm kp ko  hwf) (cwV 0 hts (lw_V q298 q299 q300 q26 q301) rfl rfl rfl (by decide +kernel) ⟨Nat.le_of_ble_eq_true rfl, Nat.le_of_ble_eq_true rfl⟩) rfl rfl rfl rfl hl.1 rfl (Nat.le_of_ble_eq_true rfl) dL_law_250 hf (fun r2 ⟨g8, k8, o8, t8, x8⟩ H locs hw2 hX => ?_)
  have hX : wd2 (dC, dI) A s.heap (w0 a cA B w n st go C9 f9 y9 m9 ld nu sz pa) (w1 aM cM B w n st go g8 k8 o8 t8 x8 wz rk lm kp ko) H locs := wd2_sw hX
  have hr1 := hw1
  have hr2 := hw2
  refine lv_icmp_eq (tgt := 409) hx hb dL_law_253 (by decide) (fun _ => kk H locs ⟨_, _, _, _, _, _, _, _, _, _, _, _, _, _, _, _, _, _, _, _, _, _, _, hwf, heq, hX⟩) (fun c9 => absurd (hr1.trans hr2.symm) c9)
set_option maxHeartbeats 4000000 in
theorem lwop_through {b L : Nat} {xs : Nat → Int32} {cA cM : Nat → ClassId} {a aM : Nat → Nat} (E : lwE p s m c b L xs dC dI A cA cM) (hf : cells ≤ room_1.cells ∧ slots ≤ room_1.slots) {i : Nat} (hi : i + 3 ≤ L) (hI : lw_inv s dC dI A a aM cA cM H locs) (hl : lv_has ls 4 [(3, .int (nI i)), (2, .ref (aM 0)), (1, .ref (a 0)), (0, .ref b)]) (kk : ∀ (H : Heap) (locs : List Loc), lw_inv s dC dI A a aM cA cM H locs → W p l e room_1 s m #[Value.ref b] below meth c H locs cells slots Q (F0 m 409 ls [])) : W p l e room_1 s m #[Value.ref b] below meth c H locs cells slots Q (F0 m 258 ls []) := by
  have hx := E.1.1
  have hb := E.1.2.1
  have hL := E.2.2.1.2.2.2
  have hts := E.1.2.2.2.2
  obtain ⟨B, w, n, st, go, C, fr, wy, mx, ld, nu, sz, pa, g, wk, ow, tr, tk, wz, rk, lm, kp, ko, hwf, heq, hX⟩ := hI
  refine lv_aload_n hx hb dL_law_258 rfl (lv_at hl 2 rfl) ?_
  refine lv_aload_n hx hb dL_law_259 rfl (lv_at hl 3 rfl) ?_
  refine lv_iload_n hx hb dL_law_260 rfl (lv_at hl 0 rfl) ?_
  refine lv_iconst (v := nI 1) hx hb dL_law_261 (by decide) ?_
  refine lv_iadd hx hb dL_law_262 ?_
  refine tp (y := nI (i + 1)) (nI_add _ _) ?_
  refine sc_ld E hX (by omega) dL_law_263 ?_
  refine cb_i (ci := 0) (As := [.int (xs (i + 1))]) (rest := []) E.1 E.2.1.1 hX E.2.2.2 (metX0_through l dC dI a cA _ B w n st go C fr wy mx ld nu sz pa (xs (i + 1)) hwf) (cwV 1 hts (lw_V q146 q147 q148 q25 q149) rfl rfl rfl (by decide +kernel) ⟨Nat.le_of_ble_eq_true rfl, Nat.le_of_ble_eq_true rfl⟩) rfl rfl rfl rfl hl.1 rfl (Nat.le_of_ble_eq_true rfl) dL_law_264 hf (fun r1 ⟨C9, f9, y9, m9⟩ H locs hw1 hX => ?_)
  have hX : wd2 (dC, dI) A s.heap (w0 a cA B w n st go C9 f9 y9 m9 ld nu sz pa) (w1 aM cM B w n st go g wk ow tr tk wz rk lm kp ko) H locs := hX
  refine lv_aload_n hx hb dL_law_267 rfl (lv_at hl 1 rfl) ?_
  refine lv_aload_n hx hb dL_law_268 rfl (lv_at hl 3 rfl) ?_
  refine lv_iload_n hx hb dL_law_269 rfl (lv_at hl 0 rfl) ?_
  refine lv_iconst (v := nI 1) hx hb dL_law_270 (by decide) ?_
  refine lv_iadd hx hb dL_law_271 ?_
  refine tp (y := nI (i + 1)) (nI_add _ _) ?_
  refine sc_ld E hX (by omega) dL_law_272 ?_
  refine cb_i (ci := 1) (As := [.int (xs (i + 1))]) (rest := [.int r1]) E.1 E.2.1.2 (wd2_sw hX) E.2.2.2 (metX1_through l dC dI aM cM _ B w n st go g wk ow tr tk wz rk lm kp ko (xs (i + 1)) hwf) (cwV 1 hts (lw_V q302 q303 q304 q26 q305) rfl rfl rfl (by decide +kernel) ⟨Nat.le_of_ble_eq_true rfl, Nat.le_of_ble_eq_true rfl⟩) rfl rfl rfl rfl hl.1 rfl (Nat.le_of_ble_eq_true rfl) dL_law_273 hf (fun r2 ⟨g8, k8, o8, t8, x8⟩ H locs hw2 hX => ?_)
  have hX : wd2 (dC, dI) A s.heap (w0 a cA B w n st go C9 f9 y9 m9 ld nu sz pa) (w1 aM cM B w n st go g8 k8 o8 t8 x8 wz rk lm kp ko) H locs := wd2_sw hX
  have hr1 := hw1
  have hr2 := hw2
  refine lv_icmp_eq (tgt := 409) hx hb dL_law_276 (by decide) (fun _ => kk H locs ⟨_, _, _, _, _, _, _, _, _, _, _, _, _, _, _, _, _, _, _, _, _, _, _, hwf, heq, hX⟩) (fun c9 => absurd (hr1.trans hr2.symm) c9)
end LO
end
section
set_option maxRecDepth 100000
section LO
variable {p : Program} {l : Launch} {e : Env} {s : State} {m : MethodId} {below : List Frame} {meth : Method} {c : Code} {H : Heap} {locs : List Loc} {cells slots : Nat} {Q : State → Prop}
variable {cc : ByteArray} {pc : Nat} {ls : Array Slot} {rest : List Value} {dC : Nat → ClassId} {dI : Nat → Nat → Nat} {A : Nat → Prop} {H0 : Heap}
set_option maxHeartbeats 4000000 in
theorem lwop_throughBoth {b L : Nat} {xs : Nat → Int32} {cA cM : Nat → ClassId} {a aM : Nat → Nat} (E : lwE p s m c b L xs dC dI A cA cM) (hf : cells ≤ room_1.cells ∧ slots ≤ room_1.slots) {i : Nat} (hi : i + 3 ≤ L) (hI : lw_inv s dC dI A a aM cA cM H locs) (hl : lv_has ls 4 [(3, .int (nI i)), (2, .ref (aM 0)), (1, .ref (a 0)), (0, .ref b)]) (kk : ∀ (H : Heap) (locs : List Loc), lw_inv s dC dI A a aM cA cM H locs → W p l e room_1 s m #[Value.ref b] below meth c H locs cells slots Q (F0 m 409 ls [])) : W p l e room_1 s m #[Value.ref b] below meth c H locs cells slots Q (F0 m 281 ls []) := by
  have hx := E.1.1
  have hb := E.1.2.1
  have hL := E.2.2.1.2.2.2
  have hts := E.1.2.2.2.2
  obtain ⟨B, w, n, st, go, C, fr, wy, mx, ld, nu, sz, pa, g, wk, ow, tr, tk, wz, rk, lm, kp, ko, hwf, heq, hX⟩ := hI
  refine lv_aload_n hx hb dL_law_281 rfl (lv_at hl 2 rfl) ?_
  refine lv_aload_n hx hb dL_law_282 rfl (lv_at hl 3 rfl) ?_
  refine lv_iload_n hx hb dL_law_283 rfl (lv_at hl 0 rfl) ?_
  refine lv_iconst (v := nI 1) hx hb dL_law_284 (by decide) ?_
  refine lv_iadd hx hb dL_law_285 ?_
  refine tp (y := nI (i + 1)) (nI_add _ _) ?_
  refine sc_ld E hX (by omega) dL_law_286 ?_
  refine lv_aload_n hx hb dL_law_287 rfl (lv_at hl 3 rfl) ?_
  refine lv_iload_n hx hb dL_law_288 rfl (lv_at hl 0 rfl) ?_
  refine lv_iconst (v := nI 2) hx hb dL_law_289 (by decide) ?_
  refine lv_iadd hx hb dL_law_290 ?_
  refine tp (y := nI (i + 2)) (nI_add _ _) ?_
  refine sc_ld E hX (by omega) dL_law_291 ?_
  refine cb_i (ci := 0) (As := [.int (xs (i + 1)), .int (xs (i + 2))]) (rest := []) E.1 E.2.1.1 hX E.2.2.2 (metX0_throughBoth l dC dI a cA _ B w n st go C fr wy mx ld nu sz pa (xs (i + 1)) (xs (i + 2)) hwf) (cwV 2 hts (lw_V q150 q151 q152 q25 q153) rfl rfl rfl (by decide +kernel) ⟨Nat.le_of_ble_eq_true rfl, Nat.le_of_ble_eq_true rfl⟩) rfl rfl rfl rfl hl.1 rfl (Nat.le_of_ble_eq_true rfl) dL_law_292 hf (fun r1 ⟨C9, f9, y9, m9⟩ H locs hw1 hX => ?_)
  have hX : wd2 (dC, dI) A s.heap (w0 a cA B w n st go C9 f9 y9 m9 ld nu sz pa) (w1 aM cM B w n st go g wk ow tr tk wz rk lm kp ko) H locs := hX
  refine lv_aload_n hx hb dL_law_295 rfl (lv_at hl 1 rfl) ?_
  refine lv_aload_n hx hb dL_law_296 rfl (lv_at hl 3 rfl) ?_
  refine lv_iload_n hx hb dL_law_297 rfl (lv_at hl 0 rfl) ?_
  refine lv_iconst (v := nI 1) hx hb dL_law_298 (by decide) ?_
  refine lv_iadd hx hb dL_law_299 ?_
  refine tp (y := nI (i + 1)) (nI_add _ _) ?_
  refine sc_ld E hX (by omega) dL_law_300 ?_
  refine lv_aload_n hx hb dL_law_301 rfl (lv_at hl 3 rfl) ?_
  refine lv_iload_n hx hb dL_law_302 rfl (lv_at hl 0 rfl) ?_
  refine lv_iconst (v := nI 2) hx hb dL_law_303 (by decide) ?_
  refine lv_iadd hx hb dL_law_304 ?_
  refine tp (y := nI (i + 2)) (nI_add _ _) ?_
  refine sc_ld E hX (by omega) dL_law_305 ?_
  refine cb_i (ci := 1) (As := [.int (xs (i + 1)), .int (xs (i + 2))]) (rest := [.int r1]) E.1 E.2.1.2 (wd2_sw hX) E.2.2.2 (metX1_throughBoth l dC dI aM cM _ B w n st go g wk ow tr tk wz rk lm kp ko (xs (i + 1)) (xs (i + 2)) hwf) (cwV 2 hts (lw_V q310 q307 q308 q26 q309) rfl rfl rfl (by decide +kernel) ⟨Nat.le_of_ble_eq_true rfl, Nat.le_of_ble_eq_true rfl⟩) rfl rfl rfl rfl hl.1 rfl (Nat.le_of_ble_eq_true rfl) dL_law_306 hf (fun r2 ⟨g8, k8, o8, t8, x8⟩ H locs hw2 hX => ?_)
  have hX : wd2 (dC, dI) A s.heap (w0 a cA B w n st go C9 f9 y9 m9 ld nu sz pa) (w1 aM cM B w n st go g8 k8 o8 t8 x8 wz rk lm kp ko) H locs := wd2_sw hX
  have hr1 := hw1
  have hr2 := hw2
  refine lv_icmp_eq (tgt := 409) hx hb dL_law_309 (by decide) (fun _ => kk H locs ⟨_, _, _, _, _, _, _, _, _, _, _, _, _, _, _, _, _, _, _, _, _, _, _, hwf, heq, hX⟩) (fun c9 => absurd (hr1.trans hr2.symm) c9)
set_option maxHeartbeats 4000000 in
theorem lwop_musts {b L : Nat} {xs : Nat → Int32} {cA cM : Nat → ClassId} {a aM : Nat → Nat} (E : lwE p s m c b L xs dC dI A cA cM) (hf : cells ≤ room_1.cells ∧ slots ≤ room_1.slots) {i : Nat} (hi : i + 3 ≤ L) (hI : lw_inv s dC dI A a aM cA cM H locs) (hl : lv_has ls 4 [(3, .int (nI i)), (2, .ref (aM 0)), (1, .ref (a 0)), (0, .ref b)]) (kk : ∀ (H : Heap) (locs : List Loc), lw_inv s dC dI A a aM cA cM H locs → W p l e room_1 s m #[Value.ref b] below meth c H locs cells slots Q (F0 m 409 ls [])) : W p l e room_1 s m #[Value.ref b] below meth c H locs cells slots Q (F0 m 314 ls []) := by
  have hx := E.1.1
  have hb := E.1.2.1
  have hL := E.2.2.1.2.2.2
  have hts := E.1.2.2.2.2
  obtain ⟨B, w, n, st, go, C, fr, wy, mx, ld, nu, sz, pa, g, wk, ow, tr, tk, wz, rk, lm, kp, ko, hwf, heq, hX⟩ := hI
  refine lv_aload_n hx hb dL_law_314 rfl (lv_at hl 2 rfl) ?_
  refine cb_i (ci := 0) (As := []) (rest := []) E.1 E.2.1.1 hX E.2.2.2 (metX0_musts l dC dI a cA _ B w n st go C fr wy mx ld nu sz pa  hwf) (cwV 0 hts (lw_V q154 q155 q156 q25 q157) rfl rfl rfl (by decide +kernel) ⟨Nat.le_of_ble_eq_true rfl, Nat.le_of_ble_eq_true rfl⟩) rfl rfl rfl rfl hl.1 rfl (Nat.le_of_ble_eq_true rfl) dL_law_315 hf (fun r1 ⟨C9, f9, y9, m9⟩ H locs hw1 hX => ?_)
  have hX : wd2 (dC, dI) A s.heap (w0 a cA B w n st go C9 f9 y9 m9 ld nu sz pa) (w1 aM cM B w n st go g wk ow tr tk wz rk lm kp ko) H locs := hX
  refine lv_aload_n hx hb dL_law_318 rfl (lv_at hl 1 rfl) ?_
  refine cb_i (ci := 1) (As := []) (rest := [.int r1]) E.1 E.2.1.2 (wd2_sw hX) E.2.2.2 (metX1_musts l dC dI aM cM _ B w n st go g wk ow tr tk wz rk lm kp ko  hwf) (cwV 0 hts (lw_V q311 q312 q313 q26 q314) rfl rfl rfl (by decide +kernel) ⟨Nat.le_of_ble_eq_true rfl, Nat.le_of_ble_eq_true rfl⟩) rfl rfl rfl rfl hl.1 rfl (Nat.le_of_ble_eq_true rfl) dL_law_319 hf (fun r2 ⟨g8, k8, o8, t8, x8⟩ H locs hw2 hX => ?_)
  have hX : wd2 (dC, dI) A s.heap (w0 a cA B w n st go C9 f9 y9 m9 ld nu sz pa) (w1 aM cM B w n st go g8 k8 o8 t8 x8 wz rk lm kp ko) H locs := wd2_sw hX
  have hr1 := hw1
  have hr2 := hw2
  refine lv_icmp_eq (tgt := 409) hx hb dL_law_322 (by decide) (fun _ => kk H locs ⟨_, _, _, _, _, _, _, _, _, _, _, _, _, _, _, _, _, _, _, _, _, _, _, hwf, heq, hX⟩) (fun c9 => absurd (hr1.trans hr2.symm) c9)
set_option maxHeartbeats 4000000 in
theorem lwop_load {b L : Nat} {xs : Nat → Int32} {cA cM : Nat → ClassId} {a aM : Nat → Nat} (E : lwE p s m c b L xs dC dI A cA cM) (hf : cells ≤ room_1.cells ∧ slots ≤ room_1.slots) {i : Nat} (hi : i + 3 ≤ L) (hI : lw_inv s dC dI A a aM cA cM H locs) (hl : lv_has ls 4 [(3, .int (nI i)), (2, .ref (aM 0)), (1, .ref (a 0)), (0, .ref b)]) (kk : ∀ (H : Heap) (locs : List Loc), lw_inv s dC dI A a aM cA cM H locs → W p l e room_1 s m #[Value.ref b] below meth c H locs cells slots Q (F0 m 409 ls [])) : W p l e room_1 s m #[Value.ref b] below meth c H locs cells slots Q (F0 m 327 ls []) := by
  have hx := E.1.1
  have hb := E.1.2.1
  have hL := E.2.2.1.2.2.2
  have hts := E.1.2.2.2.2
  obtain ⟨B, w, n, st, go, C, fr, wy, mx, ld, nu, sz, pa, g, wk, ow, tr, tk, wz, rk, lm, kp, ko, hwf, heq, hX⟩ := hI
  refine lv_aload_n hx hb dL_law_327 rfl (lv_at hl 2 rfl) ?_
  refine lv_aload_n hx hb dL_law_328 rfl (lv_at hl 3 rfl) ?_
  refine lv_iload_n hx hb dL_law_329 rfl (lv_at hl 0 rfl) ?_
  refine lv_iconst (v := nI 1) hx hb dL_law_330 (by decide) ?_
  refine lv_iadd hx hb dL_law_331 ?_
  refine tp (y := nI (i + 1)) (nI_add _ _) ?_
  refine sc_ld E hX (by omega) dL_law_332 ?_
  refine cb_i (ci := 0) (As := [.int (xs (i + 1))]) (rest := []) E.1 E.2.1.1 hX E.2.2.2 (metX0_load l dC dI a cA _ B w n st go C fr wy mx ld nu sz pa (xs (i + 1)) hwf) (cwV 1 hts (lw_V q158 q159 q160 q25 q161) rfl rfl rfl (by decide +kernel) ⟨Nat.le_of_ble_eq_true rfl, Nat.le_of_ble_eq_true rfl⟩) rfl rfl rfl rfl hl.1 rfl (Nat.le_of_ble_eq_true rfl) dL_law_333 hf (fun r1 ⟨⟨C9, f9, y9, m9⟩, l9, u9, s9, p9⟩ H locs hw1 hX => ?_)
  have hX : wd2 (dC, dI) A s.heap (w0 a cA B w n st go C9 f9 y9 m9 l9 u9 s9 p9) (w1 aM cM B w n st go g wk ow tr tk wz rk lm kp ko) H locs := hX
  refine lv_aload_n hx hb dL_law_336 rfl (lv_at hl 1 rfl) ?_
  refine lv_aload_n hx hb dL_law_337 rfl (lv_at hl 3 rfl) ?_
  refine lv_iload_n hx hb dL_law_338 rfl (lv_at hl 0 rfl) ?_
  refine lv_iconst (v := nI 1) hx hb dL_law_339 (by decide) ?_
  refine lv_iadd hx hb dL_law_340 ?_
  refine tp (y := nI (i + 1)) (nI_add _ _) ?_
  refine sc_ld E hX (by omega) dL_law_341 ?_
  refine cb_i (ci := 1) (As := [.int (xs (i + 1))]) (rest := [.int r1]) E.1 E.2.1.2 (wd2_sw hX) E.2.2.2 (metX1_load l dC dI aM cM _ B w n st go g wk ow tr tk wz rk lm kp ko (xs (i + 1)) hwf) (cwV 1 hts (lw_V q317 q318 q319 q26 q320) rfl rfl rfl (by decide +kernel) ⟨Nat.le_of_ble_eq_true rfl, Nat.le_of_ble_eq_true rfl⟩) rfl rfl rfl rfl hl.1 rfl (Nat.le_of_ble_eq_true rfl) dL_law_342 hf (fun r2 ⟨⟨g8, k8, o8, t8, x8⟩, r8, l8, p8, q8⟩ H locs hw2 hX => ?_)
  have hX : wd2 (dC, dI) A s.heap (w0 a cA B w n st go C9 f9 y9 m9 l9 u9 s9 p9) (w1 aM cM B w n st go g8 k8 o8 t8 x8 wz r8 l8 p8 q8) H locs := wd2_sw hX
  obtain ⟨hr3, heq2⟩ := eq_load heq hw1 hw2
  refine lv_icmp_eq (tgt := 409) hx hb dL_law_345 (by decide) (fun _ => kk H locs ⟨_, _, _, _, _, _, _, _, _, _, _, _, _, _, _, _, _, _, _, _, _, _, _, hwf, heq2, hX⟩) (fun c9 => absurd (hr3) c9)
set_option maxHeartbeats 4000000 in
theorem lwop_cell {b L : Nat} {xs : Nat → Int32} {cA cM : Nat → ClassId} {a aM : Nat → Nat} (E : lwE p s m c b L xs dC dI A cA cM) (hf : cells ≤ room_1.cells ∧ slots ≤ room_1.slots) {i : Nat} (hi : i + 3 ≤ L) (hI : lw_inv s dC dI A a aM cA cM H locs) (hl : lv_has ls 4 [(3, .int (nI i)), (2, .ref (aM 0)), (1, .ref (a 0)), (0, .ref b)]) (kk : ∀ (H : Heap) (locs : List Loc), lw_inv s dC dI A a aM cA cM H locs → W p l e room_1 s m #[Value.ref b] below meth c H locs cells slots Q (F0 m 409 ls [])) : W p l e room_1 s m #[Value.ref b] below meth c H locs cells slots Q (F0 m 350 ls []) := by
  have hx := E.1.1
  have hb := E.1.2.1
  have hL := E.2.2.1.2.2.2
  have hts := E.1.2.2.2.2
  obtain ⟨B, w, n, st, go, C, fr, wy, mx, ld, nu, sz, pa, g, wk, ow, tr, tk, wz, rk, lm, kp, ko, hwf, heq, hX⟩ := hI
  refine lv_aload_n hx hb dL_law_350 rfl (lv_at hl 2 rfl) ?_
  refine lv_aload_n hx hb dL_law_351 rfl (lv_at hl 3 rfl) ?_
  refine lv_iload_n hx hb dL_law_352 rfl (lv_at hl 0 rfl) ?_
  refine lv_iconst (v := nI 1) hx hb dL_law_353 (by decide) ?_
  refine lv_iadd hx hb dL_law_354 ?_
  refine tp (y := nI (i + 1)) (nI_add _ _) ?_
  refine sc_ld E hX (by omega) dL_law_355 ?_
  refine lv_aload_n hx hb dL_law_356 rfl (lv_at hl 3 rfl) ?_
  refine lv_iload_n hx hb dL_law_357 rfl (lv_at hl 0 rfl) ?_
  refine lv_iconst (v := nI 2) hx hb dL_law_358 (by decide) ?_
  refine lv_iadd hx hb dL_law_359 ?_
  refine tp (y := nI (i + 2)) (nI_add _ _) ?_
  refine sc_ld E hX (by omega) dL_law_360 ?_
  refine cb_i (ci := 0) (As := [.int (xs (i + 1)), .int (xs (i + 2))]) (rest := []) E.1 E.2.1.1 hX E.2.2.2 (metX0_cell l dC dI a cA _ B w n st go C fr wy mx ld nu sz pa (xs (i + 1)) (xs (i + 2)) hwf.2.1 (fun h k hk => (eq_sz heq h k hk).1)) (cwV 2 hts (lw_V q174 q175 q176 q25 q177) rfl rfl rfl (by decide +kernel) ⟨Nat.le_of_ble_eq_true rfl, Nat.le_of_ble_eq_true rfl⟩) rfl rfl rfl rfl hl.1 rfl (Nat.le_of_ble_eq_true rfl) dL_law_361 hf (fun r1 _ H locs hw1 hX => ?_)
  have hX : wd2 (dC, dI) A s.heap (w0 a cA B w n st go C fr wy mx ld nu sz pa) (w1 aM cM B w n st go g wk ow tr tk wz rk lm kp ko) H locs := hX
  refine lv_aload_n hx hb dL_law_364 rfl (lv_at hl 1 rfl) ?_
  refine lv_aload_n hx hb dL_law_365 rfl (lv_at hl 3 rfl) ?_
  refine lv_iload_n hx hb dL_law_366 rfl (lv_at hl 0 rfl) ?_
  refine lv_iconst (v := nI 1) hx hb dL_law_367 (by decide) ?_
  refine lv_iadd hx hb dL_law_368 ?_
  refine tp (y := nI (i + 1)) (nI_add _ _) ?_
  refine sc_ld E hX (by omega) dL_law_369 ?_
  refine lv_aload_n hx hb dL_law_370 rfl (lv_at hl 3 rfl) ?_
  refine lv_iload_n hx hb dL_law_371 rfl (lv_at hl 0 rfl) ?_
  refine lv_iconst (v := nI 2) hx hb dL_law_372 (by decide) ?_
  refine lv_iadd hx hb dL_law_373 ?_
  refine tp (y := nI (i + 2)) (nI_add _ _) ?_
  refine sc_ld E hX (by omega) dL_law_374 ?_
  refine cb_i (ci := 1) (As := [.int (xs (i + 1)), .int (xs (i + 2))]) (rest := [.int r1]) E.1 E.2.1.2 (wd2_sw hX) E.2.2.2 (metX1_cell l dC dI aM cM _ B w n st go g wk ow tr tk wz rk lm kp ko (xs (i + 1)) (xs (i + 2)) (eq_len heq)) (cwV 2 hts (lw_V q321 q322 q323 q26 q324) rfl rfl rfl (by decide +kernel) ⟨Nat.le_of_ble_eq_true rfl, Nat.le_of_ble_eq_true rfl⟩) rfl rfl rfl rfl hl.1 rfl (Nat.le_of_ble_eq_true rfl) dL_law_375 hf (fun r2 _ H locs hw2 hX => ?_)
  have hX : wd2 (dC, dI) A s.heap (w0 a cA B w n st go C fr wy mx ld nu sz pa) (w1 aM cM B w n st go g wk ow tr tk wz rk lm kp ko) H locs := wd2_sw hX
  have hr1 := hw1
  have hr2 := hw2
  refine lv_icmp_eq (tgt := 409) hx hb dL_law_378 (by decide) (fun _ => kk H locs ⟨_, _, _, _, _, _, _, _, _, _, _, _, _, _, _, _, _, _, _, _, _, _, _, hwf, heq, hX⟩) (fun c9 => absurd (by rw [hr1, hr2]; exact eq_cell hwf.2.1 heq _ _) c9)
set_option maxHeartbeats 4000000 in
theorem lwop_loadedWeight {b L : Nat} {xs : Nat → Int32} {cA cM : Nat → ClassId} {a aM : Nat → Nat} (E : lwE p s m c b L xs dC dI A cA cM) (hf : cells ≤ room_1.cells ∧ slots ≤ room_1.slots) {i : Nat} (hi : i + 3 ≤ L) (hI : lw_inv s dC dI A a aM cA cM H locs) (hl : lv_has ls 4 [(3, .int (nI i)), (2, .ref (aM 0)), (1, .ref (a 0)), (0, .ref b)]) (kk : ∀ (H : Heap) (locs : List Loc), lw_inv s dC dI A a aM cA cM H locs → W p l e room_1 s m #[Value.ref b] below meth c H locs cells slots Q (F0 m 409 ls [])) : W p l e room_1 s m #[Value.ref b] below meth c H locs cells slots Q (F0 m 383 ls []) := by
  have hx := E.1.1
  have hb := E.1.2.1
  have hL := E.2.2.1.2.2.2
  have hts := E.1.2.2.2.2
  obtain ⟨B, w, n, st, go, C, fr, wy, mx, ld, nu, sz, pa, g, wk, ow, tr, tk, wz, rk, lm, kp, ko, hwf, heq, hX⟩ := hI
  refine lv_aload_n hx hb dL_law_383 rfl (lv_at hl 2 rfl) ?_
  refine cb_i (ci := 0) (As := []) (rest := []) E.1 E.2.1.1 hX E.2.2.2 (metX0_loadedWeight l dC dI a cA _ B w n st go C fr wy mx ld nu sz pa  hwf.2.1 (eq_sz heq)) (cwV 0 hts (lw_V q178 q179 q180 q25 q181) rfl rfl rfl (by decide +kernel) ⟨Nat.le_of_ble_eq_true rfl, Nat.le_of_ble_eq_true rfl⟩) rfl rfl rfl rfl hl.1 rfl (Nat.le_of_ble_eq_true rfl) dL_law_384 hf (fun r1 _ H locs hw1 hX => ?_)
  have hX : wd2 (dC, dI) A s.heap (w0 a cA B w n st go C fr wy mx ld nu sz pa) (w1 aM cM B w n st go g wk ow tr tk wz rk lm kp ko) H locs := hX
  refine lv_aload_n hx hb dL_law_387 rfl (lv_at hl 1 rfl) ?_
  refine cb_i (ci := 1) (As := []) (rest := [.int r1]) E.1 E.2.1.2 (wd2_sw hX) E.2.2.2 (metX1_loadedWeight l dC dI aM cM _ B w n st go g wk ow tr tk wz rk lm kp ko  (eq_len heq) (eq_kp heq)) (cwV 0 hts (lw_V q325 q326 q327 q26 q328) rfl rfl rfl (by decide +kernel) ⟨Nat.le_of_ble_eq_true rfl, Nat.le_of_ble_eq_true rfl⟩) rfl rfl rfl rfl hl.1 rfl (Nat.le_of_ble_eq_true rfl) dL_law_388 hf (fun r2 _ H locs hw2 hX => ?_)
  have hX : wd2 (dC, dI) A s.heap (w0 a cA B w n st go C fr wy mx ld nu sz pa) (w1 aM cM B w n st go g wk ow tr tk wz rk lm kp ko) H locs := wd2_sw hX
  have hr1 := hw1
  have hr2 := hw2
  refine lv_icmp_eq (tgt := 409) hx hb dL_law_391 (by decide) (fun _ => kk H locs ⟨_, _, _, _, _, _, _, _, _, _, _, _, _, _, _, _, _, _, _, _, _, _, _, hwf, heq, hX⟩) (fun c9 => absurd (by rw [hr1, hr2]; exact eq_lw heq w) c9)
set_option maxHeartbeats 4000000 in
theorem lwop_rank {b L : Nat} {xs : Nat → Int32} {cA cM : Nat → ClassId} {a aM : Nat → Nat} (E : lwE p s m c b L xs dC dI A cA cM) (hf : cells ≤ room_1.cells ∧ slots ≤ room_1.slots) {i : Nat} (hi : i + 3 ≤ L) (hI : lw_inv s dC dI A a aM cA cM H locs) (hl : lv_has ls 4 [(3, .int (nI i)), (2, .ref (aM 0)), (1, .ref (a 0)), (0, .ref b)]) (kk : ∀ (H : Heap) (locs : List Loc), lw_inv s dC dI A a aM cA cM H locs → W p l e room_1 s m #[Value.ref b] below meth c H locs cells slots Q (F0 m 409 ls [])) : W p l e room_1 s m #[Value.ref b] below meth c H locs cells slots Q (F0 m 396 ls []) := by
  have hx := E.1.1
  have hb := E.1.2.1
  have hL := E.2.2.1.2.2.2
  have hts := E.1.2.2.2.2
  obtain ⟨B, w, n, st, go, C, fr, wy, mx, ld, nu, sz, pa, g, wk, ow, tr, tk, wz, rk, lm, kp, ko, hwf, heq, hX⟩ := hI
  refine lv_aload_n hx hb dL_law_396 rfl (lv_at hl 2 rfl) ?_
  refine cb_i (ci := 0) (As := []) (rest := []) E.1 E.2.1.1 hX E.2.2.2 (metX0_rank l dC dI a cA _ B w n st go C fr wy mx ld nu sz pa  ) (cwV 0 hts (lw_V q182 q183 q184 q25 q185) rfl rfl rfl (by decide +kernel) ⟨Nat.le_of_ble_eq_true rfl, Nat.le_of_ble_eq_true rfl⟩) rfl rfl rfl rfl hl.1 rfl (Nat.le_of_ble_eq_true rfl) dL_law_397 hf (fun r1 _ H locs hw1 hX => ?_)
  have hX : wd2 (dC, dI) A s.heap (w0 a cA B w n st go C fr wy mx ld nu sz pa) (w1 aM cM B w n st go g wk ow tr tk wz rk lm kp ko) H locs := hX
  refine lv_aload_n hx hb dL_law_400 rfl (lv_at hl 1 rfl) ?_
  refine cb_i (ci := 1) (As := []) (rest := [.int r1]) E.1 E.2.1.2 (wd2_sw hX) E.2.2.2 (metX1_rank l dC dI aM cM _ B w n st go g wk ow tr tk wz rk lm kp ko  ) (cwV 0 hts (lw_V q329 q330 q331 q26 q332) rfl rfl rfl (by decide +kernel) ⟨Nat.le_of_ble_eq_true rfl, Nat.le_of_ble_eq_true rfl⟩) rfl rfl rfl rfl hl.1 rfl (Nat.le_of_ble_eq_true rfl) dL_law_401 hf (fun r2 _ H locs hw2 hX => ?_)
  have hX : wd2 (dC, dI) A s.heap (w0 a cA B w n st go C fr wy mx ld nu sz pa) (w1 aM cM B w n st go g wk ow tr tk wz rk lm kp ko) H locs := wd2_sw hX
  have hr1 := hw1
  have hr2 := hw2
  refine lv_icmp_eq (tgt := 409) hx hb dL_law_404 (by decide) (fun _ => kk H locs ⟨_, _, _, _, _, _, _, _, _, _, _, _, _, _, _, _, _, _, _, _, _, _, _, hwf, heq, hX⟩) (fun c9 => absurd (by rw [hr1, hr2]; exact eq_rank heq) c9)
end LO
end
section
set_option maxRecDepth 100000
section LW
variable {p : Program} {l : Launch} {e : Env} {s : State} {m : MethodId} {below : List Frame} {meth : Method} {c : Code} {H : Heap} {locs : List Loc} {cells slots : Nat} {Q : State → Prop}
variable {cc : ByteArray} {pc : Nat} {ls : Array Slot} {rest : List Value} {dC : Nat → ClassId} {dI : Nat → Nat → Nat} {A : Nat → Prop} {H0 : Heap}
set_option maxHeartbeats 4000000 in
/-- the law's loop -/
theorem lw_loop {b L : Nat} {xs : Nat → Int32} {cA cM : Nat → ClassId} {a aM : Nat → Nat} (hAs : ∀ q, A q → s.heap.size ≤ q) (hr : meth.sig.returnType = ret) (hlocks : meth.locks = false) (E : lwE p s m c b L xs dC dI A cA cM) (hI : lw_inv s dC dI A a aM cA cM H locs) (hl : lv_has ls 4 [(3, .int (nI 0)), (2, .ref (aM 0)), (1, .ref (a 0)), (0, .ref b)]) : W p l e room_1 s m #[Value.ref b] below meth c H locs 600000 7290000 (lw_Z below #[Value.ref b] s) (F0 m 18 ls []) := by
  have hx := E.1.1
  have hb := E.1.2.1
  have hL := E.2.2.1.2.2.2
  have hts := E.1.2.2.2.2
  have hf : (600000 : Nat) ≤ room_1.cells ∧ (7290000 : Nat) ≤ room_1.slots := ⟨Nat.le_refl _, Nat.le_refl _⟩
  refine lpW (α := Nat) (F := fun _ ls => F0 m 18 ls []) (I := fun i H locs ls => i ≤ 192 ∧ lw_inv s dC dI A a aM cA cM H locs ∧ lv_has ls 4 [(3, .int (nI i)), (2, .ref (aM 0)), (1, .ref (a 0)), (0, .ref b)]) (μ := fun i => 192 - i) ?_ 0 ⟨Nat.zero_le _, hI, hl⟩
  intro i H locs ls hI ih
  obtain ⟨hi, hI, hl⟩ := hI
  have hS : va_S A s.heap H locs := by
    obtain ⟨_, _, _, _, _, _, _, _, _, _, _, _, _, _, _, _, _, _, _, _, _, _, _, -, -, hX⟩ := hI
    exact hX.2.2.2
  refine lv_iload_n hx hb dL_law_18 rfl (lv_at hl 0 rfl) ?_
  refine lv_aload_n hx hb dL_law_19 rfl (lv_at hl 3 rfl) ?_
  refine va_slen hx hb E.2.2.1.1 E.2.2.1.2.1 E.2.2.1.2.2.1 hS dL_law_20 ?_
  refine tp (y := nI L) rfl ?_
  refine lv_iconst (v := nI 3) hx hb dL_law_21 (by decide) ?_
  refine lv_isub hx hb dL_law_22 ?_
  refine lv_icmp_gt (tgt := 415) hx hb dL_law_23 (by decide) (fun c1 => ?_) (fun c1 => ?_)
  · refine lv_iconst (v := 1) hx hb dL_law_415 (by decide) ?_
    refine va_forget (fun q hq => hAs _ (hS.2.2 q hq)) ?_
    exact lw_ret hx hb hr hlocks dL_law_416
  have hi3 : i + 3 ≤ L := lw_more hi hL c1
  have J : ∀ (H : Heap) (locs : List Loc), lw_inv s dC dI A a aM cA cM H locs → W p l e room_1 s m #[Value.ref b] below meth c H locs 600000 7290000 (lw_Z below #[Value.ref b] s) (F0 m 409 ls []) := by
    intro H locs hI
    refine lv_iinc (v := nI (i + 3)) (lv' := [(3, .int (nI (i + 3))), (2, .ref (aM 0)), (1, .ref (a 0)), (0, .ref b)]) hx hb dL_law_409 hl (k := 0) rfl (nI_add i 3) (by decide) rfl (fun ls hl => ?_)
    refine lv_goto (tgt := 18) hx hb dL_law_412 (by decide) ?_
    exact ih (i + 3) _ _ _ ⟨by omega, hI, hl⟩ (by omega)
  refine lv_aload_n hx hb dL_law_26 rfl (lv_at hl 3 rfl) ?_
  refine lv_iload_n hx hb dL_law_27 rfl (lv_at hl 0 rfl) ?_
  have hI0 := hI
  obtain ⟨_, _, _, _, _, _, _, _, _, _, _, _, _, _, _, _, _, _, _, _, _, _, _, -, -, hX⟩ := hI0
  refine sc_ld E hX (by omega) dL_law_28 ?_
  refine lv_bipush (v := nI 15) hx hb dL_law_29 (by decide) ?_
  refine lv_iand hx hb dL_law_31 ?_
  obtain ⟨j, hj, hj2⟩ := pk_andE (xs i) (m := nI 15) 4 (by decide)
  refine tp (y := nI j) hj2 ?_
  clear hj2 c1 hX
  match j, hj with
  | 0, _ => exact lv_tableIn (tgt := 100) hx hb dL_law_32 (by decide) (by decide) rfl (by decide) (lwop_ends E hf hi3 hI hl J)
  | 1, _ => exact lv_tableIn (tgt := 133) hx hb dL_law_32 (by decide) (by decide) rfl (by decide) (lwop_block E hf hi3 hI hl J)
  | 2, _ => exact lv_tableIn (tgt := 166) hx hb dL_law_32 (by decide) (by decide) rfl (by decide) (lwop_weight E hf hi3 hI hl J)
  | 3, _ => exact lv_tableIn (tgt := 199) hx hb dL_law_32 (by decide) (by decide) rfl (by decide) (lwop_paths E hf hi3 hI hl J)
  | 4, _ => exact lv_tableIn (tgt := 232) hx hb dL_law_32 (by decide) (by decide) rfl (by decide) (lwop_families E hf hi3 hI hl J)
  | 5, _ => exact lv_tableIn (tgt := 245) hx hb dL_law_32 (by decide) (by decide) rfl (by decide) (lwop_sum E hf hi3 hI hl J)
  | 6, _ => exact lv_tableIn (tgt := 258) hx hb dL_law_32 (by decide) (by decide) rfl (by decide) (lwop_through E hf hi3 hI hl J)
  | 7, _ => exact lv_tableIn (tgt := 281) hx hb dL_law_32 (by decide) (by decide) rfl (by decide) (lwop_throughBoth E hf hi3 hI hl J)
  | 8, _ => exact lv_tableIn (tgt := 314) hx hb dL_law_32 (by decide) (by decide) rfl (by decide) (lwop_musts E hf hi3 hI hl J)
  | 9, _ => exact lv_tableIn (tgt := 327) hx hb dL_law_32 (by decide) (by decide) rfl (by decide) (lwop_load E hf hi3 hI hl J)
  | 10, _ => exact lv_tableIn (tgt := 350) hx hb dL_law_32 (by decide) (by decide) rfl (by decide) (lwop_cell E hf hi3 hI hl J)
  | 11, _ => exact lv_tableIn (tgt := 383) hx hb dL_law_32 (by decide) (by decide) rfl (by decide) (lwop_loadedWeight E hf hi3 hI hl J)
  | 12, _ => exact lv_tableIn (tgt := 396) hx hb dL_law_32 (by decide) (by decide) rfl (by decide) (lwop_rank E hf hi3 hI hl J)
  | 13, _ => exact lv_tableOut (tgt := 409) hx hb dL_law_32 (by decide) (by decide) (J H locs hI)
  | 14, _ => exact lv_tableOut (tgt := 409) hx hb dL_law_32 (by decide) (by decide) (J H locs hI)
  | 15, _ => exact lv_tableOut (tgt := 409) hx hb dL_law_32 (by decide) (by decide) (J H locs hI)
  | j + 16, hj => exact absurd hj (by omega)
end LW
set_option maxHeartbeats 4000000 in
theorem whole_start {p : Program} {e : Env} {s : State} {m : MethodId} {below : List Frame} {meth : Method} {c : Code} (l : Launch) {b L : Nat} {xs : Nat → Int32} (hL : L ≤ 192) (C0 : lw_At p s m meth c b L xs) : W p l e room_1 s m #[Value.ref b] below meth c s.heap [] 0 0 (lw_Z below #[Value.ref b] s) (entryFrame m ([Value.ref b] : List Value).toArray 4) := by
  obtain ⟨hx, hb, hr, hml, hown, hts0, hXs, hbl, hlocks, -⟩ := C0
  have hts : ∀ w ∈ lw_all, w.before #[Value.ref b] s = true := fun w h => hts0 w (lw_all_tbl h)
  obtain ⟨dC, dI, hKc⟩ : ∃ (dC : Nat → ClassId) (dI : Nat → Nat → Nat), ∀ (k : Nat) (q : vw_C), vwCl[k]? = some q → u_Kn s q.1 q.2.1 q.2.2 (dC k) (dI k) := by
    obtain ⟨c0_, iS0, hKn0⟩ := u_known (C := RX0) (T := TX0) (N := 13) (n := 13) hts in_X0 (hts _ q28)
    obtain ⟨c1_, iS1, hKn1⟩ := u_known (C := RX1) (T := TX1) (N := 15) (n := 15) hts in_X1 (hts _ q187)
    refine ⟨fun k => if k = 0 then c0_ else c1_, fun k => if k = 0 then iS0 else iS1, ?_⟩
    intro k q hq
    match k, hq with
    | 0, hq => cases hq; exact hKn0
    | 1, hq => cases hq; exact hKn1
    | k + 2, hq => simp [vwCl] at hq
  obtain ⟨A, hA, hAs⟩ : ∃ A : Nat → Prop, (∀ q : Nat, s.heap.size ≤ q → A q) ∧ (∀ q : Nat, A q → s.heap.size ≤ q) := ⟨fun q => s.heap.size ≤ q, fun _ h => h, fun _ h => h⟩
  have hK : va_K (dC, dI) vwCl [] s := ⟨hKc, fun k q h => by simp at h⟩
  have hP : va_P (dC, dI) vwCl [] s.heap := fun k q h => by simp at h
  have hD : va_D A [] := ⟨fun i j x y h => by simp at h, fun k q h => by simp at h⟩
  have hS : va_S A s.heap s.heap [] := va_S.rf
  have hl := lv_entry ([.ref b]) (n := 4) (Nat.le_of_ble_eq_true rfl)
  rw [lg_entry_eq]
  generalize (lg_sl ([.ref b]) ++ List.replicate (4 - (lg_sl ([.ref b])).length) Slot.unset).toArray = ls at hl ⊢
  have hl : lv_has ls 4 [(0, .ref b)] := hl
  refine va_new (ci := 0) (fs := fX0) (C := RX0) (T := TX0) (N := 13) hx hb hts in_X0 tyX0 tyX0_ok hown (hts _ q27) (hts _ q28) (hts _ q25) hK hP hD hS hA rfl (fun j hj => by match j, hj with | 0, _ => rfl | 1, _ => rfl | 2, _ => rfl | 3, _ => rfl | 4, _ => rfl | 5, _ => rfl | 6, _ => rfl | 7, _ => rfl | 8, _ => rfl | 9, _ => rfl | 10, _ => rfl | 11, _ => rfl | 12, _ => rfl | j + 13, hj => exact absurd hj (by omega)) (Nat.le_of_ble_eq_true rfl) (Nat.le_of_ble_eq_true rfl) dL_law_0 (fun qx H hP hD hS => ?_)
  have hP : va_P (dC, dI) vwCl [(qx, .inr (0, fX0))] H := hP
  have hD : va_D A [(qx, .inr (0, fX0))] := hD
  refine W.widen (k := 1) (n := 13) (Nat.le_of_ble_eq_true rfl) (Nat.le_of_ble_eq_true rfl) ?_
  refine lv_dup hx hb dL_law_3 rfl ?_
  have hFc := va_free (wc := [(qx, .inr (0, fX0))]) hD hS hA [0] rfl
  have hPc := hP
  have hDc := hD
  have hKc2 := hK
  refine va_callv (va_runI (As := []) (rest := [.ref qx]) ⟨hx, hb, hml, hown, hts⟩ (metX0_init l dC dI qx H.size) (cwI 0 hts (lw_meth q31) rfl rfl rfl (hts _ q25) (hts _ q29) (hts _ q30) rfl (by decide +kernel) ⟨Nat.le_of_ble_eq_true rfl, Nat.le_of_ble_eq_true rfl⟩) ⟨fun a U g mk q => by obtain ⟨q0, q1, qP, qK, qD⟩ := q; exact ⟨q0, q1, qP, va_K.moved (u := U) (U := U.calling g mk a) (Vm.Alike.refl U.vm) qK, qD⟩, fun U hU hW => ⟨rfl, by rw [hU], by rw [hU]; exact hPc, va_K.moved hW.alike hKc2, hDc.weaken (fun _ _ _ _ => trivial)⟩⟩ rfl rfl hl.1 rfl (lv_room (Nat.le_of_ble_eq_true rfl)) dL_law_4 ⟨Nat.le_of_ble_eq_true rfl, Nat.le_of_ble_eq_true rfl⟩) hS (fun q _ h => hFc q h) hFc (fun ⟨a, cA⟩ t H1 locs ht hvm hw1 hB hz1 hk1 hS => ?_)
  obtain ⟨hP1, hK1, hD1⟩ := hB
  rw [ht] at hP1
  have hK1 : va_K (dC, dI) vwCl (t0 cA) s := va_K.moved hvm.symm hK1
  have hw1 : a 0 = qx := hw1
  subst hw1
  have hP : va_P (dC, dI) vwCl (w0 a cA (fun _ => false) (pf_ones 30) 1 (va_up (fun _ => 0) 0 0) (va_up (fun _ => 0) 0 29) (fun _ => false) (fun _ => 0) (fun _ => 0) (fun _ => 0) false 0 (fun _ => 0) (fun _ => 0)) H1 := hP1
  have hD : va_D A (w0 a cA (fun _ => false) (pf_ones 30) 1 (va_up (fun _ => 0) 0 0) (va_up (fun _ => 0) 0 29) (fun _ => false) (fun _ => 0) (fun _ => 0) (fun _ => 0) false 0 (fun _ => 0) (fun _ => 0)) := hD1.weaken (fun _ _ _ h => hFc _ h)
  clear hP1 hD1 hPc hDc hk1 hz1 ht hvm hFc
  generalize H1 = H at hP hS ⊢
  refine W.widen (k := 11) (n := 205) (Nat.le_of_ble_eq_true rfl) (Nat.le_of_ble_eq_true rfl) ?_
  refine lv_astore_n (lv' := [(1, .ref (a 0)), (0, .ref b)]) hx hb dL_law_7 rfl hl (by decide) rfl (fun ls hl => ?_)
  refine va_new (ci := 1) (fs := fX1) (C := RX1) (T := TX1) (N := 15) hx hb hts in_X1 tyX1 tyX1_ok hown (hts _ q186) (hts _ q187) (hts _ q26) hK hP hD hS hA rfl (fun j hj => by match j, hj with | 0, _ => rfl | 1, _ => rfl | 2, _ => rfl | 3, _ => rfl | 4, _ => rfl | 5, _ => rfl | 6, _ => rfl | 7, _ => rfl | 8, _ => rfl | 9, _ => rfl | 10, _ => rfl | 11, _ => rfl | 12, _ => rfl | 13, _ => rfl | 14, _ => rfl | j + 15, hj => exact absurd hj (by omega)) (Nat.le_of_ble_eq_true rfl) (Nat.le_of_ble_eq_true rfl) dL_law_8 (fun qm H hP hD hS => ?_)
  refine W.widen (k := 12) (n := 220) (Nat.le_of_ble_eq_true rfl) (Nat.le_of_ble_eq_true rfl) ?_
  refine lv_dup hx hb dL_law_11 rfl ?_
  have hPc := hP.sub (ws' := [(qm, .inr (1, fX1))]) [11] rfl
  have hDc := hD.sub (ws' := [(qm, .inr (1, fX1))]) [11] (by decide) rfl
  have hKc2 := hK
  have hFc := va_free (wc := [(qm, .inr (1, fX1))]) hD hS hA [11] rfl
  refine va_callv (va_runI (As := []) (rest := [.ref qm]) ⟨hx, hb, hml, hown, hts⟩ (metX1_init l dC dI qm H.size) (cwI 0 hts (lw_meth q190) rfl rfl rfl (hts _ q26) (hts _ q188) (hts _ q189) rfl (by decide +kernel) ⟨Nat.le_of_ble_eq_true rfl, Nat.le_of_ble_eq_true rfl⟩) ⟨fun a U g mk q => by obtain ⟨q0, q1, qP, qK, qD⟩ := q; exact ⟨q0, q1, qP, va_K.moved (u := U) (U := U.calling g mk a) (Vm.Alike.refl U.vm) qK, qD⟩, fun U hU hW => ⟨rfl, by rw [hU], by rw [hU]; exact hPc, va_K.moved hW.alike hKc2, hDc.weaken (fun _ _ _ _ => trivial)⟩⟩ rfl rfl hl.1 rfl (lv_room (Nat.le_of_ble_eq_true rfl)) dL_law_12 ⟨Nat.le_of_ble_eq_true rfl, Nat.le_of_ble_eq_true rfl⟩) hS (fun q _ h => hFc q h) hFc (fun ⟨aM, cM⟩ t H1 locs ht hvm hw1 hB hz1 hk1 hS => ?_)
  obtain ⟨hP1, hK2, hD1⟩ := hB
  rw [ht] at hP1
  have hK2 : va_K (dC, dI) vwCl (t1 cM) s := va_K.moved hvm.symm hK2
  obtain ⟨hP2, hD2⟩ := va_join (wr := (w0 a cA (fun _ => false) (pf_ones 30) 1 (va_up (fun _ => 0) 0 0) (va_up (fun _ => 0) 0 29) (fun _ => false) (fun _ => 0) (fun _ => 0) (fun _ => 0) false 0 (fun _ => 0) (fun _ => 0))) (w1 := (w1 aM cM (fun _ => false) (pf_ones 30) 1 (va_up (fun _ => 0) 0 0) (va_up (fun _ => 0) 0 29) 0 (fun _ => 0) (fun _ => 0) (fun _ => 0) (fun _ => false) (fun _ => 0) (-4) 0 (fun _ => 0) (fun _ => 0))) hP hD [11] [0, 1, 2, 3, 4, 5, 6, 7, 8, 9, 10] rfl rfl (by decide) (by decide) hk1 hFc hP1 hD1
  have hw1 : aM 0 = qm := hw1
  subst hw1
  have hX := wd2_of hP2 hD2 hS
  refine lv_astore_n (lv' := [(2, .ref (aM 0)), (1, .ref (a 0)), (0, .ref b)]) hx hb dL_law_15 rfl hl (by decide) rfl (fun ls hl => ?_)
  refine lv_iconst (v := nI 0) hx hb dL_law_16 (by decide) ?_
  refine lv_istore_n (lv' := [(3, .int (nI 0)), (2, .ref (aM 0)), (1, .ref (a 0)), (0, .ref b)]) hx hb dL_law_17 rfl hl (by decide) rfl (fun ls hl => ?_)
  refine W.widen (k := 600000) (n := 7290000) (Nat.le_of_ble_eq_true rfl) (Nat.le_of_ble_eq_true rfl) ?_
  exact lw_loop hAs hr hlocks ⟨⟨hx, hb, hml, hown, hts⟩, ⟨hK1, hK2⟩, ⟨hXs, hbl, fun h => absurd (hAs b h) (by omega), hL⟩, hA⟩ ⟨_, _, _, _, _, _, _, _, _, _, _, _, _, _, _, _, _, _, _, _, _, _, _, pf_wf_0, Or.inl ⟨rfl, rfl, rfl⟩, hX⟩ hl
-- ===== YOUR PART ENDS =====
set_option maxHeartbeats 4000000 in
theorem lw_walk (l : Launch) (b : Addr) (xs : List Int32) : MetFree l x (headSpec (Jvm.Cond.code x code maxLocals ret :: tables_1) room_1) (lw_P b xs) (fun _ _ _ _ _ => True) lw_Q := by
  refine MetFree.of_bodyS (code := code) (maxLocals := maxLocals) (ret := ret) (by decide) ?_ ?_
  · intro args s m h hn
    obtain ⟨meth, c, h1, h2, h3, h4, h5, h6, -, -⟩ := Cond.code_spec hn (atoms_spec (ws := Jvm.Cond.code x code maxLocals ret :: tables_1) h _ List.mem_cons_self)
    exact ⟨meth, c, h1, h2, h3, h4, h5, h6⟩
  · intro p e s m args below meth c s₁ B hml0 hP _
    obtain ⟨rfl, hx, hbd, hgv⟩ := hP
    obtain ⟨scr, harrAt, hlist, hof, hsmall⟩ := hx
    obtain ⟨hcb, hkn, -, -⟩ := State.arrayAt?_spec harrAt
    have hown : s.vm.findClass R_law = some m.cls := findClass_of_methodNamed B.named
    have hts0 : ∀ c ∈ (Jvm.Cond.code x code maxLocals ret :: tables_1), c.before #[Value.ref b] s = true := atoms_spec (ws := Jvm.Cond.code x code maxLocals ret :: tables_1) B.pre
    have hts : ∀ w ∈ lw_tbl, w.before #[Value.ref b] s = true := k2_hts_sels lw_privs (fun w hw => hts0 w (List.mem_cons_of_mem _ hw)) lw_privs_ok
    have hml : c.maxLocals = 4 := B.maxLocals_eq (hts0 _ List.mem_cons_self)
    have X₀ : Stand p l e room_1 s m #[Value.ref b] below meth c s₁ [] 0 0 := Stand.of_body B
    have hh0 : s₁.heap = s.heap := by rw [B.state]; rfl
    have hsz : scr.slots.size = xs.length := by rw [← Array.length_toList, hlist, List.length_map]
    have hval : ∀ j : Nat, j < xs.length → scr.slots[j]? = some (.int (xs.getD j 0)) := fun j hj => by
      rw [← Array.getElem?_toList, hlist]
      simp [hj]
    have hbl : b < s.heap.size := (Array.getElem?_eq_some_iff.mp hcb).1
    have hX : va_X b xs.length (fun j => xs.getD j 0) s s.heap := ⟨scr, hcb, hof, hkn, hsz, hval⟩
    have K : W p l e room_1 s m #[Value.ref b] below meth c s₁.heap [] 0 0 (lw_Z below #[Value.ref b] s) (entryFrame m ([Value.ref b] : List Value).toArray 4) := by
      rw [hh0]
      exact whole_start l hbd ⟨B.exec, B.bytes, B.returns, hml, hown, hts, hX, hbl, B.notSynchronized, hgv⟩
    obtain ⟨t, a1, o, b1, b2, b3⟩ := K s₁ rfl X₀
    exact ⟨t, o, a1, b1, b2, b3⟩
theorem lw_pre_spec {args : Array Value} {s : State} (h : (Jvm.Cond.and given_1 narrow_1).before args s = true) (hr : rest_1_c.before args s = true) : ∃ (b : Addr) (xs : List Int32), lw_P b xs args s := by
  have hs := flat_of_before _ h
  have hq := flat_of_before _ hr
  have hc : (Cond.count 1).before args s = true := hs _ (by decide +kernel)
  have harr : (Cond.arrayOf (.arg 0) .int).before args s = true := hs _ (by decide +kernel)
  have hle : (Cond.le (.length (.arg 0)) (.int 192)).before args s = true := hs _ (by decide +kernel)
  have hlen : (Cond.isInt (.length (.arg 0))).before args s = true := hq _ (by decide +kernel)
  have hall : (Cond.all (.arg 0) (.isInt (.elem (.arg 0) (.index 0)))).before args s = true := hq _ (by decide +kernel)
  obtain ⟨b, xs, hb, hx⟩ := State.ints_of_pre rfl harr hlen hall
  have hsm : xs.length < 2 ^ 31 := hx.choose_spec.2.2.2
  have hev : (Term.length (.arg 0)).eval args s none [] s = some (.int xs.length.toInt32) := hx.length_eval hb
  have hv := Cond.le_ints hev (show (Term.int 192).eval args s none [] s = some (.int 192) from rfl)
  have hd : xs.length.toInt32 ≤ 192 := by
    simpa [Cond.before, Cond.holds, hv] using hle
  have hN : xs.length ≤ 192 := (Int32.ofNat_le_ofNat hsm (by decide)).mp (show Int32.ofNat xs.length ≤ Int32.ofNat 192 from hd)
  exact ⟨b, xs, Cond.one_arg hc (show args[0]? = some (.ref b) from hb), hx, hN, h⟩
theorem lw_comes (l : Launch) : Comes l x (Jvm.Cond.code x code maxLocals ret :: tables_1) room_1 (fun tb e args s => Calls_1 tb e args s ∧ rest_1 tb e args s ∧ Pre_1 tb e args s)
    (fun _ _ args s o t => lw_Q args s o t) := by
  intro p e ha hc hk s m args below hf hfit hheap happ hpre
  obtain ⟨b, xs, hP⟩ := lw_pre_spec hpre.2.2 hpre.2.1
  obtain ⟨k, o, h1, h2, h3, hQ⟩ := lw_walk l b xs p e ha hc hk s m args below hf ((Spec.applies_iff_loose hf).mp happ).1 hP trivial
  exact ⟨k, o, h1, h2, h3, hQ⟩
theorem lw_frame {s t : State} {o : Outcome} {args : Array Value} (h : Framed s o t [] 600000 7290000) :
    Framed s o t (fieldLocs frame_1_writes args s ++ arrayLocs frame_1_arrays args s ++ staticLocs frame_1_statics s) 600000 7290000 := h
theorem lw_limb (L : Cond) (hL : ∀ (args : Array Value) (s t : State), L.after args s (.returned (some (.int 1))) t = true) :
    ArmFor flags0 classFile x code maxLocals ret World_1 tables_1 room_1 Calls_1 rest_1 Pre_1
      (fun tb e a s o t => postC L tb e a s o t ∧ Framed s o t (fieldLocs frame_1_writes a s ++ arrayLocs frame_1_arrays a s ++ staticLocs frame_1_statics s) 600000 7290000) := by
  intro l _ _ _ p e ha hc hk s m args below hf hfit hheap happ hpre
  obtain ⟨k, o, h1, h2, h3, rfl, hF⟩ := lw_comes l p e ha hc hk s m args below hf hfit hheap happ hpre
  exact ⟨k, _, h1, h2, h3, hL args s _, lw_frame hF⟩
theorem i_vc : Claimed_1_1 ∧ Claimed_1_2 := ⟨lw_limb limb_1_1 (fun args s t => by simp [limb_1_1, Cond.after, Cond.holds, Cond.value]), lw_limb limb_1_2 (fun args s t => Cond.after_iff.mpr (by
  first | (rw [show limb_1_2 = Cond.eq .result (.int 1) from rfl, Cond.eq_ints (x := 1) (y := 1) rfl rfl]; simp; done) | (simp [limb_1_2, Cond.value, Term.eval]; done)))⟩
end
