section
-- ===== PART A: goes FIRST, ahead of the names: the tables' words, and 'selects' of the private methods out of them =====
/-- a private method of a class that the tables say can be made, by its rows of tables_1 -/
def lw_okq (q : MethodName × Nat) : Prop := (q.1.cls ≠ "java/lang/invoke/MethodHandle" ∧ q.1.cls ≠ "java/lang/invoke/VarHandle") ∧ Cond.instantiable q.1.cls q.2 ∈ tables_1 ∧ Cond.privateMethod q.1 ∈ tables_1 ∧ Cond.instanceMethod q.1 ∈ tables_1
set_option maxRecDepth 100000
theorem lw_t1 {w : Cond} (h : w ∈ tables_1_1) : w ∈ tables_1 := List.mem_append_left _ h
theorem lw_t2 {w : Cond} (h : w ∈ tables_1_2) : w ∈ tables_1 := List.mem_append_right _ h
theorem lw_p0 : lw_okq (⟨"StructureLearner", "noDemands", "()V"⟩, 10) := ⟨⟨by decide +kernel, by decide +kernel⟩, lw_t1 (List.mem_of_getElem? (i := 4) rfl), lw_t1 (List.mem_of_getElem? (i := 12) rfl), lw_t1 (List.mem_of_getElem? (i := 13) rfl)⟩
theorem lw_p1 : lw_okq (⟨"StructureLearner", "solve", "()V"⟩, 10) := ⟨⟨by decide +kernel, by decide +kernel⟩, lw_t1 (List.mem_of_getElem? (i := 4) rfl), lw_t1 (List.mem_of_getElem? (i := 86) rfl), lw_t1 (List.mem_of_getElem? (i := 87) rfl)⟩
theorem lw_p2 : lw_okq (⟨"StructureLearner", "fillWithin", "(I)V"⟩, 10) := ⟨⟨by decide +kernel, by decide +kernel⟩, lw_t1 (List.mem_of_getElem? (i := 4) rfl), lw_t1 (List.mem_of_getElem? (i := 90) rfl), lw_t1 (List.mem_of_getElem? (i := 91) rfl)⟩
theorem lw_p3 : lw_okq (⟨"StructureLearner", "isAllowed", "(II)Z"⟩, 10) := ⟨⟨by decide +kernel, by decide +kernel⟩, lw_t1 (List.mem_of_getElem? (i := 4) rfl), lw_t1 (List.mem_of_getElem? (i := 94) rfl), lw_t1 (List.mem_of_getElem? (i := 95) rfl)⟩
theorem lw_p4 : lw_okq (⟨"StructureLearner", "tryLast", "(II)V"⟩, 10) := ⟨⟨by decide +kernel, by decide +kernel⟩, lw_t1 (List.mem_of_getElem? (i := 4) rfl), lw_t1 (List.mem_of_getElem? (i := 99) rfl), lw_t1 (List.mem_of_getElem? (i := 100) rfl)⟩
theorem lw_p5 : lw_okq (⟨"StructureLearner", "findFirst", "()Z"⟩, 10) := ⟨⟨by decide +kernel, by decide +kernel⟩, lw_t1 (List.mem_of_getElem? (i := 4) rfl), lw_t1 (List.mem_of_getElem? (i := 107) rfl), lw_t1 (List.mem_of_getElem? (i := 108) rfl)⟩
theorem lw_p6 : lw_okq (⟨"StructureLearnerModel", "hasCircle", "(I)Z"⟩, 7) := ⟨⟨by decide +kernel, by decide +kernel⟩, lw_t1 (List.mem_of_getElem? (i := 132) rfl), lw_t1 (List.mem_of_getElem? (i := 138) rfl), lw_t1 (List.mem_of_getElem? (i := 139) rfl)⟩
theorem lw_p7 : lw_okq (⟨"StructureLearnerModel", "parentsOf", "(II)I"⟩, 7) := ⟨⟨by decide +kernel, by decide +kernel⟩, lw_t1 (List.mem_of_getElem? (i := 132) rfl), lw_t1 (List.mem_of_getElem? (i := 142) rfl), lw_t1 (List.mem_of_getElem? (i := 143) rfl)⟩
theorem lw_p8 : lw_okq (⟨"StructureLearnerModel", "digitOf", "(II)I"⟩, 7) := ⟨⟨by decide +kernel, by decide +kernel⟩, lw_t1 (List.mem_of_getElem? (i := 132) rfl), lw_t1 (List.mem_of_getElem? (i := 146) rfl), lw_t1 (List.mem_of_getElem? (i := 147) rfl)⟩
theorem lw_p9 : lw_okq (⟨"StructureLearnerModel", "mask", "(II)I"⟩, 7) := ⟨⟨by decide +kernel, by decide +kernel⟩, lw_t1 (List.mem_of_getElem? (i := 132) rfl), lw_t1 (List.mem_of_getElem? (i := 150) rfl), lw_t1 (List.mem_of_getElem? (i := 151) rfl)⟩
theorem lw_p10 : lw_okq (⟨"StructureLearnerModel", "bad", "(I)Z"⟩, 7) := ⟨⟨by decide +kernel, by decide +kernel⟩, lw_t1 (List.mem_of_getElem? (i := 132) rfl), lw_t1 (List.mem_of_getElem? (i := 181) rfl), lw_t1 (List.mem_of_getElem? (i := 182) rfl)⟩
theorem lw_p11 : lw_okq (⟨"StructureLearnerModel", "badMask", "(II)Z"⟩, 7) := ⟨⟨by decide +kernel, by decide +kernel⟩, lw_t1 (List.mem_of_getElem? (i := 132) rfl), lw_t1 (List.mem_of_getElem? (i := 185) rfl), lw_t1 (List.mem_of_getElem? (i := 186) rfl)⟩
theorem lw_p12 : lw_okq (⟨"StructureLearnerModel", "digit", "(II)I"⟩, 7) := ⟨⟨by decide +kernel, by decide +kernel⟩, lw_t1 (List.mem_of_getElem? (i := 132) rfl), lw_t1 (List.mem_of_getElem? (i := 189) rfl), lw_t1 (List.mem_of_getElem? (i := 190) rfl)⟩
theorem lw_p13 : lw_okq (⟨"StructureLearnerModel", "bits", "(I)I"⟩, 7) := ⟨⟨by decide +kernel, by decide +kernel⟩, lw_t1 (List.mem_of_getElem? (i := 132) rfl), lw_t1 (List.mem_of_getElem? (i := 205) rfl), lw_t1 (List.mem_of_getElem? (i := 206) rfl)⟩
theorem lw_p14 : lw_okq (⟨"StructureLearnerModel", "hits", "(JII)I"⟩, 7) := ⟨⟨by decide +kernel, by decide +kernel⟩, lw_t1 (List.mem_of_getElem? (i := 132) rfl), lw_t1 (List.mem_of_getElem? (i := 209) rfl), lw_t1 (List.mem_of_getElem? (i := 210) rfl)⟩
theorem lw_p15 : lw_okq (⟨"StructureLearnerModel", "greater", "(JIII)I"⟩, 7) := ⟨⟨by decide +kernel, by decide +kernel⟩, lw_t1 (List.mem_of_getElem? (i := 132) rfl), lw_t1 (List.mem_of_getElem? (i := 213) rfl), lw_t1 (List.mem_of_getElem? (i := 214) rfl)⟩
def lw_privs_1 : List (MethodName × Nat) := [(⟨"StructureLearner", "noDemands", "()V"⟩, 10), (⟨"StructureLearner", "solve", "()V"⟩, 10), (⟨"StructureLearner", "fillWithin", "(I)V"⟩, 10), (⟨"StructureLearner", "isAllowed", "(II)Z"⟩, 10), (⟨"StructureLearner", "tryLast", "(II)V"⟩, 10), (⟨"StructureLearner", "findFirst", "()Z"⟩, 10), (⟨"StructureLearnerModel", "hasCircle", "(I)Z"⟩, 7), (⟨"StructureLearnerModel", "parentsOf", "(II)I"⟩, 7), (⟨"StructureLearnerModel", "digitOf", "(II)I"⟩, 7), (⟨"StructureLearnerModel", "mask", "(II)I"⟩, 7), (⟨"StructureLearnerModel", "bad", "(I)Z"⟩, 7), (⟨"StructureLearnerModel", "badMask", "(II)Z"⟩, 7), (⟨"StructureLearnerModel", "digit", "(II)I"⟩, 7), (⟨"StructureLearnerModel", "bits", "(I)I"⟩, 7), (⟨"StructureLearnerModel", "hits", "(JII)I"⟩, 7), (⟨"StructureLearnerModel", "greater", "(JIII)I"⟩, 7)]
theorem lw_r1 : ∀ q ∈ lw_privs_1, lw_okq q := List.forall_mem_cons.mpr ⟨lw_p0, List.forall_mem_cons.mpr ⟨lw_p1, List.forall_mem_cons.mpr ⟨lw_p2, List.forall_mem_cons.mpr ⟨lw_p3, List.forall_mem_cons.mpr ⟨lw_p4, List.forall_mem_cons.mpr ⟨lw_p5, List.forall_mem_cons.mpr ⟨lw_p6, List.forall_mem_cons.mpr ⟨lw_p7, List.forall_mem_cons.mpr ⟨lw_p8, List.forall_mem_cons.mpr ⟨lw_p9, List.forall_mem_cons.mpr ⟨lw_p10, List.forall_mem_cons.mpr ⟨lw_p11, List.forall_mem_cons.mpr ⟨lw_p12, List.forall_mem_cons.mpr ⟨lw_p13, List.forall_mem_cons.mpr ⟨lw_p14, List.forall_mem_cons.mpr ⟨lw_p15, fun _ h => absurd h List.not_mem_nil⟩⟩⟩⟩⟩⟩⟩⟩⟩⟩⟩⟩⟩⟩⟩⟩
theorem lw_p16 : lw_okq (⟨"StructureLearnerModel", "workOut", "()V"⟩, 7) := ⟨⟨by decide +kernel, by decide +kernel⟩, lw_t1 (List.mem_of_getElem? (i := 132) rfl), lw_t1 (List.mem_of_getElem? (i := 222) rfl), lw_t1 (List.mem_of_getElem? (i := 223) rfl)⟩
theorem lw_p17 : lw_okq (⟨"StructureLearnerModel", "allowed", "(I)Z"⟩, 7) := ⟨⟨by decide +kernel, by decide +kernel⟩, lw_t1 (List.mem_of_getElem? (i := 132) rfl), lw_t1 (List.mem_of_getElem? (i := 227) rfl), lw_t1 (List.mem_of_getElem? (i := 228) rfl)⟩
theorem lw_p18 : lw_okq (⟨"StructureLearnerModel", "worth", "(I)I"⟩, 7) := ⟨⟨by decide +kernel, by decide +kernel⟩, lw_t1 (List.mem_of_getElem? (i := 132) rfl), lw_t1 (List.mem_of_getElem? (i := 231) rfl), lw_t1 (List.mem_of_getElem? (i := 232) rfl)⟩
theorem lw_p19 : lw_okq (⟨"StructureLearnerModel", "bestBy", "(III)I"⟩, 7) := ⟨⟨by decide +kernel, by decide +kernel⟩, lw_t1 (List.mem_of_getElem? (i := 132) rfl), lw_t2 (List.mem_of_getElem? (i := 3) rfl), lw_t2 (List.mem_of_getElem? (i := 4) rfl)⟩
theorem lw_p20 : lw_okq (⟨"StructureLearnerModel", "someFollows", "(IIII)Z"⟩, 7) := ⟨⟨by decide +kernel, by decide +kernel⟩, lw_t1 (List.mem_of_getElem? (i := 132) rfl), lw_t2 (List.mem_of_getElem? (i := 19) rfl), lw_t2 (List.mem_of_getElem? (i := 20) rfl)⟩
theorem lw_p21 : lw_okq (⟨"StructureLearnerModel", "follows", "(IIIII)Z"⟩, 7) := ⟨⟨by decide +kernel, by decide +kernel⟩, lw_t1 (List.mem_of_getElem? (i := 132) rfl), lw_t2 (List.mem_of_getElem? (i := 23) rfl), lw_t2 (List.mem_of_getElem? (i := 24) rfl)⟩
def lw_privs_2 : List (MethodName × Nat) := [(⟨"StructureLearnerModel", "workOut", "()V"⟩, 7), (⟨"StructureLearnerModel", "allowed", "(I)Z"⟩, 7), (⟨"StructureLearnerModel", "worth", "(I)I"⟩, 7), (⟨"StructureLearnerModel", "bestBy", "(III)I"⟩, 7), (⟨"StructureLearnerModel", "someFollows", "(IIII)Z"⟩, 7), (⟨"StructureLearnerModel", "follows", "(IIIII)Z"⟩, 7)]
theorem lw_r2 : ∀ q ∈ lw_privs_2, lw_okq q := List.forall_mem_cons.mpr ⟨lw_p16, List.forall_mem_cons.mpr ⟨lw_p17, List.forall_mem_cons.mpr ⟨lw_p18, List.forall_mem_cons.mpr ⟨lw_p19, List.forall_mem_cons.mpr ⟨lw_p20, List.forall_mem_cons.mpr ⟨lw_p21, fun _ h => absurd h List.not_mem_nil⟩⟩⟩⟩⟩⟩
def lw_privs : List (MethodName × Nat) := lw_privs_1 ++ (lw_privs_2)
def lw_tbl : List Cond := k2_sels lw_privs ++ tables_1
theorem lw_privs_ok : ∀ q ∈ lw_privs, lw_okq q := by
  show ∀ q ∈ lw_privs_1 ++ (lw_privs_2), lw_okq q
  exact List.forall_mem_append.mpr ⟨lw_r1, lw_r2⟩
-- ===== ONE list of words for every method: the tables' words that hold all through a run =====
def lw_all : List Cond := lw_tbl.filter goodWord
/-- a word of the tables by its place: claim/WORDS.tsv -/
theorem lw_w {w : Cond} (i : Nat) (h : lw_tbl[i]? = some w) (g : goodWord w = true) : w ∈ lw_all := List.mem_filter.mpr ⟨List.mem_of_getElem? h, g⟩
theorem lw_all_tbl {w : Cond} (h : w ∈ lw_all) : w ∈ lw_tbl := (List.mem_filter.mp h).1
theorem lw_self : GoodIn lw_all lw_all := fun w h => ⟨h, good_of_word (List.mem_filter.mp h).2⟩
/-- a class's field words, by their places -/
theorem lw_in (ws : List Cond) (ps : List Nat) (hp : ws = ps.filterMap (fun i => lw_tbl[i]?)) (hg : ws.all goodWord = true) : ∀ w ∈ ws, w ∈ lw_all := by
  intro w h
  have h1 := List.all_eq_true.mp hg w h
  rw [hp] at h
  obtain ⟨i, -, hi⟩ := List.mem_filterMap.mp h
  exact lw_w i hi h1
/-- the words of a contract for the method y with code b, L locals, answer r -/
abbrev ws_ (y : MethodName) (b : ByteArray) (L : Nat) (r : Option FieldType) : List Cond := Cond.code y b L r :: lw_all
theorem lw_meth {y : MethodName} {b : ByteArray} {L : Nat} {r : Option FieldType} (h : Cond.code y b L r ∈ lw_all) : GoodIn lw_all (ws_ y b L r) := by
  intro w hw
  rcases List.mem_cons.mp hw with e | e
  · rw [e]
    exact lw_self _ h
  · exact lw_self _ e
theorem lw_app {a c : List Cond} (ha : ∀ w ∈ a, w ∈ lw_all) (hc : GoodIn lw_all c) : GoodIn lw_all (a ++ c) := by
  intro w hw
  rcases List.mem_append.mp hw with e | e
  · exact lw_self w (ha w e)
  · exact hc w e
/-- what a call through an object asks: cwV n hts (lw_V ..) -/
theorem lw_V {own : String} {idx : Nat} {C : String} {y : MethodName} {b : ByteArray} {L : Nat} {r : Option FieldType} (h1 : Cond.methodLink own idx y ∈ lw_all) (h2 : Cond.instanceMethod y ∈ lw_all) (h3 : Cond.selects C y y ∈ lw_all) (h4 : Cond.initialized C ∈ lw_all) (h5 : Cond.code y b L r ∈ lw_all) : GoodIn lw_all (wsV own idx C y (ws_ y b L r)) := by
  refine lw_app ?_ (lw_meth h5)
  intro w hw
  simp only [List.mem_cons, List.not_mem_nil, or_false] at hw
  rcases hw with e | e | e | e
  · rw [e]; exact h1
  · rw [e]; exact h2
  · rw [e]; exact h3
  · rw [e]; exact h4
/-- what a static call asks: va_cwS n hts (lw_S ..) -/
theorem lw_S {own : String} {idx : Nat} {y : MethodName} {b : ByteArray} {L : Nat} {r : Option FieldType} (h1 : Cond.methodLink own idx y ∈ lw_all) (h2 : Cond.static y ∈ lw_all) (h3 : Cond.initialized y.cls ∈ lw_all) (h4 : Cond.code y b L r ∈ lw_all) : GoodIn lw_all (va_wsS own idx y (ws_ y b L r)) := by
  refine lw_app ?_ (lw_meth h4)
  intro w hw
  simp only [List.mem_cons, List.not_mem_nil, or_false] at hw
  rcases hw with e | e | e
  · rw [e]; exact h1
  · rw [e]; exact h2
  · rw [e]; exact h3
/-- the words of a contract for a method WITH HANDLERS (hh: its table) -/
abbrev wsW_ (y : MethodName) (b : ByteArray) (L : Nat) (r : Option FieldType) (hh : List (Nat × Nat × Nat × Nat)) : List Cond := Cond.codeWith y b L r hh :: lw_all
theorem lw_methW {y : MethodName} {b : ByteArray} {L : Nat} {r : Option FieldType} {hh : List (Nat × Nat × Nat × Nat)} (h : Cond.codeWith y b L r hh ∈ lw_all) : GoodIn lw_all (wsW_ y b L r hh) := by
  intro w hw
  rcases List.mem_cons.mp hw with e | e
  · rw [e]
    exact lw_self _ h
  · exact lw_self _ e
/-- any list of words by their places (lw_in), good -/
theorem lw_good {ws : List Cond} (h : ∀ w ∈ ws, w ∈ lw_all) : GoodIn lw_all ws := fun w hw => lw_self w (h w hw)
/-- what a call of a method with handlers asks: vx_cwVW n hts (lw_VW ..), vx_cwSW n hts (lw_SW ..) -/
theorem lw_VW {own : String} {idx : Nat} {C : String} {y : MethodName} {b : ByteArray} {L : Nat} {r : Option FieldType} {hh : List (Nat × Nat × Nat × Nat)} (h1 : Cond.methodLink own idx y ∈ lw_all) (h2 : Cond.instanceMethod y ∈ lw_all) (h3 : Cond.selects C y y ∈ lw_all) (h4 : Cond.initialized C ∈ lw_all) (h5 : Cond.codeWith y b L r hh ∈ lw_all) : GoodIn lw_all (wsV own idx C y (wsW_ y b L r hh)) := by
  refine lw_app ?_ (lw_methW h5)
  intro w hw
  simp only [List.mem_cons, List.not_mem_nil, or_false] at hw
  rcases hw with e | e | e | e
  · rw [e]; exact h1
  · rw [e]; exact h2
  · rw [e]; exact h3
  · rw [e]; exact h4
theorem lw_SW {own : String} {idx : Nat} {y : MethodName} {b : ByteArray} {L : Nat} {r : Option FieldType} {hh : List (Nat × Nat × Nat × Nat)} (h1 : Cond.methodLink own idx y ∈ lw_all) (h2 : Cond.static y ∈ lw_all) (h3 : Cond.initialized y.cls ∈ lw_all) (h4 : Cond.codeWith y b L r hh ∈ lw_all) : GoodIn lw_all (va_wsS own idx y (wsW_ y b L r hh)) := by
  refine lw_app ?_ (lw_methW h4)
  intro w hw
  simp only [List.mem_cons, List.not_mem_nil, or_false] at hw
  rcases hw with e | e | e
  · rw [e]; exact h1
  · rw [e]; exact h2
  · rw [e]; exact h3
/-- a word by its place in its run of the tables -/
theorem lw_at {r : List Cond} (hr : ∀ w ∈ r, w ∈ lw_tbl) {w : Cond} (i : Nat) (h : r[i]? = some w) : w ∈ lw_tbl := hr w (List.mem_of_getElem? h)
theorem lw_g {w : Cond} (h : w ∈ lw_tbl) (g : goodWord w = true) : w ∈ lw_all := List.mem_filter.mpr ⟨h, g⟩
theorem lw_ms : ∀ w ∈ k2_sels lw_privs, w ∈ lw_tbl := fun w h => show w ∈ k2_sels lw_privs ++ tables_1 from List.mem_append_left _ h
theorem lw_m1 : ∀ w ∈ tables_1_1, w ∈ lw_tbl := fun w h => show w ∈ k2_sels lw_privs ++ tables_1 from List.mem_append_right (k2_sels lw_privs) (show w ∈ tables_1 from List.mem_append_left _ h)
theorem lw_m2 : ∀ w ∈ tables_1_2, w ∈ lw_tbl := fun w h => show w ∈ k2_sels lw_privs ++ tables_1 from List.mem_append_right (k2_sels lw_privs) (show w ∈ tables_1 from List.mem_append_right _ h)
theorem qs0 : (Cond.selects "StructureLearner" ⟨"StructureLearner", "noDemands", "()V"⟩ ⟨"StructureLearner", "noDemands", "()V"⟩) ∈ lw_all := lw_g (lw_at lw_ms 0 rfl) rfl
theorem qs1 : (Cond.selects "StructureLearner" ⟨"StructureLearner", "solve", "()V"⟩ ⟨"StructureLearner", "solve", "()V"⟩) ∈ lw_all := lw_g (lw_at lw_ms 1 rfl) rfl
theorem qs2 : (Cond.selects "StructureLearner" ⟨"StructureLearner", "fillWithin", "(I)V"⟩ ⟨"StructureLearner", "fillWithin", "(I)V"⟩) ∈ lw_all := lw_g (lw_at lw_ms 2 rfl) rfl
theorem qs3 : (Cond.selects "StructureLearner" ⟨"StructureLearner", "isAllowed", "(II)Z"⟩ ⟨"StructureLearner", "isAllowed", "(II)Z"⟩) ∈ lw_all := lw_g (lw_at lw_ms 3 rfl) rfl
theorem qs4 : (Cond.selects "StructureLearner" ⟨"StructureLearner", "tryLast", "(II)V"⟩ ⟨"StructureLearner", "tryLast", "(II)V"⟩) ∈ lw_all := lw_g (lw_at lw_ms 4 rfl) rfl
theorem qs5 : (Cond.selects "StructureLearner" ⟨"StructureLearner", "findFirst", "()Z"⟩ ⟨"StructureLearner", "findFirst", "()Z"⟩) ∈ lw_all := lw_g (lw_at lw_ms 5 rfl) rfl
theorem qs6 : (Cond.selects "StructureLearnerModel" ⟨"StructureLearnerModel", "hasCircle", "(I)Z"⟩ ⟨"StructureLearnerModel", "hasCircle", "(I)Z"⟩) ∈ lw_all := lw_g (lw_at lw_ms 6 rfl) rfl
theorem qs7 : (Cond.selects "StructureLearnerModel" ⟨"StructureLearnerModel", "parentsOf", "(II)I"⟩ ⟨"StructureLearnerModel", "parentsOf", "(II)I"⟩) ∈ lw_all := lw_g (lw_at lw_ms 7 rfl) rfl
theorem qs8 : (Cond.selects "StructureLearnerModel" ⟨"StructureLearnerModel", "digitOf", "(II)I"⟩ ⟨"StructureLearnerModel", "digitOf", "(II)I"⟩) ∈ lw_all := lw_g (lw_at lw_ms 8 rfl) rfl
theorem qs9 : (Cond.selects "StructureLearnerModel" ⟨"StructureLearnerModel", "mask", "(II)I"⟩ ⟨"StructureLearnerModel", "mask", "(II)I"⟩) ∈ lw_all := lw_g (lw_at lw_ms 9 rfl) rfl
theorem qs10 : (Cond.selects "StructureLearnerModel" ⟨"StructureLearnerModel", "bad", "(I)Z"⟩ ⟨"StructureLearnerModel", "bad", "(I)Z"⟩) ∈ lw_all := lw_g (lw_at lw_ms 10 rfl) rfl
theorem qs11 : (Cond.selects "StructureLearnerModel" ⟨"StructureLearnerModel", "badMask", "(II)Z"⟩ ⟨"StructureLearnerModel", "badMask", "(II)Z"⟩) ∈ lw_all := lw_g (lw_at lw_ms 11 rfl) rfl
theorem qs12 : (Cond.selects "StructureLearnerModel" ⟨"StructureLearnerModel", "digit", "(II)I"⟩ ⟨"StructureLearnerModel", "digit", "(II)I"⟩) ∈ lw_all := lw_g (lw_at lw_ms 12 rfl) rfl
theorem qs13 : (Cond.selects "StructureLearnerModel" ⟨"StructureLearnerModel", "bits", "(I)I"⟩ ⟨"StructureLearnerModel", "bits", "(I)I"⟩) ∈ lw_all := lw_g (lw_at lw_ms 13 rfl) rfl
theorem qs14 : (Cond.selects "StructureLearnerModel" ⟨"StructureLearnerModel", "hits", "(JII)I"⟩ ⟨"StructureLearnerModel", "hits", "(JII)I"⟩) ∈ lw_all := lw_g (lw_at lw_ms 14 rfl) rfl
theorem qs15 : (Cond.selects "StructureLearnerModel" ⟨"StructureLearnerModel", "greater", "(JIII)I"⟩ ⟨"StructureLearnerModel", "greater", "(JIII)I"⟩) ∈ lw_all := lw_g (lw_at lw_ms 15 rfl) rfl
theorem qs16 : (Cond.selects "StructureLearnerModel" ⟨"StructureLearnerModel", "workOut", "()V"⟩ ⟨"StructureLearnerModel", "workOut", "()V"⟩) ∈ lw_all := lw_g (lw_at lw_ms 16 rfl) rfl
theorem qs17 : (Cond.selects "StructureLearnerModel" ⟨"StructureLearnerModel", "allowed", "(I)Z"⟩ ⟨"StructureLearnerModel", "allowed", "(I)Z"⟩) ∈ lw_all := lw_g (lw_at lw_ms 17 rfl) rfl
theorem qs18 : (Cond.selects "StructureLearnerModel" ⟨"StructureLearnerModel", "worth", "(I)I"⟩ ⟨"StructureLearnerModel", "worth", "(I)I"⟩) ∈ lw_all := lw_g (lw_at lw_ms 18 rfl) rfl
theorem qs19 : (Cond.selects "StructureLearnerModel" ⟨"StructureLearnerModel", "bestBy", "(III)I"⟩ ⟨"StructureLearnerModel", "bestBy", "(III)I"⟩) ∈ lw_all := lw_g (lw_at lw_ms 19 rfl) rfl
theorem qs20 : (Cond.selects "StructureLearnerModel" ⟨"StructureLearnerModel", "someFollows", "(IIII)Z"⟩ ⟨"StructureLearnerModel", "someFollows", "(IIII)Z"⟩) ∈ lw_all := lw_g (lw_at lw_ms 20 rfl) rfl
theorem qs21 : (Cond.selects "StructureLearnerModel" ⟨"StructureLearnerModel", "follows", "(IIIII)Z"⟩ ⟨"StructureLearnerModel", "follows", "(IIIII)Z"⟩) ∈ lw_all := lw_g (lw_at lw_ms 21 rfl) rfl
end
section
/-! StructureLearner -/
set_option maxRecDepth 100000
def RX0 : String := "StructureLearner"
def TX0 : u_T := fun k => match k with
  | 0 => ("StructureLearner", "scores", "[I", true)
  | 1 => ("StructureLearner", "most", "I", false)
  | 2 => ("StructureLearner", "forbidden", "[I", true)
  | 3 => ("StructureLearner", "required", "[I", true)
  | 4 => ("StructureLearner", "fixed", "[I", true)
  | 5 => ("StructureLearner", "must", "[I", true)
  | 6 => ("StructureLearner", "mustNot", "[I", true)
  | 7 => ("StructureLearner", "within", "[I", true)
  | 8 => ("StructureLearner", "bestOf", "[I", true)
  | _ => ("StructureLearner", "ways", "[I", true)
def tyX0 : Nat → FieldType := fun k => match k with
  | 0 => .array .int
  | 1 => .int
  | 2 => .array .int
  | 3 => .array .int
  | 4 => .array .int
  | 5 => .array .int
  | 6 => .array .int
  | 7 => .array .int
  | 8 => .array .int
  | _ => .array .int
abbrev wsX00 : List Cond := u_ws RX0 TX0 10
theorem nmX0 : ∀ a, a < 10 → ∀ b, b < 10 → a ≠ b → (TX0 a).2.1 ≠ (TX0 b).2.1 := by decide +kernel
theorem tyX0_ok : ∀ k, k < 10 → parseFieldDescriptor (TX0 k).2.2.1 = some (tyX0 k) := by decide +kernel
abbrev cX0_init : ByteArray := prog_1_method_1_code
def yX0_init : MethodName := ⟨RX0, "<init>", "()V"⟩
abbrev cX0_noDemands : ByteArray := prog_1_method_12_code
def yX0_noDemands : MethodName := ⟨RX0, "noDemands", "()V"⟩
abbrev cX0_score : ByteArray := prog_1_method_4_code
def yX0_score : MethodName := ⟨RX0, "score", "(III)I"⟩
abbrev cX0_bad : ByteArray := prog_1_method_2_code
def yX0_bad : MethodName := ⟨RX0, "bad", "(I)Z"⟩
abbrev cX0_badParents : ByteArray := prog_1_method_3_code
def yX0_badParents : MethodName := ⟨RX0, "badParents", "(II)Z"⟩
abbrev cX0_limit : ByteArray := prog_1_method_5_code
def yX0_limit : MethodName := ⟨RX0, "limit", "(I)I"⟩
abbrev cX0_edge : ByteArray := prog_1_method_6_code
def yX0_edge : MethodName := ⟨RX0, "edge", "(III)I"⟩
abbrev cX0_learn : ByteArray := prog_1_method_11_code
def yX0_learn : MethodName := ⟨RX0, "learn", "(J)I"⟩
abbrev cX0_scoreFrom : ByteArray := prog_1_method_10_code
def yX0_scoreFrom : MethodName := ⟨RX0, "scoreFrom", "(JII)I"⟩
abbrev cX0_hitsAt : ByteArray := prog_1_method_8_code
def yX0_hitsAt : MethodName := ⟨RX0, "hitsAt", "(JIII)I"⟩
abbrev cX0_caseAt : ByteArray := prog_1_method_7_code
def yX0_caseAt : MethodName := ⟨RX0, "caseAt", "(JI)I"⟩
abbrev cX0_size : ByteArray := prog_1_method_9_code
def yX0_size : MethodName := ⟨RX0, "size", "(I)I"⟩
abbrev cX0_best : ByteArray := prog_1_method_17_code
def yX0_best : MethodName := ⟨RX0, "best", "()I"⟩
abbrev cX0_solve : ByteArray := prog_1_method_15_code
def yX0_solve : MethodName := ⟨RX0, "solve", "()V"⟩
abbrev cX0_fillWithin : ByteArray := prog_1_method_14_code
def yX0_fillWithin : MethodName := ⟨RX0, "fillWithin", "(I)V"⟩
abbrev cX0_isAllowed : ByteArray := prog_1_method_13_code
def yX0_isAllowed : MethodName := ⟨RX0, "isAllowed", "(II)Z"⟩
abbrev cX0_tryLast : ByteArray := prog_1_method_16_code
def yX0_tryLast : MethodName := ⟨RX0, "tryLast", "(II)V"⟩
abbrev cX0_parents : ByteArray := prog_1_method_19_code
def yX0_parents : MethodName := ⟨RX0, "parents", "(I)I"⟩
abbrev cX0_findFirst : ByteArray := prog_1_method_18_code
def yX0_findFirst : MethodName := ⟨RX0, "findFirst", "()Z"⟩
abbrev cX0_bestWith : ByteArray := prog_1_method_20_code
def yX0_bestWith : MethodName := ⟨RX0, "bestWith", "(II)I"⟩
abbrev cX0_bestWithout : ByteArray := prog_1_method_21_code
def yX0_bestWithout : MethodName := ⟨RX0, "bestWithout", "(II)I"⟩
abbrev cX0_edges : ByteArray := prog_1_method_22_code
def yX0_edges : MethodName := ⟨RX0, "edges", "()I"⟩
abbrev cX0_orders : ByteArray := prog_1_method_23_code
def yX0_orders : MethodName := ⟨RX0, "orders", "()I"⟩
abbrev cX0_scoreOf : ByteArray := prog_1_method_24_code
def yX0_scoreOf : MethodName := ⟨RX0, "scoreOf", "(II)I"⟩
theorem q23 : (Jvm.Cond.initialized "StructureLearner") ∈ lw_all := lw_g (lw_at lw_m1 1 rfl) rfl
theorem q26 : (Jvm.Cond.instantiable "StructureLearner" (10 : Nat)) ∈ lw_all := lw_g (lw_at lw_m1 4 rfl) rfl
theorem q28 : (Jvm.Cond.instanceMethod ({ cls := "StructureLearner", name := "<init>", desc := "()V" } : Jvm.MethodName)) ∈ lw_all := lw_g (lw_at lw_m1 6 rfl) rfl
theorem q29 : (Jvm.Cond.code ({ cls := "StructureLearner", name := "<init>", desc := "()V" } : Jvm.MethodName) prog_1_method_1_code (1 : Nat) (Option.none : Option Jvm.ClassFile.FieldType)) ∈ lw_all := lw_g (lw_at lw_m1 7 rfl) rfl
theorem q30 : (Jvm.Cond.methodLink "StructureLearner" (1 : Nat) ({ cls := "java/lang/Object", name := "<init>", desc := "()V" } : Jvm.MethodName)) ∈ lw_all := lw_g (lw_at lw_m1 8 rfl) rfl
theorem q33 : (Jvm.Cond.methodLink "StructureLearner" (41 : Nat) ({ cls := "StructureLearner", name := "noDemands", desc := "()V" } : Jvm.MethodName)) ∈ lw_all := lw_g (lw_at lw_m1 11 rfl) rfl
theorem q34 : (Jvm.Cond.privateMethod ({ cls := "StructureLearner", name := "noDemands", desc := "()V" } : Jvm.MethodName)) ∈ lw_tbl := lw_at lw_m1 12 rfl
theorem q35 : (Jvm.Cond.instanceMethod ({ cls := "StructureLearner", name := "noDemands", desc := "()V" } : Jvm.MethodName)) ∈ lw_all := lw_g (lw_at lw_m1 13 rfl) rfl
theorem q36 : (Jvm.Cond.code ({ cls := "StructureLearner", name := "noDemands", desc := "()V" } : Jvm.MethodName) prog_1_method_12_code (2 : Nat) (Option.none : Option Jvm.ClassFile.FieldType)) ∈ lw_all := lw_g (lw_at lw_m1 14 rfl) rfl
theorem q37 : (Jvm.Cond.fieldLink "StructureLearner" (7 : Nat) "StructureLearner" "scores" "[I") ∈ lw_all := lw_g (lw_at lw_m1 15 rfl) rfl
theorem q38 : (Jvm.Cond.fieldLink "StructureLearner" (37 : Nat) "StructureLearner" "most" "I") ∈ lw_all := lw_g (lw_at lw_m1 16 rfl) rfl
theorem q39 : (Jvm.Cond.fieldLink "StructureLearner" (13 : Nat) "StructureLearner" "forbidden" "[I") ∈ lw_all := lw_g (lw_at lw_m1 17 rfl) rfl
theorem q40 : (Jvm.Cond.fieldLink "StructureLearner" (16 : Nat) "StructureLearner" "required" "[I") ∈ lw_all := lw_g (lw_at lw_m1 18 rfl) rfl
theorem q41 : (Jvm.Cond.fieldLink "StructureLearner" (19 : Nat) "StructureLearner" "fixed" "[I") ∈ lw_all := lw_g (lw_at lw_m1 19 rfl) rfl
theorem q42 : (Jvm.Cond.fieldLink "StructureLearner" (22 : Nat) "StructureLearner" "must" "[I") ∈ lw_all := lw_g (lw_at lw_m1 20 rfl) rfl
theorem q43 : (Jvm.Cond.fieldLink "StructureLearner" (25 : Nat) "StructureLearner" "mustNot" "[I") ∈ lw_all := lw_g (lw_at lw_m1 21 rfl) rfl
theorem q44 : (Jvm.Cond.fieldLink "StructureLearner" (28 : Nat) "StructureLearner" "within" "[I") ∈ lw_all := lw_g (lw_at lw_m1 22 rfl) rfl
theorem q45 : (Jvm.Cond.fieldLink "StructureLearner" (31 : Nat) "StructureLearner" "bestOf" "[I") ∈ lw_all := lw_g (lw_at lw_m1 23 rfl) rfl
theorem q46 : (Jvm.Cond.fieldLink "StructureLearner" (34 : Nat) "StructureLearner" "ways" "[I") ∈ lw_all := lw_g (lw_at lw_m1 24 rfl) rfl
theorem q47 : (Jvm.Cond.laysFinal "StructureLearner" "StructureLearner" "scores" "[I") ∈ lw_all := lw_g (lw_at lw_m1 25 rfl) rfl
theorem q48 : (Jvm.Cond.soleField "StructureLearner" "scores") ∈ lw_all := lw_g (lw_at lw_m1 26 rfl) rfl
theorem q49 : (Jvm.Cond.lays "StructureLearner" "StructureLearner" "most" "I") ∈ lw_all := lw_g (lw_at lw_m1 27 rfl) rfl
theorem q50 : (Jvm.Cond.soleField "StructureLearner" "most") ∈ lw_all := lw_g (lw_at lw_m1 28 rfl) rfl
theorem q51 : (Jvm.Cond.laysFinal "StructureLearner" "StructureLearner" "forbidden" "[I") ∈ lw_all := lw_g (lw_at lw_m1 29 rfl) rfl
theorem q52 : (Jvm.Cond.soleField "StructureLearner" "forbidden") ∈ lw_all := lw_g (lw_at lw_m1 30 rfl) rfl
theorem q53 : (Jvm.Cond.laysFinal "StructureLearner" "StructureLearner" "required" "[I") ∈ lw_all := lw_g (lw_at lw_m1 31 rfl) rfl
theorem q54 : (Jvm.Cond.soleField "StructureLearner" "required") ∈ lw_all := lw_g (lw_at lw_m1 32 rfl) rfl
theorem q55 : (Jvm.Cond.laysFinal "StructureLearner" "StructureLearner" "fixed" "[I") ∈ lw_all := lw_g (lw_at lw_m1 33 rfl) rfl
theorem q56 : (Jvm.Cond.soleField "StructureLearner" "fixed") ∈ lw_all := lw_g (lw_at lw_m1 34 rfl) rfl
theorem q57 : (Jvm.Cond.laysFinal "StructureLearner" "StructureLearner" "must" "[I") ∈ lw_all := lw_g (lw_at lw_m1 35 rfl) rfl
theorem q58 : (Jvm.Cond.soleField "StructureLearner" "must") ∈ lw_all := lw_g (lw_at lw_m1 36 rfl) rfl
theorem q59 : (Jvm.Cond.laysFinal "StructureLearner" "StructureLearner" "mustNot" "[I") ∈ lw_all := lw_g (lw_at lw_m1 37 rfl) rfl
theorem q60 : (Jvm.Cond.soleField "StructureLearner" "mustNot") ∈ lw_all := lw_g (lw_at lw_m1 38 rfl) rfl
theorem q61 : (Jvm.Cond.laysFinal "StructureLearner" "StructureLearner" "within" "[I") ∈ lw_all := lw_g (lw_at lw_m1 39 rfl) rfl
theorem q62 : (Jvm.Cond.soleField "StructureLearner" "within") ∈ lw_all := lw_g (lw_at lw_m1 40 rfl) rfl
theorem q63 : (Jvm.Cond.laysFinal "StructureLearner" "StructureLearner" "bestOf" "[I") ∈ lw_all := lw_g (lw_at lw_m1 41 rfl) rfl
theorem q64 : (Jvm.Cond.soleField "StructureLearner" "bestOf") ∈ lw_all := lw_g (lw_at lw_m1 42 rfl) rfl
theorem q65 : (Jvm.Cond.laysFinal "StructureLearner" "StructureLearner" "ways" "[I") ∈ lw_all := lw_g (lw_at lw_m1 43 rfl) rfl
theorem q66 : (Jvm.Cond.soleField "StructureLearner" "ways") ∈ lw_all := lw_g (lw_at lw_m1 44 rfl) rfl
theorem q67 : (Jvm.Cond.superclass "StructureLearner" "java/lang/Object") ∈ lw_all := lw_g (lw_at lw_m1 45 rfl) rfl
theorem q70 : (Jvm.Cond.instanceMethod ({ cls := "StructureLearner", name := "score", desc := "(III)I" } : Jvm.MethodName)) ∈ lw_all := lw_g (lw_at lw_m1 48 rfl) rfl
theorem q71 : (Jvm.Cond.selects "StructureLearner" ({ cls := "StructureLearner", name := "score", desc := "(III)I" } : Jvm.MethodName) ({ cls := "StructureLearner", name := "score", desc := "(III)I" } : Jvm.MethodName)) ∈ lw_all := lw_g (lw_at lw_m1 49 rfl) rfl
theorem q72 : (Jvm.Cond.code ({ cls := "StructureLearner", name := "score", desc := "(III)I" } : Jvm.MethodName) prog_1_method_4_code (4 : Nat) (Option.some Jvm.ClassFile.FieldType.int)) ∈ lw_all := lw_g (lw_at lw_m1 50 rfl) rfl
theorem q73 : (Jvm.Cond.methodLink "StructureLearner" (44 : Nat) ({ cls := "StructureLearner", name := "bad", desc := "(I)Z" } : Jvm.MethodName)) ∈ lw_all := lw_g (lw_at lw_m1 51 rfl) rfl
theorem q74 : (Jvm.Cond.static ({ cls := "StructureLearner", name := "bad", desc := "(I)Z" } : Jvm.MethodName)) ∈ lw_all := lw_g (lw_at lw_m1 52 rfl) rfl
theorem q75 : (Jvm.Cond.code ({ cls := "StructureLearner", name := "bad", desc := "(I)Z" } : Jvm.MethodName) prog_1_method_2_code (1 : Nat) (Option.some Jvm.ClassFile.FieldType.boolean)) ∈ lw_all := lw_g (lw_at lw_m1 53 rfl) rfl
theorem q76 : (Jvm.Cond.methodLink "StructureLearner" (48 : Nat) ({ cls := "StructureLearner", name := "badParents", desc := "(II)Z" } : Jvm.MethodName)) ∈ lw_all := lw_g (lw_at lw_m1 54 rfl) rfl
theorem q77 : (Jvm.Cond.static ({ cls := "StructureLearner", name := "badParents", desc := "(II)Z" } : Jvm.MethodName)) ∈ lw_all := lw_g (lw_at lw_m1 55 rfl) rfl
theorem q78 : (Jvm.Cond.code ({ cls := "StructureLearner", name := "badParents", desc := "(II)Z" } : Jvm.MethodName) prog_1_method_3_code (2 : Nat) (Option.some Jvm.ClassFile.FieldType.boolean)) ∈ lw_all := lw_g (lw_at lw_m1 56 rfl) rfl
theorem q80 : (Jvm.Cond.instanceMethod ({ cls := "StructureLearner", name := "limit", desc := "(I)I" } : Jvm.MethodName)) ∈ lw_all := lw_g (lw_at lw_m1 58 rfl) rfl
theorem q81 : (Jvm.Cond.selects "StructureLearner" ({ cls := "StructureLearner", name := "limit", desc := "(I)I" } : Jvm.MethodName) ({ cls := "StructureLearner", name := "limit", desc := "(I)I" } : Jvm.MethodName)) ∈ lw_all := lw_g (lw_at lw_m1 59 rfl) rfl
theorem q82 : (Jvm.Cond.code ({ cls := "StructureLearner", name := "limit", desc := "(I)I" } : Jvm.MethodName) prog_1_method_5_code (3 : Nat) (Option.some Jvm.ClassFile.FieldType.int)) ∈ lw_all := lw_g (lw_at lw_m1 60 rfl) rfl
theorem q84 : (Jvm.Cond.instanceMethod ({ cls := "StructureLearner", name := "edge", desc := "(III)I" } : Jvm.MethodName)) ∈ lw_all := lw_g (lw_at lw_m1 62 rfl) rfl
theorem q85 : (Jvm.Cond.selects "StructureLearner" ({ cls := "StructureLearner", name := "edge", desc := "(III)I" } : Jvm.MethodName) ({ cls := "StructureLearner", name := "edge", desc := "(III)I" } : Jvm.MethodName)) ∈ lw_all := lw_g (lw_at lw_m1 63 rfl) rfl
theorem q86 : (Jvm.Cond.code ({ cls := "StructureLearner", name := "edge", desc := "(III)I" } : Jvm.MethodName) prog_1_method_6_code (6 : Nat) (Option.some Jvm.ClassFile.FieldType.int)) ∈ lw_all := lw_g (lw_at lw_m1 64 rfl) rfl
theorem q88 : (Jvm.Cond.instanceMethod ({ cls := "StructureLearner", name := "learn", desc := "(J)I" } : Jvm.MethodName)) ∈ lw_all := lw_g (lw_at lw_m1 66 rfl) rfl
theorem q89 : (Jvm.Cond.selects "StructureLearner" ({ cls := "StructureLearner", name := "learn", desc := "(J)I" } : Jvm.MethodName) ({ cls := "StructureLearner", name := "learn", desc := "(J)I" } : Jvm.MethodName)) ∈ lw_all := lw_g (lw_at lw_m1 67 rfl) rfl
theorem q90 : (Jvm.Cond.code ({ cls := "StructureLearner", name := "learn", desc := "(J)I" } : Jvm.MethodName) prog_1_method_11_code (5 : Nat) (Option.some Jvm.ClassFile.FieldType.int)) ∈ lw_all := lw_g (lw_at lw_m1 68 rfl) rfl
theorem q91 : (Jvm.Cond.methodLink "StructureLearner" (64 : Nat) ({ cls := "StructureLearner", name := "scoreFrom", desc := "(JII)I" } : Jvm.MethodName)) ∈ lw_all := lw_g (lw_at lw_m1 69 rfl) rfl
theorem q92 : (Jvm.Cond.static ({ cls := "StructureLearner", name := "scoreFrom", desc := "(JII)I" } : Jvm.MethodName)) ∈ lw_all := lw_g (lw_at lw_m1 70 rfl) rfl
theorem q93 : (Jvm.Cond.code ({ cls := "StructureLearner", name := "scoreFrom", desc := "(JII)I" } : Jvm.MethodName) prog_1_method_10_code (6 : Nat) (Option.some Jvm.ClassFile.FieldType.int)) ∈ lw_all := lw_g (lw_at lw_m1 71 rfl) rfl
theorem q94 : (Jvm.Cond.methodLink "StructureLearner" (56 : Nat) ({ cls := "StructureLearner", name := "hitsAt", desc := "(JIII)I" } : Jvm.MethodName)) ∈ lw_all := lw_g (lw_at lw_m1 72 rfl) rfl
theorem q95 : (Jvm.Cond.static ({ cls := "StructureLearner", name := "hitsAt", desc := "(JIII)I" } : Jvm.MethodName)) ∈ lw_all := lw_g (lw_at lw_m1 73 rfl) rfl
theorem q96 : (Jvm.Cond.code ({ cls := "StructureLearner", name := "hitsAt", desc := "(JIII)I" } : Jvm.MethodName) prog_1_method_8_code (9 : Nat) (Option.some Jvm.ClassFile.FieldType.int)) ∈ lw_all := lw_g (lw_at lw_m1 74 rfl) rfl
theorem q97 : (Jvm.Cond.methodLink "StructureLearner" (52 : Nat) ({ cls := "StructureLearner", name := "caseAt", desc := "(JI)I" } : Jvm.MethodName)) ∈ lw_all := lw_g (lw_at lw_m1 75 rfl) rfl
theorem q98 : (Jvm.Cond.static ({ cls := "StructureLearner", name := "caseAt", desc := "(JI)I" } : Jvm.MethodName)) ∈ lw_all := lw_g (lw_at lw_m1 76 rfl) rfl
theorem q99 : (Jvm.Cond.code ({ cls := "StructureLearner", name := "caseAt", desc := "(JI)I" } : Jvm.MethodName) prog_1_method_7_code (3 : Nat) (Option.some Jvm.ClassFile.FieldType.int)) ∈ lw_all := lw_g (lw_at lw_m1 77 rfl) rfl
theorem q100 : (Jvm.Cond.methodLink "StructureLearner" (60 : Nat) ({ cls := "StructureLearner", name := "size", desc := "(I)I" } : Jvm.MethodName)) ∈ lw_all := lw_g (lw_at lw_m1 78 rfl) rfl
theorem q101 : (Jvm.Cond.static ({ cls := "StructureLearner", name := "size", desc := "(I)I" } : Jvm.MethodName)) ∈ lw_all := lw_g (lw_at lw_m1 79 rfl) rfl
theorem q102 : (Jvm.Cond.code ({ cls := "StructureLearner", name := "size", desc := "(I)I" } : Jvm.MethodName) prog_1_method_9_code (3 : Nat) (Option.some Jvm.ClassFile.FieldType.int)) ∈ lw_all := lw_g (lw_at lw_m1 80 rfl) rfl
theorem q104 : (Jvm.Cond.instanceMethod ({ cls := "StructureLearner", name := "best", desc := "()I" } : Jvm.MethodName)) ∈ lw_all := lw_g (lw_at lw_m1 82 rfl) rfl
theorem q105 : (Jvm.Cond.selects "StructureLearner" ({ cls := "StructureLearner", name := "best", desc := "()I" } : Jvm.MethodName) ({ cls := "StructureLearner", name := "best", desc := "()I" } : Jvm.MethodName)) ∈ lw_all := lw_g (lw_at lw_m1 83 rfl) rfl
theorem q106 : (Jvm.Cond.code ({ cls := "StructureLearner", name := "best", desc := "()I" } : Jvm.MethodName) prog_1_method_17_code (1 : Nat) (Option.some Jvm.ClassFile.FieldType.int)) ∈ lw_all := lw_g (lw_at lw_m1 84 rfl) rfl
theorem q107 : (Jvm.Cond.methodLink "StructureLearner" (80 : Nat) ({ cls := "StructureLearner", name := "solve", desc := "()V" } : Jvm.MethodName)) ∈ lw_all := lw_g (lw_at lw_m1 85 rfl) rfl
theorem q108 : (Jvm.Cond.privateMethod ({ cls := "StructureLearner", name := "solve", desc := "()V" } : Jvm.MethodName)) ∈ lw_tbl := lw_at lw_m1 86 rfl
theorem q109 : (Jvm.Cond.instanceMethod ({ cls := "StructureLearner", name := "solve", desc := "()V" } : Jvm.MethodName)) ∈ lw_all := lw_g (lw_at lw_m1 87 rfl) rfl
theorem q110 : (Jvm.Cond.code ({ cls := "StructureLearner", name := "solve", desc := "()V" } : Jvm.MethodName) prog_1_method_15_code (3 : Nat) (Option.none : Option Jvm.ClassFile.FieldType)) ∈ lw_all := lw_g (lw_at lw_m1 88 rfl) rfl
theorem q111 : (Jvm.Cond.methodLink "StructureLearner" (72 : Nat) ({ cls := "StructureLearner", name := "fillWithin", desc := "(I)V" } : Jvm.MethodName)) ∈ lw_all := lw_g (lw_at lw_m1 89 rfl) rfl
theorem q112 : (Jvm.Cond.privateMethod ({ cls := "StructureLearner", name := "fillWithin", desc := "(I)V" } : Jvm.MethodName)) ∈ lw_tbl := lw_at lw_m1 90 rfl
theorem q113 : (Jvm.Cond.instanceMethod ({ cls := "StructureLearner", name := "fillWithin", desc := "(I)V" } : Jvm.MethodName)) ∈ lw_all := lw_g (lw_at lw_m1 91 rfl) rfl
theorem q114 : (Jvm.Cond.code ({ cls := "StructureLearner", name := "fillWithin", desc := "(I)V" } : Jvm.MethodName) prog_1_method_14_code (7 : Nat) (Option.none : Option Jvm.ClassFile.FieldType)) ∈ lw_all := lw_g (lw_at lw_m1 92 rfl) rfl
theorem q115 : (Jvm.Cond.methodLink "StructureLearner" (68 : Nat) ({ cls := "StructureLearner", name := "isAllowed", desc := "(II)Z" } : Jvm.MethodName)) ∈ lw_all := lw_g (lw_at lw_m1 93 rfl) rfl
theorem q116 : (Jvm.Cond.privateMethod ({ cls := "StructureLearner", name := "isAllowed", desc := "(II)Z" } : Jvm.MethodName)) ∈ lw_tbl := lw_at lw_m1 94 rfl
theorem q117 : (Jvm.Cond.instanceMethod ({ cls := "StructureLearner", name := "isAllowed", desc := "(II)Z" } : Jvm.MethodName)) ∈ lw_all := lw_g (lw_at lw_m1 95 rfl) rfl
theorem q118 : (Jvm.Cond.code ({ cls := "StructureLearner", name := "isAllowed", desc := "(II)Z" } : Jvm.MethodName) prog_1_method_13_code (5 : Nat) (Option.some Jvm.ClassFile.FieldType.boolean)) ∈ lw_all := lw_g (lw_at lw_m1 96 rfl) rfl
theorem q119 : (Jvm.Cond.constant "StructureLearner" (71 : Nat) (-100000 : Int32)) ∈ lw_all := lw_g (lw_at lw_m1 97 rfl) rfl
theorem q120 : (Jvm.Cond.methodLink "StructureLearner" (76 : Nat) ({ cls := "StructureLearner", name := "tryLast", desc := "(II)V" } : Jvm.MethodName)) ∈ lw_all := lw_g (lw_at lw_m1 98 rfl) rfl
theorem q121 : (Jvm.Cond.privateMethod ({ cls := "StructureLearner", name := "tryLast", desc := "(II)V" } : Jvm.MethodName)) ∈ lw_tbl := lw_at lw_m1 99 rfl
theorem q122 : (Jvm.Cond.instanceMethod ({ cls := "StructureLearner", name := "tryLast", desc := "(II)V" } : Jvm.MethodName)) ∈ lw_all := lw_g (lw_at lw_m1 100 rfl) rfl
theorem q123 : (Jvm.Cond.code ({ cls := "StructureLearner", name := "tryLast", desc := "(II)V" } : Jvm.MethodName) prog_1_method_16_code (6 : Nat) (Option.none : Option Jvm.ClassFile.FieldType)) ∈ lw_all := lw_g (lw_at lw_m1 101 rfl) rfl
theorem q125 : (Jvm.Cond.instanceMethod ({ cls := "StructureLearner", name := "parents", desc := "(I)I" } : Jvm.MethodName)) ∈ lw_all := lw_g (lw_at lw_m1 103 rfl) rfl
theorem q126 : (Jvm.Cond.selects "StructureLearner" ({ cls := "StructureLearner", name := "parents", desc := "(I)I" } : Jvm.MethodName) ({ cls := "StructureLearner", name := "parents", desc := "(I)I" } : Jvm.MethodName)) ∈ lw_all := lw_g (lw_at lw_m1 104 rfl) rfl
theorem q127 : (Jvm.Cond.code ({ cls := "StructureLearner", name := "parents", desc := "(I)I" } : Jvm.MethodName) prog_1_method_19_code (3 : Nat) (Option.some Jvm.ClassFile.FieldType.int)) ∈ lw_all := lw_g (lw_at lw_m1 105 rfl) rfl
theorem q128 : (Jvm.Cond.methodLink "StructureLearner" (87 : Nat) ({ cls := "StructureLearner", name := "findFirst", desc := "()Z" } : Jvm.MethodName)) ∈ lw_all := lw_g (lw_at lw_m1 106 rfl) rfl
theorem q129 : (Jvm.Cond.privateMethod ({ cls := "StructureLearner", name := "findFirst", desc := "()Z" } : Jvm.MethodName)) ∈ lw_tbl := lw_at lw_m1 107 rfl
theorem q130 : (Jvm.Cond.instanceMethod ({ cls := "StructureLearner", name := "findFirst", desc := "()Z" } : Jvm.MethodName)) ∈ lw_all := lw_g (lw_at lw_m1 108 rfl) rfl
theorem q131 : (Jvm.Cond.code ({ cls := "StructureLearner", name := "findFirst", desc := "()Z" } : Jvm.MethodName) prog_1_method_18_code (5 : Nat) (Option.some Jvm.ClassFile.FieldType.boolean)) ∈ lw_all := lw_g (lw_at lw_m1 109 rfl) rfl
theorem q132 : (Jvm.Cond.methodLink "StructureLearner" (83 : Nat) ({ cls := "StructureLearner", name := "best", desc := "()I" } : Jvm.MethodName)) ∈ lw_all := lw_g (lw_at lw_m1 110 rfl) rfl
theorem q134 : (Jvm.Cond.instanceMethod ({ cls := "StructureLearner", name := "bestWith", desc := "(II)I" } : Jvm.MethodName)) ∈ lw_all := lw_g (lw_at lw_m1 112 rfl) rfl
theorem q135 : (Jvm.Cond.selects "StructureLearner" ({ cls := "StructureLearner", name := "bestWith", desc := "(II)I" } : Jvm.MethodName) ({ cls := "StructureLearner", name := "bestWith", desc := "(II)I" } : Jvm.MethodName)) ∈ lw_all := lw_g (lw_at lw_m1 113 rfl) rfl
theorem q136 : (Jvm.Cond.code ({ cls := "StructureLearner", name := "bestWith", desc := "(II)I" } : Jvm.MethodName) prog_1_method_20_code (3 : Nat) (Option.some Jvm.ClassFile.FieldType.int)) ∈ lw_all := lw_g (lw_at lw_m1 114 rfl) rfl
theorem q138 : (Jvm.Cond.instanceMethod ({ cls := "StructureLearner", name := "bestWithout", desc := "(II)I" } : Jvm.MethodName)) ∈ lw_all := lw_g (lw_at lw_m1 116 rfl) rfl
theorem q139 : (Jvm.Cond.selects "StructureLearner" ({ cls := "StructureLearner", name := "bestWithout", desc := "(II)I" } : Jvm.MethodName) ({ cls := "StructureLearner", name := "bestWithout", desc := "(II)I" } : Jvm.MethodName)) ∈ lw_all := lw_g (lw_at lw_m1 117 rfl) rfl
theorem q140 : (Jvm.Cond.code ({ cls := "StructureLearner", name := "bestWithout", desc := "(II)I" } : Jvm.MethodName) prog_1_method_21_code (3 : Nat) (Option.some Jvm.ClassFile.FieldType.int)) ∈ lw_all := lw_g (lw_at lw_m1 118 rfl) rfl
theorem q142 : (Jvm.Cond.instanceMethod ({ cls := "StructureLearner", name := "edges", desc := "()I" } : Jvm.MethodName)) ∈ lw_all := lw_g (lw_at lw_m1 120 rfl) rfl
theorem q143 : (Jvm.Cond.selects "StructureLearner" ({ cls := "StructureLearner", name := "edges", desc := "()I" } : Jvm.MethodName) ({ cls := "StructureLearner", name := "edges", desc := "()I" } : Jvm.MethodName)) ∈ lw_all := lw_g (lw_at lw_m1 121 rfl) rfl
theorem q144 : (Jvm.Cond.code ({ cls := "StructureLearner", name := "edges", desc := "()I" } : Jvm.MethodName) prog_1_method_22_code (4 : Nat) (Option.some Jvm.ClassFile.FieldType.int)) ∈ lw_all := lw_g (lw_at lw_m1 122 rfl) rfl
theorem q146 : (Jvm.Cond.instanceMethod ({ cls := "StructureLearner", name := "orders", desc := "()I" } : Jvm.MethodName)) ∈ lw_all := lw_g (lw_at lw_m1 124 rfl) rfl
theorem q147 : (Jvm.Cond.selects "StructureLearner" ({ cls := "StructureLearner", name := "orders", desc := "()I" } : Jvm.MethodName) ({ cls := "StructureLearner", name := "orders", desc := "()I" } : Jvm.MethodName)) ∈ lw_all := lw_g (lw_at lw_m1 125 rfl) rfl
theorem q148 : (Jvm.Cond.code ({ cls := "StructureLearner", name := "orders", desc := "()I" } : Jvm.MethodName) prog_1_method_23_code (1 : Nat) (Option.some Jvm.ClassFile.FieldType.int)) ∈ lw_all := lw_g (lw_at lw_m1 126 rfl) rfl
theorem q150 : (Jvm.Cond.instanceMethod ({ cls := "StructureLearner", name := "scoreOf", desc := "(II)I" } : Jvm.MethodName)) ∈ lw_all := lw_g (lw_at lw_m1 128 rfl) rfl
theorem q151 : (Jvm.Cond.selects "StructureLearner" ({ cls := "StructureLearner", name := "scoreOf", desc := "(II)I" } : Jvm.MethodName) ({ cls := "StructureLearner", name := "scoreOf", desc := "(II)I" } : Jvm.MethodName)) ∈ lw_all := lw_g (lw_at lw_m1 129 rfl) rfl
theorem q152 : (Jvm.Cond.code ({ cls := "StructureLearner", name := "scoreOf", desc := "(II)I" } : Jvm.MethodName) prog_1_method_24_code (3 : Nat) (Option.some Jvm.ClassFile.FieldType.int)) ∈ lw_all := lw_g (lw_at lw_m1 130 rfl) rfl
theorem in_X0 : ∀ w ∈ wsX00, w ∈ lw_all := lw_in wsX00 [47, 49, 51, 53, 55, 57, 59, 61, 63, 65] (by decide +kernel) (by decide +kernel)
end
section
set_option maxRecDepth 100000
theorem dX0_init_0 : decode cX0_init 0 = .ok (.aload_n 0, 1) := by decide +kernel
theorem dX0_init_1 : decode cX0_init 1 = .ok (.invokespecial 1, 3) := by decide +kernel
theorem dX0_init_4 : decode cX0_init 4 = .ok (.aload_n 0, 1) := by decide +kernel
theorem dX0_init_5 : decode cX0_init 5 = .ok (.bipush 64, 2) := by decide +kernel
theorem dX0_init_7 : decode cX0_init 7 = .ok (.newarray .int, 2) := by decide +kernel
theorem dX0_init_9 : decode cX0_init 9 = .ok (.putfield 7, 3) := by decide +kernel
theorem dX0_init_12 : decode cX0_init 12 = .ok (.aload_n 0, 1) := by decide +kernel
theorem dX0_init_13 : decode cX0_init 13 = .ok (.iconst 4, 1) := by decide +kernel
theorem dX0_init_14 : decode cX0_init 14 = .ok (.newarray .int, 2) := by decide +kernel
theorem dX0_init_16 : decode cX0_init 16 = .ok (.putfield 13, 3) := by decide +kernel
theorem dX0_init_19 : decode cX0_init 19 = .ok (.aload_n 0, 1) := by decide +kernel
theorem dX0_init_20 : decode cX0_init 20 = .ok (.iconst 4, 1) := by decide +kernel
theorem dX0_init_21 : decode cX0_init 21 = .ok (.newarray .int, 2) := by decide +kernel
theorem dX0_init_23 : decode cX0_init 23 = .ok (.putfield 16, 3) := by decide +kernel
theorem dX0_init_26 : decode cX0_init 26 = .ok (.aload_n 0, 1) := by decide +kernel
theorem dX0_init_27 : decode cX0_init 27 = .ok (.iconst 4, 1) := by decide +kernel
theorem dX0_init_28 : decode cX0_init 28 = .ok (.newarray .int, 2) := by decide +kernel
theorem dX0_init_30 : decode cX0_init 30 = .ok (.putfield 19, 3) := by decide +kernel
theorem dX0_init_33 : decode cX0_init 33 = .ok (.aload_n 0, 1) := by decide +kernel
theorem dX0_init_34 : decode cX0_init 34 = .ok (.iconst 4, 1) := by decide +kernel
theorem dX0_init_35 : decode cX0_init 35 = .ok (.newarray .int, 2) := by decide +kernel
theorem dX0_init_37 : decode cX0_init 37 = .ok (.putfield 22, 3) := by decide +kernel
theorem dX0_init_40 : decode cX0_init 40 = .ok (.aload_n 0, 1) := by decide +kernel
theorem dX0_init_41 : decode cX0_init 41 = .ok (.iconst 4, 1) := by decide +kernel
theorem dX0_init_42 : decode cX0_init 42 = .ok (.newarray .int, 2) := by decide +kernel
theorem dX0_init_44 : decode cX0_init 44 = .ok (.putfield 25, 3) := by decide +kernel
theorem dX0_init_47 : decode cX0_init 47 = .ok (.aload_n 0, 1) := by decide +kernel
theorem dX0_init_48 : decode cX0_init 48 = .ok (.bipush 64, 2) := by decide +kernel
theorem dX0_init_50 : decode cX0_init 50 = .ok (.newarray .int, 2) := by decide +kernel
theorem dX0_init_52 : decode cX0_init 52 = .ok (.putfield 28, 3) := by decide +kernel
theorem dX0_init_55 : decode cX0_init 55 = .ok (.aload_n 0, 1) := by decide +kernel
theorem dX0_init_56 : decode cX0_init 56 = .ok (.bipush 16, 2) := by decide +kernel
theorem dX0_init_58 : decode cX0_init 58 = .ok (.newarray .int, 2) := by decide +kernel
theorem dX0_init_60 : decode cX0_init 60 = .ok (.putfield 31, 3) := by decide +kernel
theorem dX0_init_63 : decode cX0_init 63 = .ok (.aload_n 0, 1) := by decide +kernel
theorem dX0_init_64 : decode cX0_init 64 = .ok (.bipush 16, 2) := by decide +kernel
theorem dX0_init_66 : decode cX0_init 66 = .ok (.newarray .int, 2) := by decide +kernel
theorem dX0_init_68 : decode cX0_init 68 = .ok (.putfield 34, 3) := by decide +kernel
theorem dX0_init_71 : decode cX0_init 71 = .ok (.aload_n 0, 1) := by decide +kernel
theorem dX0_init_72 : decode cX0_init 72 = .ok (.iconst 3, 1) := by decide +kernel
theorem dX0_init_73 : decode cX0_init 73 = .ok (.putfield 37, 3) := by decide +kernel
theorem dX0_init_76 : decode cX0_init 76 = .ok (.aload_n 0, 1) := by decide +kernel
theorem dX0_init_77 : decode cX0_init 77 = .ok (.invokevirtual 41, 3) := by decide +kernel
theorem dX0_init_80 : decode cX0_init 80 = .ok (.return_, 1) := by decide +kernel
theorem dX0_noDemands_0 : decode cX0_noDemands 0 = .ok (.iconst 0, 1) := by decide +kernel
theorem dX0_noDemands_1 : decode cX0_noDemands 1 = .ok (.istore_n 1, 1) := by decide +kernel
theorem dX0_noDemands_2 : decode cX0_noDemands 2 = .ok (.iload_n 1, 1) := by decide +kernel
theorem dX0_noDemands_3 : decode cX0_noDemands 3 = .ok (.iconst 4, 1) := by decide +kernel
theorem dX0_noDemands_4 : decode cX0_noDemands 4 = .ok (.if_icmp .ge 30, 3) := by decide +kernel
theorem dX0_noDemands_7 : decode cX0_noDemands 7 = .ok (.aload_n 0, 1) := by decide +kernel
theorem dX0_noDemands_8 : decode cX0_noDemands 8 = .ok (.getfield 19, 3) := by decide +kernel
theorem dX0_noDemands_11 : decode cX0_noDemands 11 = .ok (.iload_n 1, 1) := by decide +kernel
theorem dX0_noDemands_12 : decode cX0_noDemands 12 = .ok (.iconst (-1), 1) := by decide +kernel
theorem dX0_noDemands_13 : decode cX0_noDemands 13 = .ok (.iastore, 1) := by decide +kernel
theorem dX0_noDemands_14 : decode cX0_noDemands 14 = .ok (.aload_n 0, 1) := by decide +kernel
theorem dX0_noDemands_15 : decode cX0_noDemands 15 = .ok (.getfield 22, 3) := by decide +kernel
theorem dX0_noDemands_18 : decode cX0_noDemands 18 = .ok (.iload_n 1, 1) := by decide +kernel
theorem dX0_noDemands_19 : decode cX0_noDemands 19 = .ok (.iconst 0, 1) := by decide +kernel
theorem dX0_noDemands_20 : decode cX0_noDemands 20 = .ok (.iastore, 1) := by decide +kernel
theorem dX0_noDemands_21 : decode cX0_noDemands 21 = .ok (.aload_n 0, 1) := by decide +kernel
theorem dX0_noDemands_22 : decode cX0_noDemands 22 = .ok (.getfield 25, 3) := by decide +kernel
theorem dX0_noDemands_25 : decode cX0_noDemands 25 = .ok (.iload_n 1, 1) := by decide +kernel
theorem dX0_noDemands_26 : decode cX0_noDemands 26 = .ok (.iconst 0, 1) := by decide +kernel
theorem dX0_noDemands_27 : decode cX0_noDemands 27 = .ok (.iastore, 1) := by decide +kernel
theorem dX0_noDemands_28 : decode cX0_noDemands 28 = .ok (.iinc 1 1, 3) := by decide +kernel
theorem dX0_noDemands_31 : decode cX0_noDemands 31 = .ok (.goto (-29), 3) := by decide +kernel
theorem dX0_noDemands_34 : decode cX0_noDemands 34 = .ok (.return_, 1) := by decide +kernel
theorem dX0_score_0 : decode cX0_score 0 = .ok (.iload_n 1, 1) := by decide +kernel
theorem dX0_score_1 : decode cX0_score 1 = .ok (.invokestatic 44, 3) := by decide +kernel
theorem dX0_score_4 : decode cX0_score 4 = .ok (.ifCond .eq 5, 3) := by decide +kernel
theorem dX0_score_7 : decode cX0_score 7 = .ok (.iconst (-1), 1) := by decide +kernel
theorem dX0_score_8 : decode cX0_score 8 = .ok (.ireturn, 1) := by decide +kernel
theorem dX0_score_9 : decode cX0_score 9 = .ok (.iload_n 1, 1) := by decide +kernel
theorem dX0_score_10 : decode cX0_score 10 = .ok (.iload_n 2, 1) := by decide +kernel
theorem dX0_score_11 : decode cX0_score 11 = .ok (.invokestatic 48, 3) := by decide +kernel
theorem dX0_score_14 : decode cX0_score 14 = .ok (.ifCond .eq 6, 3) := by decide +kernel
theorem dX0_score_17 : decode cX0_score 17 = .ok (.bipush (-2), 2) := by decide +kernel
theorem dX0_score_19 : decode cX0_score 19 = .ok (.ireturn, 1) := by decide +kernel
theorem dX0_score_20 : decode cX0_score 20 = .ok (.iload_n 3, 1) := by decide +kernel
theorem dX0_score_21 : decode cX0_score 21 = .ok (.sipush (-1000), 3) := by decide +kernel
theorem dX0_score_24 : decode cX0_score 24 = .ok (.if_icmp .lt 10, 3) := by decide +kernel
theorem dX0_score_27 : decode cX0_score 27 = .ok (.iload_n 3, 1) := by decide +kernel
theorem dX0_score_28 : decode cX0_score 28 = .ok (.sipush 1000, 3) := by decide +kernel
theorem dX0_score_31 : decode cX0_score 31 = .ok (.if_icmp .le 6, 3) := by decide +kernel
theorem dX0_score_34 : decode cX0_score 34 = .ok (.bipush (-3), 2) := by decide +kernel
theorem dX0_score_36 : decode cX0_score 36 = .ok (.ireturn, 1) := by decide +kernel
theorem dX0_score_37 : decode cX0_score 37 = .ok (.aload_n 0, 1) := by decide +kernel
theorem dX0_score_38 : decode cX0_score 38 = .ok (.getfield 7, 3) := by decide +kernel
theorem dX0_score_41 : decode cX0_score 41 = .ok (.iload_n 1, 1) := by decide +kernel
theorem dX0_score_42 : decode cX0_score 42 = .ok (.bipush 16, 2) := by decide +kernel
theorem dX0_score_44 : decode cX0_score 44 = .ok (.imul, 1) := by decide +kernel
theorem dX0_score_45 : decode cX0_score 45 = .ok (.iload_n 2, 1) := by decide +kernel
theorem dX0_score_46 : decode cX0_score 46 = .ok (.iadd, 1) := by decide +kernel
theorem dX0_score_47 : decode cX0_score 47 = .ok (.iload_n 3, 1) := by decide +kernel
theorem dX0_score_48 : decode cX0_score 48 = .ok (.iastore, 1) := by decide +kernel
theorem dX0_score_49 : decode cX0_score 49 = .ok (.iconst 0, 1) := by decide +kernel
theorem dX0_score_50 : decode cX0_score 50 = .ok (.ireturn, 1) := by decide +kernel
theorem dX0_bad_0 : decode cX0_bad 0 = .ok (.iload_n 0, 1) := by decide +kernel
theorem dX0_bad_1 : decode cX0_bad 1 = .ok (.ifCond .lt 8, 3) := by decide +kernel
theorem dX0_bad_4 : decode cX0_bad 4 = .ok (.iload_n 0, 1) := by decide +kernel
theorem dX0_bad_5 : decode cX0_bad 5 = .ok (.iconst 4, 1) := by decide +kernel
theorem dX0_bad_6 : decode cX0_bad 6 = .ok (.if_icmp .lt 7, 3) := by decide +kernel
theorem dX0_bad_9 : decode cX0_bad 9 = .ok (.iconst 1, 1) := by decide +kernel
theorem dX0_bad_10 : decode cX0_bad 10 = .ok (.goto 4, 3) := by decide +kernel
theorem dX0_bad_13 : decode cX0_bad 13 = .ok (.iconst 0, 1) := by decide +kernel
theorem dX0_bad_14 : decode cX0_bad 14 = .ok (.ireturn, 1) := by decide +kernel
theorem dX0_badParents_0 : decode cX0_badParents 0 = .ok (.iload_n 1, 1) := by decide +kernel
theorem dX0_badParents_1 : decode cX0_badParents 1 = .ok (.ifCond .lt 18, 3) := by decide +kernel
theorem dX0_badParents_4 : decode cX0_badParents 4 = .ok (.iload_n 1, 1) := by decide +kernel
theorem dX0_badParents_5 : decode cX0_badParents 5 = .ok (.bipush 16, 2) := by decide +kernel
theorem dX0_badParents_7 : decode cX0_badParents 7 = .ok (.if_icmp .ge 12, 3) := by decide +kernel
theorem dX0_badParents_10 : decode cX0_badParents 10 = .ok (.iload_n 1, 1) := by decide +kernel
theorem dX0_badParents_11 : decode cX0_badParents 11 = .ok (.iload_n 0, 1) := by decide +kernel
theorem dX0_badParents_12 : decode cX0_badParents 12 = .ok (.ishr, 1) := by decide +kernel
theorem dX0_badParents_13 : decode cX0_badParents 13 = .ok (.iconst 1, 1) := by decide +kernel
theorem dX0_badParents_14 : decode cX0_badParents 14 = .ok (.iand, 1) := by decide +kernel
theorem dX0_badParents_15 : decode cX0_badParents 15 = .ok (.iconst 1, 1) := by decide +kernel
theorem dX0_badParents_16 : decode cX0_badParents 16 = .ok (.if_icmp .ne 7, 3) := by decide +kernel
theorem dX0_badParents_19 : decode cX0_badParents 19 = .ok (.iconst 1, 1) := by decide +kernel
theorem dX0_badParents_20 : decode cX0_badParents 20 = .ok (.goto 4, 3) := by decide +kernel
theorem dX0_badParents_23 : decode cX0_badParents 23 = .ok (.iconst 0, 1) := by decide +kernel
theorem dX0_badParents_24 : decode cX0_badParents 24 = .ok (.ireturn, 1) := by decide +kernel
theorem dX0_limit_0 : decode cX0_limit 0 = .ok (.iload_n 1, 1) := by decide +kernel
theorem dX0_limit_1 : decode cX0_limit 1 = .ok (.ifCond .lt 8, 3) := by decide +kernel
theorem dX0_limit_4 : decode cX0_limit 4 = .ok (.iload_n 1, 1) := by decide +kernel
theorem dX0_limit_5 : decode cX0_limit 5 = .ok (.iconst 3, 1) := by decide +kernel
theorem dX0_limit_6 : decode cX0_limit 6 = .ok (.if_icmp .le 6, 3) := by decide +kernel
theorem dX0_limit_9 : decode cX0_limit 9 = .ok (.bipush (-4), 2) := by decide +kernel
theorem dX0_limit_11 : decode cX0_limit 11 = .ok (.ireturn, 1) := by decide +kernel
theorem dX0_limit_12 : decode cX0_limit 12 = .ok (.aload_n 0, 1) := by decide +kernel
theorem dX0_limit_13 : decode cX0_limit 13 = .ok (.getfield 37, 3) := by decide +kernel
theorem dX0_limit_16 : decode cX0_limit 16 = .ok (.istore_n 2, 1) := by decide +kernel
theorem dX0_limit_17 : decode cX0_limit 17 = .ok (.aload_n 0, 1) := by decide +kernel
theorem dX0_limit_18 : decode cX0_limit 18 = .ok (.iload_n 1, 1) := by decide +kernel
theorem dX0_limit_19 : decode cX0_limit 19 = .ok (.putfield 37, 3) := by decide +kernel
theorem dX0_limit_22 : decode cX0_limit 22 = .ok (.iload_n 2, 1) := by decide +kernel
theorem dX0_limit_23 : decode cX0_limit 23 = .ok (.ireturn, 1) := by decide +kernel
theorem dX0_edge_0 : decode cX0_edge 0 = .ok (.iload_n 1, 1) := by decide +kernel
theorem dX0_edge_1 : decode cX0_edge 1 = .ok (.invokestatic 44, 3) := by decide +kernel
theorem dX0_edge_4 : decode cX0_edge 4 = .ok (.ifCond .ne 15, 3) := by decide +kernel
theorem dX0_edge_7 : decode cX0_edge 7 = .ok (.iload_n 2, 1) := by decide +kernel
theorem dX0_edge_8 : decode cX0_edge 8 = .ok (.invokestatic 44, 3) := by decide +kernel
theorem dX0_edge_11 : decode cX0_edge 11 = .ok (.ifCond .ne 8, 3) := by decide +kernel
theorem dX0_edge_14 : decode cX0_edge 14 = .ok (.iload_n 1, 1) := by decide +kernel
theorem dX0_edge_15 : decode cX0_edge 15 = .ok (.iload_n 2, 1) := by decide +kernel
theorem dX0_edge_16 : decode cX0_edge 16 = .ok (.if_icmp .ne 5, 3) := by decide +kernel
theorem dX0_edge_19 : decode cX0_edge 19 = .ok (.iconst (-1), 1) := by decide +kernel
theorem dX0_edge_20 : decode cX0_edge 20 = .ok (.ireturn, 1) := by decide +kernel
theorem dX0_edge_21 : decode cX0_edge 21 = .ok (.iconst 1, 1) := by decide +kernel
theorem dX0_edge_22 : decode cX0_edge 22 = .ok (.iload_n 1, 1) := by decide +kernel
theorem dX0_edge_23 : decode cX0_edge 23 = .ok (.ishl, 1) := by decide +kernel
theorem dX0_edge_24 : decode cX0_edge 24 = .ok (.istore 4, 2) := by decide +kernel
theorem dX0_edge_26 : decode cX0_edge 26 = .ok (.aload_n 0, 1) := by decide +kernel
theorem dX0_edge_27 : decode cX0_edge 27 = .ok (.getfield 13, 3) := by decide +kernel
theorem dX0_edge_30 : decode cX0_edge 30 = .ok (.iload_n 2, 1) := by decide +kernel
theorem dX0_edge_31 : decode cX0_edge 31 = .ok (.iaload, 1) := by decide +kernel
theorem dX0_edge_32 : decode cX0_edge 32 = .ok (.iload 4, 2) := by decide +kernel
theorem dX0_edge_34 : decode cX0_edge 34 = .ok (.iand, 1) := by decide +kernel
theorem dX0_edge_35 : decode cX0_edge 35 = .ok (.ifCond .eq 7, 3) := by decide +kernel
theorem dX0_edge_38 : decode cX0_edge 38 = .ok (.iconst 1, 1) := by decide +kernel
theorem dX0_edge_39 : decode cX0_edge 39 = .ok (.goto 20, 3) := by decide +kernel
theorem dX0_edge_42 : decode cX0_edge 42 = .ok (.aload_n 0, 1) := by decide +kernel
theorem dX0_edge_43 : decode cX0_edge 43 = .ok (.getfield 16, 3) := by decide +kernel
theorem dX0_edge_46 : decode cX0_edge 46 = .ok (.iload_n 2, 1) := by decide +kernel
theorem dX0_edge_47 : decode cX0_edge 47 = .ok (.iaload, 1) := by decide +kernel
theorem dX0_edge_48 : decode cX0_edge 48 = .ok (.iload 4, 2) := by decide +kernel
theorem dX0_edge_50 : decode cX0_edge 50 = .ok (.iand, 1) := by decide +kernel
theorem dX0_edge_51 : decode cX0_edge 51 = .ok (.ifCond .eq 7, 3) := by decide +kernel
theorem dX0_edge_54 : decode cX0_edge 54 = .ok (.iconst 2, 1) := by decide +kernel
theorem dX0_edge_55 : decode cX0_edge 55 = .ok (.goto 4, 3) := by decide +kernel
theorem dX0_edge_58 : decode cX0_edge 58 = .ok (.iconst 0, 1) := by decide +kernel
theorem dX0_edge_59 : decode cX0_edge 59 = .ok (.istore 5, 2) := by decide +kernel
theorem dX0_edge_61 : decode cX0_edge 61 = .ok (.aload_n 0, 1) := by decide +kernel
theorem dX0_edge_62 : decode cX0_edge 62 = .ok (.getfield 13, 3) := by decide +kernel
theorem dX0_edge_65 : decode cX0_edge 65 = .ok (.iload_n 2, 1) := by decide +kernel
theorem dX0_edge_66 : decode cX0_edge 66 = .ok (.dup2, 1) := by decide +kernel
theorem dX0_edge_67 : decode cX0_edge 67 = .ok (.iaload, 1) := by decide +kernel
theorem dX0_edge_68 : decode cX0_edge 68 = .ok (.iload 4, 2) := by decide +kernel
theorem dX0_edge_70 : decode cX0_edge 70 = .ok (.iconst (-1), 1) := by decide +kernel
theorem dX0_edge_71 : decode cX0_edge 71 = .ok (.ixor, 1) := by decide +kernel
theorem dX0_edge_72 : decode cX0_edge 72 = .ok (.iand, 1) := by decide +kernel
theorem dX0_edge_73 : decode cX0_edge 73 = .ok (.iastore, 1) := by decide +kernel
theorem dX0_edge_74 : decode cX0_edge 74 = .ok (.aload_n 0, 1) := by decide +kernel
theorem dX0_edge_75 : decode cX0_edge 75 = .ok (.getfield 16, 3) := by decide +kernel
theorem dX0_edge_78 : decode cX0_edge 78 = .ok (.iload_n 2, 1) := by decide +kernel
theorem dX0_edge_79 : decode cX0_edge 79 = .ok (.dup2, 1) := by decide +kernel
theorem dX0_edge_80 : decode cX0_edge 80 = .ok (.iaload, 1) := by decide +kernel
theorem dX0_edge_81 : decode cX0_edge 81 = .ok (.iload 4, 2) := by decide +kernel
theorem dX0_edge_83 : decode cX0_edge 83 = .ok (.iconst (-1), 1) := by decide +kernel
theorem dX0_edge_84 : decode cX0_edge 84 = .ok (.ixor, 1) := by decide +kernel
theorem dX0_edge_85 : decode cX0_edge 85 = .ok (.iand, 1) := by decide +kernel
theorem dX0_edge_86 : decode cX0_edge 86 = .ok (.iastore, 1) := by decide +kernel
theorem dX0_edge_87 : decode cX0_edge 87 = .ok (.iload_n 3, 1) := by decide +kernel
theorem dX0_edge_88 : decode cX0_edge 88 = .ok (.iconst 3, 1) := by decide +kernel
theorem dX0_edge_89 : decode cX0_edge 89 = .ok (.iand, 1) := by decide +kernel
theorem dX0_edge_90 : decode cX0_edge 90 = .ok (.iconst 1, 1) := by decide +kernel
theorem dX0_edge_91 : decode cX0_edge 91 = .ok (.if_icmp .ne 14, 3) := by decide +kernel
theorem dX0_edge_94 : decode cX0_edge 94 = .ok (.aload_n 0, 1) := by decide +kernel
theorem dX0_edge_95 : decode cX0_edge 95 = .ok (.getfield 13, 3) := by decide +kernel
theorem dX0_edge_98 : decode cX0_edge 98 = .ok (.iload_n 2, 1) := by decide +kernel
theorem dX0_edge_99 : decode cX0_edge 99 = .ok (.dup2, 1) := by decide +kernel
theorem dX0_edge_100 : decode cX0_edge 100 = .ok (.iaload, 1) := by decide +kernel
theorem dX0_edge_101 : decode cX0_edge 101 = .ok (.iload 4, 2) := by decide +kernel
theorem dX0_edge_103 : decode cX0_edge 103 = .ok (.ior, 1) := by decide +kernel
theorem dX0_edge_104 : decode cX0_edge 104 = .ok (.iastore, 1) := by decide +kernel
theorem dX0_edge_105 : decode cX0_edge 105 = .ok (.iload_n 3, 1) := by decide +kernel
theorem dX0_edge_106 : decode cX0_edge 106 = .ok (.iconst 3, 1) := by decide +kernel
theorem dX0_edge_107 : decode cX0_edge 107 = .ok (.iand, 1) := by decide +kernel
theorem dX0_edge_108 : decode cX0_edge 108 = .ok (.iconst 2, 1) := by decide +kernel
theorem dX0_edge_109 : decode cX0_edge 109 = .ok (.if_icmp .ne 14, 3) := by decide +kernel
theorem dX0_edge_112 : decode cX0_edge 112 = .ok (.aload_n 0, 1) := by decide +kernel
theorem dX0_edge_113 : decode cX0_edge 113 = .ok (.getfield 16, 3) := by decide +kernel
theorem dX0_edge_116 : decode cX0_edge 116 = .ok (.iload_n 2, 1) := by decide +kernel
theorem dX0_edge_117 : decode cX0_edge 117 = .ok (.dup2, 1) := by decide +kernel
theorem dX0_edge_118 : decode cX0_edge 118 = .ok (.iaload, 1) := by decide +kernel
theorem dX0_edge_119 : decode cX0_edge 119 = .ok (.iload 4, 2) := by decide +kernel
theorem dX0_edge_121 : decode cX0_edge 121 = .ok (.ior, 1) := by decide +kernel
theorem dX0_edge_122 : decode cX0_edge 122 = .ok (.iastore, 1) := by decide +kernel
theorem dX0_edge_123 : decode cX0_edge 123 = .ok (.iload 5, 2) := by decide +kernel
theorem dX0_edge_125 : decode cX0_edge 125 = .ok (.ireturn, 1) := by decide +kernel
theorem dX0_learn_0 : decode cX0_learn 0 = .ok (.iconst 0, 1) := by decide +kernel
theorem dX0_learn_1 : decode cX0_learn 1 = .ok (.istore_n 3, 1) := by decide +kernel
theorem dX0_learn_2 : decode cX0_learn 2 = .ok (.iload_n 3, 1) := by decide +kernel
theorem dX0_learn_3 : decode cX0_learn 3 = .ok (.iconst 4, 1) := by decide +kernel
theorem dX0_learn_4 : decode cX0_learn 4 = .ok (.if_icmp .ge 53, 3) := by decide +kernel
theorem dX0_learn_7 : decode cX0_learn 7 = .ok (.iconst 0, 1) := by decide +kernel
theorem dX0_learn_8 : decode cX0_learn 8 = .ok (.istore 4, 2) := by decide +kernel
theorem dX0_learn_10 : decode cX0_learn 10 = .ok (.iload 4, 2) := by decide +kernel
theorem dX0_learn_12 : decode cX0_learn 12 = .ok (.bipush 16, 2) := by decide +kernel
theorem dX0_learn_14 : decode cX0_learn 14 = .ok (.if_icmp .ge 37, 3) := by decide +kernel
theorem dX0_learn_17 : decode cX0_learn 17 = .ok (.iload 4, 2) := by decide +kernel
theorem dX0_learn_19 : decode cX0_learn 19 = .ok (.iload_n 3, 1) := by decide +kernel
theorem dX0_learn_20 : decode cX0_learn 20 = .ok (.ishr, 1) := by decide +kernel
theorem dX0_learn_21 : decode cX0_learn 21 = .ok (.iconst 1, 1) := by decide +kernel
theorem dX0_learn_22 : decode cX0_learn 22 = .ok (.iand, 1) := by decide +kernel
theorem dX0_learn_23 : decode cX0_learn 23 = .ok (.ifCond .ne 22, 3) := by decide +kernel
theorem dX0_learn_26 : decode cX0_learn 26 = .ok (.aload_n 0, 1) := by decide +kernel
theorem dX0_learn_27 : decode cX0_learn 27 = .ok (.getfield 7, 3) := by decide +kernel
theorem dX0_learn_30 : decode cX0_learn 30 = .ok (.iload_n 3, 1) := by decide +kernel
theorem dX0_learn_31 : decode cX0_learn 31 = .ok (.bipush 16, 2) := by decide +kernel
theorem dX0_learn_33 : decode cX0_learn 33 = .ok (.imul, 1) := by decide +kernel
theorem dX0_learn_34 : decode cX0_learn 34 = .ok (.iload 4, 2) := by decide +kernel
theorem dX0_learn_36 : decode cX0_learn 36 = .ok (.iadd, 1) := by decide +kernel
theorem dX0_learn_37 : decode cX0_learn 37 = .ok (.lload_n 1, 1) := by decide +kernel
theorem dX0_learn_38 : decode cX0_learn 38 = .ok (.iload_n 3, 1) := by decide +kernel
theorem dX0_learn_39 : decode cX0_learn 39 = .ok (.iload 4, 2) := by decide +kernel
theorem dX0_learn_41 : decode cX0_learn 41 = .ok (.invokestatic 64, 3) := by decide +kernel
theorem dX0_learn_44 : decode cX0_learn 44 = .ok (.iastore, 1) := by decide +kernel
theorem dX0_learn_45 : decode cX0_learn 45 = .ok (.iinc 4 1, 3) := by decide +kernel
theorem dX0_learn_48 : decode cX0_learn 48 = .ok (.goto (-38), 3) := by decide +kernel
theorem dX0_learn_51 : decode cX0_learn 51 = .ok (.iinc 3 1, 3) := by decide +kernel
theorem dX0_learn_54 : decode cX0_learn 54 = .ok (.goto (-52), 3) := by decide +kernel
theorem dX0_learn_57 : decode cX0_learn 57 = .ok (.iconst 0, 1) := by decide +kernel
theorem dX0_learn_58 : decode cX0_learn 58 = .ok (.ireturn, 1) := by decide +kernel
theorem dX0_scoreFrom_0 : decode cX0_scoreFrom 0 = .ok (.iconst 0, 1) := by decide +kernel
theorem dX0_scoreFrom_1 : decode cX0_scoreFrom 1 = .ok (.istore 4, 2) := by decide +kernel
theorem dX0_scoreFrom_3 : decode cX0_scoreFrom 3 = .ok (.iconst 0, 1) := by decide +kernel
theorem dX0_scoreFrom_4 : decode cX0_scoreFrom 4 = .ok (.istore 5, 2) := by decide +kernel
theorem dX0_scoreFrom_6 : decode cX0_scoreFrom 6 = .ok (.iload 5, 2) := by decide +kernel
theorem dX0_scoreFrom_8 : decode cX0_scoreFrom 8 = .ok (.bipush 16, 2) := by decide +kernel
theorem dX0_scoreFrom_10 : decode cX0_scoreFrom 10 = .ok (.if_icmp .ge 31, 3) := by decide +kernel
theorem dX0_scoreFrom_13 : decode cX0_scoreFrom 13 = .ok (.iload 5, 2) := by decide +kernel
theorem dX0_scoreFrom_15 : decode cX0_scoreFrom 15 = .ok (.iload_n 3, 1) := by decide +kernel
theorem dX0_scoreFrom_16 : decode cX0_scoreFrom 16 = .ok (.iconst (-1), 1) := by decide +kernel
theorem dX0_scoreFrom_17 : decode cX0_scoreFrom 17 = .ok (.ixor, 1) := by decide +kernel
theorem dX0_scoreFrom_18 : decode cX0_scoreFrom 18 = .ok (.iand, 1) := by decide +kernel
theorem dX0_scoreFrom_19 : decode cX0_scoreFrom 19 = .ok (.ifCond .ne 16, 3) := by decide +kernel
theorem dX0_scoreFrom_22 : decode cX0_scoreFrom 22 = .ok (.iload 4, 2) := by decide +kernel
theorem dX0_scoreFrom_24 : decode cX0_scoreFrom 24 = .ok (.lload_n 0, 1) := by decide +kernel
theorem dX0_scoreFrom_25 : decode cX0_scoreFrom 25 = .ok (.iload_n 2, 1) := by decide +kernel
theorem dX0_scoreFrom_26 : decode cX0_scoreFrom 26 = .ok (.iload_n 3, 1) := by decide +kernel
theorem dX0_scoreFrom_27 : decode cX0_scoreFrom 27 = .ok (.iload 5, 2) := by decide +kernel
theorem dX0_scoreFrom_29 : decode cX0_scoreFrom 29 = .ok (.invokestatic 56, 3) := by decide +kernel
theorem dX0_scoreFrom_32 : decode cX0_scoreFrom 32 = .ok (.iadd, 1) := by decide +kernel
theorem dX0_scoreFrom_33 : decode cX0_scoreFrom 33 = .ok (.istore 4, 2) := by decide +kernel
theorem dX0_scoreFrom_35 : decode cX0_scoreFrom 35 = .ok (.iinc 5 1, 3) := by decide +kernel
theorem dX0_scoreFrom_38 : decode cX0_scoreFrom 38 = .ok (.goto (-32), 3) := by decide +kernel
theorem dX0_scoreFrom_41 : decode cX0_scoreFrom 41 = .ok (.iload 4, 2) := by decide +kernel
theorem dX0_scoreFrom_43 : decode cX0_scoreFrom 43 = .ok (.iconst 3, 1) := by decide +kernel
theorem dX0_scoreFrom_44 : decode cX0_scoreFrom 44 = .ok (.iconst 1, 1) := by decide +kernel
theorem dX0_scoreFrom_45 : decode cX0_scoreFrom 45 = .ok (.iload_n 3, 1) := by decide +kernel
theorem dX0_scoreFrom_46 : decode cX0_scoreFrom 46 = .ok (.invokestatic 60, 3) := by decide +kernel
theorem dX0_scoreFrom_49 : decode cX0_scoreFrom 49 = .ok (.ishl, 1) := by decide +kernel
theorem dX0_scoreFrom_50 : decode cX0_scoreFrom 50 = .ok (.imul, 1) := by decide +kernel
theorem dX0_scoreFrom_51 : decode cX0_scoreFrom 51 = .ok (.isub, 1) := by decide +kernel
theorem dX0_scoreFrom_52 : decode cX0_scoreFrom 52 = .ok (.ireturn, 1) := by decide +kernel
theorem dX0_hitsAt_0 : decode cX0_hitsAt 0 = .ok (.iconst 0, 1) := by decide +kernel
theorem dX0_hitsAt_1 : decode cX0_hitsAt 1 = .ok (.istore 5, 2) := by decide +kernel
theorem dX0_hitsAt_3 : decode cX0_hitsAt 3 = .ok (.iconst 0, 1) := by decide +kernel
theorem dX0_hitsAt_4 : decode cX0_hitsAt 4 = .ok (.istore 6, 2) := by decide +kernel
theorem dX0_hitsAt_6 : decode cX0_hitsAt 6 = .ok (.iconst 0, 1) := by decide +kernel
theorem dX0_hitsAt_7 : decode cX0_hitsAt 7 = .ok (.istore 7, 2) := by decide +kernel
theorem dX0_hitsAt_9 : decode cX0_hitsAt 9 = .ok (.iload 7, 2) := by decide +kernel
theorem dX0_hitsAt_11 : decode cX0_hitsAt 11 = .ok (.bipush 16, 2) := by decide +kernel
theorem dX0_hitsAt_13 : decode cX0_hitsAt 13 = .ok (.if_icmp .ge 45, 3) := by decide +kernel
theorem dX0_hitsAt_16 : decode cX0_hitsAt 16 = .ok (.lload_n 0, 1) := by decide +kernel
theorem dX0_hitsAt_17 : decode cX0_hitsAt 17 = .ok (.iload 7, 2) := by decide +kernel
theorem dX0_hitsAt_19 : decode cX0_hitsAt 19 = .ok (.invokestatic 52, 3) := by decide +kernel
theorem dX0_hitsAt_22 : decode cX0_hitsAt 22 = .ok (.istore 8, 2) := by decide +kernel
theorem dX0_hitsAt_24 : decode cX0_hitsAt 24 = .ok (.iload 8, 2) := by decide +kernel
theorem dX0_hitsAt_26 : decode cX0_hitsAt 26 = .ok (.iload_n 3, 1) := by decide +kernel
theorem dX0_hitsAt_27 : decode cX0_hitsAt 27 = .ok (.iand, 1) := by decide +kernel
theorem dX0_hitsAt_28 : decode cX0_hitsAt 28 = .ok (.iload 4, 2) := by decide +kernel
theorem dX0_hitsAt_30 : decode cX0_hitsAt 30 = .ok (.if_icmp .ne 22, 3) := by decide +kernel
theorem dX0_hitsAt_33 : decode cX0_hitsAt 33 = .ok (.iload 8, 2) := by decide +kernel
theorem dX0_hitsAt_35 : decode cX0_hitsAt 35 = .ok (.iload_n 2, 1) := by decide +kernel
theorem dX0_hitsAt_36 : decode cX0_hitsAt 36 = .ok (.ishr, 1) := by decide +kernel
theorem dX0_hitsAt_37 : decode cX0_hitsAt 37 = .ok (.iconst 1, 1) := by decide +kernel
theorem dX0_hitsAt_38 : decode cX0_hitsAt 38 = .ok (.iand, 1) := by decide +kernel
theorem dX0_hitsAt_39 : decode cX0_hitsAt 39 = .ok (.iconst 1, 1) := by decide +kernel
theorem dX0_hitsAt_40 : decode cX0_hitsAt 40 = .ok (.if_icmp .ne 9, 3) := by decide +kernel
theorem dX0_hitsAt_43 : decode cX0_hitsAt 43 = .ok (.iinc 6 1, 3) := by decide +kernel
theorem dX0_hitsAt_46 : decode cX0_hitsAt 46 = .ok (.goto 6, 3) := by decide +kernel
theorem dX0_hitsAt_49 : decode cX0_hitsAt 49 = .ok (.iinc 5 1, 3) := by decide +kernel
theorem dX0_hitsAt_52 : decode cX0_hitsAt 52 = .ok (.iinc 7 1, 3) := by decide +kernel
theorem dX0_hitsAt_55 : decode cX0_hitsAt 55 = .ok (.goto (-46), 3) := by decide +kernel
theorem dX0_hitsAt_58 : decode cX0_hitsAt 58 = .ok (.iload 5, 2) := by decide +kernel
theorem dX0_hitsAt_60 : decode cX0_hitsAt 60 = .ok (.iload 6, 2) := by decide +kernel
theorem dX0_hitsAt_62 : decode cX0_hitsAt 62 = .ok (.if_icmp .le 8, 3) := by decide +kernel
theorem dX0_hitsAt_65 : decode cX0_hitsAt 65 = .ok (.iload 5, 2) := by decide +kernel
theorem dX0_hitsAt_67 : decode cX0_hitsAt 67 = .ok (.goto 5, 3) := by decide +kernel
theorem dX0_hitsAt_70 : decode cX0_hitsAt 70 = .ok (.iload 6, 2) := by decide +kernel
theorem dX0_hitsAt_72 : decode cX0_hitsAt 72 = .ok (.ireturn, 1) := by decide +kernel
theorem dX0_caseAt_0 : decode cX0_caseAt 0 = .ok (.lload_n 0, 1) := by decide +kernel
theorem dX0_caseAt_1 : decode cX0_caseAt 1 = .ok (.iconst 4, 1) := by decide +kernel
theorem dX0_caseAt_2 : decode cX0_caseAt 2 = .ok (.iload_n 2, 1) := by decide +kernel
theorem dX0_caseAt_3 : decode cX0_caseAt 3 = .ok (.imul, 1) := by decide +kernel
theorem dX0_caseAt_4 : decode cX0_caseAt 4 = .ok (.lushr, 1) := by decide +kernel
theorem dX0_caseAt_5 : decode cX0_caseAt 5 = .ok (.l2i, 1) := by decide +kernel
theorem dX0_caseAt_6 : decode cX0_caseAt 6 = .ok (.bipush 15, 2) := by decide +kernel
theorem dX0_caseAt_8 : decode cX0_caseAt 8 = .ok (.iand, 1) := by decide +kernel
theorem dX0_caseAt_9 : decode cX0_caseAt 9 = .ok (.ireturn, 1) := by decide +kernel
theorem dX0_size_0 : decode cX0_size 0 = .ok (.iconst 0, 1) := by decide +kernel
theorem dX0_size_1 : decode cX0_size 1 = .ok (.istore_n 1, 1) := by decide +kernel
theorem dX0_size_2 : decode cX0_size 2 = .ok (.iconst 0, 1) := by decide +kernel
theorem dX0_size_3 : decode cX0_size 3 = .ok (.istore_n 2, 1) := by decide +kernel
theorem dX0_size_4 : decode cX0_size 4 = .ok (.iload_n 2, 1) := by decide +kernel
theorem dX0_size_5 : decode cX0_size 5 = .ok (.iconst 4, 1) := by decide +kernel
theorem dX0_size_6 : decode cX0_size 6 = .ok (.if_icmp .ge 17, 3) := by decide +kernel
theorem dX0_size_9 : decode cX0_size 9 = .ok (.iload_n 1, 1) := by decide +kernel
theorem dX0_size_10 : decode cX0_size 10 = .ok (.iload_n 0, 1) := by decide +kernel
theorem dX0_size_11 : decode cX0_size 11 = .ok (.iload_n 2, 1) := by decide +kernel
theorem dX0_size_12 : decode cX0_size 12 = .ok (.ishr, 1) := by decide +kernel
theorem dX0_size_13 : decode cX0_size 13 = .ok (.iconst 1, 1) := by decide +kernel
theorem dX0_size_14 : decode cX0_size 14 = .ok (.iand, 1) := by decide +kernel
theorem dX0_size_15 : decode cX0_size 15 = .ok (.iadd, 1) := by decide +kernel
theorem dX0_size_16 : decode cX0_size 16 = .ok (.istore_n 1, 1) := by decide +kernel
theorem dX0_size_17 : decode cX0_size 17 = .ok (.iinc 2 1, 3) := by decide +kernel
theorem dX0_size_20 : decode cX0_size 20 = .ok (.goto (-16), 3) := by decide +kernel
theorem dX0_size_23 : decode cX0_size 23 = .ok (.iload_n 1, 1) := by decide +kernel
theorem dX0_size_24 : decode cX0_size 24 = .ok (.ireturn, 1) := by decide +kernel
theorem dX0_best_0 : decode cX0_best 0 = .ok (.aload_n 0, 1) := by decide +kernel
theorem dX0_best_1 : decode cX0_best 1 = .ok (.invokevirtual 41, 3) := by decide +kernel
theorem dX0_best_4 : decode cX0_best 4 = .ok (.aload_n 0, 1) := by decide +kernel
theorem dX0_best_5 : decode cX0_best 5 = .ok (.invokevirtual 80, 3) := by decide +kernel
theorem dX0_best_8 : decode cX0_best 8 = .ok (.aload_n 0, 1) := by decide +kernel
theorem dX0_best_9 : decode cX0_best 9 = .ok (.getfield 31, 3) := by decide +kernel
theorem dX0_best_12 : decode cX0_best 12 = .ok (.bipush 15, 2) := by decide +kernel
theorem dX0_best_14 : decode cX0_best 14 = .ok (.iaload, 1) := by decide +kernel
theorem dX0_best_15 : decode cX0_best 15 = .ok (.ireturn, 1) := by decide +kernel
theorem dX0_solve_0 : decode cX0_solve 0 = .ok (.iconst 0, 1) := by decide +kernel
theorem dX0_solve_1 : decode cX0_solve 1 = .ok (.istore_n 1, 1) := by decide +kernel
theorem dX0_solve_2 : decode cX0_solve 2 = .ok (.iload_n 1, 1) := by decide +kernel
theorem dX0_solve_3 : decode cX0_solve 3 = .ok (.iconst 4, 1) := by decide +kernel
theorem dX0_solve_4 : decode cX0_solve 4 = .ok (.if_icmp .ge 14, 3) := by decide +kernel
theorem dX0_solve_7 : decode cX0_solve 7 = .ok (.aload_n 0, 1) := by decide +kernel
theorem dX0_solve_8 : decode cX0_solve 8 = .ok (.iload_n 1, 1) := by decide +kernel
theorem dX0_solve_9 : decode cX0_solve 9 = .ok (.invokevirtual 72, 3) := by decide +kernel
theorem dX0_solve_12 : decode cX0_solve 12 = .ok (.iinc 1 1, 3) := by decide +kernel
theorem dX0_solve_15 : decode cX0_solve 15 = .ok (.goto (-13), 3) := by decide +kernel
theorem dX0_solve_18 : decode cX0_solve 18 = .ok (.aload_n 0, 1) := by decide +kernel
theorem dX0_solve_19 : decode cX0_solve 19 = .ok (.getfield 31, 3) := by decide +kernel
theorem dX0_solve_22 : decode cX0_solve 22 = .ok (.iconst 0, 1) := by decide +kernel
theorem dX0_solve_23 : decode cX0_solve 23 = .ok (.iconst 0, 1) := by decide +kernel
theorem dX0_solve_24 : decode cX0_solve 24 = .ok (.iastore, 1) := by decide +kernel
theorem dX0_solve_25 : decode cX0_solve 25 = .ok (.aload_n 0, 1) := by decide +kernel
theorem dX0_solve_26 : decode cX0_solve 26 = .ok (.getfield 34, 3) := by decide +kernel
theorem dX0_solve_29 : decode cX0_solve 29 = .ok (.iconst 0, 1) := by decide +kernel
theorem dX0_solve_30 : decode cX0_solve 30 = .ok (.iconst 1, 1) := by decide +kernel
theorem dX0_solve_31 : decode cX0_solve 31 = .ok (.iastore, 1) := by decide +kernel
theorem dX0_solve_32 : decode cX0_solve 32 = .ok (.iconst 1, 1) := by decide +kernel
theorem dX0_solve_33 : decode cX0_solve 33 = .ok (.istore_n 1, 1) := by decide +kernel
theorem dX0_solve_34 : decode cX0_solve 34 = .ok (.iload_n 1, 1) := by decide +kernel
theorem dX0_solve_35 : decode cX0_solve 35 = .ok (.bipush 16, 2) := by decide +kernel
theorem dX0_solve_37 : decode cX0_solve 37 = .ok (.if_icmp .ge 52, 3) := by decide +kernel
theorem dX0_solve_40 : decode cX0_solve 40 = .ok (.aload_n 0, 1) := by decide +kernel
theorem dX0_solve_41 : decode cX0_solve 41 = .ok (.getfield 31, 3) := by decide +kernel
theorem dX0_solve_44 : decode cX0_solve 44 = .ok (.iload_n 1, 1) := by decide +kernel
theorem dX0_solve_45 : decode cX0_solve 45 = .ok (.ldc 71, 2) := by decide +kernel
theorem dX0_solve_47 : decode cX0_solve 47 = .ok (.iastore, 1) := by decide +kernel
theorem dX0_solve_48 : decode cX0_solve 48 = .ok (.aload_n 0, 1) := by decide +kernel
theorem dX0_solve_49 : decode cX0_solve 49 = .ok (.getfield 34, 3) := by decide +kernel
theorem dX0_solve_52 : decode cX0_solve 52 = .ok (.iload_n 1, 1) := by decide +kernel
theorem dX0_solve_53 : decode cX0_solve 53 = .ok (.iconst 0, 1) := by decide +kernel
theorem dX0_solve_54 : decode cX0_solve 54 = .ok (.iastore, 1) := by decide +kernel
theorem dX0_solve_55 : decode cX0_solve 55 = .ok (.iconst 0, 1) := by decide +kernel
theorem dX0_solve_56 : decode cX0_solve 56 = .ok (.istore_n 2, 1) := by decide +kernel
theorem dX0_solve_57 : decode cX0_solve 57 = .ok (.iload_n 2, 1) := by decide +kernel
theorem dX0_solve_58 : decode cX0_solve 58 = .ok (.iconst 4, 1) := by decide +kernel
theorem dX0_solve_59 : decode cX0_solve 59 = .ok (.if_icmp .ge 24, 3) := by decide +kernel
theorem dX0_solve_62 : decode cX0_solve 62 = .ok (.iload_n 1, 1) := by decide +kernel
theorem dX0_solve_63 : decode cX0_solve 63 = .ok (.iload_n 2, 1) := by decide +kernel
theorem dX0_solve_64 : decode cX0_solve 64 = .ok (.ishr, 1) := by decide +kernel
theorem dX0_solve_65 : decode cX0_solve 65 = .ok (.iconst 1, 1) := by decide +kernel
theorem dX0_solve_66 : decode cX0_solve 66 = .ok (.iand, 1) := by decide +kernel
theorem dX0_solve_67 : decode cX0_solve 67 = .ok (.iconst 1, 1) := by decide +kernel
theorem dX0_solve_68 : decode cX0_solve 68 = .ok (.if_icmp .ne 9, 3) := by decide +kernel
theorem dX0_solve_71 : decode cX0_solve 71 = .ok (.aload_n 0, 1) := by decide +kernel
theorem dX0_solve_72 : decode cX0_solve 72 = .ok (.iload_n 1, 1) := by decide +kernel
theorem dX0_solve_73 : decode cX0_solve 73 = .ok (.iload_n 2, 1) := by decide +kernel
theorem dX0_solve_74 : decode cX0_solve 74 = .ok (.invokevirtual 76, 3) := by decide +kernel
theorem dX0_solve_77 : decode cX0_solve 77 = .ok (.iinc 2 1, 3) := by decide +kernel
theorem dX0_solve_80 : decode cX0_solve 80 = .ok (.goto (-23), 3) := by decide +kernel
theorem dX0_solve_83 : decode cX0_solve 83 = .ok (.iinc 1 1, 3) := by decide +kernel
theorem dX0_solve_86 : decode cX0_solve 86 = .ok (.goto (-52), 3) := by decide +kernel
theorem dX0_solve_89 : decode cX0_solve 89 = .ok (.return_, 1) := by decide +kernel
theorem dX0_fillWithin_0 : decode cX0_fillWithin 0 = .ok (.iconst 0, 1) := by decide +kernel
theorem dX0_fillWithin_1 : decode cX0_fillWithin 1 = .ok (.istore_n 2, 1) := by decide +kernel
theorem dX0_fillWithin_2 : decode cX0_fillWithin 2 = .ok (.iload_n 2, 1) := by decide +kernel
theorem dX0_fillWithin_3 : decode cX0_fillWithin 3 = .ok (.bipush 16, 2) := by decide +kernel
end
section
set_option maxRecDepth 100000
theorem dX0_fillWithin_5 : decode cX0_fillWithin 5 = .ok (.if_icmp .ge 113, 3) := by decide +kernel
theorem dX0_fillWithin_8 : decode cX0_fillWithin 8 = .ok (.aload_n 0, 1) := by decide +kernel
theorem dX0_fillWithin_9 : decode cX0_fillWithin 9 = .ok (.iload_n 1, 1) := by decide +kernel
theorem dX0_fillWithin_10 : decode cX0_fillWithin 10 = .ok (.iload_n 2, 1) := by decide +kernel
theorem dX0_fillWithin_11 : decode cX0_fillWithin 11 = .ok (.invokevirtual 68, 3) := by decide +kernel
theorem dX0_fillWithin_14 : decode cX0_fillWithin 14 = .ok (.istore_n 3, 1) := by decide +kernel
theorem dX0_fillWithin_15 : decode cX0_fillWithin 15 = .ok (.iload_n 3, 1) := by decide +kernel
theorem dX0_fillWithin_16 : decode cX0_fillWithin 16 = .ok (.ifCond .eq 17, 3) := by decide +kernel
theorem dX0_fillWithin_19 : decode cX0_fillWithin 19 = .ok (.aload_n 0, 1) := by decide +kernel
theorem dX0_fillWithin_20 : decode cX0_fillWithin 20 = .ok (.getfield 7, 3) := by decide +kernel
theorem dX0_fillWithin_23 : decode cX0_fillWithin 23 = .ok (.iload_n 1, 1) := by decide +kernel
theorem dX0_fillWithin_24 : decode cX0_fillWithin 24 = .ok (.bipush 16, 2) := by decide +kernel
theorem dX0_fillWithin_26 : decode cX0_fillWithin 26 = .ok (.imul, 1) := by decide +kernel
theorem dX0_fillWithin_27 : decode cX0_fillWithin 27 = .ok (.iload_n 2, 1) := by decide +kernel
theorem dX0_fillWithin_28 : decode cX0_fillWithin 28 = .ok (.iadd, 1) := by decide +kernel
theorem dX0_fillWithin_29 : decode cX0_fillWithin 29 = .ok (.iaload, 1) := by decide +kernel
theorem dX0_fillWithin_30 : decode cX0_fillWithin 30 = .ok (.goto 5, 3) := by decide +kernel
theorem dX0_fillWithin_33 : decode cX0_fillWithin 33 = .ok (.ldc 71, 2) := by decide +kernel
theorem dX0_fillWithin_35 : decode cX0_fillWithin 35 = .ok (.istore 4, 2) := by decide +kernel
theorem dX0_fillWithin_37 : decode cX0_fillWithin 37 = .ok (.iconst 0, 1) := by decide +kernel
theorem dX0_fillWithin_38 : decode cX0_fillWithin 38 = .ok (.istore 5, 2) := by decide +kernel
theorem dX0_fillWithin_40 : decode cX0_fillWithin 40 = .ok (.iload 5, 2) := by decide +kernel
theorem dX0_fillWithin_42 : decode cX0_fillWithin 42 = .ok (.iconst 4, 1) := by decide +kernel
theorem dX0_fillWithin_43 : decode cX0_fillWithin 43 = .ok (.if_icmp .ge 56, 3) := by decide +kernel
theorem dX0_fillWithin_46 : decode cX0_fillWithin 46 = .ok (.iload_n 2, 1) := by decide +kernel
theorem dX0_fillWithin_47 : decode cX0_fillWithin 47 = .ok (.iconst 1, 1) := by decide +kernel
theorem dX0_fillWithin_48 : decode cX0_fillWithin 48 = .ok (.iload 5, 2) := by decide +kernel
theorem dX0_fillWithin_50 : decode cX0_fillWithin 50 = .ok (.ishl, 1) := by decide +kernel
theorem dX0_fillWithin_51 : decode cX0_fillWithin 51 = .ok (.iconst (-1), 1) := by decide +kernel
theorem dX0_fillWithin_52 : decode cX0_fillWithin 52 = .ok (.ixor, 1) := by decide +kernel
theorem dX0_fillWithin_53 : decode cX0_fillWithin 53 = .ok (.iand, 1) := by decide +kernel
theorem dX0_fillWithin_54 : decode cX0_fillWithin 54 = .ok (.istore 6, 2) := by decide +kernel
theorem dX0_fillWithin_56 : decode cX0_fillWithin 56 = .ok (.iload 6, 2) := by decide +kernel
theorem dX0_fillWithin_58 : decode cX0_fillWithin 58 = .ok (.iload_n 2, 1) := by decide +kernel
theorem dX0_fillWithin_59 : decode cX0_fillWithin 59 = .ok (.if_icmp .eq 34, 3) := by decide +kernel
theorem dX0_fillWithin_62 : decode cX0_fillWithin 62 = .ok (.aload_n 0, 1) := by decide +kernel
theorem dX0_fillWithin_63 : decode cX0_fillWithin 63 = .ok (.getfield 28, 3) := by decide +kernel
theorem dX0_fillWithin_66 : decode cX0_fillWithin 66 = .ok (.iload_n 1, 1) := by decide +kernel
theorem dX0_fillWithin_67 : decode cX0_fillWithin 67 = .ok (.bipush 16, 2) := by decide +kernel
theorem dX0_fillWithin_69 : decode cX0_fillWithin 69 = .ok (.imul, 1) := by decide +kernel
theorem dX0_fillWithin_70 : decode cX0_fillWithin 70 = .ok (.iload 6, 2) := by decide +kernel
theorem dX0_fillWithin_72 : decode cX0_fillWithin 72 = .ok (.iadd, 1) := by decide +kernel
theorem dX0_fillWithin_73 : decode cX0_fillWithin 73 = .ok (.iaload, 1) := by decide +kernel
theorem dX0_fillWithin_74 : decode cX0_fillWithin 74 = .ok (.iload 4, 2) := by decide +kernel
theorem dX0_fillWithin_76 : decode cX0_fillWithin 76 = .ok (.if_icmp .le 17, 3) := by decide +kernel
theorem dX0_fillWithin_79 : decode cX0_fillWithin 79 = .ok (.aload_n 0, 1) := by decide +kernel
theorem dX0_fillWithin_80 : decode cX0_fillWithin 80 = .ok (.getfield 28, 3) := by decide +kernel
theorem dX0_fillWithin_83 : decode cX0_fillWithin 83 = .ok (.iload_n 1, 1) := by decide +kernel
theorem dX0_fillWithin_84 : decode cX0_fillWithin 84 = .ok (.bipush 16, 2) := by decide +kernel
theorem dX0_fillWithin_86 : decode cX0_fillWithin 86 = .ok (.imul, 1) := by decide +kernel
theorem dX0_fillWithin_87 : decode cX0_fillWithin 87 = .ok (.iload 6, 2) := by decide +kernel
theorem dX0_fillWithin_89 : decode cX0_fillWithin 89 = .ok (.iadd, 1) := by decide +kernel
theorem dX0_fillWithin_90 : decode cX0_fillWithin 90 = .ok (.iaload, 1) := by decide +kernel
theorem dX0_fillWithin_91 : decode cX0_fillWithin 91 = .ok (.istore 4, 2) := by decide +kernel
theorem dX0_fillWithin_93 : decode cX0_fillWithin 93 = .ok (.iinc 5 1, 3) := by decide +kernel
theorem dX0_fillWithin_96 : decode cX0_fillWithin 96 = .ok (.goto (-56), 3) := by decide +kernel
theorem dX0_fillWithin_99 : decode cX0_fillWithin 99 = .ok (.aload_n 0, 1) := by decide +kernel
theorem dX0_fillWithin_100 : decode cX0_fillWithin 100 = .ok (.getfield 28, 3) := by decide +kernel
theorem dX0_fillWithin_103 : decode cX0_fillWithin 103 = .ok (.iload_n 1, 1) := by decide +kernel
theorem dX0_fillWithin_104 : decode cX0_fillWithin 104 = .ok (.bipush 16, 2) := by decide +kernel
theorem dX0_fillWithin_106 : decode cX0_fillWithin 106 = .ok (.imul, 1) := by decide +kernel
theorem dX0_fillWithin_107 : decode cX0_fillWithin 107 = .ok (.iload_n 2, 1) := by decide +kernel
theorem dX0_fillWithin_108 : decode cX0_fillWithin 108 = .ok (.iadd, 1) := by decide +kernel
theorem dX0_fillWithin_109 : decode cX0_fillWithin 109 = .ok (.iload 4, 2) := by decide +kernel
theorem dX0_fillWithin_111 : decode cX0_fillWithin 111 = .ok (.iastore, 1) := by decide +kernel
theorem dX0_fillWithin_112 : decode cX0_fillWithin 112 = .ok (.iinc 2 1, 3) := by decide +kernel
theorem dX0_fillWithin_115 : decode cX0_fillWithin 115 = .ok (.goto (-113), 3) := by decide +kernel
theorem dX0_fillWithin_118 : decode cX0_fillWithin 118 = .ok (.return_, 1) := by decide +kernel
theorem dX0_isAllowed_0 : decode cX0_isAllowed 0 = .ok (.iload_n 1, 1) := by decide +kernel
theorem dX0_isAllowed_1 : decode cX0_isAllowed 1 = .ok (.iload_n 2, 1) := by decide +kernel
theorem dX0_isAllowed_2 : decode cX0_isAllowed 2 = .ok (.invokestatic 48, 3) := by decide +kernel
theorem dX0_isAllowed_5 : decode cX0_isAllowed 5 = .ok (.ifCond .eq 5, 3) := by decide +kernel
theorem dX0_isAllowed_8 : decode cX0_isAllowed 8 = .ok (.iconst 0, 1) := by decide +kernel
theorem dX0_isAllowed_9 : decode cX0_isAllowed 9 = .ok (.ireturn, 1) := by decide +kernel
theorem dX0_isAllowed_10 : decode cX0_isAllowed 10 = .ok (.aload_n 0, 1) := by decide +kernel
theorem dX0_isAllowed_11 : decode cX0_isAllowed 11 = .ok (.getfield 19, 3) := by decide +kernel
theorem dX0_isAllowed_14 : decode cX0_isAllowed 14 = .ok (.iload_n 1, 1) := by decide +kernel
theorem dX0_isAllowed_15 : decode cX0_isAllowed 15 = .ok (.iaload, 1) := by decide +kernel
theorem dX0_isAllowed_16 : decode cX0_isAllowed 16 = .ok (.ifCond .lt 15, 3) := by decide +kernel
theorem dX0_isAllowed_19 : decode cX0_isAllowed 19 = .ok (.aload_n 0, 1) := by decide +kernel
theorem dX0_isAllowed_20 : decode cX0_isAllowed 20 = .ok (.getfield 19, 3) := by decide +kernel
theorem dX0_isAllowed_23 : decode cX0_isAllowed 23 = .ok (.iload_n 1, 1) := by decide +kernel
theorem dX0_isAllowed_24 : decode cX0_isAllowed 24 = .ok (.iaload, 1) := by decide +kernel
theorem dX0_isAllowed_25 : decode cX0_isAllowed 25 = .ok (.iload_n 2, 1) := by decide +kernel
theorem dX0_isAllowed_26 : decode cX0_isAllowed 26 = .ok (.if_icmp .eq 5, 3) := by decide +kernel
theorem dX0_isAllowed_29 : decode cX0_isAllowed 29 = .ok (.iconst 0, 1) := by decide +kernel
theorem dX0_isAllowed_30 : decode cX0_isAllowed 30 = .ok (.ireturn, 1) := by decide +kernel
theorem dX0_isAllowed_31 : decode cX0_isAllowed 31 = .ok (.iload_n 2, 1) := by decide +kernel
theorem dX0_isAllowed_32 : decode cX0_isAllowed 32 = .ok (.invokestatic 60, 3) := by decide +kernel
theorem dX0_isAllowed_35 : decode cX0_isAllowed 35 = .ok (.istore_n 3, 1) := by decide +kernel
theorem dX0_isAllowed_36 : decode cX0_isAllowed 36 = .ok (.aload_n 0, 1) := by decide +kernel
theorem dX0_isAllowed_37 : decode cX0_isAllowed 37 = .ok (.getfield 16, 3) := by decide +kernel
theorem dX0_isAllowed_40 : decode cX0_isAllowed 40 = .ok (.iload_n 1, 1) := by decide +kernel
theorem dX0_isAllowed_41 : decode cX0_isAllowed 41 = .ok (.iaload, 1) := by decide +kernel
theorem dX0_isAllowed_42 : decode cX0_isAllowed 42 = .ok (.aload_n 0, 1) := by decide +kernel
theorem dX0_isAllowed_43 : decode cX0_isAllowed 43 = .ok (.getfield 22, 3) := by decide +kernel
theorem dX0_isAllowed_46 : decode cX0_isAllowed 46 = .ok (.iload_n 1, 1) := by decide +kernel
theorem dX0_isAllowed_47 : decode cX0_isAllowed 47 = .ok (.iaload, 1) := by decide +kernel
theorem dX0_isAllowed_48 : decode cX0_isAllowed 48 = .ok (.ior, 1) := by decide +kernel
theorem dX0_isAllowed_49 : decode cX0_isAllowed 49 = .ok (.istore 4, 2) := by decide +kernel
theorem dX0_isAllowed_51 : decode cX0_isAllowed 51 = .ok (.iload_n 3, 1) := by decide +kernel
theorem dX0_isAllowed_52 : decode cX0_isAllowed 52 = .ok (.aload_n 0, 1) := by decide +kernel
theorem dX0_isAllowed_53 : decode cX0_isAllowed 53 = .ok (.getfield 37, 3) := by decide +kernel
theorem dX0_isAllowed_56 : decode cX0_isAllowed 56 = .ok (.if_icmp .gt 34, 3) := by decide +kernel
theorem dX0_isAllowed_59 : decode cX0_isAllowed 59 = .ok (.iload_n 2, 1) := by decide +kernel
theorem dX0_isAllowed_60 : decode cX0_isAllowed 60 = .ok (.aload_n 0, 1) := by decide +kernel
theorem dX0_isAllowed_61 : decode cX0_isAllowed 61 = .ok (.getfield 13, 3) := by decide +kernel
theorem dX0_isAllowed_64 : decode cX0_isAllowed 64 = .ok (.iload_n 1, 1) := by decide +kernel
theorem dX0_isAllowed_65 : decode cX0_isAllowed 65 = .ok (.iaload, 1) := by decide +kernel
theorem dX0_isAllowed_66 : decode cX0_isAllowed 66 = .ok (.aload_n 0, 1) := by decide +kernel
theorem dX0_isAllowed_67 : decode cX0_isAllowed 67 = .ok (.getfield 25, 3) := by decide +kernel
theorem dX0_isAllowed_70 : decode cX0_isAllowed 70 = .ok (.iload_n 1, 1) := by decide +kernel
theorem dX0_isAllowed_71 : decode cX0_isAllowed 71 = .ok (.iaload, 1) := by decide +kernel
theorem dX0_isAllowed_72 : decode cX0_isAllowed 72 = .ok (.ior, 1) := by decide +kernel
theorem dX0_isAllowed_73 : decode cX0_isAllowed 73 = .ok (.iand, 1) := by decide +kernel
theorem dX0_isAllowed_74 : decode cX0_isAllowed 74 = .ok (.ifCond .ne 16, 3) := by decide +kernel
theorem dX0_isAllowed_77 : decode cX0_isAllowed 77 = .ok (.iload_n 2, 1) := by decide +kernel
theorem dX0_isAllowed_78 : decode cX0_isAllowed 78 = .ok (.iload 4, 2) := by decide +kernel
theorem dX0_isAllowed_80 : decode cX0_isAllowed 80 = .ok (.iand, 1) := by decide +kernel
theorem dX0_isAllowed_81 : decode cX0_isAllowed 81 = .ok (.iload 4, 2) := by decide +kernel
theorem dX0_isAllowed_83 : decode cX0_isAllowed 83 = .ok (.if_icmp .ne 7, 3) := by decide +kernel
theorem dX0_isAllowed_86 : decode cX0_isAllowed 86 = .ok (.iconst 1, 1) := by decide +kernel
theorem dX0_isAllowed_87 : decode cX0_isAllowed 87 = .ok (.goto 4, 3) := by decide +kernel
theorem dX0_isAllowed_90 : decode cX0_isAllowed 90 = .ok (.iconst 0, 1) := by decide +kernel
theorem dX0_isAllowed_91 : decode cX0_isAllowed 91 = .ok (.ireturn, 1) := by decide +kernel
theorem dX0_tryLast_0 : decode cX0_tryLast 0 = .ok (.iload_n 1, 1) := by decide +kernel
theorem dX0_tryLast_1 : decode cX0_tryLast 1 = .ok (.iconst 1, 1) := by decide +kernel
theorem dX0_tryLast_2 : decode cX0_tryLast 2 = .ok (.iload_n 2, 1) := by decide +kernel
theorem dX0_tryLast_3 : decode cX0_tryLast 3 = .ok (.ishl, 1) := by decide +kernel
theorem dX0_tryLast_4 : decode cX0_tryLast 4 = .ok (.iconst (-1), 1) := by decide +kernel
theorem dX0_tryLast_5 : decode cX0_tryLast 5 = .ok (.ixor, 1) := by decide +kernel
theorem dX0_tryLast_6 : decode cX0_tryLast 6 = .ok (.iand, 1) := by decide +kernel
theorem dX0_tryLast_7 : decode cX0_tryLast 7 = .ok (.istore_n 3, 1) := by decide +kernel
theorem dX0_tryLast_8 : decode cX0_tryLast 8 = .ok (.aload_n 0, 1) := by decide +kernel
theorem dX0_tryLast_9 : decode cX0_tryLast 9 = .ok (.getfield 28, 3) := by decide +kernel
theorem dX0_tryLast_12 : decode cX0_tryLast 12 = .ok (.iload_n 2, 1) := by decide +kernel
theorem dX0_tryLast_13 : decode cX0_tryLast 13 = .ok (.bipush 16, 2) := by decide +kernel
theorem dX0_tryLast_15 : decode cX0_tryLast 15 = .ok (.imul, 1) := by decide +kernel
theorem dX0_tryLast_16 : decode cX0_tryLast 16 = .ok (.iload_n 3, 1) := by decide +kernel
theorem dX0_tryLast_17 : decode cX0_tryLast 17 = .ok (.iadd, 1) := by decide +kernel
theorem dX0_tryLast_18 : decode cX0_tryLast 18 = .ok (.iaload, 1) := by decide +kernel
theorem dX0_tryLast_19 : decode cX0_tryLast 19 = .ok (.istore 4, 2) := by decide +kernel
theorem dX0_tryLast_21 : decode cX0_tryLast 21 = .ok (.iload 4, 2) := by decide +kernel
theorem dX0_tryLast_23 : decode cX0_tryLast 23 = .ok (.ldc 71, 2) := by decide +kernel
theorem dX0_tryLast_25 : decode cX0_tryLast 25 = .ok (.if_icmp .eq 14, 3) := by decide +kernel
theorem dX0_tryLast_28 : decode cX0_tryLast 28 = .ok (.aload_n 0, 1) := by decide +kernel
theorem dX0_tryLast_29 : decode cX0_tryLast 29 = .ok (.getfield 31, 3) := by decide +kernel
theorem dX0_tryLast_32 : decode cX0_tryLast 32 = .ok (.iload_n 3, 1) := by decide +kernel
theorem dX0_tryLast_33 : decode cX0_tryLast 33 = .ok (.iaload, 1) := by decide +kernel
theorem dX0_tryLast_34 : decode cX0_tryLast 34 = .ok (.ldc 71, 2) := by decide +kernel
theorem dX0_tryLast_36 : decode cX0_tryLast 36 = .ok (.if_icmp .ne 4, 3) := by decide +kernel
theorem dX0_tryLast_39 : decode cX0_tryLast 39 = .ok (.return_, 1) := by decide +kernel
theorem dX0_tryLast_40 : decode cX0_tryLast 40 = .ok (.aload_n 0, 1) := by decide +kernel
theorem dX0_tryLast_41 : decode cX0_tryLast 41 = .ok (.getfield 31, 3) := by decide +kernel
theorem dX0_tryLast_44 : decode cX0_tryLast 44 = .ok (.iload_n 3, 1) := by decide +kernel
theorem dX0_tryLast_45 : decode cX0_tryLast 45 = .ok (.iaload, 1) := by decide +kernel
theorem dX0_tryLast_46 : decode cX0_tryLast 46 = .ok (.iload 4, 2) := by decide +kernel
theorem dX0_tryLast_48 : decode cX0_tryLast 48 = .ok (.iadd, 1) := by decide +kernel
theorem dX0_tryLast_49 : decode cX0_tryLast 49 = .ok (.istore 5, 2) := by decide +kernel
theorem dX0_tryLast_51 : decode cX0_tryLast 51 = .ok (.iload 5, 2) := by decide +kernel
theorem dX0_tryLast_53 : decode cX0_tryLast 53 = .ok (.aload_n 0, 1) := by decide +kernel
theorem dX0_tryLast_54 : decode cX0_tryLast 54 = .ok (.getfield 31, 3) := by decide +kernel
theorem dX0_tryLast_57 : decode cX0_tryLast 57 = .ok (.iload_n 1, 1) := by decide +kernel
theorem dX0_tryLast_58 : decode cX0_tryLast 58 = .ok (.iaload, 1) := by decide +kernel
theorem dX0_tryLast_59 : decode cX0_tryLast 59 = .ok (.if_icmp .le 18, 3) := by decide +kernel
theorem dX0_tryLast_62 : decode cX0_tryLast 62 = .ok (.aload_n 0, 1) := by decide +kernel
theorem dX0_tryLast_63 : decode cX0_tryLast 63 = .ok (.getfield 31, 3) := by decide +kernel
theorem dX0_tryLast_66 : decode cX0_tryLast 66 = .ok (.iload_n 1, 1) := by decide +kernel
theorem dX0_tryLast_67 : decode cX0_tryLast 67 = .ok (.iload 5, 2) := by decide +kernel
theorem dX0_tryLast_69 : decode cX0_tryLast 69 = .ok (.iastore, 1) := by decide +kernel
theorem dX0_tryLast_70 : decode cX0_tryLast 70 = .ok (.aload_n 0, 1) := by decide +kernel
theorem dX0_tryLast_71 : decode cX0_tryLast 71 = .ok (.getfield 34, 3) := by decide +kernel
theorem dX0_tryLast_74 : decode cX0_tryLast 74 = .ok (.iload_n 1, 1) := by decide +kernel
theorem dX0_tryLast_75 : decode cX0_tryLast 75 = .ok (.iconst 0, 1) := by decide +kernel
theorem dX0_tryLast_76 : decode cX0_tryLast 76 = .ok (.iastore, 1) := by decide +kernel
theorem dX0_tryLast_77 : decode cX0_tryLast 77 = .ok (.iload 5, 2) := by decide +kernel
theorem dX0_tryLast_79 : decode cX0_tryLast 79 = .ok (.aload_n 0, 1) := by decide +kernel
theorem dX0_tryLast_80 : decode cX0_tryLast 80 = .ok (.getfield 31, 3) := by decide +kernel
theorem dX0_tryLast_83 : decode cX0_tryLast 83 = .ok (.iload_n 1, 1) := by decide +kernel
theorem dX0_tryLast_84 : decode cX0_tryLast 84 = .ok (.iaload, 1) := by decide +kernel
theorem dX0_tryLast_85 : decode cX0_tryLast 85 = .ok (.if_icmp .ne 18, 3) := by decide +kernel
theorem dX0_tryLast_88 : decode cX0_tryLast 88 = .ok (.aload_n 0, 1) := by decide +kernel
theorem dX0_tryLast_89 : decode cX0_tryLast 89 = .ok (.getfield 34, 3) := by decide +kernel
theorem dX0_tryLast_92 : decode cX0_tryLast 92 = .ok (.iload_n 1, 1) := by decide +kernel
theorem dX0_tryLast_93 : decode cX0_tryLast 93 = .ok (.dup2, 1) := by decide +kernel
theorem dX0_tryLast_94 : decode cX0_tryLast 94 = .ok (.iaload, 1) := by decide +kernel
theorem dX0_tryLast_95 : decode cX0_tryLast 95 = .ok (.aload_n 0, 1) := by decide +kernel
theorem dX0_tryLast_96 : decode cX0_tryLast 96 = .ok (.getfield 34, 3) := by decide +kernel
theorem dX0_tryLast_99 : decode cX0_tryLast 99 = .ok (.iload_n 3, 1) := by decide +kernel
theorem dX0_tryLast_100 : decode cX0_tryLast 100 = .ok (.iaload, 1) := by decide +kernel
theorem dX0_tryLast_101 : decode cX0_tryLast 101 = .ok (.iadd, 1) := by decide +kernel
theorem dX0_tryLast_102 : decode cX0_tryLast 102 = .ok (.iastore, 1) := by decide +kernel
theorem dX0_tryLast_103 : decode cX0_tryLast 103 = .ok (.return_, 1) := by decide +kernel
theorem dX0_parents_0 : decode cX0_parents 0 = .ok (.iload_n 1, 1) := by decide +kernel
theorem dX0_parents_1 : decode cX0_parents 1 = .ok (.invokestatic 44, 3) := by decide +kernel
theorem dX0_parents_4 : decode cX0_parents 4 = .ok (.ifCond .eq 5, 3) := by decide +kernel
theorem dX0_parents_7 : decode cX0_parents 7 = .ok (.iconst (-1), 1) := by decide +kernel
theorem dX0_parents_8 : decode cX0_parents 8 = .ok (.ireturn, 1) := by decide +kernel
theorem dX0_parents_9 : decode cX0_parents 9 = .ok (.aload_n 0, 1) := by decide +kernel
theorem dX0_parents_10 : decode cX0_parents 10 = .ok (.invokevirtual 87, 3) := by decide +kernel
theorem dX0_parents_13 : decode cX0_parents 13 = .ok (.istore_n 2, 1) := by decide +kernel
theorem dX0_parents_14 : decode cX0_parents 14 = .ok (.iload_n 2, 1) := by decide +kernel
theorem dX0_parents_15 : decode cX0_parents 15 = .ok (.ifCond .eq 12, 3) := by decide +kernel
theorem dX0_parents_18 : decode cX0_parents 18 = .ok (.aload_n 0, 1) := by decide +kernel
theorem dX0_parents_19 : decode cX0_parents 19 = .ok (.getfield 19, 3) := by decide +kernel
theorem dX0_parents_22 : decode cX0_parents 22 = .ok (.iload_n 1, 1) := by decide +kernel
theorem dX0_parents_23 : decode cX0_parents 23 = .ok (.iaload, 1) := by decide +kernel
theorem dX0_parents_24 : decode cX0_parents 24 = .ok (.goto 5, 3) := by decide +kernel
theorem dX0_parents_27 : decode cX0_parents 27 = .ok (.ldc 71, 2) := by decide +kernel
theorem dX0_parents_29 : decode cX0_parents 29 = .ok (.ireturn, 1) := by decide +kernel
theorem dX0_findFirst_0 : decode cX0_findFirst 0 = .ok (.aload_n 0, 1) := by decide +kernel
theorem dX0_findFirst_1 : decode cX0_findFirst 1 = .ok (.invokevirtual 83, 3) := by decide +kernel
theorem dX0_findFirst_4 : decode cX0_findFirst 4 = .ok (.istore_n 1, 1) := by decide +kernel
theorem dX0_findFirst_5 : decode cX0_findFirst 5 = .ok (.iload_n 1, 1) := by decide +kernel
theorem dX0_findFirst_6 : decode cX0_findFirst 6 = .ok (.ldc 71, 2) := by decide +kernel
theorem dX0_findFirst_8 : decode cX0_findFirst 8 = .ok (.if_icmp .ne 5, 3) := by decide +kernel
theorem dX0_findFirst_11 : decode cX0_findFirst 11 = .ok (.iconst 0, 1) := by decide +kernel
theorem dX0_findFirst_12 : decode cX0_findFirst 12 = .ok (.ireturn, 1) := by decide +kernel
theorem dX0_findFirst_13 : decode cX0_findFirst 13 = .ok (.iconst 0, 1) := by decide +kernel
theorem dX0_findFirst_14 : decode cX0_findFirst 14 = .ok (.istore_n 2, 1) := by decide +kernel
theorem dX0_findFirst_15 : decode cX0_findFirst 15 = .ok (.iload_n 2, 1) := by decide +kernel
theorem dX0_findFirst_16 : decode cX0_findFirst 16 = .ok (.iconst 4, 1) := by decide +kernel
theorem dX0_findFirst_17 : decode cX0_findFirst 17 = .ok (.if_icmp .ge 60, 3) := by decide +kernel
theorem dX0_findFirst_20 : decode cX0_findFirst 20 = .ok (.iconst 0, 1) := by decide +kernel
theorem dX0_findFirst_21 : decode cX0_findFirst 21 = .ok (.istore_n 3, 1) := by decide +kernel
theorem dX0_findFirst_22 : decode cX0_findFirst 22 = .ok (.iconst 0, 1) := by decide +kernel
theorem dX0_findFirst_23 : decode cX0_findFirst 23 = .ok (.istore 4, 2) := by decide +kernel
theorem dX0_findFirst_25 : decode cX0_findFirst 25 = .ok (.iload 4, 2) := by decide +kernel
theorem dX0_findFirst_27 : decode cX0_findFirst 27 = .ok (.bipush 16, 2) := by decide +kernel
theorem dX0_findFirst_29 : decode cX0_findFirst 29 = .ok (.if_icmp .ge 42, 3) := by decide +kernel
theorem dX0_findFirst_32 : decode cX0_findFirst 32 = .ok (.iload_n 3, 1) := by decide +kernel
theorem dX0_findFirst_33 : decode cX0_findFirst 33 = .ok (.ifCond .ne 38, 3) := by decide +kernel
theorem dX0_findFirst_36 : decode cX0_findFirst 36 = .ok (.aload_n 0, 1) := by decide +kernel
theorem dX0_findFirst_37 : decode cX0_findFirst 37 = .ok (.getfield 19, 3) := by decide +kernel
theorem dX0_findFirst_40 : decode cX0_findFirst 40 = .ok (.iload_n 2, 1) := by decide +kernel
theorem dX0_findFirst_41 : decode cX0_findFirst 41 = .ok (.iload 4, 2) := by decide +kernel
theorem dX0_findFirst_43 : decode cX0_findFirst 43 = .ok (.iastore, 1) := by decide +kernel
theorem dX0_findFirst_44 : decode cX0_findFirst 44 = .ok (.aload_n 0, 1) := by decide +kernel
theorem dX0_findFirst_45 : decode cX0_findFirst 45 = .ok (.invokevirtual 80, 3) := by decide +kernel
theorem dX0_findFirst_48 : decode cX0_findFirst 48 = .ok (.aload_n 0, 1) := by decide +kernel
theorem dX0_findFirst_49 : decode cX0_findFirst 49 = .ok (.getfield 31, 3) := by decide +kernel
theorem dX0_findFirst_52 : decode cX0_findFirst 52 = .ok (.bipush 15, 2) := by decide +kernel
theorem dX0_findFirst_54 : decode cX0_findFirst 54 = .ok (.iaload, 1) := by decide +kernel
theorem dX0_findFirst_55 : decode cX0_findFirst 55 = .ok (.iload_n 1, 1) := by decide +kernel
theorem dX0_findFirst_56 : decode cX0_findFirst 56 = .ok (.if_icmp .ne 7, 3) := by decide +kernel
theorem dX0_findFirst_59 : decode cX0_findFirst 59 = .ok (.iconst 1, 1) := by decide +kernel
theorem dX0_findFirst_60 : decode cX0_findFirst 60 = .ok (.goto 4, 3) := by decide +kernel
theorem dX0_findFirst_63 : decode cX0_findFirst 63 = .ok (.iconst 0, 1) := by decide +kernel
theorem dX0_findFirst_64 : decode cX0_findFirst 64 = .ok (.istore_n 3, 1) := by decide +kernel
theorem dX0_findFirst_65 : decode cX0_findFirst 65 = .ok (.iinc 4 1, 3) := by decide +kernel
theorem dX0_findFirst_68 : decode cX0_findFirst 68 = .ok (.goto (-43), 3) := by decide +kernel
theorem dX0_findFirst_71 : decode cX0_findFirst 71 = .ok (.iinc 2 1, 3) := by decide +kernel
theorem dX0_findFirst_74 : decode cX0_findFirst 74 = .ok (.goto (-59), 3) := by decide +kernel
theorem dX0_findFirst_77 : decode cX0_findFirst 77 = .ok (.iconst 1, 1) := by decide +kernel
theorem dX0_findFirst_78 : decode cX0_findFirst 78 = .ok (.ireturn, 1) := by decide +kernel
theorem dX0_bestWith_0 : decode cX0_bestWith 0 = .ok (.iload_n 1, 1) := by decide +kernel
theorem dX0_bestWith_1 : decode cX0_bestWith 1 = .ok (.invokestatic 44, 3) := by decide +kernel
theorem dX0_bestWith_4 : decode cX0_bestWith 4 = .ok (.ifCond .ne 15, 3) := by decide +kernel
theorem dX0_bestWith_7 : decode cX0_bestWith 7 = .ok (.iload_n 2, 1) := by decide +kernel
theorem dX0_bestWith_8 : decode cX0_bestWith 8 = .ok (.invokestatic 44, 3) := by decide +kernel
theorem dX0_bestWith_11 : decode cX0_bestWith 11 = .ok (.ifCond .ne 8, 3) := by decide +kernel
theorem dX0_bestWith_14 : decode cX0_bestWith 14 = .ok (.iload_n 1, 1) := by decide +kernel
theorem dX0_bestWith_15 : decode cX0_bestWith 15 = .ok (.iload_n 2, 1) := by decide +kernel
theorem dX0_bestWith_16 : decode cX0_bestWith 16 = .ok (.if_icmp .ne 5, 3) := by decide +kernel
theorem dX0_bestWith_19 : decode cX0_bestWith 19 = .ok (.iconst (-1), 1) := by decide +kernel
theorem dX0_bestWith_20 : decode cX0_bestWith 20 = .ok (.ireturn, 1) := by decide +kernel
theorem dX0_bestWith_21 : decode cX0_bestWith 21 = .ok (.aload_n 0, 1) := by decide +kernel
theorem dX0_bestWith_22 : decode cX0_bestWith 22 = .ok (.invokevirtual 41, 3) := by decide +kernel
theorem dX0_bestWith_25 : decode cX0_bestWith 25 = .ok (.aload_n 0, 1) := by decide +kernel
theorem dX0_bestWith_26 : decode cX0_bestWith 26 = .ok (.getfield 22, 3) := by decide +kernel
theorem dX0_bestWith_29 : decode cX0_bestWith 29 = .ok (.iload_n 2, 1) := by decide +kernel
theorem dX0_bestWith_30 : decode cX0_bestWith 30 = .ok (.iconst 1, 1) := by decide +kernel
theorem dX0_bestWith_31 : decode cX0_bestWith 31 = .ok (.iload_n 1, 1) := by decide +kernel
theorem dX0_bestWith_32 : decode cX0_bestWith 32 = .ok (.ishl, 1) := by decide +kernel
theorem dX0_bestWith_33 : decode cX0_bestWith 33 = .ok (.iastore, 1) := by decide +kernel
theorem dX0_bestWith_34 : decode cX0_bestWith 34 = .ok (.aload_n 0, 1) := by decide +kernel
theorem dX0_bestWith_35 : decode cX0_bestWith 35 = .ok (.invokevirtual 80, 3) := by decide +kernel
theorem dX0_bestWith_38 : decode cX0_bestWith 38 = .ok (.aload_n 0, 1) := by decide +kernel
theorem dX0_bestWith_39 : decode cX0_bestWith 39 = .ok (.getfield 31, 3) := by decide +kernel
theorem dX0_bestWith_42 : decode cX0_bestWith 42 = .ok (.bipush 15, 2) := by decide +kernel
theorem dX0_bestWith_44 : decode cX0_bestWith 44 = .ok (.iaload, 1) := by decide +kernel
theorem dX0_bestWith_45 : decode cX0_bestWith 45 = .ok (.ireturn, 1) := by decide +kernel
theorem dX0_bestWithout_0 : decode cX0_bestWithout 0 = .ok (.iload_n 1, 1) := by decide +kernel
theorem dX0_bestWithout_1 : decode cX0_bestWithout 1 = .ok (.invokestatic 44, 3) := by decide +kernel
theorem dX0_bestWithout_4 : decode cX0_bestWithout 4 = .ok (.ifCond .ne 15, 3) := by decide +kernel
theorem dX0_bestWithout_7 : decode cX0_bestWithout 7 = .ok (.iload_n 2, 1) := by decide +kernel
theorem dX0_bestWithout_8 : decode cX0_bestWithout 8 = .ok (.invokestatic 44, 3) := by decide +kernel
theorem dX0_bestWithout_11 : decode cX0_bestWithout 11 = .ok (.ifCond .ne 8, 3) := by decide +kernel
theorem dX0_bestWithout_14 : decode cX0_bestWithout 14 = .ok (.iload_n 1, 1) := by decide +kernel
theorem dX0_bestWithout_15 : decode cX0_bestWithout 15 = .ok (.iload_n 2, 1) := by decide +kernel
theorem dX0_bestWithout_16 : decode cX0_bestWithout 16 = .ok (.if_icmp .ne 5, 3) := by decide +kernel
theorem dX0_bestWithout_19 : decode cX0_bestWithout 19 = .ok (.iconst (-1), 1) := by decide +kernel
theorem dX0_bestWithout_20 : decode cX0_bestWithout 20 = .ok (.ireturn, 1) := by decide +kernel
theorem dX0_bestWithout_21 : decode cX0_bestWithout 21 = .ok (.aload_n 0, 1) := by decide +kernel
theorem dX0_bestWithout_22 : decode cX0_bestWithout 22 = .ok (.invokevirtual 41, 3) := by decide +kernel
theorem dX0_bestWithout_25 : decode cX0_bestWithout 25 = .ok (.aload_n 0, 1) := by decide +kernel
theorem dX0_bestWithout_26 : decode cX0_bestWithout 26 = .ok (.getfield 25, 3) := by decide +kernel
theorem dX0_bestWithout_29 : decode cX0_bestWithout 29 = .ok (.iload_n 2, 1) := by decide +kernel
theorem dX0_bestWithout_30 : decode cX0_bestWithout 30 = .ok (.iconst 1, 1) := by decide +kernel
theorem dX0_bestWithout_31 : decode cX0_bestWithout 31 = .ok (.iload_n 1, 1) := by decide +kernel
theorem dX0_bestWithout_32 : decode cX0_bestWithout 32 = .ok (.ishl, 1) := by decide +kernel
theorem dX0_bestWithout_33 : decode cX0_bestWithout 33 = .ok (.iastore, 1) := by decide +kernel
theorem dX0_bestWithout_34 : decode cX0_bestWithout 34 = .ok (.aload_n 0, 1) := by decide +kernel
theorem dX0_bestWithout_35 : decode cX0_bestWithout 35 = .ok (.invokevirtual 80, 3) := by decide +kernel
theorem dX0_bestWithout_38 : decode cX0_bestWithout 38 = .ok (.aload_n 0, 1) := by decide +kernel
theorem dX0_bestWithout_39 : decode cX0_bestWithout 39 = .ok (.getfield 31, 3) := by decide +kernel
theorem dX0_bestWithout_42 : decode cX0_bestWithout 42 = .ok (.bipush 15, 2) := by decide +kernel
theorem dX0_bestWithout_44 : decode cX0_bestWithout 44 = .ok (.iaload, 1) := by decide +kernel
theorem dX0_bestWithout_45 : decode cX0_bestWithout 45 = .ok (.ireturn, 1) := by decide +kernel
theorem dX0_edges_0 : decode cX0_edges 0 = .ok (.aload_n 0, 1) := by decide +kernel
theorem dX0_edges_1 : decode cX0_edges 1 = .ok (.invokevirtual 87, 3) := by decide +kernel
theorem dX0_edges_4 : decode cX0_edges 4 = .ok (.istore_n 1, 1) := by decide +kernel
theorem dX0_edges_5 : decode cX0_edges 5 = .ok (.iload_n 1, 1) := by decide +kernel
theorem dX0_edges_6 : decode cX0_edges 6 = .ok (.ifCond .ne 6, 3) := by decide +kernel
theorem dX0_edges_9 : decode cX0_edges 9 = .ok (.ldc 71, 2) := by decide +kernel
theorem dX0_edges_11 : decode cX0_edges 11 = .ok (.ireturn, 1) := by decide +kernel
theorem dX0_edges_12 : decode cX0_edges 12 = .ok (.iconst 0, 1) := by decide +kernel
theorem dX0_edges_13 : decode cX0_edges 13 = .ok (.istore_n 2, 1) := by decide +kernel
theorem dX0_edges_14 : decode cX0_edges 14 = .ok (.iconst 0, 1) := by decide +kernel
theorem dX0_edges_15 : decode cX0_edges 15 = .ok (.istore_n 3, 1) := by decide +kernel
theorem dX0_edges_16 : decode cX0_edges 16 = .ok (.iload_n 3, 1) := by decide +kernel
theorem dX0_edges_17 : decode cX0_edges 17 = .ok (.iconst 4, 1) := by decide +kernel
theorem dX0_edges_18 : decode cX0_edges 18 = .ok (.if_icmp .ge 21, 3) := by decide +kernel
theorem dX0_edges_21 : decode cX0_edges 21 = .ok (.iload_n 2, 1) := by decide +kernel
theorem dX0_edges_22 : decode cX0_edges 22 = .ok (.aload_n 0, 1) := by decide +kernel
theorem dX0_edges_23 : decode cX0_edges 23 = .ok (.getfield 19, 3) := by decide +kernel
theorem dX0_edges_26 : decode cX0_edges 26 = .ok (.iload_n 3, 1) := by decide +kernel
theorem dX0_edges_27 : decode cX0_edges 27 = .ok (.iaload, 1) := by decide +kernel
theorem dX0_edges_28 : decode cX0_edges 28 = .ok (.invokestatic 60, 3) := by decide +kernel
theorem dX0_edges_31 : decode cX0_edges 31 = .ok (.iadd, 1) := by decide +kernel
theorem dX0_edges_32 : decode cX0_edges 32 = .ok (.istore_n 2, 1) := by decide +kernel
theorem dX0_edges_33 : decode cX0_edges 33 = .ok (.iinc 3 1, 3) := by decide +kernel
theorem dX0_edges_36 : decode cX0_edges 36 = .ok (.goto (-20), 3) := by decide +kernel
theorem dX0_edges_39 : decode cX0_edges 39 = .ok (.iload_n 2, 1) := by decide +kernel
theorem dX0_edges_40 : decode cX0_edges 40 = .ok (.ireturn, 1) := by decide +kernel
theorem dX0_orders_0 : decode cX0_orders 0 = .ok (.aload_n 0, 1) := by decide +kernel
theorem dX0_orders_1 : decode cX0_orders 1 = .ok (.invokevirtual 41, 3) := by decide +kernel
theorem dX0_orders_4 : decode cX0_orders 4 = .ok (.aload_n 0, 1) := by decide +kernel
theorem dX0_orders_5 : decode cX0_orders 5 = .ok (.invokevirtual 80, 3) := by decide +kernel
theorem dX0_orders_8 : decode cX0_orders 8 = .ok (.aload_n 0, 1) := by decide +kernel
theorem dX0_orders_9 : decode cX0_orders 9 = .ok (.getfield 31, 3) := by decide +kernel
theorem dX0_orders_12 : decode cX0_orders 12 = .ok (.bipush 15, 2) := by decide +kernel
theorem dX0_orders_14 : decode cX0_orders 14 = .ok (.iaload, 1) := by decide +kernel
theorem dX0_orders_15 : decode cX0_orders 15 = .ok (.ldc 71, 2) := by decide +kernel
theorem dX0_orders_17 : decode cX0_orders 17 = .ok (.if_icmp .ne 7, 3) := by decide +kernel
theorem dX0_orders_20 : decode cX0_orders 20 = .ok (.iconst 0, 1) := by decide +kernel
theorem dX0_orders_21 : decode cX0_orders 21 = .ok (.goto 10, 3) := by decide +kernel
theorem dX0_orders_24 : decode cX0_orders 24 = .ok (.aload_n 0, 1) := by decide +kernel
theorem dX0_orders_25 : decode cX0_orders 25 = .ok (.getfield 34, 3) := by decide +kernel
theorem dX0_orders_28 : decode cX0_orders 28 = .ok (.bipush 15, 2) := by decide +kernel
theorem dX0_orders_30 : decode cX0_orders 30 = .ok (.iaload, 1) := by decide +kernel
theorem dX0_orders_31 : decode cX0_orders 31 = .ok (.ireturn, 1) := by decide +kernel
theorem dX0_scoreOf_0 : decode cX0_scoreOf 0 = .ok (.iload_n 1, 1) := by decide +kernel
theorem dX0_scoreOf_1 : decode cX0_scoreOf 1 = .ok (.invokestatic 44, 3) := by decide +kernel
theorem dX0_scoreOf_4 : decode cX0_scoreOf 4 = .ok (.ifCond .ne 11, 3) := by decide +kernel
theorem dX0_scoreOf_7 : decode cX0_scoreOf 7 = .ok (.iload_n 1, 1) := by decide +kernel
theorem dX0_scoreOf_8 : decode cX0_scoreOf 8 = .ok (.iload_n 2, 1) := by decide +kernel
theorem dX0_scoreOf_9 : decode cX0_scoreOf 9 = .ok (.invokestatic 48, 3) := by decide +kernel
theorem dX0_scoreOf_12 : decode cX0_scoreOf 12 = .ok (.ifCond .eq 5, 3) := by decide +kernel
theorem dX0_scoreOf_15 : decode cX0_scoreOf 15 = .ok (.iconst 0, 1) := by decide +kernel
theorem dX0_scoreOf_16 : decode cX0_scoreOf 16 = .ok (.ireturn, 1) := by decide +kernel
theorem dX0_scoreOf_17 : decode cX0_scoreOf 17 = .ok (.aload_n 0, 1) := by decide +kernel
theorem dX0_scoreOf_18 : decode cX0_scoreOf 18 = .ok (.getfield 7, 3) := by decide +kernel
theorem dX0_scoreOf_21 : decode cX0_scoreOf 21 = .ok (.iload_n 1, 1) := by decide +kernel
theorem dX0_scoreOf_22 : decode cX0_scoreOf 22 = .ok (.bipush 16, 2) := by decide +kernel
theorem dX0_scoreOf_24 : decode cX0_scoreOf 24 = .ok (.imul, 1) := by decide +kernel
theorem dX0_scoreOf_25 : decode cX0_scoreOf 25 = .ok (.iload_n 2, 1) := by decide +kernel
theorem dX0_scoreOf_26 : decode cX0_scoreOf 26 = .ok (.iadd, 1) := by decide +kernel
theorem dX0_scoreOf_27 : decode cX0_scoreOf 27 = .ok (.iaload, 1) := by decide +kernel
theorem dX0_scoreOf_28 : decode cX0_scoreOf 28 = .ok (.ireturn, 1) := by decide +kernel
end
section
/-! StructureLearnerModel -/
set_option maxRecDepth 100000
def RX1 : String := "StructureLearnerModel"
def TX1 : u_T := fun k => match k with
  | 0 => ("StructureLearnerModel", "scores", "[I", true)
  | 1 => ("StructureLearnerModel", "limit", "I", false)
  | 2 => ("StructureLearnerModel", "says", "[I", true)
  | 3 => ("StructureLearnerModel", "noCircle", "[Z", true)
  | 4 => ("StructureLearnerModel", "known", "Z", false)
  | 5 => ("StructureLearnerModel", "most", "I", false)
  | _ => ("StructureLearnerModel", "first", "I", false)
def tyX1 : Nat → FieldType := fun k => match k with
  | 0 => .array .int
  | 1 => .int
  | 2 => .array .int
  | 3 => .array .boolean
  | 4 => .boolean
  | 5 => .int
  | _ => .int
abbrev wsX10 : List Cond := u_ws RX1 TX1 7
theorem nmX1 : ∀ a, a < 7 → ∀ b, b < 7 → a ≠ b → (TX1 a).2.1 ≠ (TX1 b).2.1 := by decide +kernel
theorem tyX1_ok : ∀ k, k < 7 → parseFieldDescriptor (TX1 k).2.2.1 = some (tyX1 k) := by decide +kernel
abbrev cX1_init : ByteArray := prog_3_method_1_code
def yX1_init : MethodName := ⟨RX1, "<init>", "()V"⟩
abbrev cX1_hasCircle : ByteArray := prog_3_method_8_code
def yX1_hasCircle : MethodName := ⟨RX1, "hasCircle", "(I)Z"⟩
abbrev cX1_parentsOf : ByteArray := prog_3_method_7_code
def yX1_parentsOf : MethodName := ⟨RX1, "parentsOf", "(II)I"⟩
abbrev cX1_digitOf : ByteArray := prog_3_method_6_code
def yX1_digitOf : MethodName := ⟨RX1, "digitOf", "(II)I"⟩
abbrev cX1_mask : ByteArray := prog_3_method_3_code
def yX1_mask : MethodName := ⟨RX1, "mask", "(II)I"⟩
abbrev cX1_score : ByteArray := prog_3_method_9_code
def yX1_score : MethodName := ⟨RX1, "score", "(III)I"⟩
abbrev cX1_bad : ByteArray := prog_3_method_2_code
def yX1_bad : MethodName := ⟨RX1, "bad", "(I)Z"⟩
abbrev cX1_badMask : ByteArray := prog_3_method_5_code
def yX1_badMask : MethodName := ⟨RX1, "badMask", "(II)Z"⟩
abbrev cX1_digit : ByteArray := prog_3_method_4_code
def yX1_digit : MethodName := ⟨RX1, "digit", "(II)I"⟩
abbrev cX1_limit : ByteArray := prog_3_method_10_code
def yX1_limit : MethodName := ⟨RX1, "limit", "(I)I"⟩
abbrev cX1_edge : ByteArray := prog_3_method_11_code
def yX1_edge : MethodName := ⟨RX1, "edge", "(III)I"⟩
abbrev cX1_learn : ByteArray := prog_3_method_15_code
def yX1_learn : MethodName := ⟨RX1, "learn", "(J)I"⟩
abbrev cX1_bits : ByteArray := prog_3_method_12_code
def yX1_bits : MethodName := ⟨RX1, "bits", "(I)I"⟩
abbrev cX1_hits : ByteArray := prog_3_method_14_code
def yX1_hits : MethodName := ⟨RX1, "hits", "(JII)I"⟩
abbrev cX1_greater : ByteArray := prog_3_method_13_code
def yX1_greater : MethodName := ⟨RX1, "greater", "(JIII)I"⟩
abbrev cX1_best : ByteArray := prog_3_method_19_code
def yX1_best : MethodName := ⟨RX1, "best", "()I"⟩
abbrev cX1_workOut : ByteArray := prog_3_method_18_code
def yX1_workOut : MethodName := ⟨RX1, "workOut", "()V"⟩
abbrev cX1_allowed : ByteArray := prog_3_method_16_code
def yX1_allowed : MethodName := ⟨RX1, "allowed", "(I)Z"⟩
abbrev cX1_worth : ByteArray := prog_3_method_17_code
def yX1_worth : MethodName := ⟨RX1, "worth", "(I)I"⟩
abbrev cX1_parents : ByteArray := prog_3_method_20_code
def yX1_parents : MethodName := ⟨RX1, "parents", "(I)I"⟩
abbrev cX1_bestWith : ByteArray := prog_3_method_22_code
def yX1_bestWith : MethodName := ⟨RX1, "bestWith", "(II)I"⟩
abbrev cX1_bestBy : ByteArray := prog_3_method_21_code
def yX1_bestBy : MethodName := ⟨RX1, "bestBy", "(III)I"⟩
abbrev cX1_bestWithout : ByteArray := prog_3_method_23_code
def yX1_bestWithout : MethodName := ⟨RX1, "bestWithout", "(II)I"⟩
abbrev cX1_edges : ByteArray := prog_3_method_24_code
def yX1_edges : MethodName := ⟨RX1, "edges", "()I"⟩
abbrev cX1_orders : ByteArray := prog_3_method_27_code
def yX1_orders : MethodName := ⟨RX1, "orders", "()I"⟩
abbrev cX1_someFollows : ByteArray := prog_3_method_26_code
def yX1_someFollows : MethodName := ⟨RX1, "someFollows", "(IIII)Z"⟩
abbrev cX1_follows : ByteArray := prog_3_method_25_code
def yX1_follows : MethodName := ⟨RX1, "follows", "(IIIII)Z"⟩
abbrev cX1_scoreOf : ByteArray := prog_3_method_28_code
def yX1_scoreOf : MethodName := ⟨RX1, "scoreOf", "(II)I"⟩
theorem q24 : (Jvm.Cond.initialized "StructureLearnerModel") ∈ lw_all := lw_g (lw_at lw_m1 2 rfl) rfl
theorem q154 : (Jvm.Cond.instantiable "StructureLearnerModel" (7 : Nat)) ∈ lw_all := lw_g (lw_at lw_m1 132 rfl) rfl
theorem q156 : (Jvm.Cond.instanceMethod ({ cls := "StructureLearnerModel", name := "<init>", desc := "()V" } : Jvm.MethodName)) ∈ lw_all := lw_g (lw_at lw_m1 134 rfl) rfl
theorem q157 : (Jvm.Cond.code ({ cls := "StructureLearnerModel", name := "<init>", desc := "()V" } : Jvm.MethodName) prog_3_method_1_code (2 : Nat) (Option.none : Option Jvm.ClassFile.FieldType)) ∈ lw_all := lw_g (lw_at lw_m1 135 rfl) rfl
theorem q158 : (Jvm.Cond.methodLink "StructureLearnerModel" (1 : Nat) ({ cls := "java/lang/Object", name := "<init>", desc := "()V" } : Jvm.MethodName)) ∈ lw_all := lw_g (lw_at lw_m1 136 rfl) rfl
theorem q159 : (Jvm.Cond.methodLink "StructureLearnerModel" (24 : Nat) ({ cls := "StructureLearnerModel", name := "hasCircle", desc := "(I)Z" } : Jvm.MethodName)) ∈ lw_all := lw_g (lw_at lw_m1 137 rfl) rfl
theorem q160 : (Jvm.Cond.privateMethod ({ cls := "StructureLearnerModel", name := "hasCircle", desc := "(I)Z" } : Jvm.MethodName)) ∈ lw_tbl := lw_at lw_m1 138 rfl
theorem q161 : (Jvm.Cond.instanceMethod ({ cls := "StructureLearnerModel", name := "hasCircle", desc := "(I)Z" } : Jvm.MethodName)) ∈ lw_all := lw_g (lw_at lw_m1 139 rfl) rfl
theorem q162 : (Jvm.Cond.code ({ cls := "StructureLearnerModel", name := "hasCircle", desc := "(I)Z" } : Jvm.MethodName) prog_3_method_8_code (6 : Nat) (Option.some Jvm.ClassFile.FieldType.boolean)) ∈ lw_all := lw_g (lw_at lw_m1 140 rfl) rfl
theorem q163 : (Jvm.Cond.methodLink "StructureLearnerModel" (35 : Nat) ({ cls := "StructureLearnerModel", name := "parentsOf", desc := "(II)I" } : Jvm.MethodName)) ∈ lw_all := lw_g (lw_at lw_m1 141 rfl) rfl
theorem q164 : (Jvm.Cond.privateMethod ({ cls := "StructureLearnerModel", name := "parentsOf", desc := "(II)I" } : Jvm.MethodName)) ∈ lw_tbl := lw_at lw_m1 142 rfl
theorem q165 : (Jvm.Cond.instanceMethod ({ cls := "StructureLearnerModel", name := "parentsOf", desc := "(II)I" } : Jvm.MethodName)) ∈ lw_all := lw_g (lw_at lw_m1 143 rfl) rfl
theorem q166 : (Jvm.Cond.code ({ cls := "StructureLearnerModel", name := "parentsOf", desc := "(II)I" } : Jvm.MethodName) prog_3_method_7_code (4 : Nat) (Option.some Jvm.ClassFile.FieldType.int)) ∈ lw_all := lw_g (lw_at lw_m1 144 rfl) rfl
theorem q167 : (Jvm.Cond.methodLink "StructureLearnerModel" (28 : Nat) ({ cls := "StructureLearnerModel", name := "digitOf", desc := "(II)I" } : Jvm.MethodName)) ∈ lw_all := lw_g (lw_at lw_m1 145 rfl) rfl
theorem q168 : (Jvm.Cond.privateMethod ({ cls := "StructureLearnerModel", name := "digitOf", desc := "(II)I" } : Jvm.MethodName)) ∈ lw_tbl := lw_at lw_m1 146 rfl
theorem q169 : (Jvm.Cond.instanceMethod ({ cls := "StructureLearnerModel", name := "digitOf", desc := "(II)I" } : Jvm.MethodName)) ∈ lw_all := lw_g (lw_at lw_m1 147 rfl) rfl
theorem q170 : (Jvm.Cond.code ({ cls := "StructureLearnerModel", name := "digitOf", desc := "(II)I" } : Jvm.MethodName) prog_3_method_6_code (3 : Nat) (Option.some Jvm.ClassFile.FieldType.int)) ∈ lw_all := lw_g (lw_at lw_m1 148 rfl) rfl
theorem q171 : (Jvm.Cond.methodLink "StructureLearnerModel" (32 : Nat) ({ cls := "StructureLearnerModel", name := "mask", desc := "(II)I" } : Jvm.MethodName)) ∈ lw_all := lw_g (lw_at lw_m1 149 rfl) rfl
theorem q172 : (Jvm.Cond.privateMethod ({ cls := "StructureLearnerModel", name := "mask", desc := "(II)I" } : Jvm.MethodName)) ∈ lw_tbl := lw_at lw_m1 150 rfl
theorem q173 : (Jvm.Cond.instanceMethod ({ cls := "StructureLearnerModel", name := "mask", desc := "(II)I" } : Jvm.MethodName)) ∈ lw_all := lw_g (lw_at lw_m1 151 rfl) rfl
theorem q174 : (Jvm.Cond.code ({ cls := "StructureLearnerModel", name := "mask", desc := "(II)I" } : Jvm.MethodName) prog_3_method_3_code (4 : Nat) (Option.some Jvm.ClassFile.FieldType.int)) ∈ lw_all := lw_g (lw_at lw_m1 152 rfl) rfl
theorem q175 : (Jvm.Cond.fieldLink "StructureLearnerModel" (7 : Nat) "StructureLearnerModel" "scores" "[I") ∈ lw_all := lw_g (lw_at lw_m1 153 rfl) rfl
theorem q176 : (Jvm.Cond.fieldLink "StructureLearnerModel" (20 : Nat) "StructureLearnerModel" "limit" "I") ∈ lw_all := lw_g (lw_at lw_m1 154 rfl) rfl
theorem q177 : (Jvm.Cond.fieldLink "StructureLearnerModel" (13 : Nat) "StructureLearnerModel" "says" "[I") ∈ lw_all := lw_g (lw_at lw_m1 155 rfl) rfl
theorem q178 : (Jvm.Cond.fieldLink "StructureLearnerModel" (16 : Nat) "StructureLearnerModel" "noCircle" "[Z") ∈ lw_all := lw_g (lw_at lw_m1 156 rfl) rfl
theorem q179 : (Jvm.Cond.fieldLink "StructureLearnerModel" (48 : Nat) "StructureLearnerModel" "known" "Z") ∈ lw_all := lw_g (lw_at lw_m1 157 rfl) rfl
theorem q180 : (Jvm.Cond.fieldLink "StructureLearnerModel" (67 : Nat) "StructureLearnerModel" "most" "I") ∈ lw_all := lw_g (lw_at lw_m1 158 rfl) rfl
theorem q181 : (Jvm.Cond.fieldLink "StructureLearnerModel" (70 : Nat) "StructureLearnerModel" "first" "I") ∈ lw_all := lw_g (lw_at lw_m1 159 rfl) rfl
theorem q182 : (Jvm.Cond.laysFinal "StructureLearnerModel" "StructureLearnerModel" "scores" "[I") ∈ lw_all := lw_g (lw_at lw_m1 160 rfl) rfl
theorem q183 : (Jvm.Cond.soleField "StructureLearnerModel" "scores") ∈ lw_all := lw_g (lw_at lw_m1 161 rfl) rfl
theorem q184 : (Jvm.Cond.lays "StructureLearnerModel" "StructureLearnerModel" "limit" "I") ∈ lw_all := lw_g (lw_at lw_m1 162 rfl) rfl
theorem q185 : (Jvm.Cond.soleField "StructureLearnerModel" "limit") ∈ lw_all := lw_g (lw_at lw_m1 163 rfl) rfl
theorem q186 : (Jvm.Cond.laysFinal "StructureLearnerModel" "StructureLearnerModel" "says" "[I") ∈ lw_all := lw_g (lw_at lw_m1 164 rfl) rfl
theorem q187 : (Jvm.Cond.soleField "StructureLearnerModel" "says") ∈ lw_all := lw_g (lw_at lw_m1 165 rfl) rfl
theorem q188 : (Jvm.Cond.laysFinal "StructureLearnerModel" "StructureLearnerModel" "noCircle" "[Z") ∈ lw_all := lw_g (lw_at lw_m1 166 rfl) rfl
theorem q189 : (Jvm.Cond.soleField "StructureLearnerModel" "noCircle") ∈ lw_all := lw_g (lw_at lw_m1 167 rfl) rfl
theorem q190 : (Jvm.Cond.lays "StructureLearnerModel" "StructureLearnerModel" "known" "Z") ∈ lw_all := lw_g (lw_at lw_m1 168 rfl) rfl
theorem q191 : (Jvm.Cond.soleField "StructureLearnerModel" "known") ∈ lw_all := lw_g (lw_at lw_m1 169 rfl) rfl
theorem q192 : (Jvm.Cond.lays "StructureLearnerModel" "StructureLearnerModel" "most" "I") ∈ lw_all := lw_g (lw_at lw_m1 170 rfl) rfl
theorem q193 : (Jvm.Cond.soleField "StructureLearnerModel" "most") ∈ lw_all := lw_g (lw_at lw_m1 171 rfl) rfl
theorem q194 : (Jvm.Cond.lays "StructureLearnerModel" "StructureLearnerModel" "first" "I") ∈ lw_all := lw_g (lw_at lw_m1 172 rfl) rfl
theorem q195 : (Jvm.Cond.soleField "StructureLearnerModel" "first") ∈ lw_all := lw_g (lw_at lw_m1 173 rfl) rfl
theorem q196 : (Jvm.Cond.superclass "StructureLearnerModel" "java/lang/Object") ∈ lw_all := lw_g (lw_at lw_m1 174 rfl) rfl
theorem q199 : (Jvm.Cond.instanceMethod ({ cls := "StructureLearnerModel", name := "score", desc := "(III)I" } : Jvm.MethodName)) ∈ lw_all := lw_g (lw_at lw_m1 177 rfl) rfl
theorem q200 : (Jvm.Cond.selects "StructureLearnerModel" ({ cls := "StructureLearnerModel", name := "score", desc := "(III)I" } : Jvm.MethodName) ({ cls := "StructureLearnerModel", name := "score", desc := "(III)I" } : Jvm.MethodName)) ∈ lw_all := lw_g (lw_at lw_m1 178 rfl) rfl
theorem q201 : (Jvm.Cond.code ({ cls := "StructureLearnerModel", name := "score", desc := "(III)I" } : Jvm.MethodName) prog_3_method_9_code (5 : Nat) (Option.some Jvm.ClassFile.FieldType.int)) ∈ lw_all := lw_g (lw_at lw_m1 179 rfl) rfl
theorem q202 : (Jvm.Cond.methodLink "StructureLearnerModel" (38 : Nat) ({ cls := "StructureLearnerModel", name := "bad", desc := "(I)Z" } : Jvm.MethodName)) ∈ lw_all := lw_g (lw_at lw_m1 180 rfl) rfl
theorem q203 : (Jvm.Cond.privateMethod ({ cls := "StructureLearnerModel", name := "bad", desc := "(I)Z" } : Jvm.MethodName)) ∈ lw_tbl := lw_at lw_m1 181 rfl
theorem q204 : (Jvm.Cond.instanceMethod ({ cls := "StructureLearnerModel", name := "bad", desc := "(I)Z" } : Jvm.MethodName)) ∈ lw_all := lw_g (lw_at lw_m1 182 rfl) rfl
theorem q205 : (Jvm.Cond.code ({ cls := "StructureLearnerModel", name := "bad", desc := "(I)Z" } : Jvm.MethodName) prog_3_method_2_code (2 : Nat) (Option.some Jvm.ClassFile.FieldType.boolean)) ∈ lw_all := lw_g (lw_at lw_m1 183 rfl) rfl
theorem q206 : (Jvm.Cond.methodLink "StructureLearnerModel" (41 : Nat) ({ cls := "StructureLearnerModel", name := "badMask", desc := "(II)Z" } : Jvm.MethodName)) ∈ lw_all := lw_g (lw_at lw_m1 184 rfl) rfl
theorem q207 : (Jvm.Cond.privateMethod ({ cls := "StructureLearnerModel", name := "badMask", desc := "(II)Z" } : Jvm.MethodName)) ∈ lw_tbl := lw_at lw_m1 185 rfl
theorem q208 : (Jvm.Cond.instanceMethod ({ cls := "StructureLearnerModel", name := "badMask", desc := "(II)Z" } : Jvm.MethodName)) ∈ lw_all := lw_g (lw_at lw_m1 186 rfl) rfl
theorem q209 : (Jvm.Cond.code ({ cls := "StructureLearnerModel", name := "badMask", desc := "(II)Z" } : Jvm.MethodName) prog_3_method_5_code (3 : Nat) (Option.some Jvm.ClassFile.FieldType.boolean)) ∈ lw_all := lw_g (lw_at lw_m1 187 rfl) rfl
theorem q210 : (Jvm.Cond.methodLink "StructureLearnerModel" (45 : Nat) ({ cls := "StructureLearnerModel", name := "digit", desc := "(II)I" } : Jvm.MethodName)) ∈ lw_all := lw_g (lw_at lw_m1 188 rfl) rfl
theorem q211 : (Jvm.Cond.privateMethod ({ cls := "StructureLearnerModel", name := "digit", desc := "(II)I" } : Jvm.MethodName)) ∈ lw_tbl := lw_at lw_m1 189 rfl
theorem q212 : (Jvm.Cond.instanceMethod ({ cls := "StructureLearnerModel", name := "digit", desc := "(II)I" } : Jvm.MethodName)) ∈ lw_all := lw_g (lw_at lw_m1 190 rfl) rfl
theorem q213 : (Jvm.Cond.code ({ cls := "StructureLearnerModel", name := "digit", desc := "(II)I" } : Jvm.MethodName) prog_3_method_4_code (4 : Nat) (Option.some Jvm.ClassFile.FieldType.int)) ∈ lw_all := lw_g (lw_at lw_m1 191 rfl) rfl
theorem q215 : (Jvm.Cond.instanceMethod ({ cls := "StructureLearnerModel", name := "limit", desc := "(I)I" } : Jvm.MethodName)) ∈ lw_all := lw_g (lw_at lw_m1 193 rfl) rfl
theorem q216 : (Jvm.Cond.selects "StructureLearnerModel" ({ cls := "StructureLearnerModel", name := "limit", desc := "(I)I" } : Jvm.MethodName) ({ cls := "StructureLearnerModel", name := "limit", desc := "(I)I" } : Jvm.MethodName)) ∈ lw_all := lw_g (lw_at lw_m1 194 rfl) rfl
theorem q217 : (Jvm.Cond.code ({ cls := "StructureLearnerModel", name := "limit", desc := "(I)I" } : Jvm.MethodName) prog_3_method_10_code (3 : Nat) (Option.some Jvm.ClassFile.FieldType.int)) ∈ lw_all := lw_g (lw_at lw_m1 195 rfl) rfl
theorem q219 : (Jvm.Cond.instanceMethod ({ cls := "StructureLearnerModel", name := "edge", desc := "(III)I" } : Jvm.MethodName)) ∈ lw_all := lw_g (lw_at lw_m1 197 rfl) rfl
theorem q220 : (Jvm.Cond.selects "StructureLearnerModel" ({ cls := "StructureLearnerModel", name := "edge", desc := "(III)I" } : Jvm.MethodName) ({ cls := "StructureLearnerModel", name := "edge", desc := "(III)I" } : Jvm.MethodName)) ∈ lw_all := lw_g (lw_at lw_m1 198 rfl) rfl
theorem q221 : (Jvm.Cond.code ({ cls := "StructureLearnerModel", name := "edge", desc := "(III)I" } : Jvm.MethodName) prog_3_method_11_code (5 : Nat) (Option.some Jvm.ClassFile.FieldType.int)) ∈ lw_all := lw_g (lw_at lw_m1 199 rfl) rfl
theorem q223 : (Jvm.Cond.instanceMethod ({ cls := "StructureLearnerModel", name := "learn", desc := "(J)I" } : Jvm.MethodName)) ∈ lw_all := lw_g (lw_at lw_m1 201 rfl) rfl
theorem q224 : (Jvm.Cond.selects "StructureLearnerModel" ({ cls := "StructureLearnerModel", name := "learn", desc := "(J)I" } : Jvm.MethodName) ({ cls := "StructureLearnerModel", name := "learn", desc := "(J)I" } : Jvm.MethodName)) ∈ lw_all := lw_g (lw_at lw_m1 202 rfl) rfl
theorem q225 : (Jvm.Cond.code ({ cls := "StructureLearnerModel", name := "learn", desc := "(J)I" } : Jvm.MethodName) prog_3_method_15_code (7 : Nat) (Option.some Jvm.ClassFile.FieldType.int)) ∈ lw_all := lw_g (lw_at lw_m1 203 rfl) rfl
theorem q226 : (Jvm.Cond.methodLink "StructureLearnerModel" (58 : Nat) ({ cls := "StructureLearnerModel", name := "bits", desc := "(I)I" } : Jvm.MethodName)) ∈ lw_all := lw_g (lw_at lw_m1 204 rfl) rfl
theorem q227 : (Jvm.Cond.privateMethod ({ cls := "StructureLearnerModel", name := "bits", desc := "(I)I" } : Jvm.MethodName)) ∈ lw_tbl := lw_at lw_m1 205 rfl
theorem q228 : (Jvm.Cond.instanceMethod ({ cls := "StructureLearnerModel", name := "bits", desc := "(I)I" } : Jvm.MethodName)) ∈ lw_all := lw_g (lw_at lw_m1 206 rfl) rfl
theorem q229 : (Jvm.Cond.code ({ cls := "StructureLearnerModel", name := "bits", desc := "(I)I" } : Jvm.MethodName) prog_3_method_12_code (2 : Nat) (Option.some Jvm.ClassFile.FieldType.int)) ∈ lw_all := lw_g (lw_at lw_m1 207 rfl) rfl
theorem q230 : (Jvm.Cond.methodLink "StructureLearnerModel" (62 : Nat) ({ cls := "StructureLearnerModel", name := "hits", desc := "(JII)I" } : Jvm.MethodName)) ∈ lw_all := lw_g (lw_at lw_m1 208 rfl) rfl
theorem q231 : (Jvm.Cond.privateMethod ({ cls := "StructureLearnerModel", name := "hits", desc := "(JII)I" } : Jvm.MethodName)) ∈ lw_tbl := lw_at lw_m1 209 rfl
theorem q232 : (Jvm.Cond.instanceMethod ({ cls := "StructureLearnerModel", name := "hits", desc := "(JII)I" } : Jvm.MethodName)) ∈ lw_all := lw_g (lw_at lw_m1 210 rfl) rfl
theorem q233 : (Jvm.Cond.code ({ cls := "StructureLearnerModel", name := "hits", desc := "(JII)I" } : Jvm.MethodName) prog_3_method_14_code (8 : Nat) (Option.some Jvm.ClassFile.FieldType.int)) ∈ lw_all := lw_g (lw_at lw_m1 211 rfl) rfl
theorem q234 : (Jvm.Cond.methodLink "StructureLearnerModel" (54 : Nat) ({ cls := "StructureLearnerModel", name := "greater", desc := "(JIII)I" } : Jvm.MethodName)) ∈ lw_all := lw_g (lw_at lw_m1 212 rfl) rfl
theorem q235 : (Jvm.Cond.privateMethod ({ cls := "StructureLearnerModel", name := "greater", desc := "(JIII)I" } : Jvm.MethodName)) ∈ lw_tbl := lw_at lw_m1 213 rfl
theorem q236 : (Jvm.Cond.instanceMethod ({ cls := "StructureLearnerModel", name := "greater", desc := "(JIII)I" } : Jvm.MethodName)) ∈ lw_all := lw_g (lw_at lw_m1 214 rfl) rfl
theorem q237 : (Jvm.Cond.code ({ cls := "StructureLearnerModel", name := "greater", desc := "(JIII)I" } : Jvm.MethodName) prog_3_method_13_code (10 : Nat) (Option.some Jvm.ClassFile.FieldType.int)) ∈ lw_all := lw_g (lw_at lw_m1 215 rfl) rfl
theorem q238 : (Jvm.Cond.constantLong "StructureLearnerModel" (52 : Nat) (15 : Int64)) ∈ lw_all := lw_g (lw_at lw_m1 216 rfl) rfl
theorem q240 : (Jvm.Cond.instanceMethod ({ cls := "StructureLearnerModel", name := "best", desc := "()I" } : Jvm.MethodName)) ∈ lw_all := lw_g (lw_at lw_m1 218 rfl) rfl
theorem q241 : (Jvm.Cond.selects "StructureLearnerModel" ({ cls := "StructureLearnerModel", name := "best", desc := "()I" } : Jvm.MethodName) ({ cls := "StructureLearnerModel", name := "best", desc := "()I" } : Jvm.MethodName)) ∈ lw_all := lw_g (lw_at lw_m1 219 rfl) rfl
theorem q242 : (Jvm.Cond.code ({ cls := "StructureLearnerModel", name := "best", desc := "()I" } : Jvm.MethodName) prog_3_method_19_code (1 : Nat) (Option.some Jvm.ClassFile.FieldType.int)) ∈ lw_all := lw_g (lw_at lw_m1 220 rfl) rfl
theorem q243 : (Jvm.Cond.methodLink "StructureLearnerModel" (79 : Nat) ({ cls := "StructureLearnerModel", name := "workOut", desc := "()V" } : Jvm.MethodName)) ∈ lw_all := lw_g (lw_at lw_m1 221 rfl) rfl
theorem q244 : (Jvm.Cond.privateMethod ({ cls := "StructureLearnerModel", name := "workOut", desc := "()V" } : Jvm.MethodName)) ∈ lw_tbl := lw_at lw_m1 222 rfl
theorem q245 : (Jvm.Cond.instanceMethod ({ cls := "StructureLearnerModel", name := "workOut", desc := "()V" } : Jvm.MethodName)) ∈ lw_all := lw_g (lw_at lw_m1 223 rfl) rfl
theorem q246 : (Jvm.Cond.code ({ cls := "StructureLearnerModel", name := "workOut", desc := "()V" } : Jvm.MethodName) prog_3_method_18_code (3 : Nat) (Option.none : Option Jvm.ClassFile.FieldType)) ∈ lw_all := lw_g (lw_at lw_m1 224 rfl) rfl
theorem q247 : (Jvm.Cond.constant "StructureLearnerModel" (66 : Nat) (-100000 : Int32)) ∈ lw_all := lw_g (lw_at lw_m1 225 rfl) rfl
theorem q248 : (Jvm.Cond.methodLink "StructureLearnerModel" (73 : Nat) ({ cls := "StructureLearnerModel", name := "allowed", desc := "(I)Z" } : Jvm.MethodName)) ∈ lw_all := lw_g (lw_at lw_m1 226 rfl) rfl
theorem q249 : (Jvm.Cond.privateMethod ({ cls := "StructureLearnerModel", name := "allowed", desc := "(I)Z" } : Jvm.MethodName)) ∈ lw_tbl := lw_at lw_m1 227 rfl
theorem q250 : (Jvm.Cond.instanceMethod ({ cls := "StructureLearnerModel", name := "allowed", desc := "(I)Z" } : Jvm.MethodName)) ∈ lw_all := lw_g (lw_at lw_m1 228 rfl) rfl
theorem q251 : (Jvm.Cond.code ({ cls := "StructureLearnerModel", name := "allowed", desc := "(I)Z" } : Jvm.MethodName) prog_3_method_16_code (6 : Nat) (Option.some Jvm.ClassFile.FieldType.boolean)) ∈ lw_all := lw_g (lw_at lw_m1 229 rfl) rfl
theorem q252 : (Jvm.Cond.methodLink "StructureLearnerModel" (76 : Nat) ({ cls := "StructureLearnerModel", name := "worth", desc := "(I)I" } : Jvm.MethodName)) ∈ lw_all := lw_g (lw_at lw_m1 230 rfl) rfl
theorem q253 : (Jvm.Cond.privateMethod ({ cls := "StructureLearnerModel", name := "worth", desc := "(I)I" } : Jvm.MethodName)) ∈ lw_tbl := lw_at lw_m1 231 rfl
theorem q254 : (Jvm.Cond.instanceMethod ({ cls := "StructureLearnerModel", name := "worth", desc := "(I)I" } : Jvm.MethodName)) ∈ lw_all := lw_g (lw_at lw_m1 232 rfl) rfl
theorem q255 : (Jvm.Cond.code ({ cls := "StructureLearnerModel", name := "worth", desc := "(I)I" } : Jvm.MethodName) prog_3_method_17_code (5 : Nat) (Option.some Jvm.ClassFile.FieldType.int)) ∈ lw_all := lw_g (lw_at lw_m1 233 rfl) rfl
theorem q257 : (Jvm.Cond.instanceMethod ({ cls := "StructureLearnerModel", name := "parents", desc := "(I)I" } : Jvm.MethodName)) ∈ lw_all := lw_g (lw_at lw_m1 235 rfl) rfl
theorem q258 : (Jvm.Cond.selects "StructureLearnerModel" ({ cls := "StructureLearnerModel", name := "parents", desc := "(I)I" } : Jvm.MethodName) ({ cls := "StructureLearnerModel", name := "parents", desc := "(I)I" } : Jvm.MethodName)) ∈ lw_all := lw_g (lw_at lw_m1 236 rfl) rfl
theorem q259 : (Jvm.Cond.code ({ cls := "StructureLearnerModel", name := "parents", desc := "(I)I" } : Jvm.MethodName) prog_3_method_20_code (2 : Nat) (Option.some Jvm.ClassFile.FieldType.int)) ∈ lw_all := lw_g (lw_at lw_m1 237 rfl) rfl
theorem q261 : (Jvm.Cond.instanceMethod ({ cls := "StructureLearnerModel", name := "bestWith", desc := "(II)I" } : Jvm.MethodName)) ∈ lw_all := lw_g (lw_at lw_m1 239 rfl) rfl
theorem q262 : (Jvm.Cond.selects "StructureLearnerModel" ({ cls := "StructureLearnerModel", name := "bestWith", desc := "(II)I" } : Jvm.MethodName) ({ cls := "StructureLearnerModel", name := "bestWith", desc := "(II)I" } : Jvm.MethodName)) ∈ lw_all := lw_g (lw_at lw_m2 0 rfl) rfl
theorem q263 : (Jvm.Cond.code ({ cls := "StructureLearnerModel", name := "bestWith", desc := "(II)I" } : Jvm.MethodName) prog_3_method_22_code (3 : Nat) (Option.some Jvm.ClassFile.FieldType.int)) ∈ lw_all := lw_g (lw_at lw_m2 1 rfl) rfl
theorem q264 : (Jvm.Cond.methodLink "StructureLearnerModel" (82 : Nat) ({ cls := "StructureLearnerModel", name := "bestBy", desc := "(III)I" } : Jvm.MethodName)) ∈ lw_all := lw_g (lw_at lw_m2 2 rfl) rfl
theorem q265 : (Jvm.Cond.privateMethod ({ cls := "StructureLearnerModel", name := "bestBy", desc := "(III)I" } : Jvm.MethodName)) ∈ lw_tbl := lw_at lw_m2 3 rfl
theorem q266 : (Jvm.Cond.instanceMethod ({ cls := "StructureLearnerModel", name := "bestBy", desc := "(III)I" } : Jvm.MethodName)) ∈ lw_all := lw_g (lw_at lw_m2 4 rfl) rfl
theorem q267 : (Jvm.Cond.code ({ cls := "StructureLearnerModel", name := "bestBy", desc := "(III)I" } : Jvm.MethodName) prog_3_method_21_code (8 : Nat) (Option.some Jvm.ClassFile.FieldType.int)) ∈ lw_all := lw_g (lw_at lw_m2 5 rfl) rfl
theorem q269 : (Jvm.Cond.instanceMethod ({ cls := "StructureLearnerModel", name := "bestWithout", desc := "(II)I" } : Jvm.MethodName)) ∈ lw_all := lw_g (lw_at lw_m2 7 rfl) rfl
theorem q270 : (Jvm.Cond.selects "StructureLearnerModel" ({ cls := "StructureLearnerModel", name := "bestWithout", desc := "(II)I" } : Jvm.MethodName) ({ cls := "StructureLearnerModel", name := "bestWithout", desc := "(II)I" } : Jvm.MethodName)) ∈ lw_all := lw_g (lw_at lw_m2 8 rfl) rfl
theorem q271 : (Jvm.Cond.code ({ cls := "StructureLearnerModel", name := "bestWithout", desc := "(II)I" } : Jvm.MethodName) prog_3_method_23_code (3 : Nat) (Option.some Jvm.ClassFile.FieldType.int)) ∈ lw_all := lw_g (lw_at lw_m2 9 rfl) rfl
theorem q273 : (Jvm.Cond.instanceMethod ({ cls := "StructureLearnerModel", name := "edges", desc := "()I" } : Jvm.MethodName)) ∈ lw_all := lw_g (lw_at lw_m2 11 rfl) rfl
theorem q274 : (Jvm.Cond.selects "StructureLearnerModel" ({ cls := "StructureLearnerModel", name := "edges", desc := "()I" } : Jvm.MethodName) ({ cls := "StructureLearnerModel", name := "edges", desc := "()I" } : Jvm.MethodName)) ∈ lw_all := lw_g (lw_at lw_m2 12 rfl) rfl
theorem q275 : (Jvm.Cond.code ({ cls := "StructureLearnerModel", name := "edges", desc := "()I" } : Jvm.MethodName) prog_3_method_24_code (5 : Nat) (Option.some Jvm.ClassFile.FieldType.int)) ∈ lw_all := lw_g (lw_at lw_m2 13 rfl) rfl
theorem q277 : (Jvm.Cond.instanceMethod ({ cls := "StructureLearnerModel", name := "orders", desc := "()I" } : Jvm.MethodName)) ∈ lw_all := lw_g (lw_at lw_m2 15 rfl) rfl
theorem q278 : (Jvm.Cond.selects "StructureLearnerModel" ({ cls := "StructureLearnerModel", name := "orders", desc := "()I" } : Jvm.MethodName) ({ cls := "StructureLearnerModel", name := "orders", desc := "()I" } : Jvm.MethodName)) ∈ lw_all := lw_g (lw_at lw_m2 16 rfl) rfl
theorem q279 : (Jvm.Cond.code ({ cls := "StructureLearnerModel", name := "orders", desc := "()I" } : Jvm.MethodName) prog_3_method_27_code (8 : Nat) (Option.some Jvm.ClassFile.FieldType.int)) ∈ lw_all := lw_g (lw_at lw_m2 17 rfl) rfl
theorem q280 : (Jvm.Cond.methodLink "StructureLearnerModel" (90 : Nat) ({ cls := "StructureLearnerModel", name := "someFollows", desc := "(IIII)Z" } : Jvm.MethodName)) ∈ lw_all := lw_g (lw_at lw_m2 18 rfl) rfl
theorem q281 : (Jvm.Cond.privateMethod ({ cls := "StructureLearnerModel", name := "someFollows", desc := "(IIII)Z" } : Jvm.MethodName)) ∈ lw_tbl := lw_at lw_m2 19 rfl
theorem q282 : (Jvm.Cond.instanceMethod ({ cls := "StructureLearnerModel", name := "someFollows", desc := "(IIII)Z" } : Jvm.MethodName)) ∈ lw_all := lw_g (lw_at lw_m2 20 rfl) rfl
theorem q283 : (Jvm.Cond.code ({ cls := "StructureLearnerModel", name := "someFollows", desc := "(IIII)Z" } : Jvm.MethodName) prog_3_method_26_code (6 : Nat) (Option.some Jvm.ClassFile.FieldType.boolean)) ∈ lw_all := lw_g (lw_at lw_m2 21 rfl) rfl
theorem q284 : (Jvm.Cond.methodLink "StructureLearnerModel" (86 : Nat) ({ cls := "StructureLearnerModel", name := "follows", desc := "(IIIII)Z" } : Jvm.MethodName)) ∈ lw_all := lw_g (lw_at lw_m2 22 rfl) rfl
theorem q285 : (Jvm.Cond.privateMethod ({ cls := "StructureLearnerModel", name := "follows", desc := "(IIIII)Z" } : Jvm.MethodName)) ∈ lw_tbl := lw_at lw_m2 23 rfl
theorem q286 : (Jvm.Cond.instanceMethod ({ cls := "StructureLearnerModel", name := "follows", desc := "(IIIII)Z" } : Jvm.MethodName)) ∈ lw_all := lw_g (lw_at lw_m2 24 rfl) rfl
theorem q287 : (Jvm.Cond.code ({ cls := "StructureLearnerModel", name := "follows", desc := "(IIIII)Z" } : Jvm.MethodName) prog_3_method_25_code (9 : Nat) (Option.some Jvm.ClassFile.FieldType.boolean)) ∈ lw_all := lw_g (lw_at lw_m2 25 rfl) rfl
theorem q289 : (Jvm.Cond.instanceMethod ({ cls := "StructureLearnerModel", name := "scoreOf", desc := "(II)I" } : Jvm.MethodName)) ∈ lw_all := lw_g (lw_at lw_m2 27 rfl) rfl
theorem q290 : (Jvm.Cond.selects "StructureLearnerModel" ({ cls := "StructureLearnerModel", name := "scoreOf", desc := "(II)I" } : Jvm.MethodName) ({ cls := "StructureLearnerModel", name := "scoreOf", desc := "(II)I" } : Jvm.MethodName)) ∈ lw_all := lw_g (lw_at lw_m2 28 rfl) rfl
theorem q291 : (Jvm.Cond.code ({ cls := "StructureLearnerModel", name := "scoreOf", desc := "(II)I" } : Jvm.MethodName) prog_3_method_28_code (4 : Nat) (Option.some Jvm.ClassFile.FieldType.int)) ∈ lw_all := lw_g (lw_at lw_m2 29 rfl) rfl
theorem in_X1 : ∀ w ∈ wsX10, w ∈ lw_all := lw_in wsX10 [182, 184, 186, 188, 190, 192, 194] (by decide +kernel) (by decide +kernel)
end
section
set_option maxRecDepth 100000
theorem dX1_init_0 : decode cX1_init 0 = .ok (.aload_n 0, 1) := by decide +kernel
theorem dX1_init_1 : decode cX1_init 1 = .ok (.invokespecial 1, 3) := by decide +kernel
theorem dX1_init_4 : decode cX1_init 4 = .ok (.aload_n 0, 1) := by decide +kernel
theorem dX1_init_5 : decode cX1_init 5 = .ok (.bipush 32, 2) := by decide +kernel
theorem dX1_init_7 : decode cX1_init 7 = .ok (.newarray .int, 2) := by decide +kernel
theorem dX1_init_9 : decode cX1_init 9 = .ok (.putfield 7, 3) := by decide +kernel
theorem dX1_init_12 : decode cX1_init 12 = .ok (.aload_n 0, 1) := by decide +kernel
theorem dX1_init_13 : decode cX1_init 13 = .ok (.bipush 16, 2) := by decide +kernel
theorem dX1_init_15 : decode cX1_init 15 = .ok (.newarray .int, 2) := by decide +kernel
theorem dX1_init_17 : decode cX1_init 17 = .ok (.putfield 13, 3) := by decide +kernel
theorem dX1_init_20 : decode cX1_init 20 = .ok (.aload_n 0, 1) := by decide +kernel
theorem dX1_init_21 : decode cX1_init 21 = .ok (.sipush 4096, 3) := by decide +kernel
theorem dX1_init_24 : decode cX1_init 24 = .ok (.newarray .boolean, 2) := by decide +kernel
theorem dX1_init_26 : decode cX1_init 26 = .ok (.putfield 16, 3) := by decide +kernel
theorem dX1_init_29 : decode cX1_init 29 = .ok (.aload_n 0, 1) := by decide +kernel
theorem dX1_init_30 : decode cX1_init 30 = .ok (.iconst 3, 1) := by decide +kernel
theorem dX1_init_31 : decode cX1_init 31 = .ok (.putfield 20, 3) := by decide +kernel
theorem dX1_init_34 : decode cX1_init 34 = .ok (.iconst 0, 1) := by decide +kernel
theorem dX1_init_35 : decode cX1_init 35 = .ok (.istore_n 1, 1) := by decide +kernel
theorem dX1_init_36 : decode cX1_init 36 = .ok (.iload_n 1, 1) := by decide +kernel
theorem dX1_init_37 : decode cX1_init 37 = .ok (.sipush 4096, 3) := by decide +kernel
theorem dX1_init_40 : decode cX1_init 40 = .ok (.if_icmp .ge 28, 3) := by decide +kernel
theorem dX1_init_43 : decode cX1_init 43 = .ok (.aload_n 0, 1) := by decide +kernel
theorem dX1_init_44 : decode cX1_init 44 = .ok (.getfield 16, 3) := by decide +kernel
theorem dX1_init_47 : decode cX1_init 47 = .ok (.iload_n 1, 1) := by decide +kernel
theorem dX1_init_48 : decode cX1_init 48 = .ok (.aload_n 0, 1) := by decide +kernel
theorem dX1_init_49 : decode cX1_init 49 = .ok (.iload_n 1, 1) := by decide +kernel
theorem dX1_init_50 : decode cX1_init 50 = .ok (.invokevirtual 24, 3) := by decide +kernel
theorem dX1_init_53 : decode cX1_init 53 = .ok (.ifCond .ne 7, 3) := by decide +kernel
theorem dX1_init_56 : decode cX1_init 56 = .ok (.iconst 1, 1) := by decide +kernel
theorem dX1_init_57 : decode cX1_init 57 = .ok (.goto 4, 3) := by decide +kernel
theorem dX1_init_60 : decode cX1_init 60 = .ok (.iconst 0, 1) := by decide +kernel
theorem dX1_init_61 : decode cX1_init 61 = .ok (.bastore, 1) := by decide +kernel
theorem dX1_init_62 : decode cX1_init 62 = .ok (.iinc 1 1, 3) := by decide +kernel
theorem dX1_init_65 : decode cX1_init 65 = .ok (.goto (-29), 3) := by decide +kernel
theorem dX1_init_68 : decode cX1_init 68 = .ok (.return_, 1) := by decide +kernel
theorem dX1_hasCircle_0 : decode cX1_hasCircle 0 = .ok (.iconst 0, 1) := by decide +kernel
theorem dX1_hasCircle_1 : decode cX1_hasCircle 1 = .ok (.istore_n 2, 1) := by decide +kernel
theorem dX1_hasCircle_2 : decode cX1_hasCircle 2 = .ok (.iconst 0, 1) := by decide +kernel
theorem dX1_hasCircle_3 : decode cX1_hasCircle 3 = .ok (.istore_n 3, 1) := by decide +kernel
theorem dX1_hasCircle_4 : decode cX1_hasCircle 4 = .ok (.iload_n 3, 1) := by decide +kernel
theorem dX1_hasCircle_5 : decode cX1_hasCircle 5 = .ok (.iconst 4, 1) := by decide +kernel
theorem dX1_hasCircle_6 : decode cX1_hasCircle 6 = .ok (.if_icmp .ge 49, 3) := by decide +kernel
theorem dX1_hasCircle_9 : decode cX1_hasCircle 9 = .ok (.iconst 0, 1) := by decide +kernel
theorem dX1_hasCircle_10 : decode cX1_hasCircle 10 = .ok (.istore 4, 2) := by decide +kernel
theorem dX1_hasCircle_12 : decode cX1_hasCircle 12 = .ok (.iload 4, 2) := by decide +kernel
theorem dX1_hasCircle_14 : decode cX1_hasCircle 14 = .ok (.iconst 4, 1) := by decide +kernel
theorem dX1_hasCircle_15 : decode cX1_hasCircle 15 = .ok (.if_icmp .ge 34, 3) := by decide +kernel
theorem dX1_hasCircle_18 : decode cX1_hasCircle 18 = .ok (.aload_n 0, 1) := by decide +kernel
theorem dX1_hasCircle_19 : decode cX1_hasCircle 19 = .ok (.iload_n 1, 1) := by decide +kernel
theorem dX1_hasCircle_20 : decode cX1_hasCircle 20 = .ok (.iload 4, 2) := by decide +kernel
theorem dX1_hasCircle_22 : decode cX1_hasCircle 22 = .ok (.invokevirtual 35, 3) := by decide +kernel
theorem dX1_hasCircle_25 : decode cX1_hasCircle 25 = .ok (.istore 5, 2) := by decide +kernel
theorem dX1_hasCircle_27 : decode cX1_hasCircle 27 = .ok (.iload 5, 2) := by decide +kernel
theorem dX1_hasCircle_29 : decode cX1_hasCircle 29 = .ok (.iload_n 2, 1) := by decide +kernel
theorem dX1_hasCircle_30 : decode cX1_hasCircle 30 = .ok (.iconst (-1), 1) := by decide +kernel
theorem dX1_hasCircle_31 : decode cX1_hasCircle 31 = .ok (.ixor, 1) := by decide +kernel
theorem dX1_hasCircle_32 : decode cX1_hasCircle 32 = .ok (.iand, 1) := by decide +kernel
theorem dX1_hasCircle_33 : decode cX1_hasCircle 33 = .ok (.ifCond .ne 10, 3) := by decide +kernel
theorem dX1_hasCircle_36 : decode cX1_hasCircle 36 = .ok (.iload_n 2, 1) := by decide +kernel
theorem dX1_hasCircle_37 : decode cX1_hasCircle 37 = .ok (.iconst 1, 1) := by decide +kernel
theorem dX1_hasCircle_38 : decode cX1_hasCircle 38 = .ok (.iload 4, 2) := by decide +kernel
theorem dX1_hasCircle_40 : decode cX1_hasCircle 40 = .ok (.ishl, 1) := by decide +kernel
theorem dX1_hasCircle_41 : decode cX1_hasCircle 41 = .ok (.ior, 1) := by decide +kernel
theorem dX1_hasCircle_42 : decode cX1_hasCircle 42 = .ok (.istore_n 2, 1) := by decide +kernel
theorem dX1_hasCircle_43 : decode cX1_hasCircle 43 = .ok (.iinc 4 1, 3) := by decide +kernel
theorem dX1_hasCircle_46 : decode cX1_hasCircle 46 = .ok (.goto (-34), 3) := by decide +kernel
theorem dX1_hasCircle_49 : decode cX1_hasCircle 49 = .ok (.iinc 3 1, 3) := by decide +kernel
theorem dX1_hasCircle_52 : decode cX1_hasCircle 52 = .ok (.goto (-48), 3) := by decide +kernel
theorem dX1_hasCircle_55 : decode cX1_hasCircle 55 = .ok (.iload_n 2, 1) := by decide +kernel
theorem dX1_hasCircle_56 : decode cX1_hasCircle 56 = .ok (.bipush 15, 2) := by decide +kernel
theorem dX1_hasCircle_58 : decode cX1_hasCircle 58 = .ok (.if_icmp .eq 7, 3) := by decide +kernel
theorem dX1_hasCircle_61 : decode cX1_hasCircle 61 = .ok (.iconst 1, 1) := by decide +kernel
theorem dX1_hasCircle_62 : decode cX1_hasCircle 62 = .ok (.goto 4, 3) := by decide +kernel
theorem dX1_hasCircle_65 : decode cX1_hasCircle 65 = .ok (.iconst 0, 1) := by decide +kernel
theorem dX1_hasCircle_66 : decode cX1_hasCircle 66 = .ok (.ireturn, 1) := by decide +kernel
theorem dX1_parentsOf_0 : decode cX1_parentsOf 0 = .ok (.aload_n 0, 1) := by decide +kernel
theorem dX1_parentsOf_1 : decode cX1_parentsOf 1 = .ok (.iload_n 1, 1) := by decide +kernel
theorem dX1_parentsOf_2 : decode cX1_parentsOf 2 = .ok (.iload_n 2, 1) := by decide +kernel
theorem dX1_parentsOf_3 : decode cX1_parentsOf 3 = .ok (.invokevirtual 28, 3) := by decide +kernel
theorem dX1_parentsOf_6 : decode cX1_parentsOf 6 = .ok (.istore_n 3, 1) := by decide +kernel
theorem dX1_parentsOf_7 : decode cX1_parentsOf 7 = .ok (.aload_n 0, 1) := by decide +kernel
theorem dX1_parentsOf_8 : decode cX1_parentsOf 8 = .ok (.iload_n 2, 1) := by decide +kernel
theorem dX1_parentsOf_9 : decode cX1_parentsOf 9 = .ok (.iload_n 3, 1) := by decide +kernel
theorem dX1_parentsOf_10 : decode cX1_parentsOf 10 = .ok (.invokevirtual 32, 3) := by decide +kernel
theorem dX1_parentsOf_13 : decode cX1_parentsOf 13 = .ok (.ireturn, 1) := by decide +kernel
theorem dX1_digitOf_0 : decode cX1_digitOf 0 = .ok (.iload_n 1, 1) := by decide +kernel
theorem dX1_digitOf_1 : decode cX1_digitOf 1 = .ok (.iconst 3, 1) := by decide +kernel
theorem dX1_digitOf_2 : decode cX1_digitOf 2 = .ok (.iconst 3, 1) := by decide +kernel
theorem dX1_digitOf_3 : decode cX1_digitOf 3 = .ok (.iload_n 2, 1) := by decide +kernel
theorem dX1_digitOf_4 : decode cX1_digitOf 4 = .ok (.isub, 1) := by decide +kernel
theorem dX1_digitOf_5 : decode cX1_digitOf 5 = .ok (.imul, 1) := by decide +kernel
theorem dX1_digitOf_6 : decode cX1_digitOf 6 = .ok (.ishr, 1) := by decide +kernel
theorem dX1_digitOf_7 : decode cX1_digitOf 7 = .ok (.bipush 7, 2) := by decide +kernel
theorem dX1_digitOf_9 : decode cX1_digitOf 9 = .ok (.iand, 1) := by decide +kernel
theorem dX1_digitOf_10 : decode cX1_digitOf 10 = .ok (.ireturn, 1) := by decide +kernel
theorem dX1_mask_0 : decode cX1_mask 0 = .ok (.iload_n 2, 1) := by decide +kernel
theorem dX1_mask_1 : decode cX1_mask 1 = .ok (.iconst 1, 1) := by decide +kernel
theorem dX1_mask_2 : decode cX1_mask 2 = .ok (.iload_n 1, 1) := by decide +kernel
theorem dX1_mask_3 : decode cX1_mask 3 = .ok (.ishl, 1) := by decide +kernel
theorem dX1_mask_4 : decode cX1_mask 4 = .ok (.iconst 1, 1) := by decide +kernel
theorem dX1_mask_5 : decode cX1_mask 5 = .ok (.isub, 1) := by decide +kernel
theorem dX1_mask_6 : decode cX1_mask 6 = .ok (.iand, 1) := by decide +kernel
theorem dX1_mask_7 : decode cX1_mask 7 = .ok (.istore_n 3, 1) := by decide +kernel
theorem dX1_mask_8 : decode cX1_mask 8 = .ok (.iload_n 3, 1) := by decide +kernel
theorem dX1_mask_9 : decode cX1_mask 9 = .ok (.iload_n 2, 1) := by decide +kernel
theorem dX1_mask_10 : decode cX1_mask 10 = .ok (.iload_n 1, 1) := by decide +kernel
theorem dX1_mask_11 : decode cX1_mask 11 = .ok (.ishr, 1) := by decide +kernel
theorem dX1_mask_12 : decode cX1_mask 12 = .ok (.iload_n 1, 1) := by decide +kernel
theorem dX1_mask_13 : decode cX1_mask 13 = .ok (.iconst 1, 1) := by decide +kernel
theorem dX1_mask_14 : decode cX1_mask 14 = .ok (.iadd, 1) := by decide +kernel
theorem dX1_mask_15 : decode cX1_mask 15 = .ok (.ishl, 1) := by decide +kernel
theorem dX1_mask_16 : decode cX1_mask 16 = .ok (.ior, 1) := by decide +kernel
theorem dX1_mask_17 : decode cX1_mask 17 = .ok (.ireturn, 1) := by decide +kernel
theorem dX1_score_0 : decode cX1_score 0 = .ok (.aload_n 0, 1) := by decide +kernel
theorem dX1_score_1 : decode cX1_score 1 = .ok (.iload_n 1, 1) := by decide +kernel
theorem dX1_score_2 : decode cX1_score 2 = .ok (.invokevirtual 38, 3) := by decide +kernel
theorem dX1_score_5 : decode cX1_score 5 = .ok (.ifCond .eq 5, 3) := by decide +kernel
theorem dX1_score_8 : decode cX1_score 8 = .ok (.iconst (-1), 1) := by decide +kernel
theorem dX1_score_9 : decode cX1_score 9 = .ok (.ireturn, 1) := by decide +kernel
theorem dX1_score_10 : decode cX1_score 10 = .ok (.aload_n 0, 1) := by decide +kernel
theorem dX1_score_11 : decode cX1_score 11 = .ok (.iload_n 1, 1) := by decide +kernel
theorem dX1_score_12 : decode cX1_score 12 = .ok (.iload_n 2, 1) := by decide +kernel
theorem dX1_score_13 : decode cX1_score 13 = .ok (.invokevirtual 41, 3) := by decide +kernel
theorem dX1_score_16 : decode cX1_score 16 = .ok (.ifCond .eq 6, 3) := by decide +kernel
theorem dX1_score_19 : decode cX1_score 19 = .ok (.bipush (-2), 2) := by decide +kernel
theorem dX1_score_21 : decode cX1_score 21 = .ok (.ireturn, 1) := by decide +kernel
theorem dX1_score_22 : decode cX1_score 22 = .ok (.iload_n 3, 1) := by decide +kernel
theorem dX1_score_23 : decode cX1_score 23 = .ok (.sipush (-1000), 3) := by decide +kernel
theorem dX1_score_26 : decode cX1_score 26 = .ok (.if_icmp .lt 10, 3) := by decide +kernel
theorem dX1_score_29 : decode cX1_score 29 = .ok (.iload_n 3, 1) := by decide +kernel
theorem dX1_score_30 : decode cX1_score 30 = .ok (.sipush 1000, 3) := by decide +kernel
theorem dX1_score_33 : decode cX1_score 33 = .ok (.if_icmp .le 6, 3) := by decide +kernel
theorem dX1_score_36 : decode cX1_score 36 = .ok (.bipush (-3), 2) := by decide +kernel
theorem dX1_score_38 : decode cX1_score 38 = .ok (.ireturn, 1) := by decide +kernel
theorem dX1_score_39 : decode cX1_score 39 = .ok (.aload_n 0, 1) := by decide +kernel
theorem dX1_score_40 : decode cX1_score 40 = .ok (.iload_n 1, 1) := by decide +kernel
theorem dX1_score_41 : decode cX1_score 41 = .ok (.iload_n 2, 1) := by decide +kernel
theorem dX1_score_42 : decode cX1_score 42 = .ok (.invokevirtual 45, 3) := by decide +kernel
theorem dX1_score_45 : decode cX1_score 45 = .ok (.istore 4, 2) := by decide +kernel
theorem dX1_score_47 : decode cX1_score 47 = .ok (.aload_n 0, 1) := by decide +kernel
theorem dX1_score_48 : decode cX1_score 48 = .ok (.getfield 7, 3) := by decide +kernel
theorem dX1_score_51 : decode cX1_score 51 = .ok (.iload_n 1, 1) := by decide +kernel
theorem dX1_score_52 : decode cX1_score 52 = .ok (.bipush 8, 2) := by decide +kernel
theorem dX1_score_54 : decode cX1_score 54 = .ok (.imul, 1) := by decide +kernel
theorem dX1_score_55 : decode cX1_score 55 = .ok (.iload 4, 2) := by decide +kernel
theorem dX1_score_57 : decode cX1_score 57 = .ok (.iadd, 1) := by decide +kernel
theorem dX1_score_58 : decode cX1_score 58 = .ok (.iload_n 3, 1) := by decide +kernel
theorem dX1_score_59 : decode cX1_score 59 = .ok (.iastore, 1) := by decide +kernel
theorem dX1_score_60 : decode cX1_score 60 = .ok (.aload_n 0, 1) := by decide +kernel
theorem dX1_score_61 : decode cX1_score 61 = .ok (.iconst 0, 1) := by decide +kernel
theorem dX1_score_62 : decode cX1_score 62 = .ok (.putfield 48, 3) := by decide +kernel
theorem dX1_score_65 : decode cX1_score 65 = .ok (.iconst 0, 1) := by decide +kernel
theorem dX1_score_66 : decode cX1_score 66 = .ok (.ireturn, 1) := by decide +kernel
theorem dX1_bad_0 : decode cX1_bad 0 = .ok (.iload_n 1, 1) := by decide +kernel
theorem dX1_bad_1 : decode cX1_bad 1 = .ok (.ifCond .lt 8, 3) := by decide +kernel
theorem dX1_bad_4 : decode cX1_bad 4 = .ok (.iload_n 1, 1) := by decide +kernel
theorem dX1_bad_5 : decode cX1_bad 5 = .ok (.iconst 3, 1) := by decide +kernel
theorem dX1_bad_6 : decode cX1_bad 6 = .ok (.if_icmp .le 7, 3) := by decide +kernel
theorem dX1_bad_9 : decode cX1_bad 9 = .ok (.iconst 1, 1) := by decide +kernel
theorem dX1_bad_10 : decode cX1_bad 10 = .ok (.goto 4, 3) := by decide +kernel
theorem dX1_bad_13 : decode cX1_bad 13 = .ok (.iconst 0, 1) := by decide +kernel
theorem dX1_bad_14 : decode cX1_bad 14 = .ok (.ireturn, 1) := by decide +kernel
theorem dX1_badMask_0 : decode cX1_badMask 0 = .ok (.iload_n 2, 1) := by decide +kernel
theorem dX1_badMask_1 : decode cX1_badMask 1 = .ok (.ifCond .lt 18, 3) := by decide +kernel
theorem dX1_badMask_4 : decode cX1_badMask 4 = .ok (.iload_n 2, 1) := by decide +kernel
theorem dX1_badMask_5 : decode cX1_badMask 5 = .ok (.bipush 15, 2) := by decide +kernel
theorem dX1_badMask_7 : decode cX1_badMask 7 = .ok (.if_icmp .gt 12, 3) := by decide +kernel
theorem dX1_badMask_10 : decode cX1_badMask 10 = .ok (.iload_n 2, 1) := by decide +kernel
theorem dX1_badMask_11 : decode cX1_badMask 11 = .ok (.iload_n 1, 1) := by decide +kernel
theorem dX1_badMask_12 : decode cX1_badMask 12 = .ok (.ishr, 1) := by decide +kernel
theorem dX1_badMask_13 : decode cX1_badMask 13 = .ok (.iconst 1, 1) := by decide +kernel
theorem dX1_badMask_14 : decode cX1_badMask 14 = .ok (.iand, 1) := by decide +kernel
theorem dX1_badMask_15 : decode cX1_badMask 15 = .ok (.iconst 1, 1) := by decide +kernel
theorem dX1_badMask_16 : decode cX1_badMask 16 = .ok (.if_icmp .ne 7, 3) := by decide +kernel
theorem dX1_badMask_19 : decode cX1_badMask 19 = .ok (.iconst 1, 1) := by decide +kernel
theorem dX1_badMask_20 : decode cX1_badMask 20 = .ok (.goto 4, 3) := by decide +kernel
theorem dX1_badMask_23 : decode cX1_badMask 23 = .ok (.iconst 0, 1) := by decide +kernel
theorem dX1_badMask_24 : decode cX1_badMask 24 = .ok (.ireturn, 1) := by decide +kernel
theorem dX1_digit_0 : decode cX1_digit 0 = .ok (.iload_n 2, 1) := by decide +kernel
theorem dX1_digit_1 : decode cX1_digit 1 = .ok (.iconst 1, 1) := by decide +kernel
theorem dX1_digit_2 : decode cX1_digit 2 = .ok (.iload_n 1, 1) := by decide +kernel
theorem dX1_digit_3 : decode cX1_digit 3 = .ok (.ishl, 1) := by decide +kernel
theorem dX1_digit_4 : decode cX1_digit 4 = .ok (.iconst 1, 1) := by decide +kernel
theorem dX1_digit_5 : decode cX1_digit 5 = .ok (.isub, 1) := by decide +kernel
theorem dX1_digit_6 : decode cX1_digit 6 = .ok (.iand, 1) := by decide +kernel
theorem dX1_digit_7 : decode cX1_digit 7 = .ok (.istore_n 3, 1) := by decide +kernel
theorem dX1_digit_8 : decode cX1_digit 8 = .ok (.iload_n 3, 1) := by decide +kernel
theorem dX1_digit_9 : decode cX1_digit 9 = .ok (.iload_n 2, 1) := by decide +kernel
theorem dX1_digit_10 : decode cX1_digit 10 = .ok (.iload_n 1, 1) := by decide +kernel
theorem dX1_digit_11 : decode cX1_digit 11 = .ok (.iconst 1, 1) := by decide +kernel
theorem dX1_digit_12 : decode cX1_digit 12 = .ok (.iadd, 1) := by decide +kernel
theorem dX1_digit_13 : decode cX1_digit 13 = .ok (.ishr, 1) := by decide +kernel
theorem dX1_digit_14 : decode cX1_digit 14 = .ok (.iload_n 1, 1) := by decide +kernel
theorem dX1_digit_15 : decode cX1_digit 15 = .ok (.ishl, 1) := by decide +kernel
theorem dX1_digit_16 : decode cX1_digit 16 = .ok (.ior, 1) := by decide +kernel
theorem dX1_digit_17 : decode cX1_digit 17 = .ok (.ireturn, 1) := by decide +kernel
theorem dX1_limit_0 : decode cX1_limit 0 = .ok (.iload_n 1, 1) := by decide +kernel
theorem dX1_limit_1 : decode cX1_limit 1 = .ok (.ifCond .lt 8, 3) := by decide +kernel
theorem dX1_limit_4 : decode cX1_limit 4 = .ok (.iload_n 1, 1) := by decide +kernel
theorem dX1_limit_5 : decode cX1_limit 5 = .ok (.iconst 3, 1) := by decide +kernel
theorem dX1_limit_6 : decode cX1_limit 6 = .ok (.if_icmp .le 6, 3) := by decide +kernel
theorem dX1_limit_9 : decode cX1_limit 9 = .ok (.bipush (-4), 2) := by decide +kernel
theorem dX1_limit_11 : decode cX1_limit 11 = .ok (.ireturn, 1) := by decide +kernel
theorem dX1_limit_12 : decode cX1_limit 12 = .ok (.aload_n 0, 1) := by decide +kernel
theorem dX1_limit_13 : decode cX1_limit 13 = .ok (.getfield 20, 3) := by decide +kernel
theorem dX1_limit_16 : decode cX1_limit 16 = .ok (.istore_n 2, 1) := by decide +kernel
theorem dX1_limit_17 : decode cX1_limit 17 = .ok (.aload_n 0, 1) := by decide +kernel
theorem dX1_limit_18 : decode cX1_limit 18 = .ok (.iload_n 1, 1) := by decide +kernel
theorem dX1_limit_19 : decode cX1_limit 19 = .ok (.putfield 20, 3) := by decide +kernel
theorem dX1_limit_22 : decode cX1_limit 22 = .ok (.aload_n 0, 1) := by decide +kernel
theorem dX1_limit_23 : decode cX1_limit 23 = .ok (.iconst 0, 1) := by decide +kernel
theorem dX1_limit_24 : decode cX1_limit 24 = .ok (.putfield 48, 3) := by decide +kernel
theorem dX1_limit_27 : decode cX1_limit 27 = .ok (.iload_n 2, 1) := by decide +kernel
theorem dX1_limit_28 : decode cX1_limit 28 = .ok (.ireturn, 1) := by decide +kernel
theorem dX1_edge_0 : decode cX1_edge 0 = .ok (.aload_n 0, 1) := by decide +kernel
theorem dX1_edge_1 : decode cX1_edge 1 = .ok (.iload_n 1, 1) := by decide +kernel
theorem dX1_edge_2 : decode cX1_edge 2 = .ok (.invokevirtual 38, 3) := by decide +kernel
theorem dX1_edge_5 : decode cX1_edge 5 = .ok (.ifCond .ne 16, 3) := by decide +kernel
theorem dX1_edge_8 : decode cX1_edge 8 = .ok (.aload_n 0, 1) := by decide +kernel
theorem dX1_edge_9 : decode cX1_edge 9 = .ok (.iload_n 2, 1) := by decide +kernel
theorem dX1_edge_10 : decode cX1_edge 10 = .ok (.invokevirtual 38, 3) := by decide +kernel
theorem dX1_edge_13 : decode cX1_edge 13 = .ok (.ifCond .ne 8, 3) := by decide +kernel
theorem dX1_edge_16 : decode cX1_edge 16 = .ok (.iload_n 1, 1) := by decide +kernel
theorem dX1_edge_17 : decode cX1_edge 17 = .ok (.iload_n 2, 1) := by decide +kernel
theorem dX1_edge_18 : decode cX1_edge 18 = .ok (.if_icmp .ne 5, 3) := by decide +kernel
theorem dX1_edge_21 : decode cX1_edge 21 = .ok (.iconst (-1), 1) := by decide +kernel
theorem dX1_edge_22 : decode cX1_edge 22 = .ok (.ireturn, 1) := by decide +kernel
theorem dX1_edge_23 : decode cX1_edge 23 = .ok (.aload_n 0, 1) := by decide +kernel
theorem dX1_edge_24 : decode cX1_edge 24 = .ok (.getfield 13, 3) := by decide +kernel
theorem dX1_edge_27 : decode cX1_edge 27 = .ok (.iload_n 1, 1) := by decide +kernel
theorem dX1_edge_28 : decode cX1_edge 28 = .ok (.iconst 4, 1) := by decide +kernel
theorem dX1_edge_29 : decode cX1_edge 29 = .ok (.imul, 1) := by decide +kernel
theorem dX1_edge_30 : decode cX1_edge 30 = .ok (.iload_n 2, 1) := by decide +kernel
theorem dX1_edge_31 : decode cX1_edge 31 = .ok (.iadd, 1) := by decide +kernel
theorem dX1_edge_32 : decode cX1_edge 32 = .ok (.iaload, 1) := by decide +kernel
theorem dX1_edge_33 : decode cX1_edge 33 = .ok (.istore 4, 2) := by decide +kernel
theorem dX1_edge_35 : decode cX1_edge 35 = .ok (.aload_n 0, 1) := by decide +kernel
theorem dX1_edge_36 : decode cX1_edge 36 = .ok (.getfield 13, 3) := by decide +kernel
theorem dX1_edge_39 : decode cX1_edge 39 = .ok (.iload_n 1, 1) := by decide +kernel
theorem dX1_edge_40 : decode cX1_edge 40 = .ok (.iconst 4, 1) := by decide +kernel
theorem dX1_edge_41 : decode cX1_edge 41 = .ok (.imul, 1) := by decide +kernel
theorem dX1_edge_42 : decode cX1_edge 42 = .ok (.iload_n 2, 1) := by decide +kernel
theorem dX1_edge_43 : decode cX1_edge 43 = .ok (.iadd, 1) := by decide +kernel
theorem dX1_edge_44 : decode cX1_edge 44 = .ok (.iload_n 3, 1) := by decide +kernel
theorem dX1_edge_45 : decode cX1_edge 45 = .ok (.iconst 3, 1) := by decide +kernel
theorem dX1_edge_46 : decode cX1_edge 46 = .ok (.iand, 1) := by decide +kernel
theorem dX1_edge_47 : decode cX1_edge 47 = .ok (.iconst 3, 1) := by decide +kernel
theorem dX1_edge_48 : decode cX1_edge 48 = .ok (.if_icmp .ne 7, 3) := by decide +kernel
theorem dX1_edge_51 : decode cX1_edge 51 = .ok (.iconst 0, 1) := by decide +kernel
theorem dX1_edge_52 : decode cX1_edge 52 = .ok (.goto 6, 3) := by decide +kernel
theorem dX1_edge_55 : decode cX1_edge 55 = .ok (.iload_n 3, 1) := by decide +kernel
theorem dX1_edge_56 : decode cX1_edge 56 = .ok (.iconst 3, 1) := by decide +kernel
theorem dX1_edge_57 : decode cX1_edge 57 = .ok (.iand, 1) := by decide +kernel
theorem dX1_edge_58 : decode cX1_edge 58 = .ok (.iastore, 1) := by decide +kernel
theorem dX1_edge_59 : decode cX1_edge 59 = .ok (.aload_n 0, 1) := by decide +kernel
theorem dX1_edge_60 : decode cX1_edge 60 = .ok (.iconst 0, 1) := by decide +kernel
theorem dX1_edge_61 : decode cX1_edge 61 = .ok (.putfield 48, 3) := by decide +kernel
theorem dX1_edge_64 : decode cX1_edge 64 = .ok (.iload 4, 2) := by decide +kernel
theorem dX1_edge_66 : decode cX1_edge 66 = .ok (.ireturn, 1) := by decide +kernel
theorem dX1_learn_0 : decode cX1_learn 0 = .ok (.iconst 0, 1) := by decide +kernel
theorem dX1_learn_1 : decode cX1_learn 1 = .ok (.istore_n 3, 1) := by decide +kernel
theorem dX1_learn_2 : decode cX1_learn 2 = .ok (.iload_n 3, 1) := by decide +kernel
theorem dX1_learn_3 : decode cX1_learn 3 = .ok (.iconst 4, 1) := by decide +kernel
theorem dX1_learn_4 : decode cX1_learn 4 = .ok (.if_icmp .ge 69, 3) := by decide +kernel
theorem dX1_learn_7 : decode cX1_learn 7 = .ok (.iconst 0, 1) := by decide +kernel
theorem dX1_learn_8 : decode cX1_learn 8 = .ok (.istore 4, 2) := by decide +kernel
theorem dX1_learn_10 : decode cX1_learn 10 = .ok (.iload 4, 2) := by decide +kernel
theorem dX1_learn_12 : decode cX1_learn 12 = .ok (.bipush 8, 2) := by decide +kernel
theorem dX1_learn_14 : decode cX1_learn 14 = .ok (.if_icmp .ge 53, 3) := by decide +kernel
theorem dX1_learn_17 : decode cX1_learn 17 = .ok (.aload_n 0, 1) := by decide +kernel
theorem dX1_learn_18 : decode cX1_learn 18 = .ok (.iload_n 3, 1) := by decide +kernel
theorem dX1_learn_19 : decode cX1_learn 19 = .ok (.iload 4, 2) := by decide +kernel
theorem dX1_learn_21 : decode cX1_learn 21 = .ok (.invokevirtual 32, 3) := by decide +kernel
theorem dX1_learn_24 : decode cX1_learn 24 = .ok (.istore 5, 2) := by decide +kernel
theorem dX1_learn_26 : decode cX1_learn 26 = .ok (.aload_n 0, 1) := by decide +kernel
theorem dX1_learn_27 : decode cX1_learn 27 = .ok (.iload 5, 2) := by decide +kernel
theorem dX1_learn_29 : decode cX1_learn 29 = .ok (.invokevirtual 58, 3) := by decide +kernel
theorem dX1_learn_32 : decode cX1_learn 32 = .ok (.istore 6, 2) := by decide +kernel
theorem dX1_learn_34 : decode cX1_learn 34 = .ok (.aload_n 0, 1) := by decide +kernel
theorem dX1_learn_35 : decode cX1_learn 35 = .ok (.getfield 7, 3) := by decide +kernel
theorem dX1_learn_38 : decode cX1_learn 38 = .ok (.iload_n 3, 1) := by decide +kernel
theorem dX1_learn_39 : decode cX1_learn 39 = .ok (.bipush 8, 2) := by decide +kernel
theorem dX1_learn_41 : decode cX1_learn 41 = .ok (.imul, 1) := by decide +kernel
theorem dX1_learn_42 : decode cX1_learn 42 = .ok (.iload 4, 2) := by decide +kernel
theorem dX1_learn_44 : decode cX1_learn 44 = .ok (.iadd, 1) := by decide +kernel
theorem dX1_learn_45 : decode cX1_learn 45 = .ok (.aload_n 0, 1) := by decide +kernel
theorem dX1_learn_46 : decode cX1_learn 46 = .ok (.lload_n 1, 1) := by decide +kernel
theorem dX1_learn_47 : decode cX1_learn 47 = .ok (.iload_n 3, 1) := by decide +kernel
theorem dX1_learn_48 : decode cX1_learn 48 = .ok (.iload 5, 2) := by decide +kernel
theorem dX1_learn_50 : decode cX1_learn 50 = .ok (.invokevirtual 62, 3) := by decide +kernel
theorem dX1_learn_53 : decode cX1_learn 53 = .ok (.iconst 3, 1) := by decide +kernel
theorem dX1_learn_54 : decode cX1_learn 54 = .ok (.iconst 1, 1) := by decide +kernel
theorem dX1_learn_55 : decode cX1_learn 55 = .ok (.iload 6, 2) := by decide +kernel
theorem dX1_learn_57 : decode cX1_learn 57 = .ok (.ishl, 1) := by decide +kernel
theorem dX1_learn_58 : decode cX1_learn 58 = .ok (.imul, 1) := by decide +kernel
theorem dX1_learn_59 : decode cX1_learn 59 = .ok (.isub, 1) := by decide +kernel
theorem dX1_learn_60 : decode cX1_learn 60 = .ok (.iastore, 1) := by decide +kernel
theorem dX1_learn_61 : decode cX1_learn 61 = .ok (.iinc 4 1, 3) := by decide +kernel
theorem dX1_learn_64 : decode cX1_learn 64 = .ok (.goto (-54), 3) := by decide +kernel
theorem dX1_learn_67 : decode cX1_learn 67 = .ok (.iinc 3 1, 3) := by decide +kernel
theorem dX1_learn_70 : decode cX1_learn 70 = .ok (.goto (-68), 3) := by decide +kernel
theorem dX1_learn_73 : decode cX1_learn 73 = .ok (.aload_n 0, 1) := by decide +kernel
theorem dX1_learn_74 : decode cX1_learn 74 = .ok (.iconst 0, 1) := by decide +kernel
theorem dX1_learn_75 : decode cX1_learn 75 = .ok (.putfield 48, 3) := by decide +kernel
theorem dX1_learn_78 : decode cX1_learn 78 = .ok (.iconst 0, 1) := by decide +kernel
theorem dX1_learn_79 : decode cX1_learn 79 = .ok (.ireturn, 1) := by decide +kernel
theorem dX1_bits_0 : decode cX1_bits 0 = .ok (.iload_n 1, 1) := by decide +kernel
theorem dX1_bits_1 : decode cX1_bits 1 = .ok (.iconst 1, 1) := by decide +kernel
theorem dX1_bits_2 : decode cX1_bits 2 = .ok (.iand, 1) := by decide +kernel
theorem dX1_bits_3 : decode cX1_bits 3 = .ok (.iload_n 1, 1) := by decide +kernel
theorem dX1_bits_4 : decode cX1_bits 4 = .ok (.iconst 1, 1) := by decide +kernel
theorem dX1_bits_5 : decode cX1_bits 5 = .ok (.ishr, 1) := by decide +kernel
theorem dX1_bits_6 : decode cX1_bits 6 = .ok (.iconst 1, 1) := by decide +kernel
theorem dX1_bits_7 : decode cX1_bits 7 = .ok (.iand, 1) := by decide +kernel
theorem dX1_bits_8 : decode cX1_bits 8 = .ok (.iadd, 1) := by decide +kernel
theorem dX1_bits_9 : decode cX1_bits 9 = .ok (.iload_n 1, 1) := by decide +kernel
theorem dX1_bits_10 : decode cX1_bits 10 = .ok (.iconst 2, 1) := by decide +kernel
theorem dX1_bits_11 : decode cX1_bits 11 = .ok (.ishr, 1) := by decide +kernel
theorem dX1_bits_12 : decode cX1_bits 12 = .ok (.iconst 1, 1) := by decide +kernel
theorem dX1_bits_13 : decode cX1_bits 13 = .ok (.iand, 1) := by decide +kernel
theorem dX1_bits_14 : decode cX1_bits 14 = .ok (.iadd, 1) := by decide +kernel
theorem dX1_bits_15 : decode cX1_bits 15 = .ok (.iload_n 1, 1) := by decide +kernel
theorem dX1_bits_16 : decode cX1_bits 16 = .ok (.iconst 3, 1) := by decide +kernel
theorem dX1_bits_17 : decode cX1_bits 17 = .ok (.ishr, 1) := by decide +kernel
theorem dX1_bits_18 : decode cX1_bits 18 = .ok (.iconst 1, 1) := by decide +kernel
theorem dX1_bits_19 : decode cX1_bits 19 = .ok (.iand, 1) := by decide +kernel
theorem dX1_bits_20 : decode cX1_bits 20 = .ok (.iadd, 1) := by decide +kernel
theorem dX1_bits_21 : decode cX1_bits 21 = .ok (.ireturn, 1) := by decide +kernel
theorem dX1_hits_0 : decode cX1_hits 0 = .ok (.iconst 0, 1) := by decide +kernel
theorem dX1_hits_1 : decode cX1_hits 1 = .ok (.istore 5, 2) := by decide +kernel
theorem dX1_hits_3 : decode cX1_hits 3 = .ok (.iconst 0, 1) := by decide +kernel
theorem dX1_hits_4 : decode cX1_hits 4 = .ok (.istore 6, 2) := by decide +kernel
theorem dX1_hits_6 : decode cX1_hits 6 = .ok (.iload 6, 2) := by decide +kernel
theorem dX1_hits_8 : decode cX1_hits 8 = .ok (.bipush 16, 2) := by decide +kernel
theorem dX1_hits_10 : decode cX1_hits 10 = .ok (.if_icmp .ge 38, 3) := by decide +kernel
theorem dX1_hits_13 : decode cX1_hits 13 = .ok (.iload 6, 2) := by decide +kernel
theorem dX1_hits_15 : decode cX1_hits 15 = .ok (.iload 4, 2) := by decide +kernel
theorem dX1_hits_17 : decode cX1_hits 17 = .ok (.iconst (-1), 1) := by decide +kernel
theorem dX1_hits_18 : decode cX1_hits 18 = .ok (.ixor, 1) := by decide +kernel
theorem dX1_hits_19 : decode cX1_hits 19 = .ok (.iand, 1) := by decide +kernel
theorem dX1_hits_20 : decode cX1_hits 20 = .ok (.ifCond .ne 22, 3) := by decide +kernel
theorem dX1_hits_23 : decode cX1_hits 23 = .ok (.aload_n 0, 1) := by decide +kernel
theorem dX1_hits_24 : decode cX1_hits 24 = .ok (.lload_n 1, 1) := by decide +kernel
theorem dX1_hits_25 : decode cX1_hits 25 = .ok (.iload_n 3, 1) := by decide +kernel
theorem dX1_hits_26 : decode cX1_hits 26 = .ok (.iload 4, 2) := by decide +kernel
theorem dX1_hits_28 : decode cX1_hits 28 = .ok (.iload 6, 2) := by decide +kernel
theorem dX1_hits_30 : decode cX1_hits 30 = .ok (.invokevirtual 54, 3) := by decide +kernel
theorem dX1_hits_33 : decode cX1_hits 33 = .ok (.istore 7, 2) := by decide +kernel
theorem dX1_hits_35 : decode cX1_hits 35 = .ok (.iload 5, 2) := by decide +kernel
theorem dX1_hits_37 : decode cX1_hits 37 = .ok (.iload 7, 2) := by decide +kernel
theorem dX1_hits_39 : decode cX1_hits 39 = .ok (.iadd, 1) := by decide +kernel
theorem dX1_hits_40 : decode cX1_hits 40 = .ok (.istore 5, 2) := by decide +kernel
theorem dX1_hits_42 : decode cX1_hits 42 = .ok (.iinc 6 1, 3) := by decide +kernel
theorem dX1_hits_45 : decode cX1_hits 45 = .ok (.goto (-39), 3) := by decide +kernel
theorem dX1_hits_48 : decode cX1_hits 48 = .ok (.iload 5, 2) := by decide +kernel
theorem dX1_hits_50 : decode cX1_hits 50 = .ok (.ireturn, 1) := by decide +kernel
theorem dX1_greater_0 : decode cX1_greater 0 = .ok (.iconst 0, 1) := by decide +kernel
theorem dX1_greater_1 : decode cX1_greater 1 = .ok (.istore 6, 2) := by decide +kernel
theorem dX1_greater_3 : decode cX1_greater 3 = .ok (.iconst 0, 1) := by decide +kernel
theorem dX1_greater_4 : decode cX1_greater 4 = .ok (.istore 7, 2) := by decide +kernel
theorem dX1_greater_6 : decode cX1_greater 6 = .ok (.iconst 0, 1) := by decide +kernel
theorem dX1_greater_7 : decode cX1_greater 7 = .ok (.istore 8, 2) := by decide +kernel
theorem dX1_greater_9 : decode cX1_greater 9 = .ok (.iload 8, 2) := by decide +kernel
theorem dX1_greater_11 : decode cX1_greater 11 = .ok (.bipush 16, 2) := by decide +kernel
theorem dX1_greater_13 : decode cX1_greater 13 = .ok (.if_icmp .ge 56, 3) := by decide +kernel
theorem dX1_greater_16 : decode cX1_greater 16 = .ok (.lload_n 1, 1) := by decide +kernel
theorem dX1_greater_17 : decode cX1_greater 17 = .ok (.iconst 4, 1) := by decide +kernel
theorem dX1_greater_18 : decode cX1_greater 18 = .ok (.iload 8, 2) := by decide +kernel
theorem dX1_greater_20 : decode cX1_greater 20 = .ok (.imul, 1) := by decide +kernel
theorem dX1_greater_21 : decode cX1_greater 21 = .ok (.lshr, 1) := by decide +kernel
theorem dX1_greater_22 : decode cX1_greater 22 = .ok (.ldc2_w 52, 3) := by decide +kernel
theorem dX1_greater_25 : decode cX1_greater 25 = .ok (.land, 1) := by decide +kernel
theorem dX1_greater_26 : decode cX1_greater 26 = .ok (.l2i, 1) := by decide +kernel
theorem dX1_greater_27 : decode cX1_greater 27 = .ok (.istore 9, 2) := by decide +kernel
theorem dX1_greater_29 : decode cX1_greater 29 = .ok (.iload 9, 2) := by decide +kernel
theorem dX1_greater_31 : decode cX1_greater 31 = .ok (.iload 4, 2) := by decide +kernel
theorem dX1_greater_33 : decode cX1_greater 33 = .ok (.iand, 1) := by decide +kernel
theorem dX1_greater_34 : decode cX1_greater 34 = .ok (.iload 5, 2) := by decide +kernel
theorem dX1_greater_36 : decode cX1_greater 36 = .ok (.if_icmp .ne 27, 3) := by decide +kernel
theorem dX1_greater_39 : decode cX1_greater 39 = .ok (.iload 7, 2) := by decide +kernel
theorem dX1_greater_41 : decode cX1_greater 41 = .ok (.iload 9, 2) := by decide +kernel
theorem dX1_greater_43 : decode cX1_greater 43 = .ok (.iload_n 3, 1) := by decide +kernel
theorem dX1_greater_44 : decode cX1_greater 44 = .ok (.ishr, 1) := by decide +kernel
theorem dX1_greater_45 : decode cX1_greater 45 = .ok (.iconst 1, 1) := by decide +kernel
theorem dX1_greater_46 : decode cX1_greater 46 = .ok (.iand, 1) := by decide +kernel
theorem dX1_greater_47 : decode cX1_greater 47 = .ok (.iadd, 1) := by decide +kernel
theorem dX1_greater_48 : decode cX1_greater 48 = .ok (.istore 7, 2) := by decide +kernel
theorem dX1_greater_50 : decode cX1_greater 50 = .ok (.iload 6, 2) := by decide +kernel
theorem dX1_greater_52 : decode cX1_greater 52 = .ok (.iconst 1, 1) := by decide +kernel
theorem dX1_greater_53 : decode cX1_greater 53 = .ok (.iadd, 1) := by decide +kernel
theorem dX1_greater_54 : decode cX1_greater 54 = .ok (.iload 9, 2) := by decide +kernel
theorem dX1_greater_56 : decode cX1_greater 56 = .ok (.iload_n 3, 1) := by decide +kernel
theorem dX1_greater_57 : decode cX1_greater 57 = .ok (.ishr, 1) := by decide +kernel
theorem dX1_greater_58 : decode cX1_greater 58 = .ok (.iconst 1, 1) := by decide +kernel
theorem dX1_greater_59 : decode cX1_greater 59 = .ok (.iand, 1) := by decide +kernel
theorem dX1_greater_60 : decode cX1_greater 60 = .ok (.isub, 1) := by decide +kernel
theorem dX1_greater_61 : decode cX1_greater 61 = .ok (.istore 6, 2) := by decide +kernel
theorem dX1_greater_63 : decode cX1_greater 63 = .ok (.iinc 8 1, 3) := by decide +kernel
theorem dX1_greater_66 : decode cX1_greater 66 = .ok (.goto (-57), 3) := by decide +kernel
theorem dX1_greater_69 : decode cX1_greater 69 = .ok (.iload 6, 2) := by decide +kernel
theorem dX1_greater_71 : decode cX1_greater 71 = .ok (.iload 7, 2) := by decide +kernel
theorem dX1_greater_73 : decode cX1_greater 73 = .ok (.if_icmp .le 8, 3) := by decide +kernel
theorem dX1_greater_76 : decode cX1_greater 76 = .ok (.iload 6, 2) := by decide +kernel
theorem dX1_greater_78 : decode cX1_greater 78 = .ok (.goto 5, 3) := by decide +kernel
theorem dX1_greater_81 : decode cX1_greater 81 = .ok (.iload 7, 2) := by decide +kernel
theorem dX1_greater_83 : decode cX1_greater 83 = .ok (.ireturn, 1) := by decide +kernel
theorem dX1_best_0 : decode cX1_best 0 = .ok (.aload_n 0, 1) := by decide +kernel
theorem dX1_best_1 : decode cX1_best 1 = .ok (.invokevirtual 79, 3) := by decide +kernel
theorem dX1_best_4 : decode cX1_best 4 = .ok (.aload_n 0, 1) := by decide +kernel
theorem dX1_best_5 : decode cX1_best 5 = .ok (.getfield 67, 3) := by decide +kernel
theorem dX1_best_8 : decode cX1_best 8 = .ok (.ireturn, 1) := by decide +kernel
theorem dX1_workOut_0 : decode cX1_workOut 0 = .ok (.aload_n 0, 1) := by decide +kernel
theorem dX1_workOut_1 : decode cX1_workOut 1 = .ok (.getfield 48, 3) := by decide +kernel
theorem dX1_workOut_4 : decode cX1_workOut 4 = .ok (.ifCond .eq 4, 3) := by decide +kernel
theorem dX1_workOut_7 : decode cX1_workOut 7 = .ok (.return_, 1) := by decide +kernel
theorem dX1_workOut_8 : decode cX1_workOut 8 = .ok (.aload_n 0, 1) := by decide +kernel
theorem dX1_workOut_9 : decode cX1_workOut 9 = .ok (.iconst 1, 1) := by decide +kernel
theorem dX1_workOut_10 : decode cX1_workOut 10 = .ok (.putfield 48, 3) := by decide +kernel
theorem dX1_workOut_13 : decode cX1_workOut 13 = .ok (.aload_n 0, 1) := by decide +kernel
end
section
set_option maxRecDepth 100000
theorem dX1_workOut_14 : decode cX1_workOut 14 = .ok (.ldc 66, 2) := by decide +kernel
theorem dX1_workOut_16 : decode cX1_workOut 16 = .ok (.putfield 67, 3) := by decide +kernel
theorem dX1_workOut_19 : decode cX1_workOut 19 = .ok (.aload_n 0, 1) := by decide +kernel
theorem dX1_workOut_20 : decode cX1_workOut 20 = .ok (.iconst 0, 1) := by decide +kernel
theorem dX1_workOut_21 : decode cX1_workOut 21 = .ok (.putfield 70, 3) := by decide +kernel
theorem dX1_workOut_24 : decode cX1_workOut 24 = .ok (.iconst 0, 1) := by decide +kernel
theorem dX1_workOut_25 : decode cX1_workOut 25 = .ok (.istore_n 1, 1) := by decide +kernel
theorem dX1_workOut_26 : decode cX1_workOut 26 = .ok (.iload_n 1, 1) := by decide +kernel
theorem dX1_workOut_27 : decode cX1_workOut 27 = .ok (.sipush 4096, 3) := by decide +kernel
theorem dX1_workOut_30 : decode cX1_workOut 30 = .ok (.if_icmp .ge 41, 3) := by decide +kernel
theorem dX1_workOut_33 : decode cX1_workOut 33 = .ok (.aload_n 0, 1) := by decide +kernel
theorem dX1_workOut_34 : decode cX1_workOut 34 = .ok (.iload_n 1, 1) := by decide +kernel
theorem dX1_workOut_35 : decode cX1_workOut 35 = .ok (.invokevirtual 73, 3) := by decide +kernel
theorem dX1_workOut_38 : decode cX1_workOut 38 = .ok (.ifCond .eq 27, 3) := by decide +kernel
theorem dX1_workOut_41 : decode cX1_workOut 41 = .ok (.aload_n 0, 1) := by decide +kernel
theorem dX1_workOut_42 : decode cX1_workOut 42 = .ok (.iload_n 1, 1) := by decide +kernel
theorem dX1_workOut_43 : decode cX1_workOut 43 = .ok (.invokevirtual 76, 3) := by decide +kernel
theorem dX1_workOut_46 : decode cX1_workOut 46 = .ok (.istore_n 2, 1) := by decide +kernel
theorem dX1_workOut_47 : decode cX1_workOut 47 = .ok (.iload_n 2, 1) := by decide +kernel
theorem dX1_workOut_48 : decode cX1_workOut 48 = .ok (.aload_n 0, 1) := by decide +kernel
theorem dX1_workOut_49 : decode cX1_workOut 49 = .ok (.getfield 67, 3) := by decide +kernel
theorem dX1_workOut_52 : decode cX1_workOut 52 = .ok (.if_icmp .le 13, 3) := by decide +kernel
theorem dX1_workOut_55 : decode cX1_workOut 55 = .ok (.aload_n 0, 1) := by decide +kernel
theorem dX1_workOut_56 : decode cX1_workOut 56 = .ok (.iload_n 2, 1) := by decide +kernel
theorem dX1_workOut_57 : decode cX1_workOut 57 = .ok (.putfield 67, 3) := by decide +kernel
theorem dX1_workOut_60 : decode cX1_workOut 60 = .ok (.aload_n 0, 1) := by decide +kernel
theorem dX1_workOut_61 : decode cX1_workOut 61 = .ok (.iload_n 1, 1) := by decide +kernel
theorem dX1_workOut_62 : decode cX1_workOut 62 = .ok (.putfield 70, 3) := by decide +kernel
theorem dX1_workOut_65 : decode cX1_workOut 65 = .ok (.iinc 1 1, 3) := by decide +kernel
theorem dX1_workOut_68 : decode cX1_workOut 68 = .ok (.goto (-42), 3) := by decide +kernel
theorem dX1_workOut_71 : decode cX1_workOut 71 = .ok (.return_, 1) := by decide +kernel
theorem dX1_allowed_0 : decode cX1_allowed 0 = .ok (.aload_n 0, 1) := by decide +kernel
theorem dX1_allowed_1 : decode cX1_allowed 1 = .ok (.getfield 16, 3) := by decide +kernel
theorem dX1_allowed_4 : decode cX1_allowed 4 = .ok (.iload_n 1, 1) := by decide +kernel
theorem dX1_allowed_5 : decode cX1_allowed 5 = .ok (.baload, 1) := by decide +kernel
theorem dX1_allowed_6 : decode cX1_allowed 6 = .ok (.ifCond .ne 5, 3) := by decide +kernel
theorem dX1_allowed_9 : decode cX1_allowed 9 = .ok (.iconst 0, 1) := by decide +kernel
theorem dX1_allowed_10 : decode cX1_allowed 10 = .ok (.ireturn, 1) := by decide +kernel
theorem dX1_allowed_11 : decode cX1_allowed 11 = .ok (.iconst 0, 1) := by decide +kernel
theorem dX1_allowed_12 : decode cX1_allowed 12 = .ok (.istore_n 2, 1) := by decide +kernel
theorem dX1_allowed_13 : decode cX1_allowed 13 = .ok (.iload_n 2, 1) := by decide +kernel
theorem dX1_allowed_14 : decode cX1_allowed 14 = .ok (.iconst 4, 1) := by decide +kernel
theorem dX1_allowed_15 : decode cX1_allowed 15 = .ok (.if_icmp .ge 96, 3) := by decide +kernel
theorem dX1_allowed_18 : decode cX1_allowed 18 = .ok (.aload_n 0, 1) := by decide +kernel
theorem dX1_allowed_19 : decode cX1_allowed 19 = .ok (.iload_n 1, 1) := by decide +kernel
theorem dX1_allowed_20 : decode cX1_allowed 20 = .ok (.iload_n 2, 1) := by decide +kernel
theorem dX1_allowed_21 : decode cX1_allowed 21 = .ok (.invokevirtual 35, 3) := by decide +kernel
theorem dX1_allowed_24 : decode cX1_allowed 24 = .ok (.istore_n 3, 1) := by decide +kernel
theorem dX1_allowed_25 : decode cX1_allowed 25 = .ok (.aload_n 0, 1) := by decide +kernel
theorem dX1_allowed_26 : decode cX1_allowed 26 = .ok (.iload_n 3, 1) := by decide +kernel
theorem dX1_allowed_27 : decode cX1_allowed 27 = .ok (.invokevirtual 58, 3) := by decide +kernel
theorem dX1_allowed_30 : decode cX1_allowed 30 = .ok (.aload_n 0, 1) := by decide +kernel
theorem dX1_allowed_31 : decode cX1_allowed 31 = .ok (.getfield 20, 3) := by decide +kernel
theorem dX1_allowed_34 : decode cX1_allowed 34 = .ok (.if_icmp .le 5, 3) := by decide +kernel
theorem dX1_allowed_37 : decode cX1_allowed 37 = .ok (.iconst 0, 1) := by decide +kernel
theorem dX1_allowed_38 : decode cX1_allowed 38 = .ok (.ireturn, 1) := by decide +kernel
theorem dX1_allowed_39 : decode cX1_allowed 39 = .ok (.iconst 0, 1) := by decide +kernel
theorem dX1_allowed_40 : decode cX1_allowed 40 = .ok (.istore 4, 2) := by decide +kernel
theorem dX1_allowed_42 : decode cX1_allowed 42 = .ok (.iload 4, 2) := by decide +kernel
theorem dX1_allowed_44 : decode cX1_allowed 44 = .ok (.iconst 4, 1) := by decide +kernel
theorem dX1_allowed_45 : decode cX1_allowed 45 = .ok (.if_icmp .ge 60, 3) := by decide +kernel
theorem dX1_allowed_48 : decode cX1_allowed 48 = .ok (.iload_n 3, 1) := by decide +kernel
theorem dX1_allowed_49 : decode cX1_allowed 49 = .ok (.iload 4, 2) := by decide +kernel
theorem dX1_allowed_51 : decode cX1_allowed 51 = .ok (.ishr, 1) := by decide +kernel
theorem dX1_allowed_52 : decode cX1_allowed 52 = .ok (.iconst 1, 1) := by decide +kernel
theorem dX1_allowed_53 : decode cX1_allowed 53 = .ok (.iand, 1) := by decide +kernel
theorem dX1_allowed_54 : decode cX1_allowed 54 = .ok (.istore 5, 2) := by decide +kernel
theorem dX1_allowed_56 : decode cX1_allowed 56 = .ok (.aload_n 0, 1) := by decide +kernel
theorem dX1_allowed_57 : decode cX1_allowed 57 = .ok (.getfield 13, 3) := by decide +kernel
theorem dX1_allowed_60 : decode cX1_allowed 60 = .ok (.iload 4, 2) := by decide +kernel
theorem dX1_allowed_62 : decode cX1_allowed 62 = .ok (.iconst 4, 1) := by decide +kernel
theorem dX1_allowed_63 : decode cX1_allowed 63 = .ok (.imul, 1) := by decide +kernel
theorem dX1_allowed_64 : decode cX1_allowed 64 = .ok (.iload_n 2, 1) := by decide +kernel
theorem dX1_allowed_65 : decode cX1_allowed 65 = .ok (.iadd, 1) := by decide +kernel
theorem dX1_allowed_66 : decode cX1_allowed 66 = .ok (.iaload, 1) := by decide +kernel
theorem dX1_allowed_67 : decode cX1_allowed 67 = .ok (.iconst 1, 1) := by decide +kernel
theorem dX1_allowed_68 : decode cX1_allowed 68 = .ok (.if_icmp .ne 9, 3) := by decide +kernel
theorem dX1_allowed_71 : decode cX1_allowed 71 = .ok (.iload 5, 2) := by decide +kernel
theorem dX1_allowed_73 : decode cX1_allowed 73 = .ok (.iconst 1, 1) := by decide +kernel
theorem dX1_allowed_74 : decode cX1_allowed 74 = .ok (.if_icmp .eq 23, 3) := by decide +kernel
theorem dX1_allowed_77 : decode cX1_allowed 77 = .ok (.aload_n 0, 1) := by decide +kernel
theorem dX1_allowed_78 : decode cX1_allowed 78 = .ok (.getfield 13, 3) := by decide +kernel
theorem dX1_allowed_81 : decode cX1_allowed 81 = .ok (.iload 4, 2) := by decide +kernel
theorem dX1_allowed_83 : decode cX1_allowed 83 = .ok (.iconst 4, 1) := by decide +kernel
theorem dX1_allowed_84 : decode cX1_allowed 84 = .ok (.imul, 1) := by decide +kernel
theorem dX1_allowed_85 : decode cX1_allowed 85 = .ok (.iload_n 2, 1) := by decide +kernel
theorem dX1_allowed_86 : decode cX1_allowed 86 = .ok (.iadd, 1) := by decide +kernel
theorem dX1_allowed_87 : decode cX1_allowed 87 = .ok (.iaload, 1) := by decide +kernel
theorem dX1_allowed_88 : decode cX1_allowed 88 = .ok (.iconst 2, 1) := by decide +kernel
theorem dX1_allowed_89 : decode cX1_allowed 89 = .ok (.if_icmp .ne 10, 3) := by decide +kernel
theorem dX1_allowed_92 : decode cX1_allowed 92 = .ok (.iload 5, 2) := by decide +kernel
theorem dX1_allowed_94 : decode cX1_allowed 94 = .ok (.ifCond .ne 5, 3) := by decide +kernel
theorem dX1_allowed_97 : decode cX1_allowed 97 = .ok (.iconst 0, 1) := by decide +kernel
theorem dX1_allowed_98 : decode cX1_allowed 98 = .ok (.ireturn, 1) := by decide +kernel
theorem dX1_allowed_99 : decode cX1_allowed 99 = .ok (.iinc 4 1, 3) := by decide +kernel
theorem dX1_allowed_102 : decode cX1_allowed 102 = .ok (.goto (-60), 3) := by decide +kernel
theorem dX1_allowed_105 : decode cX1_allowed 105 = .ok (.iinc 2 1, 3) := by decide +kernel
theorem dX1_allowed_108 : decode cX1_allowed 108 = .ok (.goto (-95), 3) := by decide +kernel
theorem dX1_allowed_111 : decode cX1_allowed 111 = .ok (.iconst 1, 1) := by decide +kernel
theorem dX1_allowed_112 : decode cX1_allowed 112 = .ok (.ireturn, 1) := by decide +kernel
theorem dX1_worth_0 : decode cX1_worth 0 = .ok (.iconst 0, 1) := by decide +kernel
theorem dX1_worth_1 : decode cX1_worth 1 = .ok (.istore_n 2, 1) := by decide +kernel
theorem dX1_worth_2 : decode cX1_worth 2 = .ok (.iconst 0, 1) := by decide +kernel
theorem dX1_worth_3 : decode cX1_worth 3 = .ok (.istore_n 3, 1) := by decide +kernel
theorem dX1_worth_4 : decode cX1_worth 4 = .ok (.iload_n 3, 1) := by decide +kernel
theorem dX1_worth_5 : decode cX1_worth 5 = .ok (.iconst 4, 1) := by decide +kernel
theorem dX1_worth_6 : decode cX1_worth 6 = .ok (.if_icmp .ge 32, 3) := by decide +kernel
theorem dX1_worth_9 : decode cX1_worth 9 = .ok (.aload_n 0, 1) := by decide +kernel
theorem dX1_worth_10 : decode cX1_worth 10 = .ok (.iload_n 1, 1) := by decide +kernel
theorem dX1_worth_11 : decode cX1_worth 11 = .ok (.iload_n 3, 1) := by decide +kernel
theorem dX1_worth_12 : decode cX1_worth 12 = .ok (.invokevirtual 28, 3) := by decide +kernel
theorem dX1_worth_15 : decode cX1_worth 15 = .ok (.istore 4, 2) := by decide +kernel
theorem dX1_worth_17 : decode cX1_worth 17 = .ok (.iload_n 2, 1) := by decide +kernel
theorem dX1_worth_18 : decode cX1_worth 18 = .ok (.aload_n 0, 1) := by decide +kernel
theorem dX1_worth_19 : decode cX1_worth 19 = .ok (.getfield 7, 3) := by decide +kernel
theorem dX1_worth_22 : decode cX1_worth 22 = .ok (.iload_n 3, 1) := by decide +kernel
theorem dX1_worth_23 : decode cX1_worth 23 = .ok (.bipush 8, 2) := by decide +kernel
theorem dX1_worth_25 : decode cX1_worth 25 = .ok (.imul, 1) := by decide +kernel
theorem dX1_worth_26 : decode cX1_worth 26 = .ok (.iload 4, 2) := by decide +kernel
theorem dX1_worth_28 : decode cX1_worth 28 = .ok (.iadd, 1) := by decide +kernel
theorem dX1_worth_29 : decode cX1_worth 29 = .ok (.iaload, 1) := by decide +kernel
theorem dX1_worth_30 : decode cX1_worth 30 = .ok (.iadd, 1) := by decide +kernel
theorem dX1_worth_31 : decode cX1_worth 31 = .ok (.istore_n 2, 1) := by decide +kernel
theorem dX1_worth_32 : decode cX1_worth 32 = .ok (.iinc 3 1, 3) := by decide +kernel
theorem dX1_worth_35 : decode cX1_worth 35 = .ok (.goto (-31), 3) := by decide +kernel
theorem dX1_worth_38 : decode cX1_worth 38 = .ok (.iload_n 2, 1) := by decide +kernel
theorem dX1_worth_39 : decode cX1_worth 39 = .ok (.ireturn, 1) := by decide +kernel
theorem dX1_parents_0 : decode cX1_parents 0 = .ok (.aload_n 0, 1) := by decide +kernel
theorem dX1_parents_1 : decode cX1_parents 1 = .ok (.iload_n 1, 1) := by decide +kernel
theorem dX1_parents_2 : decode cX1_parents 2 = .ok (.invokevirtual 38, 3) := by decide +kernel
theorem dX1_parents_5 : decode cX1_parents 5 = .ok (.ifCond .eq 5, 3) := by decide +kernel
theorem dX1_parents_8 : decode cX1_parents 8 = .ok (.iconst (-1), 1) := by decide +kernel
theorem dX1_parents_9 : decode cX1_parents 9 = .ok (.ireturn, 1) := by decide +kernel
theorem dX1_parents_10 : decode cX1_parents 10 = .ok (.aload_n 0, 1) := by decide +kernel
theorem dX1_parents_11 : decode cX1_parents 11 = .ok (.invokevirtual 79, 3) := by decide +kernel
theorem dX1_parents_14 : decode cX1_parents 14 = .ok (.aload_n 0, 1) := by decide +kernel
theorem dX1_parents_15 : decode cX1_parents 15 = .ok (.getfield 67, 3) := by decide +kernel
theorem dX1_parents_18 : decode cX1_parents 18 = .ok (.ldc 66, 2) := by decide +kernel
theorem dX1_parents_20 : decode cX1_parents 20 = .ok (.if_icmp .ne 8, 3) := by decide +kernel
theorem dX1_parents_23 : decode cX1_parents 23 = .ok (.ldc 66, 2) := by decide +kernel
theorem dX1_parents_25 : decode cX1_parents 25 = .ok (.goto 12, 3) := by decide +kernel
theorem dX1_parents_28 : decode cX1_parents 28 = .ok (.aload_n 0, 1) := by decide +kernel
theorem dX1_parents_29 : decode cX1_parents 29 = .ok (.aload_n 0, 1) := by decide +kernel
theorem dX1_parents_30 : decode cX1_parents 30 = .ok (.getfield 70, 3) := by decide +kernel
theorem dX1_parents_33 : decode cX1_parents 33 = .ok (.iload_n 1, 1) := by decide +kernel
theorem dX1_parents_34 : decode cX1_parents 34 = .ok (.invokevirtual 35, 3) := by decide +kernel
theorem dX1_parents_37 : decode cX1_parents 37 = .ok (.ireturn, 1) := by decide +kernel
theorem dX1_bestWith_0 : decode cX1_bestWith 0 = .ok (.aload_n 0, 1) := by decide +kernel
theorem dX1_bestWith_1 : decode cX1_bestWith 1 = .ok (.iload_n 1, 1) := by decide +kernel
theorem dX1_bestWith_2 : decode cX1_bestWith 2 = .ok (.invokevirtual 38, 3) := by decide +kernel
theorem dX1_bestWith_5 : decode cX1_bestWith 5 = .ok (.ifCond .ne 16, 3) := by decide +kernel
theorem dX1_bestWith_8 : decode cX1_bestWith 8 = .ok (.aload_n 0, 1) := by decide +kernel
theorem dX1_bestWith_9 : decode cX1_bestWith 9 = .ok (.iload_n 2, 1) := by decide +kernel
theorem dX1_bestWith_10 : decode cX1_bestWith 10 = .ok (.invokevirtual 38, 3) := by decide +kernel
theorem dX1_bestWith_13 : decode cX1_bestWith 13 = .ok (.ifCond .ne 8, 3) := by decide +kernel
theorem dX1_bestWith_16 : decode cX1_bestWith 16 = .ok (.iload_n 1, 1) := by decide +kernel
theorem dX1_bestWith_17 : decode cX1_bestWith 17 = .ok (.iload_n 2, 1) := by decide +kernel
theorem dX1_bestWith_18 : decode cX1_bestWith 18 = .ok (.if_icmp .ne 7, 3) := by decide +kernel
theorem dX1_bestWith_21 : decode cX1_bestWith 21 = .ok (.iconst (-1), 1) := by decide +kernel
theorem dX1_bestWith_22 : decode cX1_bestWith 22 = .ok (.goto 10, 3) := by decide +kernel
theorem dX1_bestWith_25 : decode cX1_bestWith 25 = .ok (.aload_n 0, 1) := by decide +kernel
theorem dX1_bestWith_26 : decode cX1_bestWith 26 = .ok (.iload_n 1, 1) := by decide +kernel
theorem dX1_bestWith_27 : decode cX1_bestWith 27 = .ok (.iload_n 2, 1) := by decide +kernel
theorem dX1_bestWith_28 : decode cX1_bestWith 28 = .ok (.iconst 1, 1) := by decide +kernel
theorem dX1_bestWith_29 : decode cX1_bestWith 29 = .ok (.invokevirtual 82, 3) := by decide +kernel
theorem dX1_bestWith_32 : decode cX1_bestWith 32 = .ok (.ireturn, 1) := by decide +kernel
theorem dX1_bestBy_0 : decode cX1_bestBy 0 = .ok (.ldc 66, 2) := by decide +kernel
theorem dX1_bestBy_2 : decode cX1_bestBy 2 = .ok (.istore 4, 2) := by decide +kernel
theorem dX1_bestBy_4 : decode cX1_bestBy 4 = .ok (.iconst 0, 1) := by decide +kernel
theorem dX1_bestBy_5 : decode cX1_bestBy 5 = .ok (.istore 5, 2) := by decide +kernel
theorem dX1_bestBy_7 : decode cX1_bestBy 7 = .ok (.iload 5, 2) := by decide +kernel
theorem dX1_bestBy_9 : decode cX1_bestBy 9 = .ok (.sipush 4096, 3) := by decide +kernel
theorem dX1_bestBy_12 : decode cX1_bestBy 12 = .ok (.if_icmp .ge 61, 3) := by decide +kernel
theorem dX1_bestBy_15 : decode cX1_bestBy 15 = .ok (.aload_n 0, 1) := by decide +kernel
theorem dX1_bestBy_16 : decode cX1_bestBy 16 = .ok (.iload 5, 2) := by decide +kernel
theorem dX1_bestBy_18 : decode cX1_bestBy 18 = .ok (.iload_n 2, 1) := by decide +kernel
theorem dX1_bestBy_19 : decode cX1_bestBy 19 = .ok (.invokevirtual 35, 3) := by decide +kernel
theorem dX1_bestBy_22 : decode cX1_bestBy 22 = .ok (.istore 6, 2) := by decide +kernel
theorem dX1_bestBy_24 : decode cX1_bestBy 24 = .ok (.iload 6, 2) := by decide +kernel
theorem dX1_bestBy_26 : decode cX1_bestBy 26 = .ok (.iload_n 1, 1) := by decide +kernel
theorem dX1_bestBy_27 : decode cX1_bestBy 27 = .ok (.ishr, 1) := by decide +kernel
theorem dX1_bestBy_28 : decode cX1_bestBy 28 = .ok (.iconst 1, 1) := by decide +kernel
theorem dX1_bestBy_29 : decode cX1_bestBy 29 = .ok (.iand, 1) := by decide +kernel
theorem dX1_bestBy_30 : decode cX1_bestBy 30 = .ok (.iload_n 3, 1) := by decide +kernel
theorem dX1_bestBy_31 : decode cX1_bestBy 31 = .ok (.if_icmp .ne 36, 3) := by decide +kernel
theorem dX1_bestBy_34 : decode cX1_bestBy 34 = .ok (.aload_n 0, 1) := by decide +kernel
theorem dX1_bestBy_35 : decode cX1_bestBy 35 = .ok (.iload 5, 2) := by decide +kernel
theorem dX1_bestBy_37 : decode cX1_bestBy 37 = .ok (.invokevirtual 73, 3) := by decide +kernel
theorem dX1_bestBy_40 : decode cX1_bestBy 40 = .ok (.ifCond .eq 27, 3) := by decide +kernel
theorem dX1_bestBy_43 : decode cX1_bestBy 43 = .ok (.aload_n 0, 1) := by decide +kernel
theorem dX1_bestBy_44 : decode cX1_bestBy 44 = .ok (.iload 5, 2) := by decide +kernel
theorem dX1_bestBy_46 : decode cX1_bestBy 46 = .ok (.invokevirtual 76, 3) := by decide +kernel
theorem dX1_bestBy_49 : decode cX1_bestBy 49 = .ok (.istore 7, 2) := by decide +kernel
theorem dX1_bestBy_51 : decode cX1_bestBy 51 = .ok (.iload 7, 2) := by decide +kernel
theorem dX1_bestBy_53 : decode cX1_bestBy 53 = .ok (.iload 4, 2) := by decide +kernel
theorem dX1_bestBy_55 : decode cX1_bestBy 55 = .ok (.if_icmp .le 8, 3) := by decide +kernel
theorem dX1_bestBy_58 : decode cX1_bestBy 58 = .ok (.iload 7, 2) := by decide +kernel
theorem dX1_bestBy_60 : decode cX1_bestBy 60 = .ok (.goto 5, 3) := by decide +kernel
theorem dX1_bestBy_63 : decode cX1_bestBy 63 = .ok (.iload 4, 2) := by decide +kernel
theorem dX1_bestBy_65 : decode cX1_bestBy 65 = .ok (.istore 4, 2) := by decide +kernel
theorem dX1_bestBy_67 : decode cX1_bestBy 67 = .ok (.iinc 5 1, 3) := by decide +kernel
theorem dX1_bestBy_70 : decode cX1_bestBy 70 = .ok (.goto (-63), 3) := by decide +kernel
theorem dX1_bestBy_73 : decode cX1_bestBy 73 = .ok (.iload 4, 2) := by decide +kernel
theorem dX1_bestBy_75 : decode cX1_bestBy 75 = .ok (.ireturn, 1) := by decide +kernel
theorem dX1_bestWithout_0 : decode cX1_bestWithout 0 = .ok (.aload_n 0, 1) := by decide +kernel
theorem dX1_bestWithout_1 : decode cX1_bestWithout 1 = .ok (.iload_n 1, 1) := by decide +kernel
theorem dX1_bestWithout_2 : decode cX1_bestWithout 2 = .ok (.invokevirtual 38, 3) := by decide +kernel
theorem dX1_bestWithout_5 : decode cX1_bestWithout 5 = .ok (.ifCond .ne 16, 3) := by decide +kernel
theorem dX1_bestWithout_8 : decode cX1_bestWithout 8 = .ok (.aload_n 0, 1) := by decide +kernel
theorem dX1_bestWithout_9 : decode cX1_bestWithout 9 = .ok (.iload_n 2, 1) := by decide +kernel
theorem dX1_bestWithout_10 : decode cX1_bestWithout 10 = .ok (.invokevirtual 38, 3) := by decide +kernel
theorem dX1_bestWithout_13 : decode cX1_bestWithout 13 = .ok (.ifCond .ne 8, 3) := by decide +kernel
theorem dX1_bestWithout_16 : decode cX1_bestWithout 16 = .ok (.iload_n 1, 1) := by decide +kernel
theorem dX1_bestWithout_17 : decode cX1_bestWithout 17 = .ok (.iload_n 2, 1) := by decide +kernel
theorem dX1_bestWithout_18 : decode cX1_bestWithout 18 = .ok (.if_icmp .ne 7, 3) := by decide +kernel
theorem dX1_bestWithout_21 : decode cX1_bestWithout 21 = .ok (.iconst (-1), 1) := by decide +kernel
theorem dX1_bestWithout_22 : decode cX1_bestWithout 22 = .ok (.goto 10, 3) := by decide +kernel
theorem dX1_bestWithout_25 : decode cX1_bestWithout 25 = .ok (.aload_n 0, 1) := by decide +kernel
theorem dX1_bestWithout_26 : decode cX1_bestWithout 26 = .ok (.iload_n 1, 1) := by decide +kernel
theorem dX1_bestWithout_27 : decode cX1_bestWithout 27 = .ok (.iload_n 2, 1) := by decide +kernel
theorem dX1_bestWithout_28 : decode cX1_bestWithout 28 = .ok (.iconst 0, 1) := by decide +kernel
theorem dX1_bestWithout_29 : decode cX1_bestWithout 29 = .ok (.invokevirtual 82, 3) := by decide +kernel
theorem dX1_bestWithout_32 : decode cX1_bestWithout 32 = .ok (.ireturn, 1) := by decide +kernel
theorem dX1_edges_0 : decode cX1_edges 0 = .ok (.aload_n 0, 1) := by decide +kernel
theorem dX1_edges_1 : decode cX1_edges 1 = .ok (.invokevirtual 79, 3) := by decide +kernel
theorem dX1_edges_4 : decode cX1_edges 4 = .ok (.aload_n 0, 1) := by decide +kernel
theorem dX1_edges_5 : decode cX1_edges 5 = .ok (.getfield 67, 3) := by decide +kernel
theorem dX1_edges_8 : decode cX1_edges 8 = .ok (.ldc 66, 2) := by decide +kernel
theorem dX1_edges_10 : decode cX1_edges 10 = .ok (.if_icmp .ne 6, 3) := by decide +kernel
theorem dX1_edges_13 : decode cX1_edges 13 = .ok (.ldc 66, 2) := by decide +kernel
theorem dX1_edges_15 : decode cX1_edges 15 = .ok (.ireturn, 1) := by decide +kernel
theorem dX1_edges_16 : decode cX1_edges 16 = .ok (.iconst 0, 1) := by decide +kernel
theorem dX1_edges_17 : decode cX1_edges 17 = .ok (.istore_n 1, 1) := by decide +kernel
theorem dX1_edges_18 : decode cX1_edges 18 = .ok (.iconst 0, 1) := by decide +kernel
theorem dX1_edges_19 : decode cX1_edges 19 = .ok (.istore_n 2, 1) := by decide +kernel
theorem dX1_edges_20 : decode cX1_edges 20 = .ok (.iload_n 2, 1) := by decide +kernel
theorem dX1_edges_21 : decode cX1_edges 21 = .ok (.iconst 4, 1) := by decide +kernel
theorem dX1_edges_22 : decode cX1_edges 22 = .ok (.if_icmp .ge 31, 3) := by decide +kernel
theorem dX1_edges_25 : decode cX1_edges 25 = .ok (.aload_n 0, 1) := by decide +kernel
theorem dX1_edges_26 : decode cX1_edges 26 = .ok (.aload_n 0, 1) := by decide +kernel
theorem dX1_edges_27 : decode cX1_edges 27 = .ok (.getfield 70, 3) := by decide +kernel
theorem dX1_edges_30 : decode cX1_edges 30 = .ok (.iload_n 2, 1) := by decide +kernel
theorem dX1_edges_31 : decode cX1_edges 31 = .ok (.invokevirtual 35, 3) := by decide +kernel
theorem dX1_edges_34 : decode cX1_edges 34 = .ok (.istore_n 3, 1) := by decide +kernel
theorem dX1_edges_35 : decode cX1_edges 35 = .ok (.aload_n 0, 1) := by decide +kernel
theorem dX1_edges_36 : decode cX1_edges 36 = .ok (.iload_n 3, 1) := by decide +kernel
theorem dX1_edges_37 : decode cX1_edges 37 = .ok (.invokevirtual 58, 3) := by decide +kernel
theorem dX1_edges_40 : decode cX1_edges 40 = .ok (.istore 4, 2) := by decide +kernel
theorem dX1_edges_42 : decode cX1_edges 42 = .ok (.iload_n 1, 1) := by decide +kernel
theorem dX1_edges_43 : decode cX1_edges 43 = .ok (.iload 4, 2) := by decide +kernel
theorem dX1_edges_45 : decode cX1_edges 45 = .ok (.iadd, 1) := by decide +kernel
theorem dX1_edges_46 : decode cX1_edges 46 = .ok (.istore_n 1, 1) := by decide +kernel
theorem dX1_edges_47 : decode cX1_edges 47 = .ok (.iinc 2 1, 3) := by decide +kernel
theorem dX1_edges_50 : decode cX1_edges 50 = .ok (.goto (-30), 3) := by decide +kernel
theorem dX1_edges_53 : decode cX1_edges 53 = .ok (.iload_n 1, 1) := by decide +kernel
theorem dX1_edges_54 : decode cX1_edges 54 = .ok (.ireturn, 1) := by decide +kernel
theorem dX1_orders_0 : decode cX1_orders 0 = .ok (.aload_n 0, 1) := by decide +kernel
theorem dX1_orders_1 : decode cX1_orders 1 = .ok (.invokevirtual 79, 3) := by decide +kernel
theorem dX1_orders_4 : decode cX1_orders 4 = .ok (.aload_n 0, 1) := by decide +kernel
theorem dX1_orders_5 : decode cX1_orders 5 = .ok (.getfield 67, 3) := by decide +kernel
theorem dX1_orders_8 : decode cX1_orders 8 = .ok (.ldc 66, 2) := by decide +kernel
theorem dX1_orders_10 : decode cX1_orders 10 = .ok (.if_icmp .ne 5, 3) := by decide +kernel
theorem dX1_orders_13 : decode cX1_orders 13 = .ok (.iconst 0, 1) := by decide +kernel
theorem dX1_orders_14 : decode cX1_orders 14 = .ok (.ireturn, 1) := by decide +kernel
theorem dX1_orders_15 : decode cX1_orders 15 = .ok (.iconst 0, 1) := by decide +kernel
theorem dX1_orders_16 : decode cX1_orders 16 = .ok (.istore_n 1, 1) := by decide +kernel
theorem dX1_orders_17 : decode cX1_orders 17 = .ok (.iconst 0, 1) := by decide +kernel
theorem dX1_orders_18 : decode cX1_orders 18 = .ok (.istore_n 2, 1) := by decide +kernel
theorem dX1_orders_19 : decode cX1_orders 19 = .ok (.iload_n 2, 1) := by decide +kernel
theorem dX1_orders_20 : decode cX1_orders 20 = .ok (.sipush 256, 3) := by decide +kernel
theorem dX1_orders_23 : decode cX1_orders 23 = .ok (.if_icmp .ge 87, 3) := by decide +kernel
theorem dX1_orders_26 : decode cX1_orders 26 = .ok (.iload_n 2, 1) := by decide +kernel
theorem dX1_orders_27 : decode cX1_orders 27 = .ok (.iconst 3, 1) := by decide +kernel
theorem dX1_orders_28 : decode cX1_orders 28 = .ok (.iand, 1) := by decide +kernel
theorem dX1_orders_29 : decode cX1_orders 29 = .ok (.istore_n 3, 1) := by decide +kernel
theorem dX1_orders_30 : decode cX1_orders 30 = .ok (.iload_n 2, 1) := by decide +kernel
theorem dX1_orders_31 : decode cX1_orders 31 = .ok (.iconst 2, 1) := by decide +kernel
theorem dX1_orders_32 : decode cX1_orders 32 = .ok (.ishr, 1) := by decide +kernel
theorem dX1_orders_33 : decode cX1_orders 33 = .ok (.iconst 3, 1) := by decide +kernel
theorem dX1_orders_34 : decode cX1_orders 34 = .ok (.iand, 1) := by decide +kernel
theorem dX1_orders_35 : decode cX1_orders 35 = .ok (.istore 4, 2) := by decide +kernel
theorem dX1_orders_37 : decode cX1_orders 37 = .ok (.iload_n 2, 1) := by decide +kernel
theorem dX1_orders_38 : decode cX1_orders 38 = .ok (.iconst 4, 1) := by decide +kernel
theorem dX1_orders_39 : decode cX1_orders 39 = .ok (.ishr, 1) := by decide +kernel
theorem dX1_orders_40 : decode cX1_orders 40 = .ok (.iconst 3, 1) := by decide +kernel
theorem dX1_orders_41 : decode cX1_orders 41 = .ok (.iand, 1) := by decide +kernel
theorem dX1_orders_42 : decode cX1_orders 42 = .ok (.istore 5, 2) := by decide +kernel
theorem dX1_orders_44 : decode cX1_orders 44 = .ok (.iload_n 2, 1) := by decide +kernel
theorem dX1_orders_45 : decode cX1_orders 45 = .ok (.bipush 6, 2) := by decide +kernel
theorem dX1_orders_47 : decode cX1_orders 47 = .ok (.ishr, 1) := by decide +kernel
theorem dX1_orders_48 : decode cX1_orders 48 = .ok (.iconst 3, 1) := by decide +kernel
theorem dX1_orders_49 : decode cX1_orders 49 = .ok (.iand, 1) := by decide +kernel
theorem dX1_orders_50 : decode cX1_orders 50 = .ok (.istore 6, 2) := by decide +kernel
theorem dX1_orders_52 : decode cX1_orders 52 = .ok (.iconst 1, 1) := by decide +kernel
theorem dX1_orders_53 : decode cX1_orders 53 = .ok (.iload_n 3, 1) := by decide +kernel
theorem dX1_orders_54 : decode cX1_orders 54 = .ok (.ishl, 1) := by decide +kernel
theorem dX1_orders_55 : decode cX1_orders 55 = .ok (.iconst 1, 1) := by decide +kernel
theorem dX1_orders_56 : decode cX1_orders 56 = .ok (.iload 4, 2) := by decide +kernel
theorem dX1_orders_58 : decode cX1_orders 58 = .ok (.ishl, 1) := by decide +kernel
theorem dX1_orders_59 : decode cX1_orders 59 = .ok (.ior, 1) := by decide +kernel
theorem dX1_orders_60 : decode cX1_orders 60 = .ok (.iconst 1, 1) := by decide +kernel
theorem dX1_orders_61 : decode cX1_orders 61 = .ok (.iload 5, 2) := by decide +kernel
theorem dX1_orders_63 : decode cX1_orders 63 = .ok (.ishl, 1) := by decide +kernel
theorem dX1_orders_64 : decode cX1_orders 64 = .ok (.ior, 1) := by decide +kernel
theorem dX1_orders_65 : decode cX1_orders 65 = .ok (.iconst 1, 1) := by decide +kernel
theorem dX1_orders_66 : decode cX1_orders 66 = .ok (.iload 6, 2) := by decide +kernel
theorem dX1_orders_68 : decode cX1_orders 68 = .ok (.ishl, 1) := by decide +kernel
theorem dX1_orders_69 : decode cX1_orders 69 = .ok (.ior, 1) := by decide +kernel
theorem dX1_orders_70 : decode cX1_orders 70 = .ok (.bipush 15, 2) := by decide +kernel
theorem dX1_orders_72 : decode cX1_orders 72 = .ok (.if_icmp .ne 7, 3) := by decide +kernel
theorem dX1_orders_75 : decode cX1_orders 75 = .ok (.iconst 1, 1) := by decide +kernel
theorem dX1_orders_76 : decode cX1_orders 76 = .ok (.goto 4, 3) := by decide +kernel
theorem dX1_orders_79 : decode cX1_orders 79 = .ok (.iconst 0, 1) := by decide +kernel
theorem dX1_orders_80 : decode cX1_orders 80 = .ok (.istore 7, 2) := by decide +kernel
theorem dX1_orders_82 : decode cX1_orders 82 = .ok (.iload 7, 2) := by decide +kernel
theorem dX1_orders_84 : decode cX1_orders 84 = .ok (.ifCond .eq 20, 3) := by decide +kernel
theorem dX1_orders_87 : decode cX1_orders 87 = .ok (.aload_n 0, 1) := by decide +kernel
theorem dX1_orders_88 : decode cX1_orders 88 = .ok (.iload_n 3, 1) := by decide +kernel
theorem dX1_orders_89 : decode cX1_orders 89 = .ok (.iload 4, 2) := by decide +kernel
theorem dX1_orders_91 : decode cX1_orders 91 = .ok (.iload 5, 2) := by decide +kernel
theorem dX1_orders_93 : decode cX1_orders 93 = .ok (.iload 6, 2) := by decide +kernel
theorem dX1_orders_95 : decode cX1_orders 95 = .ok (.invokevirtual 90, 3) := by decide +kernel
theorem dX1_orders_98 : decode cX1_orders 98 = .ok (.ifCond .eq 6, 3) := by decide +kernel
theorem dX1_orders_101 : decode cX1_orders 101 = .ok (.iinc 1 1, 3) := by decide +kernel
theorem dX1_orders_104 : decode cX1_orders 104 = .ok (.iinc 2 1, 3) := by decide +kernel
theorem dX1_orders_107 : decode cX1_orders 107 = .ok (.goto (-88), 3) := by decide +kernel
theorem dX1_orders_110 : decode cX1_orders 110 = .ok (.iload_n 1, 1) := by decide +kernel
theorem dX1_orders_111 : decode cX1_orders 111 = .ok (.ireturn, 1) := by decide +kernel
theorem dX1_someFollows_0 : decode cX1_someFollows 0 = .ok (.iconst 0, 1) := by decide +kernel
theorem dX1_someFollows_1 : decode cX1_someFollows 1 = .ok (.istore 5, 2) := by decide +kernel
theorem dX1_someFollows_3 : decode cX1_someFollows 3 = .ok (.iload 5, 2) := by decide +kernel
theorem dX1_someFollows_5 : decode cX1_someFollows 5 = .ok (.sipush 4096, 3) := by decide +kernel
theorem dX1_someFollows_8 : decode cX1_someFollows 8 = .ok (.if_icmp .ge 47, 3) := by decide +kernel
theorem dX1_someFollows_11 : decode cX1_someFollows 11 = .ok (.aload_n 0, 1) := by decide +kernel
theorem dX1_someFollows_12 : decode cX1_someFollows 12 = .ok (.iload 5, 2) := by decide +kernel
theorem dX1_someFollows_14 : decode cX1_someFollows 14 = .ok (.iload_n 1, 1) := by decide +kernel
theorem dX1_someFollows_15 : decode cX1_someFollows 15 = .ok (.iload_n 2, 1) := by decide +kernel
theorem dX1_someFollows_16 : decode cX1_someFollows 16 = .ok (.iload_n 3, 1) := by decide +kernel
theorem dX1_someFollows_17 : decode cX1_someFollows 17 = .ok (.iload 4, 2) := by decide +kernel
theorem dX1_someFollows_19 : decode cX1_someFollows 19 = .ok (.invokevirtual 86, 3) := by decide +kernel
theorem dX1_someFollows_22 : decode cX1_someFollows 22 = .ok (.ifCond .eq 27, 3) := by decide +kernel
theorem dX1_someFollows_25 : decode cX1_someFollows 25 = .ok (.aload_n 0, 1) := by decide +kernel
theorem dX1_someFollows_26 : decode cX1_someFollows 26 = .ok (.iload 5, 2) := by decide +kernel
theorem dX1_someFollows_28 : decode cX1_someFollows 28 = .ok (.invokevirtual 76, 3) := by decide +kernel
theorem dX1_someFollows_31 : decode cX1_someFollows 31 = .ok (.aload_n 0, 1) := by decide +kernel
theorem dX1_someFollows_32 : decode cX1_someFollows 32 = .ok (.getfield 67, 3) := by decide +kernel
theorem dX1_someFollows_35 : decode cX1_someFollows 35 = .ok (.if_icmp .ne 14, 3) := by decide +kernel
theorem dX1_someFollows_38 : decode cX1_someFollows 38 = .ok (.aload_n 0, 1) := by decide +kernel
theorem dX1_someFollows_39 : decode cX1_someFollows 39 = .ok (.iload 5, 2) := by decide +kernel
theorem dX1_someFollows_41 : decode cX1_someFollows 41 = .ok (.invokevirtual 73, 3) := by decide +kernel
theorem dX1_someFollows_44 : decode cX1_someFollows 44 = .ok (.ifCond .eq 5, 3) := by decide +kernel
theorem dX1_someFollows_47 : decode cX1_someFollows 47 = .ok (.iconst 1, 1) := by decide +kernel
theorem dX1_someFollows_48 : decode cX1_someFollows 48 = .ok (.ireturn, 1) := by decide +kernel
theorem dX1_someFollows_49 : decode cX1_someFollows 49 = .ok (.iinc 5 1, 3) := by decide +kernel
theorem dX1_someFollows_52 : decode cX1_someFollows 52 = .ok (.goto (-49), 3) := by decide +kernel
theorem dX1_someFollows_55 : decode cX1_someFollows 55 = .ok (.iconst 0, 1) := by decide +kernel
theorem dX1_someFollows_56 : decode cX1_someFollows 56 = .ok (.ireturn, 1) := by decide +kernel
theorem dX1_follows_0 : decode cX1_follows 0 = .ok (.aload_n 0, 1) := by decide +kernel
theorem dX1_follows_1 : decode cX1_follows 1 = .ok (.iload_n 1, 1) := by decide +kernel
theorem dX1_follows_2 : decode cX1_follows 2 = .ok (.iload_n 2, 1) := by decide +kernel
theorem dX1_follows_3 : decode cX1_follows 3 = .ok (.invokevirtual 35, 3) := by decide +kernel
theorem dX1_follows_6 : decode cX1_follows 6 = .ok (.istore 6, 2) := by decide +kernel
theorem dX1_follows_8 : decode cX1_follows 8 = .ok (.aload_n 0, 1) := by decide +kernel
theorem dX1_follows_9 : decode cX1_follows 9 = .ok (.iload_n 1, 1) := by decide +kernel
theorem dX1_follows_10 : decode cX1_follows 10 = .ok (.iload_n 3, 1) := by decide +kernel
theorem dX1_follows_11 : decode cX1_follows 11 = .ok (.invokevirtual 35, 3) := by decide +kernel
theorem dX1_follows_14 : decode cX1_follows 14 = .ok (.istore 7, 2) := by decide +kernel
theorem dX1_follows_16 : decode cX1_follows 16 = .ok (.aload_n 0, 1) := by decide +kernel
theorem dX1_follows_17 : decode cX1_follows 17 = .ok (.iload_n 1, 1) := by decide +kernel
theorem dX1_follows_18 : decode cX1_follows 18 = .ok (.iload 4, 2) := by decide +kernel
theorem dX1_follows_20 : decode cX1_follows 20 = .ok (.invokevirtual 35, 3) := by decide +kernel
theorem dX1_follows_23 : decode cX1_follows 23 = .ok (.istore 8, 2) := by decide +kernel
theorem dX1_follows_25 : decode cX1_follows 25 = .ok (.iload 6, 2) := by decide +kernel
theorem dX1_follows_27 : decode cX1_follows 27 = .ok (.ifCond .ne 39, 3) := by decide +kernel
theorem dX1_follows_30 : decode cX1_follows 30 = .ok (.iload 7, 2) := by decide +kernel
theorem dX1_follows_32 : decode cX1_follows 32 = .ok (.iconst 1, 1) := by decide +kernel
theorem dX1_follows_33 : decode cX1_follows 33 = .ok (.iload_n 2, 1) := by decide +kernel
theorem dX1_follows_34 : decode cX1_follows 34 = .ok (.ishl, 1) := by decide +kernel
theorem dX1_follows_35 : decode cX1_follows 35 = .ok (.iconst (-1), 1) := by decide +kernel
theorem dX1_follows_36 : decode cX1_follows 36 = .ok (.ixor, 1) := by decide +kernel
theorem dX1_follows_37 : decode cX1_follows 37 = .ok (.iand, 1) := by decide +kernel
theorem dX1_follows_38 : decode cX1_follows 38 = .ok (.ifCond .ne 28, 3) := by decide +kernel
theorem dX1_follows_41 : decode cX1_follows 41 = .ok (.iload 8, 2) := by decide +kernel
theorem dX1_follows_43 : decode cX1_follows 43 = .ok (.iconst 1, 1) := by decide +kernel
theorem dX1_follows_44 : decode cX1_follows 44 = .ok (.iload_n 2, 1) := by decide +kernel
theorem dX1_follows_45 : decode cX1_follows 45 = .ok (.ishl, 1) := by decide +kernel
theorem dX1_follows_46 : decode cX1_follows 46 = .ok (.iconst 1, 1) := by decide +kernel
theorem dX1_follows_47 : decode cX1_follows 47 = .ok (.iload_n 3, 1) := by decide +kernel
theorem dX1_follows_48 : decode cX1_follows 48 = .ok (.ishl, 1) := by decide +kernel
theorem dX1_follows_49 : decode cX1_follows 49 = .ok (.ior, 1) := by decide +kernel
theorem dX1_follows_50 : decode cX1_follows 50 = .ok (.iconst (-1), 1) := by decide +kernel
theorem dX1_follows_51 : decode cX1_follows 51 = .ok (.ixor, 1) := by decide +kernel
theorem dX1_follows_52 : decode cX1_follows 52 = .ok (.iand, 1) := by decide +kernel
theorem dX1_follows_53 : decode cX1_follows 53 = .ok (.ifCond .ne 13, 3) := by decide +kernel
theorem dX1_follows_56 : decode cX1_follows 56 = .ok (.iload 5, 2) := by decide +kernel
theorem dX1_follows_58 : decode cX1_follows 58 = .ok (.iload_n 2, 1) := by decide +kernel
theorem dX1_follows_59 : decode cX1_follows 59 = .ok (.if_icmp .eq 7, 3) := by decide +kernel
theorem dX1_follows_62 : decode cX1_follows 62 = .ok (.iconst 1, 1) := by decide +kernel
theorem dX1_follows_63 : decode cX1_follows 63 = .ok (.goto 4, 3) := by decide +kernel
theorem dX1_follows_66 : decode cX1_follows 66 = .ok (.iconst 0, 1) := by decide +kernel
theorem dX1_follows_67 : decode cX1_follows 67 = .ok (.ireturn, 1) := by decide +kernel
theorem dX1_scoreOf_0 : decode cX1_scoreOf 0 = .ok (.aload_n 0, 1) := by decide +kernel
theorem dX1_scoreOf_1 : decode cX1_scoreOf 1 = .ok (.iload_n 1, 1) := by decide +kernel
theorem dX1_scoreOf_2 : decode cX1_scoreOf 2 = .ok (.invokevirtual 38, 3) := by decide +kernel
theorem dX1_scoreOf_5 : decode cX1_scoreOf 5 = .ok (.ifCond .ne 12, 3) := by decide +kernel
theorem dX1_scoreOf_8 : decode cX1_scoreOf 8 = .ok (.aload_n 0, 1) := by decide +kernel
theorem dX1_scoreOf_9 : decode cX1_scoreOf 9 = .ok (.iload_n 1, 1) := by decide +kernel
theorem dX1_scoreOf_10 : decode cX1_scoreOf 10 = .ok (.iload_n 2, 1) := by decide +kernel
theorem dX1_scoreOf_11 : decode cX1_scoreOf 11 = .ok (.invokevirtual 41, 3) := by decide +kernel
theorem dX1_scoreOf_14 : decode cX1_scoreOf 14 = .ok (.ifCond .eq 5, 3) := by decide +kernel
theorem dX1_scoreOf_17 : decode cX1_scoreOf 17 = .ok (.iconst 0, 1) := by decide +kernel
theorem dX1_scoreOf_18 : decode cX1_scoreOf 18 = .ok (.ireturn, 1) := by decide +kernel
theorem dX1_scoreOf_19 : decode cX1_scoreOf 19 = .ok (.aload_n 0, 1) := by decide +kernel
theorem dX1_scoreOf_20 : decode cX1_scoreOf 20 = .ok (.iload_n 1, 1) := by decide +kernel
theorem dX1_scoreOf_21 : decode cX1_scoreOf 21 = .ok (.iload_n 2, 1) := by decide +kernel
theorem dX1_scoreOf_22 : decode cX1_scoreOf 22 = .ok (.invokevirtual 45, 3) := by decide +kernel
theorem dX1_scoreOf_25 : decode cX1_scoreOf 25 = .ok (.istore_n 3, 1) := by decide +kernel
theorem dX1_scoreOf_26 : decode cX1_scoreOf 26 = .ok (.aload_n 0, 1) := by decide +kernel
theorem dX1_scoreOf_27 : decode cX1_scoreOf 27 = .ok (.getfield 7, 3) := by decide +kernel
theorem dX1_scoreOf_30 : decode cX1_scoreOf 30 = .ok (.iload_n 1, 1) := by decide +kernel
end
section
set_option maxRecDepth 100000
theorem dX1_scoreOf_31 : decode cX1_scoreOf 31 = .ok (.bipush 8, 2) := by decide +kernel
theorem dX1_scoreOf_33 : decode cX1_scoreOf 33 = .ok (.imul, 1) := by decide +kernel
theorem dX1_scoreOf_34 : decode cX1_scoreOf 34 = .ok (.iload_n 3, 1) := by decide +kernel
theorem dX1_scoreOf_35 : decode cX1_scoreOf 35 = .ok (.iadd, 1) := by decide +kernel
theorem dX1_scoreOf_36 : decode cX1_scoreOf 36 = .ok (.iaload, 1) := by decide +kernel
theorem dX1_scoreOf_37 : decode cX1_scoreOf 37 = .ok (.ireturn, 1) := by decide +kernel
end
section
/-! the law's own entry -/
set_option maxRecDepth 100000
abbrev cL_law : ByteArray := code
end
section
set_option maxRecDepth 100000
theorem dL_law_0 : decode cL_law 0 = .ok (.new 7, 3) := by decide +kernel
theorem dL_law_3 : decode cL_law 3 = .ok (.dup, 1) := by decide +kernel
theorem dL_law_4 : decode cL_law 4 = .ok (.invokespecial 9, 3) := by decide +kernel
theorem dL_law_7 : decode cL_law 7 = .ok (.astore_n 1, 1) := by decide +kernel
theorem dL_law_8 : decode cL_law 8 = .ok (.new 10, 3) := by decide +kernel
theorem dL_law_11 : decode cL_law 11 = .ok (.dup, 1) := by decide +kernel
theorem dL_law_12 : decode cL_law 12 = .ok (.invokespecial 12, 3) := by decide +kernel
theorem dL_law_15 : decode cL_law 15 = .ok (.astore_n 2, 1) := by decide +kernel
theorem dL_law_16 : decode cL_law 16 = .ok (.iconst 0, 1) := by decide +kernel
theorem dL_law_17 : decode cL_law 17 = .ok (.istore_n 3, 1) := by decide +kernel
theorem dL_law_18 : decode cL_law 18 = .ok (.iload_n 3, 1) := by decide +kernel
theorem dL_law_19 : decode cL_law 19 = .ok (.aload_n 0, 1) := by decide +kernel
theorem dL_law_20 : decode cL_law 20 = .ok (.arraylength, 1) := by decide +kernel
theorem dL_law_21 : decode cL_law 21 = .ok (.iconst 4, 1) := by decide +kernel
theorem dL_law_22 : decode cL_law 22 = .ok (.isub, 1) := by decide +kernel
theorem dL_law_23 : decode cL_law 23 = .ok (.if_icmp .gt 398, 3) := by decide +kernel
theorem dL_law_26 : decode cL_law 26 = .ok (.aload_n 0, 1) := by decide +kernel
theorem dL_law_27 : decode cL_law 27 = .ok (.iload_n 3, 1) := by decide +kernel
theorem dL_law_28 : decode cL_law 28 = .ok (.iaload, 1) := by decide +kernel
theorem dL_law_29 : decode cL_law 29 = .ok (.bipush 15, 2) := by decide +kernel
theorem dL_law_31 : decode cL_law 31 = .ok (.iand, 1) := by decide +kernel
theorem dL_law_32 : decode cL_law 32 = .ok (.tableswitch 383 0 10 #[60, 103, 126, 169, 222, 235, 258, 291, 324, 337, 350], 60) := by decide +kernel
theorem dL_law_92 : decode cL_law 92 = .ok (.aload_n 1, 1) := by decide +kernel
theorem dL_law_93 : decode cL_law 93 = .ok (.aload_n 0, 1) := by decide +kernel
theorem dL_law_94 : decode cL_law 94 = .ok (.iload_n 3, 1) := by decide +kernel
theorem dL_law_95 : decode cL_law 95 = .ok (.iconst 1, 1) := by decide +kernel
theorem dL_law_96 : decode cL_law 96 = .ok (.iadd, 1) := by decide +kernel
theorem dL_law_97 : decode cL_law 97 = .ok (.iaload, 1) := by decide +kernel
theorem dL_law_98 : decode cL_law 98 = .ok (.aload_n 0, 1) := by decide +kernel
theorem dL_law_99 : decode cL_law 99 = .ok (.iload_n 3, 1) := by decide +kernel
theorem dL_law_100 : decode cL_law 100 = .ok (.iconst 2, 1) := by decide +kernel
theorem dL_law_101 : decode cL_law 101 = .ok (.iadd, 1) := by decide +kernel
theorem dL_law_102 : decode cL_law 102 = .ok (.iaload, 1) := by decide +kernel
theorem dL_law_103 : decode cL_law 103 = .ok (.aload_n 0, 1) := by decide +kernel
theorem dL_law_104 : decode cL_law 104 = .ok (.iload_n 3, 1) := by decide +kernel
theorem dL_law_105 : decode cL_law 105 = .ok (.iconst 3, 1) := by decide +kernel
theorem dL_law_106 : decode cL_law 106 = .ok (.iadd, 1) := by decide +kernel
theorem dL_law_107 : decode cL_law 107 = .ok (.iaload, 1) := by decide +kernel
theorem dL_law_108 : decode cL_law 108 = .ok (.invokevirtual 13, 3) := by decide +kernel
theorem dL_law_111 : decode cL_law 111 = .ok (.aload_n 2, 1) := by decide +kernel
theorem dL_law_112 : decode cL_law 112 = .ok (.aload_n 0, 1) := by decide +kernel
theorem dL_law_113 : decode cL_law 113 = .ok (.iload_n 3, 1) := by decide +kernel
theorem dL_law_114 : decode cL_law 114 = .ok (.iconst 1, 1) := by decide +kernel
theorem dL_law_115 : decode cL_law 115 = .ok (.iadd, 1) := by decide +kernel
theorem dL_law_116 : decode cL_law 116 = .ok (.iaload, 1) := by decide +kernel
theorem dL_law_117 : decode cL_law 117 = .ok (.aload_n 0, 1) := by decide +kernel
theorem dL_law_118 : decode cL_law 118 = .ok (.iload_n 3, 1) := by decide +kernel
theorem dL_law_119 : decode cL_law 119 = .ok (.iconst 2, 1) := by decide +kernel
theorem dL_law_120 : decode cL_law 120 = .ok (.iadd, 1) := by decide +kernel
theorem dL_law_121 : decode cL_law 121 = .ok (.iaload, 1) := by decide +kernel
theorem dL_law_122 : decode cL_law 122 = .ok (.aload_n 0, 1) := by decide +kernel
theorem dL_law_123 : decode cL_law 123 = .ok (.iload_n 3, 1) := by decide +kernel
theorem dL_law_124 : decode cL_law 124 = .ok (.iconst 3, 1) := by decide +kernel
theorem dL_law_125 : decode cL_law 125 = .ok (.iadd, 1) := by decide +kernel
theorem dL_law_126 : decode cL_law 126 = .ok (.iaload, 1) := by decide +kernel
theorem dL_law_127 : decode cL_law 127 = .ok (.invokevirtual 17, 3) := by decide +kernel
theorem dL_law_130 : decode cL_law 130 = .ok (.if_icmp .eq 285, 3) := by decide +kernel
theorem dL_law_133 : decode cL_law 133 = .ok (.iconst 0, 1) := by decide +kernel
theorem dL_law_134 : decode cL_law 134 = .ok (.ireturn, 1) := by decide +kernel
theorem dL_law_135 : decode cL_law 135 = .ok (.aload_n 1, 1) := by decide +kernel
theorem dL_law_136 : decode cL_law 136 = .ok (.aload_n 0, 1) := by decide +kernel
theorem dL_law_137 : decode cL_law 137 = .ok (.iload_n 3, 1) := by decide +kernel
theorem dL_law_138 : decode cL_law 138 = .ok (.iconst 1, 1) := by decide +kernel
theorem dL_law_139 : decode cL_law 139 = .ok (.iadd, 1) := by decide +kernel
theorem dL_law_140 : decode cL_law 140 = .ok (.iaload, 1) := by decide +kernel
theorem dL_law_141 : decode cL_law 141 = .ok (.invokevirtual 18, 3) := by decide +kernel
theorem dL_law_144 : decode cL_law 144 = .ok (.aload_n 2, 1) := by decide +kernel
theorem dL_law_145 : decode cL_law 145 = .ok (.aload_n 0, 1) := by decide +kernel
theorem dL_law_146 : decode cL_law 146 = .ok (.iload_n 3, 1) := by decide +kernel
theorem dL_law_147 : decode cL_law 147 = .ok (.iconst 1, 1) := by decide +kernel
theorem dL_law_148 : decode cL_law 148 = .ok (.iadd, 1) := by decide +kernel
theorem dL_law_149 : decode cL_law 149 = .ok (.iaload, 1) := by decide +kernel
theorem dL_law_150 : decode cL_law 150 = .ok (.invokevirtual 22, 3) := by decide +kernel
theorem dL_law_153 : decode cL_law 153 = .ok (.if_icmp .eq 262, 3) := by decide +kernel
theorem dL_law_156 : decode cL_law 156 = .ok (.iconst 0, 1) := by decide +kernel
theorem dL_law_157 : decode cL_law 157 = .ok (.ireturn, 1) := by decide +kernel
theorem dL_law_158 : decode cL_law 158 = .ok (.aload_n 1, 1) := by decide +kernel
theorem dL_law_159 : decode cL_law 159 = .ok (.aload_n 0, 1) := by decide +kernel
theorem dL_law_160 : decode cL_law 160 = .ok (.iload_n 3, 1) := by decide +kernel
theorem dL_law_161 : decode cL_law 161 = .ok (.iconst 1, 1) := by decide +kernel
theorem dL_law_162 : decode cL_law 162 = .ok (.iadd, 1) := by decide +kernel
theorem dL_law_163 : decode cL_law 163 = .ok (.iaload, 1) := by decide +kernel
theorem dL_law_164 : decode cL_law 164 = .ok (.aload_n 0, 1) := by decide +kernel
theorem dL_law_165 : decode cL_law 165 = .ok (.iload_n 3, 1) := by decide +kernel
theorem dL_law_166 : decode cL_law 166 = .ok (.iconst 2, 1) := by decide +kernel
theorem dL_law_167 : decode cL_law 167 = .ok (.iadd, 1) := by decide +kernel
theorem dL_law_168 : decode cL_law 168 = .ok (.iaload, 1) := by decide +kernel
theorem dL_law_169 : decode cL_law 169 = .ok (.aload_n 0, 1) := by decide +kernel
theorem dL_law_170 : decode cL_law 170 = .ok (.iload_n 3, 1) := by decide +kernel
theorem dL_law_171 : decode cL_law 171 = .ok (.iconst 3, 1) := by decide +kernel
theorem dL_law_172 : decode cL_law 172 = .ok (.iadd, 1) := by decide +kernel
theorem dL_law_173 : decode cL_law 173 = .ok (.iaload, 1) := by decide +kernel
theorem dL_law_174 : decode cL_law 174 = .ok (.invokevirtual 23, 3) := by decide +kernel
theorem dL_law_177 : decode cL_law 177 = .ok (.aload_n 2, 1) := by decide +kernel
theorem dL_law_178 : decode cL_law 178 = .ok (.aload_n 0, 1) := by decide +kernel
theorem dL_law_179 : decode cL_law 179 = .ok (.iload_n 3, 1) := by decide +kernel
theorem dL_law_180 : decode cL_law 180 = .ok (.iconst 1, 1) := by decide +kernel
theorem dL_law_181 : decode cL_law 181 = .ok (.iadd, 1) := by decide +kernel
theorem dL_law_182 : decode cL_law 182 = .ok (.iaload, 1) := by decide +kernel
theorem dL_law_183 : decode cL_law 183 = .ok (.aload_n 0, 1) := by decide +kernel
theorem dL_law_184 : decode cL_law 184 = .ok (.iload_n 3, 1) := by decide +kernel
theorem dL_law_185 : decode cL_law 185 = .ok (.iconst 2, 1) := by decide +kernel
theorem dL_law_186 : decode cL_law 186 = .ok (.iadd, 1) := by decide +kernel
theorem dL_law_187 : decode cL_law 187 = .ok (.iaload, 1) := by decide +kernel
theorem dL_law_188 : decode cL_law 188 = .ok (.aload_n 0, 1) := by decide +kernel
theorem dL_law_189 : decode cL_law 189 = .ok (.iload_n 3, 1) := by decide +kernel
theorem dL_law_190 : decode cL_law 190 = .ok (.iconst 3, 1) := by decide +kernel
theorem dL_law_191 : decode cL_law 191 = .ok (.iadd, 1) := by decide +kernel
theorem dL_law_192 : decode cL_law 192 = .ok (.iaload, 1) := by decide +kernel
theorem dL_law_193 : decode cL_law 193 = .ok (.invokevirtual 26, 3) := by decide +kernel
theorem dL_law_196 : decode cL_law 196 = .ok (.if_icmp .eq 219, 3) := by decide +kernel
theorem dL_law_199 : decode cL_law 199 = .ok (.iconst 0, 1) := by decide +kernel
theorem dL_law_200 : decode cL_law 200 = .ok (.ireturn, 1) := by decide +kernel
theorem dL_law_201 : decode cL_law 201 = .ok (.aload_n 1, 1) := by decide +kernel
theorem dL_law_202 : decode cL_law 202 = .ok (.aload_n 0, 1) := by decide +kernel
theorem dL_law_203 : decode cL_law 203 = .ok (.iload_n 3, 1) := by decide +kernel
theorem dL_law_204 : decode cL_law 204 = .ok (.iconst 1, 1) := by decide +kernel
theorem dL_law_205 : decode cL_law 205 = .ok (.iadd, 1) := by decide +kernel
theorem dL_law_206 : decode cL_law 206 = .ok (.iaload, 1) := by decide +kernel
theorem dL_law_207 : decode cL_law 207 = .ok (.i2l, 1) := by decide +kernel
theorem dL_law_208 : decode cL_law 208 = .ok (.bipush 32, 2) := by decide +kernel
theorem dL_law_210 : decode cL_law 210 = .ok (.lshl, 1) := by decide +kernel
theorem dL_law_211 : decode cL_law 211 = .ok (.aload_n 0, 1) := by decide +kernel
theorem dL_law_212 : decode cL_law 212 = .ok (.iload_n 3, 1) := by decide +kernel
theorem dL_law_213 : decode cL_law 213 = .ok (.iconst 2, 1) := by decide +kernel
theorem dL_law_214 : decode cL_law 214 = .ok (.iadd, 1) := by decide +kernel
theorem dL_law_215 : decode cL_law 215 = .ok (.iaload, 1) := by decide +kernel
theorem dL_law_216 : decode cL_law 216 = .ok (.i2l, 1) := by decide +kernel
theorem dL_law_217 : decode cL_law 217 = .ok (.ldc2_w 27, 3) := by decide +kernel
theorem dL_law_220 : decode cL_law 220 = .ok (.land, 1) := by decide +kernel
theorem dL_law_221 : decode cL_law 221 = .ok (.lor, 1) := by decide +kernel
theorem dL_law_222 : decode cL_law 222 = .ok (.invokevirtual 29, 3) := by decide +kernel
theorem dL_law_225 : decode cL_law 225 = .ok (.aload_n 2, 1) := by decide +kernel
theorem dL_law_226 : decode cL_law 226 = .ok (.aload_n 0, 1) := by decide +kernel
theorem dL_law_227 : decode cL_law 227 = .ok (.iload_n 3, 1) := by decide +kernel
theorem dL_law_228 : decode cL_law 228 = .ok (.iconst 1, 1) := by decide +kernel
theorem dL_law_229 : decode cL_law 229 = .ok (.iadd, 1) := by decide +kernel
theorem dL_law_230 : decode cL_law 230 = .ok (.iaload, 1) := by decide +kernel
theorem dL_law_231 : decode cL_law 231 = .ok (.i2l, 1) := by decide +kernel
theorem dL_law_232 : decode cL_law 232 = .ok (.bipush 32, 2) := by decide +kernel
theorem dL_law_234 : decode cL_law 234 = .ok (.lshl, 1) := by decide +kernel
theorem dL_law_235 : decode cL_law 235 = .ok (.aload_n 0, 1) := by decide +kernel
theorem dL_law_236 : decode cL_law 236 = .ok (.iload_n 3, 1) := by decide +kernel
theorem dL_law_237 : decode cL_law 237 = .ok (.iconst 2, 1) := by decide +kernel
theorem dL_law_238 : decode cL_law 238 = .ok (.iadd, 1) := by decide +kernel
theorem dL_law_239 : decode cL_law 239 = .ok (.iaload, 1) := by decide +kernel
theorem dL_law_240 : decode cL_law 240 = .ok (.i2l, 1) := by decide +kernel
theorem dL_law_241 : decode cL_law 241 = .ok (.ldc2_w 27, 3) := by decide +kernel
theorem dL_law_244 : decode cL_law 244 = .ok (.land, 1) := by decide +kernel
theorem dL_law_245 : decode cL_law 245 = .ok (.lor, 1) := by decide +kernel
theorem dL_law_246 : decode cL_law 246 = .ok (.invokevirtual 33, 3) := by decide +kernel
theorem dL_law_249 : decode cL_law 249 = .ok (.if_icmp .eq 166, 3) := by decide +kernel
theorem dL_law_252 : decode cL_law 252 = .ok (.iconst 0, 1) := by decide +kernel
theorem dL_law_253 : decode cL_law 253 = .ok (.ireturn, 1) := by decide +kernel
theorem dL_law_254 : decode cL_law 254 = .ok (.aload_n 1, 1) := by decide +kernel
theorem dL_law_255 : decode cL_law 255 = .ok (.invokevirtual 34, 3) := by decide +kernel
theorem dL_law_258 : decode cL_law 258 = .ok (.aload_n 2, 1) := by decide +kernel
theorem dL_law_259 : decode cL_law 259 = .ok (.invokevirtual 38, 3) := by decide +kernel
theorem dL_law_262 : decode cL_law 262 = .ok (.if_icmp .eq 153, 3) := by decide +kernel
theorem dL_law_265 : decode cL_law 265 = .ok (.iconst 0, 1) := by decide +kernel
theorem dL_law_266 : decode cL_law 266 = .ok (.ireturn, 1) := by decide +kernel
theorem dL_law_267 : decode cL_law 267 = .ok (.aload_n 1, 1) := by decide +kernel
theorem dL_law_268 : decode cL_law 268 = .ok (.aload_n 0, 1) := by decide +kernel
theorem dL_law_269 : decode cL_law 269 = .ok (.iload_n 3, 1) := by decide +kernel
theorem dL_law_270 : decode cL_law 270 = .ok (.iconst 1, 1) := by decide +kernel
theorem dL_law_271 : decode cL_law 271 = .ok (.iadd, 1) := by decide +kernel
theorem dL_law_272 : decode cL_law 272 = .ok (.iaload, 1) := by decide +kernel
theorem dL_law_273 : decode cL_law 273 = .ok (.invokevirtual 39, 3) := by decide +kernel
theorem dL_law_276 : decode cL_law 276 = .ok (.aload_n 2, 1) := by decide +kernel
theorem dL_law_277 : decode cL_law 277 = .ok (.aload_n 0, 1) := by decide +kernel
theorem dL_law_278 : decode cL_law 278 = .ok (.iload_n 3, 1) := by decide +kernel
theorem dL_law_279 : decode cL_law 279 = .ok (.iconst 1, 1) := by decide +kernel
theorem dL_law_280 : decode cL_law 280 = .ok (.iadd, 1) := by decide +kernel
theorem dL_law_281 : decode cL_law 281 = .ok (.iaload, 1) := by decide +kernel
theorem dL_law_282 : decode cL_law 282 = .ok (.invokevirtual 42, 3) := by decide +kernel
theorem dL_law_285 : decode cL_law 285 = .ok (.if_icmp .eq 130, 3) := by decide +kernel
theorem dL_law_288 : decode cL_law 288 = .ok (.iconst 0, 1) := by decide +kernel
theorem dL_law_289 : decode cL_law 289 = .ok (.ireturn, 1) := by decide +kernel
theorem dL_law_290 : decode cL_law 290 = .ok (.aload_n 1, 1) := by decide +kernel
theorem dL_law_291 : decode cL_law 291 = .ok (.aload_n 0, 1) := by decide +kernel
theorem dL_law_292 : decode cL_law 292 = .ok (.iload_n 3, 1) := by decide +kernel
theorem dL_law_293 : decode cL_law 293 = .ok (.iconst 1, 1) := by decide +kernel
theorem dL_law_294 : decode cL_law 294 = .ok (.iadd, 1) := by decide +kernel
theorem dL_law_295 : decode cL_law 295 = .ok (.iaload, 1) := by decide +kernel
theorem dL_law_296 : decode cL_law 296 = .ok (.aload_n 0, 1) := by decide +kernel
theorem dL_law_297 : decode cL_law 297 = .ok (.iload_n 3, 1) := by decide +kernel
theorem dL_law_298 : decode cL_law 298 = .ok (.iconst 2, 1) := by decide +kernel
theorem dL_law_299 : decode cL_law 299 = .ok (.iadd, 1) := by decide +kernel
theorem dL_law_300 : decode cL_law 300 = .ok (.iaload, 1) := by decide +kernel
theorem dL_law_301 : decode cL_law 301 = .ok (.invokevirtual 43, 3) := by decide +kernel
theorem dL_law_304 : decode cL_law 304 = .ok (.aload_n 2, 1) := by decide +kernel
theorem dL_law_305 : decode cL_law 305 = .ok (.aload_n 0, 1) := by decide +kernel
theorem dL_law_306 : decode cL_law 306 = .ok (.iload_n 3, 1) := by decide +kernel
theorem dL_law_307 : decode cL_law 307 = .ok (.iconst 1, 1) := by decide +kernel
theorem dL_law_308 : decode cL_law 308 = .ok (.iadd, 1) := by decide +kernel
theorem dL_law_309 : decode cL_law 309 = .ok (.iaload, 1) := by decide +kernel
theorem dL_law_310 : decode cL_law 310 = .ok (.aload_n 0, 1) := by decide +kernel
theorem dL_law_311 : decode cL_law 311 = .ok (.iload_n 3, 1) := by decide +kernel
theorem dL_law_312 : decode cL_law 312 = .ok (.iconst 2, 1) := by decide +kernel
theorem dL_law_313 : decode cL_law 313 = .ok (.iadd, 1) := by decide +kernel
theorem dL_law_314 : decode cL_law 314 = .ok (.iaload, 1) := by decide +kernel
theorem dL_law_315 : decode cL_law 315 = .ok (.invokevirtual 47, 3) := by decide +kernel
theorem dL_law_318 : decode cL_law 318 = .ok (.if_icmp .eq 97, 3) := by decide +kernel
theorem dL_law_321 : decode cL_law 321 = .ok (.iconst 0, 1) := by decide +kernel
theorem dL_law_322 : decode cL_law 322 = .ok (.ireturn, 1) := by decide +kernel
theorem dL_law_323 : decode cL_law 323 = .ok (.aload_n 1, 1) := by decide +kernel
theorem dL_law_324 : decode cL_law 324 = .ok (.aload_n 0, 1) := by decide +kernel
theorem dL_law_325 : decode cL_law 325 = .ok (.iload_n 3, 1) := by decide +kernel
theorem dL_law_326 : decode cL_law 326 = .ok (.iconst 1, 1) := by decide +kernel
theorem dL_law_327 : decode cL_law 327 = .ok (.iadd, 1) := by decide +kernel
theorem dL_law_328 : decode cL_law 328 = .ok (.iaload, 1) := by decide +kernel
theorem dL_law_329 : decode cL_law 329 = .ok (.aload_n 0, 1) := by decide +kernel
theorem dL_law_330 : decode cL_law 330 = .ok (.iload_n 3, 1) := by decide +kernel
theorem dL_law_331 : decode cL_law 331 = .ok (.iconst 2, 1) := by decide +kernel
theorem dL_law_332 : decode cL_law 332 = .ok (.iadd, 1) := by decide +kernel
theorem dL_law_333 : decode cL_law 333 = .ok (.iaload, 1) := by decide +kernel
theorem dL_law_334 : decode cL_law 334 = .ok (.invokevirtual 48, 3) := by decide +kernel
theorem dL_law_337 : decode cL_law 337 = .ok (.aload_n 2, 1) := by decide +kernel
theorem dL_law_338 : decode cL_law 338 = .ok (.aload_n 0, 1) := by decide +kernel
theorem dL_law_339 : decode cL_law 339 = .ok (.iload_n 3, 1) := by decide +kernel
theorem dL_law_340 : decode cL_law 340 = .ok (.iconst 1, 1) := by decide +kernel
theorem dL_law_341 : decode cL_law 341 = .ok (.iadd, 1) := by decide +kernel
theorem dL_law_342 : decode cL_law 342 = .ok (.iaload, 1) := by decide +kernel
theorem dL_law_343 : decode cL_law 343 = .ok (.aload_n 0, 1) := by decide +kernel
theorem dL_law_344 : decode cL_law 344 = .ok (.iload_n 3, 1) := by decide +kernel
theorem dL_law_345 : decode cL_law 345 = .ok (.iconst 2, 1) := by decide +kernel
theorem dL_law_346 : decode cL_law 346 = .ok (.iadd, 1) := by decide +kernel
theorem dL_law_347 : decode cL_law 347 = .ok (.iaload, 1) := by decide +kernel
theorem dL_law_348 : decode cL_law 348 = .ok (.invokevirtual 51, 3) := by decide +kernel
theorem dL_law_351 : decode cL_law 351 = .ok (.if_icmp .eq 64, 3) := by decide +kernel
theorem dL_law_354 : decode cL_law 354 = .ok (.iconst 0, 1) := by decide +kernel
theorem dL_law_355 : decode cL_law 355 = .ok (.ireturn, 1) := by decide +kernel
theorem dL_law_356 : decode cL_law 356 = .ok (.aload_n 1, 1) := by decide +kernel
theorem dL_law_357 : decode cL_law 357 = .ok (.invokevirtual 52, 3) := by decide +kernel
theorem dL_law_360 : decode cL_law 360 = .ok (.aload_n 2, 1) := by decide +kernel
theorem dL_law_361 : decode cL_law 361 = .ok (.invokevirtual 55, 3) := by decide +kernel
theorem dL_law_364 : decode cL_law 364 = .ok (.if_icmp .eq 51, 3) := by decide +kernel
theorem dL_law_367 : decode cL_law 367 = .ok (.iconst 0, 1) := by decide +kernel
theorem dL_law_368 : decode cL_law 368 = .ok (.ireturn, 1) := by decide +kernel
theorem dL_law_369 : decode cL_law 369 = .ok (.aload_n 1, 1) := by decide +kernel
theorem dL_law_370 : decode cL_law 370 = .ok (.invokevirtual 56, 3) := by decide +kernel
theorem dL_law_373 : decode cL_law 373 = .ok (.aload_n 2, 1) := by decide +kernel
theorem dL_law_374 : decode cL_law 374 = .ok (.invokevirtual 59, 3) := by decide +kernel
theorem dL_law_377 : decode cL_law 377 = .ok (.if_icmp .eq 38, 3) := by decide +kernel
theorem dL_law_380 : decode cL_law 380 = .ok (.iconst 0, 1) := by decide +kernel
theorem dL_law_381 : decode cL_law 381 = .ok (.ireturn, 1) := by decide +kernel
theorem dL_law_382 : decode cL_law 382 = .ok (.aload_n 1, 1) := by decide +kernel
theorem dL_law_383 : decode cL_law 383 = .ok (.aload_n 0, 1) := by decide +kernel
theorem dL_law_384 : decode cL_law 384 = .ok (.iload_n 3, 1) := by decide +kernel
theorem dL_law_385 : decode cL_law 385 = .ok (.iconst 1, 1) := by decide +kernel
theorem dL_law_386 : decode cL_law 386 = .ok (.iadd, 1) := by decide +kernel
theorem dL_law_387 : decode cL_law 387 = .ok (.iaload, 1) := by decide +kernel
theorem dL_law_388 : decode cL_law 388 = .ok (.aload_n 0, 1) := by decide +kernel
theorem dL_law_389 : decode cL_law 389 = .ok (.iload_n 3, 1) := by decide +kernel
theorem dL_law_390 : decode cL_law 390 = .ok (.iconst 2, 1) := by decide +kernel
theorem dL_law_391 : decode cL_law 391 = .ok (.iadd, 1) := by decide +kernel
theorem dL_law_392 : decode cL_law 392 = .ok (.iaload, 1) := by decide +kernel
theorem dL_law_393 : decode cL_law 393 = .ok (.invokevirtual 60, 3) := by decide +kernel
theorem dL_law_396 : decode cL_law 396 = .ok (.aload_n 2, 1) := by decide +kernel
theorem dL_law_397 : decode cL_law 397 = .ok (.aload_n 0, 1) := by decide +kernel
theorem dL_law_398 : decode cL_law 398 = .ok (.iload_n 3, 1) := by decide +kernel
theorem dL_law_399 : decode cL_law 399 = .ok (.iconst 1, 1) := by decide +kernel
theorem dL_law_400 : decode cL_law 400 = .ok (.iadd, 1) := by decide +kernel
theorem dL_law_401 : decode cL_law 401 = .ok (.iaload, 1) := by decide +kernel
theorem dL_law_402 : decode cL_law 402 = .ok (.aload_n 0, 1) := by decide +kernel
theorem dL_law_403 : decode cL_law 403 = .ok (.iload_n 3, 1) := by decide +kernel
theorem dL_law_404 : decode cL_law 404 = .ok (.iconst 2, 1) := by decide +kernel
theorem dL_law_405 : decode cL_law 405 = .ok (.iadd, 1) := by decide +kernel
theorem dL_law_406 : decode cL_law 406 = .ok (.iaload, 1) := by decide +kernel
theorem dL_law_407 : decode cL_law 407 = .ok (.invokevirtual 63, 3) := by decide +kernel
theorem dL_law_410 : decode cL_law 410 = .ok (.if_icmp .eq 5, 3) := by decide +kernel
theorem dL_law_413 : decode cL_law 413 = .ok (.iconst 0, 1) := by decide +kernel
theorem dL_law_414 : decode cL_law 414 = .ok (.ireturn, 1) := by decide +kernel
theorem dL_law_415 : decode cL_law 415 = .ok (.iinc 3 4, 3) := by decide +kernel
theorem dL_law_418 : decode cL_law 418 = .ok (.goto (-400), 3) := by decide +kernel
theorem dL_law_421 : decode cL_law 421 = .ok (.iconst 1, 1) := by decide +kernel
theorem dL_law_422 : decode cL_law 422 = .ok (.ireturn, 1) := by decide +kernel
end
section
/-! java/lang/Object -/
set_option maxRecDepth 100000
def RJ0 : String := "java/lang/Object"
abbrev cJ0_init : ByteArray := object_method_1_code
def yJ0_init : MethodName := ⟨RJ0, "<init>", "()V"⟩
theorem dJ0_init_0 : decode cJ0_init 0 = .ok (.return_, 1) := by decide +kernel
theorem q31 : (Jvm.Cond.instanceMethod ({ cls := "java/lang/Object", name := "<init>", desc := "()V" } : Jvm.MethodName)) ∈ lw_all := lw_g (lw_at lw_m1 9 rfl) rfl
theorem q32 : (Jvm.Cond.code ({ cls := "java/lang/Object", name := "<init>", desc := "()V" } : Jvm.MethodName) object_method_1_code (1 : Nat) (Option.none : Option Jvm.ClassFile.FieldType)) ∈ lw_all := lw_g (lw_at lw_m1 10 rfl) rfl

theorem q22 : (Jvm.Cond.initialized "StructureLearnerLaw") ∈ lw_all := lw_g (lw_at lw_m1 0 rfl) rfl
set_option maxRecDepth 100000
theorem q25 : (Jvm.Cond.classLink "StructureLearnerLaw" (7 : Nat) "StructureLearner") ∈ lw_all := lw_g (lw_at lw_m1 3 rfl) rfl
theorem q27 : (Jvm.Cond.methodLink "StructureLearnerLaw" (9 : Nat) ({ cls := "StructureLearner", name := "<init>", desc := "()V" } : Jvm.MethodName)) ∈ lw_all := lw_g (lw_at lw_m1 5 rfl) rfl
theorem q69 : (Jvm.Cond.methodLink "StructureLearnerLaw" (13 : Nat) ({ cls := "StructureLearner", name := "score", desc := "(III)I" } : Jvm.MethodName)) ∈ lw_all := lw_g (lw_at lw_m1 47 rfl) rfl
theorem q79 : (Jvm.Cond.methodLink "StructureLearnerLaw" (18 : Nat) ({ cls := "StructureLearner", name := "limit", desc := "(I)I" } : Jvm.MethodName)) ∈ lw_all := lw_g (lw_at lw_m1 57 rfl) rfl
theorem q83 : (Jvm.Cond.methodLink "StructureLearnerLaw" (23 : Nat) ({ cls := "StructureLearner", name := "edge", desc := "(III)I" } : Jvm.MethodName)) ∈ lw_all := lw_g (lw_at lw_m1 61 rfl) rfl
theorem q87 : (Jvm.Cond.methodLink "StructureLearnerLaw" (29 : Nat) ({ cls := "StructureLearner", name := "learn", desc := "(J)I" } : Jvm.MethodName)) ∈ lw_all := lw_g (lw_at lw_m1 65 rfl) rfl
theorem q103 : (Jvm.Cond.methodLink "StructureLearnerLaw" (34 : Nat) ({ cls := "StructureLearner", name := "best", desc := "()I" } : Jvm.MethodName)) ∈ lw_all := lw_g (lw_at lw_m1 81 rfl) rfl
theorem q124 : (Jvm.Cond.methodLink "StructureLearnerLaw" (39 : Nat) ({ cls := "StructureLearner", name := "parents", desc := "(I)I" } : Jvm.MethodName)) ∈ lw_all := lw_g (lw_at lw_m1 102 rfl) rfl
theorem q133 : (Jvm.Cond.methodLink "StructureLearnerLaw" (43 : Nat) ({ cls := "StructureLearner", name := "bestWith", desc := "(II)I" } : Jvm.MethodName)) ∈ lw_all := lw_g (lw_at lw_m1 111 rfl) rfl
theorem q137 : (Jvm.Cond.methodLink "StructureLearnerLaw" (48 : Nat) ({ cls := "StructureLearner", name := "bestWithout", desc := "(II)I" } : Jvm.MethodName)) ∈ lw_all := lw_g (lw_at lw_m1 115 rfl) rfl
theorem q141 : (Jvm.Cond.methodLink "StructureLearnerLaw" (52 : Nat) ({ cls := "StructureLearner", name := "edges", desc := "()I" } : Jvm.MethodName)) ∈ lw_all := lw_g (lw_at lw_m1 119 rfl) rfl
theorem q145 : (Jvm.Cond.methodLink "StructureLearnerLaw" (56 : Nat) ({ cls := "StructureLearner", name := "orders", desc := "()I" } : Jvm.MethodName)) ∈ lw_all := lw_g (lw_at lw_m1 123 rfl) rfl
theorem q149 : (Jvm.Cond.methodLink "StructureLearnerLaw" (60 : Nat) ({ cls := "StructureLearner", name := "scoreOf", desc := "(II)I" } : Jvm.MethodName)) ∈ lw_all := lw_g (lw_at lw_m1 127 rfl) rfl
theorem q153 : (Jvm.Cond.classLink "StructureLearnerLaw" (10 : Nat) "StructureLearnerModel") ∈ lw_all := lw_g (lw_at lw_m1 131 rfl) rfl
theorem q155 : (Jvm.Cond.methodLink "StructureLearnerLaw" (12 : Nat) ({ cls := "StructureLearnerModel", name := "<init>", desc := "()V" } : Jvm.MethodName)) ∈ lw_all := lw_g (lw_at lw_m1 133 rfl) rfl
theorem q198 : (Jvm.Cond.methodLink "StructureLearnerLaw" (17 : Nat) ({ cls := "StructureLearnerModel", name := "score", desc := "(III)I" } : Jvm.MethodName)) ∈ lw_all := lw_g (lw_at lw_m1 176 rfl) rfl
theorem q214 : (Jvm.Cond.methodLink "StructureLearnerLaw" (22 : Nat) ({ cls := "StructureLearnerModel", name := "limit", desc := "(I)I" } : Jvm.MethodName)) ∈ lw_all := lw_g (lw_at lw_m1 192 rfl) rfl
theorem q218 : (Jvm.Cond.methodLink "StructureLearnerLaw" (26 : Nat) ({ cls := "StructureLearnerModel", name := "edge", desc := "(III)I" } : Jvm.MethodName)) ∈ lw_all := lw_g (lw_at lw_m1 196 rfl) rfl
theorem q222 : (Jvm.Cond.methodLink "StructureLearnerLaw" (33 : Nat) ({ cls := "StructureLearnerModel", name := "learn", desc := "(J)I" } : Jvm.MethodName)) ∈ lw_all := lw_g (lw_at lw_m1 200 rfl) rfl
theorem q239 : (Jvm.Cond.methodLink "StructureLearnerLaw" (38 : Nat) ({ cls := "StructureLearnerModel", name := "best", desc := "()I" } : Jvm.MethodName)) ∈ lw_all := lw_g (lw_at lw_m1 217 rfl) rfl
theorem q256 : (Jvm.Cond.methodLink "StructureLearnerLaw" (42 : Nat) ({ cls := "StructureLearnerModel", name := "parents", desc := "(I)I" } : Jvm.MethodName)) ∈ lw_all := lw_g (lw_at lw_m1 234 rfl) rfl
theorem q260 : (Jvm.Cond.methodLink "StructureLearnerLaw" (47 : Nat) ({ cls := "StructureLearnerModel", name := "bestWith", desc := "(II)I" } : Jvm.MethodName)) ∈ lw_all := lw_g (lw_at lw_m1 238 rfl) rfl
theorem q268 : (Jvm.Cond.methodLink "StructureLearnerLaw" (51 : Nat) ({ cls := "StructureLearnerModel", name := "bestWithout", desc := "(II)I" } : Jvm.MethodName)) ∈ lw_all := lw_g (lw_at lw_m2 6 rfl) rfl
theorem q272 : (Jvm.Cond.methodLink "StructureLearnerLaw" (55 : Nat) ({ cls := "StructureLearnerModel", name := "edges", desc := "()I" } : Jvm.MethodName)) ∈ lw_all := lw_g (lw_at lw_m2 10 rfl) rfl
theorem q276 : (Jvm.Cond.methodLink "StructureLearnerLaw" (59 : Nat) ({ cls := "StructureLearnerModel", name := "orders", desc := "()I" } : Jvm.MethodName)) ∈ lw_all := lw_g (lw_at lw_m2 14 rfl) rfl
theorem q288 : (Jvm.Cond.methodLink "StructureLearnerLaw" (63 : Nat) ({ cls := "StructureLearnerModel", name := "scoreOf", desc := "(II)I" } : Jvm.MethodName)) ∈ lw_all := lw_g (lw_at lw_m2 26 rfl) rfl
theorem q292 : (Jvm.Cond.constantLong "StructureLearnerLaw" (27 : Nat) (4294967295 : Int64)) ∈ lw_all := lw_g (lw_at lw_m2 30 rfl) rfl

theorem q68 : (Jvm.Cond.arrayClass Jvm.ClassFile.FieldType.int) ∈ lw_all := lw_g (lw_at lw_m1 46 rfl) rfl
set_option maxRecDepth 100000
theorem q197 : (Jvm.Cond.arrayClass Jvm.ClassFile.FieldType.boolean) ∈ lw_all := lw_g (lw_at lw_m1 175 rfl) rfl
end
section
/-! rows of my own over the kit's: small naturals stay naturals (nI), worlds of the two classes -/
theorem bb_and (a b : Nat) : nI a &&& nI b = nI (a &&& b) := by
  apply Int32.toBitVec_inj.1
  show BitVec.ofNat 32 a &&& BitVec.ofNat 32 b = BitVec.ofNat 32 (a &&& b)
  apply BitVec.eq_of_getLsbD_eq
  intro i hi
  simp [hi]
theorem bb_or (a b : Nat) : nI a ||| nI b = nI (a ||| b) := by
  apply Int32.toBitVec_inj.1
  show BitVec.ofNat 32 a ||| BitVec.ofNat 32 b = BitVec.ofNat 32 (a ||| b)
  apply BitVec.eq_of_getLsbD_eq
  intro i hi
  simp [hi]
theorem bb_xor (a b : Nat) : nI a ^^^ nI b = nI (a ^^^ b) := by
  apply Int32.toBitVec_inj.1
  show BitVec.ofNat 32 a ^^^ BitVec.ofNat 32 b = BitVec.ofNat 32 (a ^^^ b)
  apply BitVec.eq_of_getLsbD_eq
  intro i hi
  simp [hi]
/-- a without b -/
def andn (a b : Nat) : Nat := a &&& (a ^^^ b)
theorem andn_le (a b : Nat) : andn a b ≤ a := Nat.and_le_left
theorem bb_andn (a b : Nat) : nI a &&& (nI b ^^^ (-1)) = nI (andn a b) := by
  unfold andn
  rw [← bb_and, ← bb_xor]
  apply Int32.toBitVec_inj.1
  rw [Int32.toBitVec_and, Int32.toBitVec_and, Int32.toBitVec_xor, Int32.toBitVec_xor, show (-1 : Int32).toBitVec = BitVec.allOnes 32 from by decide]
  apply BitVec.eq_of_getLsbD_eq
  intro i hi
  simp only [BitVec.getLsbD_and, BitVec.getLsbD_xor, BitVec.getLsbD_allOnes, hi, decide_true]
  cases (nI a).toBitVec.getLsbD i <;> cases (nI b).toBitVec.getLsbD i <;> rfl
theorem bb_sl : ∀ n, n < 32 → ((nI n &&& 31).toBitVec.smod 32).toNat = n := by decide +kernel
theorem bb_shr {a v : Nat} (ha : a < 2 ^ 31) (hv : v < 32) : nI a >>> (nI v &&& 31) = nI (a >>> v) := by
  rw [pk_shrN ha (nI v &&& 31) v (bb_sl v hv), Nat.shiftRight_eq_div_pow]
theorem bb_sh1 : ∀ v, v < 31 → nI 1 <<< (nI v &&& 31) = nI (1 <<< v) := by decide +kernel
theorem wk_sh1 {v : Nat} (hv : v < 31) : 1 <<< v < 2 ^ 31 := by
  rw [Nat.shiftLeft_eq, Nat.one_mul]
  exact Nat.pow_lt_pow_right (by decide) hv
/-- a loop's state behind n rounds -/
def lit {σ : Type} (f : Nat → σ → σ) (s : σ) : Nat → σ
  | 0 => s
  | n + 1 => f n (lit f s n)
theorem lit_succ {σ : Type} (f : Nat → σ → σ) (s : σ) (n : Nat) : lit f s (n + 1) = f n (lit f s n) := rfl
section WK
variable {p : Program} {l : Launch} {e : Env} {R : Room} {s : State} {m : MethodId} {args : Array Value} {below : List Frame} {meth : Method} {c : Code} {H : Heap} {locs : List Loc} {cells slots : Nat} {Q : State → Prop}
variable {cc : ByteArray} {pc : Nat} {ls : Array Slot} {rest : List Value} {D : va_G} {cl : List vw_C} {A : Nat → Prop} {a : Nat} {tys : List (ClassId × FieldType)} {ws : va_W} {H0 : Heap}
theorem wk_top {x y : Int32} (h : x = y) (k : W p l e R s m args below meth c H locs cells slots Q (F0 m pc ls (.int y :: rest))) : W p l e R s m args below meth c H locs cells slots Q (F0 m pc ls (.int x :: rest)) := by
  subst h
  exact k
theorem wk_iadd (hexec : p.tables.exec = Jvm.exec) (hb : c.code = cc) {x y : Nat} (hdg : decode cc pc = .ok (.iadd, 1)) (k : W p l e R s m args below meth c H locs cells slots Q (F0 m (pc + 1) ls (.int (nI (x + y)) :: rest))) : W p l e R s m args below meth c H locs cells slots Q (F0 m pc ls (.int (nI y) :: .int (nI x) :: rest)) := lv_iadd hexec hb hdg (wk_top (nI_add x y) k)
theorem wk_imul (hexec : p.tables.exec = Jvm.exec) (hb : c.code = cc) {x y : Nat} (hdg : decode cc pc = .ok (.imul, 1)) (k : W p l e R s m args below meth c H locs cells slots Q (F0 m (pc + 1) ls (.int (nI (x * y)) :: rest))) : W p l e R s m args below meth c H locs cells slots Q (F0 m pc ls (.int (nI y) :: .int (nI x) :: rest)) := lv_imul hexec hb hdg (wk_top (pk_mul x y) k)
theorem wk_iand (hexec : p.tables.exec = Jvm.exec) (hb : c.code = cc) {x y : Nat} (hdg : decode cc pc = .ok (.iand, 1)) (k : W p l e R s m args below meth c H locs cells slots Q (F0 m (pc + 1) ls (.int (nI (x &&& y)) :: rest))) : W p l e R s m args below meth c H locs cells slots Q (F0 m pc ls (.int (nI y) :: .int (nI x) :: rest)) := lv_iand hexec hb hdg (wk_top (bb_and x y) k)
theorem wk_ior (hexec : p.tables.exec = Jvm.exec) (hb : c.code = cc) {x y : Nat} (hdg : decode cc pc = .ok (.ior, 1)) (k : W p l e R s m args below meth c H locs cells slots Q (F0 m (pc + 1) ls (.int (nI (x ||| y)) :: rest))) : W p l e R s m args below meth c H locs cells slots Q (F0 m pc ls (.int (nI y) :: .int (nI x) :: rest)) := lv_ior hexec hb hdg (wk_top (bb_or x y) k)
theorem wk_iandn (hexec : p.tables.exec = Jvm.exec) (hb : c.code = cc) {x y : Nat} (hdg : decode cc pc = .ok (.iand, 1)) (k : W p l e R s m args below meth c H locs cells slots Q (F0 m (pc + 1) ls (.int (nI (andn x y)) :: rest))) : W p l e R s m args below meth c H locs cells slots Q (F0 m pc ls (.int (nI y ^^^ (-1)) :: .int (nI x) :: rest)) := lv_iand hexec hb hdg (wk_top (bb_andn x y) k)
theorem wk_ishr (hexec : p.tables.exec = Jvm.exec) (hb : c.code = cc) {x y : Nat} (hdg : decode cc pc = .ok (.ishr, 1)) (hx : x < 2 ^ 31) (hy : y < 32) (k : W p l e R s m args below meth c H locs cells slots Q (F0 m (pc + 1) ls (.int (nI (x >>> y)) :: rest))) : W p l e R s m args below meth c H locs cells slots Q (F0 m pc ls (.int (nI y) :: .int (nI x) :: rest)) := lv_ishr hexec hb hdg (wk_top (bb_shr hx hy) k)
theorem wk_ishl1 (hexec : p.tables.exec = Jvm.exec) (hb : c.code = cc) {y : Nat} (hdg : decode cc pc = .ok (.ishl, 1)) (hy : y < 31) (k : W p l e R s m args below meth c H locs cells slots Q (F0 m (pc + 1) ls (.int (nI (1 <<< y)) :: rest))) : W p l e R s m args below meth c H locs cells slots Q (F0 m pc ls (.int (nI y) :: .int (nI 1) :: rest)) := lv_ishl hexec hb hdg (wk_top (bb_sh1 y hy) k)
theorem wk_iinc (hexec : p.tables.exec = Jvm.exec) (hb : c.code = cc) {i nL k x : Nat} {lv lv' : List (Nat × Value)} (hdg : decode cc pc = .ok (.iinc i 1, 3)) (h : lv_has ls nL lv) (hk : lv[k]? = some (i, .int (nI x))) (hn : i < nL) (hl : (i, Value.int (nI (x + 1))) :: lv.filter (fun q => !(q.1 == i) && !(q.1 + 1 == i && q.2.category == 2)) = lv')
    (kk : ∀ ls' : Array Slot, lv_has ls' nL lv' → W p l e R s m args below meth c H locs cells slots Q (F0 m (pc + 3) ls' rest)) : W p l e R s m args below meth c H locs cells slots Q (F0 m pc ls rest) := lv_iinc hexec hb hdg h hk (by rw [show Int32.ofInt 1 = 1 from by decide]; exact nI_1 x) hn hl kk
theorem wk_iinc4 (hexec : p.tables.exec = Jvm.exec) (hb : c.code = cc) {i nL k x : Nat} {lv lv' : List (Nat × Value)} (hdg : decode cc pc = .ok (.iinc i 4, 3)) (h : lv_has ls nL lv) (hk : lv[k]? = some (i, .int (nI x))) (hn : i < nL) (hl : (i, Value.int (nI (x + 4))) :: lv.filter (fun q => !(q.1 == i) && !(q.1 + 1 == i && q.2.category == 2)) = lv')
    (kk : ∀ ls' : Array Slot, lv_has ls' nL lv' → W p l e R s m args below meth c H locs cells slots Q (F0 m (pc + 3) ls' rest)) : W p l e R s m args below meth c H locs cells slots Q (F0 m pc ls rest) := lv_iinc hexec hb hdg h hk (by rw [show Int32.ofInt 4 = nI 4 from by decide]; exact nI_add x 4) hn hl kk
theorem wk_icmp_eq (hexec : p.tables.exec = Jvm.exec) (hb : c.code = cc) {x y : Nat} {off : Int} {tgt : Nat} (hdg : decode cc pc = .ok (.if_icmp .eq off, 3)) (ht : (pc : Int) + off = (tgt : Int)) (hx : x < 2 ^ 31) (hy : y < 2 ^ 31)
    (kt : x = y → W p l e R s m args below meth c H locs cells slots Q (F0 m tgt ls rest)) (kf : ¬ x = y → W p l e R s m args below meth c H locs cells slots Q (F0 m (pc + 3) ls rest)) : W p l e R s m args below meth c H locs cells slots Q (F0 m pc ls (.int (nI y) :: .int (nI x) :: rest)) :=
  lv_icmp_eq hexec hb hdg ht (fun h => kt ((nI_eq hx hy).mp h)) (fun h => kf (fun q => h ((nI_eq hx hy).mpr q)))
theorem wk_icmp_ne (hexec : p.tables.exec = Jvm.exec) (hb : c.code = cc) {x y : Nat} {off : Int} {tgt : Nat} (hdg : decode cc pc = .ok (.if_icmp .ne off, 3)) (ht : (pc : Int) + off = (tgt : Int)) (hx : x < 2 ^ 31) (hy : y < 2 ^ 31)
    (kt : ¬ x = y → W p l e R s m args below meth c H locs cells slots Q (F0 m tgt ls rest)) (kf : x = y → W p l e R s m args below meth c H locs cells slots Q (F0 m (pc + 3) ls rest)) : W p l e R s m args below meth c H locs cells slots Q (F0 m pc ls (.int (nI y) :: .int (nI x) :: rest)) :=
  lv_icmp_ne hexec hb hdg ht (fun h => kt (fun q => h ((nI_eq hx hy).mpr q))) (fun h => kf ((nI_eq hx hy).mp h))
theorem wk_icmp_lt (hexec : p.tables.exec = Jvm.exec) (hb : c.code = cc) {x y : Nat} {off : Int} {tgt : Nat} (hdg : decode cc pc = .ok (.if_icmp .lt off, 3)) (ht : (pc : Int) + off = (tgt : Int)) (hx : x < 2 ^ 31) (hy : y < 2 ^ 31)
    (kt : x < y → W p l e R s m args below meth c H locs cells slots Q (F0 m tgt ls rest)) (kf : y ≤ x → W p l e R s m args below meth c H locs cells slots Q (F0 m (pc + 3) ls rest)) : W p l e R s m args below meth c H locs cells slots Q (F0 m pc ls (.int (nI y) :: .int (nI x) :: rest)) :=
  lv_icmp_lt hexec hb hdg ht (fun h => kt ((nI_ltI hx hy).mp h)) (fun h => kf (Nat.not_lt.mp (fun q => h ((nI_ltI hx hy).mpr q))))
theorem wk_icmp_ge (hexec : p.tables.exec = Jvm.exec) (hb : c.code = cc) {x y : Nat} {off : Int} {tgt : Nat} (hdg : decode cc pc = .ok (.if_icmp .ge off, 3)) (ht : (pc : Int) + off = (tgt : Int)) (hx : x < 2 ^ 31) (hy : y < 2 ^ 31)
    (kt : y ≤ x → W p l e R s m args below meth c H locs cells slots Q (F0 m tgt ls rest)) (kf : x < y → W p l e R s m args below meth c H locs cells slots Q (F0 m (pc + 3) ls rest)) : W p l e R s m args below meth c H locs cells slots Q (F0 m pc ls (.int (nI y) :: .int (nI x) :: rest)) :=
  lv_icmp_ge hexec hb hdg ht (fun h => kt ((nI_leI hy hx).mp h)) (fun h => kf (Nat.not_le.mp (fun q => h ((nI_leI hy hx).mpr q))))
theorem wk_icmp_gt (hexec : p.tables.exec = Jvm.exec) (hb : c.code = cc) {x y : Nat} {off : Int} {tgt : Nat} (hdg : decode cc pc = .ok (.if_icmp .gt off, 3)) (ht : (pc : Int) + off = (tgt : Int)) (hx : x < 2 ^ 31) (hy : y < 2 ^ 31)
    (kt : y < x → W p l e R s m args below meth c H locs cells slots Q (F0 m tgt ls rest)) (kf : x ≤ y → W p l e R s m args below meth c H locs cells slots Q (F0 m (pc + 3) ls rest)) : W p l e R s m args below meth c H locs cells slots Q (F0 m pc ls (.int (nI y) :: .int (nI x) :: rest)) :=
  lv_icmp_gt hexec hb hdg ht (fun h => kt ((nI_ltI hy hx).mp h)) (fun h => kf (Nat.not_lt.mp (fun q => h ((nI_ltI hy hx).mpr q))))
theorem wk_icmp_le (hexec : p.tables.exec = Jvm.exec) (hb : c.code = cc) {x y : Nat} {off : Int} {tgt : Nat} (hdg : decode cc pc = .ok (.if_icmp .le off, 3)) (ht : (pc : Int) + off = (tgt : Int)) (hx : x < 2 ^ 31) (hy : y < 2 ^ 31)
    (kt : x ≤ y → W p l e R s m args below meth c H locs cells slots Q (F0 m tgt ls rest)) (kf : y < x → W p l e R s m args below meth c H locs cells slots Q (F0 m (pc + 3) ls rest)) : W p l e R s m args below meth c H locs cells slots Q (F0 m pc ls (.int (nI y) :: .int (nI x) :: rest)) :=
  lv_icmp_le hexec hb hdg ht (fun h => kt ((nI_leI hx hy).mp h)) (fun h => kf (Nat.not_le.mp (fun q => h ((nI_leI hx hy).mpr q))))
theorem wk_if_eq (hexec : p.tables.exec = Jvm.exec) (hb : c.code = cc) {x : Nat} {off : Int} {tgt : Nat} (hdg : decode cc pc = .ok (.ifCond .eq off, 3)) (ht : (pc : Int) + off = (tgt : Int)) (hx : x < 2 ^ 31)
    (kt : x = 0 → W p l e R s m args below meth c H locs cells slots Q (F0 m tgt ls rest)) (kf : ¬ x = 0 → W p l e R s m args below meth c H locs cells slots Q (F0 m (pc + 3) ls rest)) : W p l e R s m args below meth c H locs cells slots Q (F0 m pc ls (.int (nI x) :: rest)) :=
  lv_if_eq hexec hb hdg ht (fun h => kt ((nI_eq hx (by decide)).mp (h.trans nI_0.symm))) (fun h => kf (fun q => h (by rw [q]; exact nI_0)))
theorem wk_if_ne (hexec : p.tables.exec = Jvm.exec) (hb : c.code = cc) {x : Nat} {off : Int} {tgt : Nat} (hdg : decode cc pc = .ok (.ifCond .ne off, 3)) (ht : (pc : Int) + off = (tgt : Int)) (hx : x < 2 ^ 31)
    (kt : ¬ x = 0 → W p l e R s m args below meth c H locs cells slots Q (F0 m tgt ls rest)) (kf : x = 0 → W p l e R s m args below meth c H locs cells slots Q (F0 m (pc + 3) ls rest)) : W p l e R s m args below meth c H locs cells slots Q (F0 m pc ls (.int (nI x) :: rest)) :=
  lv_if_ne hexec hb hdg ht (fun h => kt (fun q => h (by rw [q]; exact nI_0))) (fun h => kf ((nI_eq hx (by decide)).mp (h.trans nI_0.symm)))
theorem wk_iald (hexec : p.tables.exec = Jvm.exec) (hb : c.code = cc) (hK : va_K D cl tys s) (hP : va_P D cl ws H) (q0 t0 : Nat) {cA : ClassId} {n : Nat} {f : Nat → Int32} (ha : ws[q0]? = some (a, .inl (cA, n, .inl f))) (ht : tys[t0]? = some (cA, .int)) {ix : Nat} (he : ix < n) (hn : n < 2 ^ 31) (hdg : decode cc pc = .ok (.iaload, 1))
    (kk : W p l e R s m args below meth c H locs cells slots Q (F0 m (pc + 1) ls (.int (f ix) :: rest))) : W p l e R s m args below meth c H locs cells slots Q (F0 m pc ls (.int (nI ix) :: .ref a :: rest)) :=
  va_iald hexec hb hK hP q0 t0 ha ht (vp_in_nI he hn) hdg (by rw [nI_clamp (Nat.lt_trans he hn)]; exact kk)
theorem wk_zald (hexec : p.tables.exec = Jvm.exec) (hb : c.code = cc) (hK : va_K D cl tys s) (hP : va_P D cl ws H) (q0 t0 : Nat) {cA : ClassId} {n : Nat} {f : Nat → Int32} (ha : ws[q0]? = some (a, .inl (cA, n, .inl f))) (ht : tys[t0]? = some (cA, .boolean)) {ix : Nat} (he : ix < n) (hn : n < 2 ^ 31) (hdg : decode cc pc = .ok (.baload, 1))
    (kk : W p l e R s m args below meth c H locs cells slots Q (F0 m (pc + 1) ls (.int (f ix) :: rest))) : W p l e R s m args below meth c H locs cells slots Q (F0 m pc ls (.int (nI ix) :: .ref a :: rest)) :=
  va_zald hexec hb hK hP q0 t0 ha ht (vp_in_nI he hn) hdg (by rw [nI_clamp (Nat.lt_trans he hn)]; exact kk)
theorem wk_iast (hexec : p.tables.exec = Jvm.exec) (hb : c.code = cc) (hK : va_K D cl tys s) (hP : va_P D cl ws H) (hD : va_D A ws) (hS : va_S A H0 H locs) (q0 t0 : Nat) {cA : ClassId} {n : Nat} {f : Nat → Int32} (ha : ws[q0]? = some (a, .inl (cA, n, .inl f))) (ht : tys[t0]? = some (cA, .int)) {ix : Nat} {x : Int32} (he : ix < n) (hn : n < 2 ^ 31) (hdg : decode cc pc = .ok (.iastore, 1))
    (kk : ∀ (H1 : Heap) (locs1 : List Loc), va_P D cl (ws.set q0 (a, .inl (cA, n, .inl (upd f ix x)))) H1 → va_D A (ws.set q0 (a, .inl (cA, n, .inl (upd f ix x)))) → va_S A H0 H1 locs1 → W p l e R s m args below meth c H1 locs1 cells slots Q (F0 m (pc + 1) ls rest)) : W p l e R s m args below meth c H locs cells slots Q (F0 m pc ls (.int x :: .int (nI ix) :: .ref a :: rest)) :=
  va_iast hexec hb hK hP hD hS q0 t0 ha ht (vp_in_nI he hn) hdg (by rw [nI_clamp (Nat.lt_trans he hn)]; exact kk)
theorem wk_zast (hexec : p.tables.exec = Jvm.exec) (hb : c.code = cc) (hK : va_K D cl tys s) (hP : va_P D cl ws H) (hD : va_D A ws) (hS : va_S A H0 H locs) (q0 t0 : Nat) {cA : ClassId} {n : Nat} {f : Nat → Int32} (ha : ws[q0]? = some (a, .inl (cA, n, .inl f))) (ht : tys[t0]? = some (cA, .boolean)) {ix : Nat} {x : Int32} (he : ix < n) (hn : n < 2 ^ 31) (hx : vp_nar .boolean x = x) (hdg : decode cc pc = .ok (.bastore, 1))
    (kk : ∀ (H1 : Heap) (locs1 : List Loc), va_P D cl (ws.set q0 (a, .inl (cA, n, .inl (upd f ix x)))) H1 → va_D A (ws.set q0 (a, .inl (cA, n, .inl (upd f ix x)))) → va_S A H0 H1 locs1 → W p l e R s m args below meth c H1 locs1 cells slots Q (F0 m (pc + 1) ls rest)) : W p l e R s m args below meth c H locs cells slots Q (F0 m pc ls (.int x :: .int (nI ix) :: .ref a :: rest)) :=
  va_zast hexec hb hK hP hD hS q0 t0 ha ht (vp_in_nI he hn) hdg (by rw [nI_clamp (Nat.lt_trans he hn), hx]; exact kk)
end WK
/-! the two classes, and the pictures of their cells -/
abbrev vwCl : List vw_C := [(RX0, TX0, 10), (RX1, TX1, 7)]
abbrev wX0 (h : Nat) (cI : ClassId) (g : Nat → Nat) (mo : Int32) (sc fb rq fx mu mn wi bo wa : Nat → Int32) : va_W := [(h, .inr (0, [.ref (g 0), .int mo, .ref (g 1), .ref (g 2), .ref (g 3), .ref (g 4), .ref (g 5), .ref (g 6), .ref (g 7), .ref (g 8)])), (g 0, .inl (cI, 64, .inl sc)), (g 1, .inl (cI, 4, .inl fb)), (g 2, .inl (cI, 4, .inl rq)), (g 3, .inl (cI, 4, .inl fx)), (g 4, .inl (cI, 4, .inl mu)), (g 5, .inl (cI, 4, .inl mn)), (g 6, .inl (cI, 64, .inl wi)), (g 7, .inl (cI, 16, .inl bo)), (g 8, .inl (cI, 16, .inl wa))]
abbrev wX1 (h : Nat) (cI cB : ClassId) (g : Nat → Nat) (li kn mo fi : Int32) (sc sa nc : Nat → Int32) : va_W := [(h, .inr (1, [.ref (g 0), .int li, .ref (g 1), .ref (g 2), .int kn, .int mo, .int fi])), (g 0, .inl (cI, 32, .inl sc)), (g 1, .inl (cI, 16, .inl sa)), (g 2, .inl (cB, 4096, .inl nc))]
/-! an array's picture counts only within its length -/
theorem wk_arr {cA : ClassId} {n : Nat} {f g : Nat → Int32} (h : ∀ j, j < n → f j = g j) : vp_cell cA (n, .inl f) = vp_cell cA (n, .inl g) := by
  rw [vp_cell_i, vp_cell_i]
  unfold arrV
  rw [show (fun j : Fin n => Value.int (f j.val)) = fun j : Fin n => Value.int (g j.val) from funext fun j => by rw [h j.val j.isLt]]
theorem wk_re {D : va_G} {cl : List vw_C} {ws : va_W} {H : Heap} {a : Nat} {cA : ClassId} {n : Nat} {f g : Nat → Int32} (hP : va_P D cl ws H) (k : Nat) (hk : ws[k]? = some (a, .inl (cA, n, .inl f))) (h : ∀ j, j < n → f j = g j) : va_P D cl (ws.set k (a, .inl (cA, n, .inl g))) H := by
  intro j q hq
  by_cases hj : j = k
  · subst hj
    have hlt := (List.getElem?_eq_some_iff.mp hk).1
    rw [List.getElem?_set_self hlt] at hq
    cases hq
    show H[a]? = some (vp_cell cA (n, .inl g))
    rw [← wk_arr h]
    exact hP j _ hk
  · rw [List.getElem?_set_ne (Ne.symm hj)] at hq
    exact hP j q hq
theorem upd_s {f : Nat → Int32} {k : Nat} {x : Int32} : upd f k x k = x := by simp [upd]
theorem upd_n {f : Nat → Int32} {k j : Nat} {x : Int32} (h : j ≠ k) : upd f k x j = f j := by simp [upd, h]
theorem upd_u {f : Nat → Int32} {k : Nat} {x y : Int32} : upd (upd f k x) k y = upd f k y := by
  funext j
  by_cases h : j = k <;> simp [upd, h]
end
section
/-! what the methods compute, in plain Lean (arrays are functions Nat → Int32) -/
def bitN (p v : Nat) : Nat := (p >>> v) &&& 1
/-- a variable that is none of the four -/
def badV (x : Int32) : Nat := if x < 0 then 1 else if x < nI 4 then 0 else 1
theorem badV_le (x : Int32) : badV x ≤ 1 := by unfold badV; (repeat' split) <;> omega
theorem badV_0 {x : Int32} (h : badV x = 0) : ∃ j : Nat, j < 4 ∧ x = nI j := by
  unfold badV at h
  split at h
  · omega
  · rename_i h0
    split at h
    · rename_i h1
      rcases pk_ix x (n := 4) (by decide) with a | a | a
      · exact absurd a h0
      · exact absurd h1 (Int32.not_lt.mpr a)
      · exact a
    · omega
theorem badV_nI : ∀ j, j < 4 → badV (nI j) = 0 := by decide +kernel
theorem badV_1 {x : Int32} (h : ¬ badV x = 0) : badV x = 1 := by
  have := badV_le x
  omega
/-- parents that are no set without v -/
def badP (v : Nat) (x : Int32) : Nat := if x < 0 then 1 else if nI 16 ≤ x then 1 else if (x >>> (nI v &&& 31)) &&& nI 1 = nI 1 then 1 else 0
theorem badP_le (v : Nat) (x : Int32) : badP v x ≤ 1 := by unfold badP; (repeat' split) <;> omega
theorem badP_nI : ∀ v, v < 4 → ∀ p, p < 16 → badP v (nI p) = bitN p v := by decide +kernel
theorem badP_0 {v : Nat} {x : Int32} (hv : v < 4) (h : badP v x = 0) : ∃ p : Nat, p < 16 ∧ x = nI p ∧ bitN p v = 0 := by
  have hc : ∃ p : Nat, p < 16 ∧ x = nI p := by
    unfold badP at h
    split at h
    · omega
    · rename_i h0
      split at h
      · omega
      · rename_i h1
        rcases pk_ix x (n := 16) (by decide) with a | a | a
        · exact absurd a h0
        · exact absurd a h1
        · exact a
  obtain ⟨p, hp, rfl⟩ := hc
  exact ⟨p, hp, rfl, by rw [← badP_nI v hv p hp]; exact h⟩
/-- how many members -/
def szN (x : Nat) : Nat := lit (fun v n => n + ((x >>> v) &&& 1)) 0 4
theorem szN_le : ∀ x, x < 16 → szN x ≤ 4 := by decide +kernel
-- ---- scores from data
/-- the j-th case -/
def nib (c : Int64) (j : Nat) : Nat := c.toUInt64.toNat / 2 ^ (4 * j) % 16
theorem nib_lt (c : Int64) (j : Nat) : nib c j < 16 := Nat.mod_lt _ (by decide)
def hitS (c : Int64) (v p t : Nat) (j : Nat) (s : Nat × Nat) : Nat × Nat := if nib c j &&& p = t then (if (nib c j >>> v) &&& 1 = 1 then (s.1, s.2 + 1) else (s.1 + 1, s.2)) else s
def hitF (c : Int64) (v p t : Nat) : Nat := if (lit (hitS c v p t) (0, 0) 16).1 ≤ (lit (hitS c v p t) (0, 0) 16).2 then (lit (hitS c v p t) (0, 0) 16).2 else (lit (hitS c v p t) (0, 0) 16).1
def sumS (c : Int64) (v p : Nat) (t n : Nat) : Nat := if andn t p = 0 then n + hitF c v p t else n
/-- the score that data give -/
def sfF (c : Int64) (v p : Nat) : Int32 := nI (lit (sumS c v p) 0 16) - nI (3 * (1 <<< szN p))
def lnI (c : Int64) (v : Nat) (p : Nat) (sc : Nat → Int32) : Nat → Int32 := if (p >>> v) &&& 1 = 0 then upd sc (v * 16 + p) (sfF c v p) else sc
def lnO (c : Int64) (v : Nat) (sc : Nat → Int32) : Nat → Int32 := lit (lnI c v) sc 16
-- ---- tables
def cM : Nat → Int32 := fun _ => -1
def c0 : Nat → Int32 := fun _ => nI 0
/-- are these parents allowed -/
def alN (mo : Int32) (fb rq fx mu mn : Nat → Int32) (v p : Nat) : Nat :=
  if badP v (nI p) = 0 then
    if fx v < 0 then (if mo < nI (szN p) then 0 else if nI p &&& (fb v ||| mn v) = 0 then (if nI p &&& (rq v ||| mu v) = rq v ||| mu v then 1 else 0) else 0)
    else if fx v = nI p then (if mo < nI (szN p) then 0 else if nI p &&& (fb v ||| mn v) = 0 then (if nI p &&& (rq v ||| mu v) = rq v ||| mu v then 1 else 0) else 0)
    else 0
  else 0
theorem alN_le (mo : Int32) (fb rq fx mu mn : Nat → Int32) (v p : Nat) : alN mo fb rq fx mu mn v p ≤ 1 := by unfold alN; (repeat' split) <;> omega
def rowS (row : Nat → Int32) (set u : Nat) (best : Int32) : Int32 := if andn set (1 <<< u) = set then best else if row (andn set (1 <<< u)) ≤ best then best else row (andn set (1 <<< u))
def fwB (al : Nat → Nat → Nat) (sc : Nat → Int32) (v set : Nat) : Int32 := if al v set = 0 then -100000 else sc (v * 16 + set)
def fillS (al : Nat → Nat → Nat) (sc : Nat → Int32) (v : Nat) (set : Nat) (wi : Nat → Int32) : Nat → Int32 := upd wi (v * 16 + set) (lit (rowS (fun s => wi (v * 16 + s)) set) (fwB al sc v set) 4)
def fillF (al : Nat → Nat → Nat) (sc : Nat → Int32) (v : Nat) (wi : Nat → Int32) : Nat → Int32 := lit (fillS al sc v) wi 16
def tryA (set : Nat) (w : Int32) (st : (Nat → Int32) × (Nat → Int32)) : (Nat → Int32) × (Nat → Int32) := if w ≤ st.1 set then st else (upd st.1 set w, upd st.2 set (nI 0))
def tryB (set rest : Nat) (w : Int32) (st : (Nat → Int32) × (Nat → Int32)) : (Nat → Int32) × (Nat → Int32) := if w = st.1 set then (st.1, upd st.2 set (st.2 set + st.2 rest)) else st
def tryF (wi : Nat → Int32) (set v : Nat) (st : (Nat → Int32) × (Nat → Int32)) : (Nat → Int32) × (Nat → Int32) :=
  if wi (v * 16 + andn set (1 <<< v)) = -100000 then st else if st.1 (andn set (1 <<< v)) = -100000 then st
  else tryB set (andn set (1 <<< v)) (st.1 (andn set (1 <<< v)) + wi (v * 16 + andn set (1 <<< v))) (tryA set (st.1 (andn set (1 <<< v)) + wi (v * 16 + andn set (1 <<< v))) st)
def solV (wi : Nat → Int32) (set : Nat) (v : Nat) (st : (Nat → Int32) × (Nat → Int32)) : (Nat → Int32) × (Nat → Int32) := if (set >>> v) &&& 1 = 1 then tryF wi set v st else st
/-- round j: the set j + 1 -/
def solS (wi : Nat → Int32) (j : Nat) (st : (Nat → Int32) × (Nat → Int32)) : (Nat → Int32) × (Nat → Int32) := lit (solV wi (j + 1)) (upd st.1 (j + 1) (-100000), upd st.2 (j + 1) (nI 0)) 4
def fillA (al : Nat → Nat → Nat) (sc wi : Nat → Int32) : Nat → Int32 := lit (fun v w => fillF al sc v w) wi 4
def solB (wi : Nat → Int32) (bo wa : Nat → Int32) : (Nat → Int32) × (Nat → Int32) := lit (solS wi) (upd bo 0 (nI 0), upd wa 0 (nI 1)) 15
def solveF (al : Nat → Nat → Nat) (sc wi bo wa : Nat → Int32) : (Nat → Int32) × (Nat → Int32) := solB (fillA al sc wi) bo wa
/-- the greatest worth; how many orders reach it -/
def BEST (al : Nat → Nat → Nat) (sc : Nat → Int32) : Int32 := (solveF al sc c0 c0 c0).1 15
def WAYS (al : Nat → Nat → Nat) (sc : Nat → Int32) : Int32 := (solveF al sc c0 c0 c0).2 15
/-- no demands -/
abbrev AL0 (mo : Int32) (fb rq : Nat → Int32) : Nat → Nat → Nat := alN mo fb rq cM c0 c0
/-- fixing the parents of v: try p -/
def ffI (mo : Int32) (fb rq sc : Nat → Int32) (w : Int32) (v : Nat) (p : Nat) (st : (Nat → Int32) × Nat) : (Nat → Int32) × Nat := if st.2 = 0 then (upd st.1 v (nI p), if BEST (alN mo fb rq (upd st.1 v (nI p)) c0 c0) sc = w then 1 else 0) else st
def ffO (mo : Int32) (fb rq sc : Nat → Int32) (w : Int32) (v : Nat) (fx : Nat → Int32) : Nat → Int32 := (lit (ffI mo fb rq sc w v) (fx, 0) 16).1
def ffF (mo : Int32) (fb rq sc : Nat → Int32) : Nat → Int32 := lit (ffO mo fb rq sc (BEST (AL0 mo fb rq) sc)) cM 4
-- ---- edges
def edB (x y : Int32) : Nat := if badV x = 0 then (if badV y = 0 then (if x = y then 1 else 0) else 1) else 1
def edO (f q b : Int32) : Int32 := if f &&& b = 0 then (if q &&& b = 0 then nI 0 else nI 2) else nI 1
def edN (f b how k : Int32) : Int32 := if how &&& nI 3 = k then (f &&& (b ^^^ (-1))) ||| b else f &&& (b ^^^ (-1))
-- ---- answers
def scoreR (x1 x2 x3 : Int32) : Int32 := if badV x1 = 0 then (if badP x1.toNatClampNeg x2 = 0 then (if x3 < -1000 then -3 else if x3 ≤ nI 1000 then nI 0 else -3) else -2) else -1
def limR (mo x : Int32) : Int32 := if x < 0 then -4 else if x ≤ nI 3 then mo else -4
def limU (mo x : Int32) : Int32 := if x < 0 then mo else if x ≤ nI 3 then x else mo
/-! rows on them -/
theorem nib_u (c : Int64) {j : Nat} (hj : j < 16) : ((c.toUInt64 >>> ((nI (4 * j)).toInt64.toUInt64 &&& Int64.toUInt64 63)).toInt64.toInt32 &&& nI 15) = nI (nib c j) := by
  have h : ((nI (4 * j)).toInt64.toUInt64 &&& Int64.toUInt64 63).toNat % 64 = 4 * j := by
    rw [nI_l (by omega), UInt64.toNat_and]
    have e : (lN (4 * j)).toUInt64.toNat = (4 * j) % 2 ^ 64 := rfl
    have e2 : (Int64.toUInt64 63).toNat = 2 ^ 6 - 1 := by decide
    rw [e, e2, Nat.and_two_pow_sub_one_eq_mod]
    omega
  rw [pk_and _ 4 (by decide), Int64.toBitVec_toInt32, BitVec.signExtend_eq_setWidth_of_le _ (by decide), BitVec.toNat_setWidth]
  show nI ((c.toUInt64 >>> ((nI (4 * j)).toInt64.toUInt64 &&& Int64.toUInt64 63)).toNat % 2 ^ 32 % 2 ^ 4) = _
  rw [UInt64.toNat_shiftRight, h, Nat.shiftRight_eq_div_pow]
  unfold nib
  generalize c.toUInt64.toNat / 2 ^ (4 * j) = z
  congr 1
  omega
theorem nib_sm : ∀ j, j < 16 → (((nI (4 * j)).toInt64 &&& 63).toBitVec.smod 64).toNat = 4 * j := by decide +kernel
theorem nib_15 : ∀ i, i < 64 → (15 : Int64).toBitVec.getLsbD i = decide (i < 4) := by decide +kernel
theorem nib_s (c : Int64) {j : Nat} (hj : j < 16) : ((c >>> ((nI (4 * j)).toInt64 &&& 63)) &&& 15).toInt32 = nI (nib c j) := by
  apply Int32.toBitVec_inj.mp
  rw [Int64.toBitVec_toInt32, BitVec.signExtend_eq_setWidth_of_le _ (by decide), Int64.toBitVec_and, Int64.toBitVec_shiftRight]
  show BitVec.setWidth 32 ((c.toBitVec.sshiftRight (((nI (4 * j)).toInt64 &&& 63).toBitVec.smod 64).toNat) &&& (15 : Int64).toBitVec) = BitVec.ofNat 32 (nib c j)
  rw [nib_sm j hj]
  apply BitVec.eq_of_getLsbD_eq
  intro i hi
  rw [BitVec.getLsbD_setWidth, BitVec.getLsbD_and, nib_15 i (by omega), BitVec.getLsbD_ofNat]
  unfold nib
  rw [show (16 : Nat) = 2 ^ 4 from rfl, Nat.testBit_mod_two_pow, Nat.testBit_div_two_pow]
  by_cases h4 : i < 4
  · rw [BitVec.getLsbD_sshiftRight]
    have e1 : (i + 4 * j < 64) := by omega
    have e2 : ¬ (64 ≤ i) := by omega
    have e3 : c.toBitVec.getLsbD (i + 4 * j) = c.toUInt64.toNat.testBit (i + 4 * j) := rfl
    rw [Nat.add_comm (4 * j) i, if_pos e1, e3]
    simp [h4, hi, e2, Nat.add_comm]
  · simp [h4]
theorem nd_step {i : Nat} {f1 f2 f3 : Nat → Int32} (h : ∀ k, k < i → f1 k = cM k ∧ f2 k = c0 k ∧ f3 k = c0 k) : ∀ k, k < i + 1 → upd f1 i (-1) k = cM k ∧ upd f2 i (nI 0) k = c0 k ∧ upd f3 i (nI 0) k = c0 k := by
  intro k hk
  by_cases e : k = i
  · subst e
    rw [upd_s, upd_s, upd_s]
    exact ⟨rfl, rfl, rfl⟩
  · rw [upd_n e, upd_n e, upd_n e]
    exact h k (by omega)
end
section
/-! the tables' answers rest on nothing old: solve fills all that it reads -/
theorem lit_cong {σ : Type} {f g : Nat → σ → σ} (h : ∀ i s, f i s = g i s) (s : σ) (n : Nat) : lit f s n = lit g s n := by
  induction n with
  | zero => rfl
  | succ n ih => rw [lit_succ, lit_succ, ih, h]
theorem rowS_cong {row row' : Nat → Int32} {set : Nat} (h : ∀ s, s < set → row s = row' s) (u : Nat) (b : Int32) : rowS row set u b = rowS row' set u b := by
  unfold rowS
  by_cases e : andn set (1 <<< u) = set
  · rw [if_pos e, if_pos e]
  · rw [if_neg e, if_neg e, h _ (Nat.lt_of_le_of_ne (andn_le _ _) e)]
theorem fill_out {al : Nat → Nat → Nat} {sc wi : Nat → Int32} {v : Nat} : ∀ i k, (k < v * 16 ∨ v * 16 + i ≤ k) → lit (fillS al sc v) wi i k = wi k := by
  intro i
  induction i with
  | zero => intro k _; rfl
  | succ i ih =>
    intro k hk
    rw [lit_succ]
    unfold fillS
    rw [upd_n (by omega)]
    exact ih k (by omega)
theorem fill_ind {al al' : Nat → Nat → Nat} {sc wi wi' : Nat → Int32} {v : Nat} (hal : ∀ s, s < 16 → al v s = al' v s) : ∀ i, i ≤ 16 → ∀ s, s < i → lit (fillS al sc v) wi i (v * 16 + s) = lit (fillS al' sc v) wi' i (v * 16 + s) := by
  intro i
  induction i with
  | zero => intro _ s h; exact absurd h (Nat.not_lt_zero s)
  | succ i ih =>
    intro hi s hs
    rw [lit_succ, lit_succ]
    unfold fillS
    by_cases e : s = i
    · subst e
      rw [upd_s, upd_s]
      have hb : fwB al sc v s = fwB al' sc v s := by unfold fwB; rw [hal s (by omega)]
      rw [hb]
      exact lit_cong (fun u b => rowS_cong (fun z hz => ih (by omega) z hz) u b) _ 4
    · rw [upd_n (by omega), upd_n (by omega)]
      exact ih (by omega) s (by omega)
/-- v's best parents' score within the set s -/
def wv (al : Nat → Nat → Nat) (sc : Nat → Int32) (v s : Nat) : Int32 := fillF al sc v c0 (v * 16 + s)
theorem wv_cong {al al' : Nat → Nat → Nat} {sc : Nat → Int32} {v : Nat} (hal : ∀ s, s < 16 → al v s = al' v s) {s : Nat} (hs : s < 16) : wv al sc v s = wv al' sc v s := fill_ind hal 16 (Nat.le_refl _) s hs
theorem fillA_at {al : Nat → Nat → Nat} {sc wi : Nat → Int32} : ∀ n v s, v < n → s < 16 → lit (fun v w => fillF al sc v w) wi n (v * 16 + s) = wv al sc v s := by
  intro n
  induction n with
  | zero => intro v s h; exact absurd h (Nat.not_lt_zero v)
  | succ n ih =>
    intro v s hv hs
    rw [lit_succ]
    by_cases e : v = n
    · subst e
      exact fill_ind (fun _ _ => rfl) 16 (Nat.le_refl _) s hs
    · show lit (fillS al sc n) _ 16 (v * 16 + s) = _
      rw [fill_out 16 _ (by omega)]
      exact ih v s (by omega) hs
def Ag (n : Nat) (st st' : (Nat → Int32) × (Nat → Int32)) : Prop := ∀ s, s ≤ n → st.1 s = st'.1 s ∧ st.2 s = st'.2 s
theorem Ag_upd {n : Nat} {st st' : (Nat → Int32) × (Nat → Int32)} (h : Ag n st st') (k : Nat) (x y : Int32) : Ag n (upd st.1 k x, upd st.2 k y) (upd st'.1 k x, upd st'.2 k y) := by
  intro s hs
  by_cases e : s = k
  · subst e
    exact ⟨upd_s.trans upd_s.symm, upd_s.trans upd_s.symm⟩
  · show upd st.1 k x s = upd st'.1 k x s ∧ upd st.2 k y s = upd st'.2 k y s
    rw [upd_n e, upd_n e, upd_n e, upd_n e]
    exact h s hs
theorem Ag_upd' {n : Nat} {st st' : (Nat → Int32) × (Nat → Int32)} (h : Ag n st st') (x y : Int32) : Ag (n + 1) (upd st.1 (n + 1) x, upd st.2 (n + 1) y) (upd st'.1 (n + 1) x, upd st'.2 (n + 1) y) := by
  intro s hs
  by_cases e : s = n + 1
  · subst e
    exact ⟨upd_s.trans upd_s.symm, upd_s.trans upd_s.symm⟩
  · show upd st.1 (n + 1) x s = upd st'.1 (n + 1) x s ∧ upd st.2 (n + 1) y s = upd st'.2 (n + 1) y s
    rw [upd_n e, upd_n e, upd_n e, upd_n e]
    exact h s (by omega)
theorem tryF_cong {wi wi' : Nat → Int32} {set v : Nat} {st st' : (Nat → Int32) × (Nat → Int32)} (hw : wi (v * 16 + andn set (1 <<< v)) = wi' (v * 16 + andn set (1 <<< v))) (h : Ag set st st') : Ag set (tryF wi set v st) (tryF wi' set v st') := by
  have hr := h (andn set (1 <<< v)) (andn_le _ _)
  have hs := h set (Nat.le_refl _)
  unfold tryF
  rw [hw, hr.1]
  by_cases c1 : wi' (v * 16 + andn set (1 <<< v)) = -100000
  · rw [if_pos c1, if_pos c1]; exact h
  rw [if_neg c1, if_neg c1]
  by_cases c2 : st'.1 (andn set (1 <<< v)) = -100000
  · rw [if_pos c2, if_pos c2]; exact h
  rw [if_neg c2, if_neg c2]
  generalize st'.1 (andn set (1 <<< v)) + wi' (v * 16 + andn set (1 <<< v)) = w
  have hA : Ag set (tryA set w st) (tryA set w st') := by
    unfold tryA
    rw [hs.1]
    by_cases c3 : w ≤ st'.1 set
    · rw [if_pos c3, if_pos c3]; exact h
    · rw [if_neg c3, if_neg c3]; exact Ag_upd h _ _ _
  generalize tryA set w st = s1 at hA
  generalize tryA set w st' = s2 at hA
  have hr := hA (andn set (1 <<< v)) (andn_le _ _)
  have hs := hA set (Nat.le_refl _)
  unfold tryB
  rw [hs.1, hs.2, hr.2]
  by_cases c4 : w = s2.1 set
  · rw [if_pos c4, if_pos c4]
    intro z hz
    refine ⟨(hA z hz).1, ?_⟩
    show upd s1.2 set _ z = upd s2.2 set _ z
    by_cases e : z = set
    · subst e; rw [upd_s, upd_s]
    · rw [upd_n e, upd_n e]; exact (hA z hz).2
  · rw [if_neg c4, if_neg c4]; exact hA
theorem solB_cong {wi wi' : Nat → Int32} (hw : ∀ v, v < 4 → ∀ s, s < 16 → wi (v * 16 + s) = wi' (v * 16 + s)) {st st' : (Nat → Int32) × (Nat → Int32)} (h0 : Ag 0 st st') : ∀ j, j ≤ 15 → Ag j (lit (solS wi) st j) (lit (solS wi') st' j) := by
  intro j
  induction j with
  | zero => intro _; exact h0
  | succ j ih =>
    intro hj
    rw [lit_succ, lit_succ]
    unfold solS
    have hi : ∀ n, n ≤ 4 → Ag (j + 1) (lit (solV wi (j + 1)) (upd (lit (solS wi) st j).1 (j + 1) (-100000), upd (lit (solS wi) st j).2 (j + 1) (nI 0)) n) (lit (solV wi' (j + 1)) (upd (lit (solS wi') st' j).1 (j + 1) (-100000), upd (lit (solS wi') st' j).2 (j + 1) (nI 0)) n) := by
      intro n
      induction n with
      | zero => intro _; exact Ag_upd' (ih (by omega)) _ _
      | succ n ihn =>
        intro hn
        rw [lit_succ, lit_succ]
        unfold solV
        by_cases c : ((j + 1) >>> n) &&& 1 = 1
        · rw [if_pos c, if_pos c]
          exact tryF_cong (hw n (by omega) _ (Nat.lt_of_le_of_lt (andn_le _ _) (by omega))) (ihn (by omega))
        · rw [if_neg c, if_neg c]
          exact ihn (by omega)
    exact hi 4 (Nat.le_refl _)
theorem solve_ind {al al' : Nat → Nat → Nat} {sc wi bo wa wi' bo' wa' : Nat → Int32} (hal : ∀ v, v < 4 → ∀ s, s < 16 → al v s = al' v s) : Ag 15 (solveF al sc wi bo wa) (solveF al' sc wi' bo' wa') := by
  unfold solveF solB
  refine solB_cong (fun v hv s hs => ?_) (fun s hs => ?_) 15 (Nat.le_refl _)
  · show lit (fun v w => fillF al sc v w) wi 4 (v * 16 + s) = lit (fun v w => fillF al' sc v w) wi' 4 (v * 16 + s)
    rw [fillA_at 4 v s hv hs, fillA_at 4 v s hv hs]
    exact wv_cong (hal v hv) hs
  · have e : s = 0 := by omega
    subst e
    show upd bo 0 (nI 0) 0 = upd bo' 0 (nI 0) 0 ∧ upd wa 0 (nI 1) 0 = upd wa' 0 (nI 1) 0
    simp [upd]
theorem solve_15 {al : Nat → Nat → Nat} {sc wi bo wa : Nat → Int32} : (solveF al sc wi bo wa).1 15 = BEST al sc ∧ (solveF al sc wi bo wa).2 15 = WAYS al sc := solve_ind (fun _ _ _ _ => rfl) 15 (Nat.le_refl _)
theorem BEST_cong {al al' : Nat → Nat → Nat} {sc : Nat → Int32} (hal : ∀ v, v < 4 → ∀ s, s < 16 → al v s = al' v s) : BEST al sc = BEST al' sc := (solve_ind hal 15 (Nat.le_refl _)).1
theorem WAYS_cong {al al' : Nat → Nat → Nat} {sc : Nat → Int32} (hal : ∀ v, v < 4 → ∀ s, s < 16 → al v s = al' v s) : WAYS al sc = WAYS al' sc := (solve_ind hal 15 (Nat.le_refl _)).2
/-! answers of the class, and rows on them -/
def parR (mo : Int32) (fb rq sc : Nat → Int32) (x : Int32) : Int32 := if badV x = 0 then (if BEST (AL0 mo fb rq) sc = -100000 then -100000 else ffF mo fb rq sc x.toNatClampNeg) else -1
def edgN (mo : Int32) (fb rq sc : Nat → Int32) : Nat := lit (fun v n => n + szN ((ffF mo fb rq sc v).toNatClampNeg)) 0 4
def soR (sc : Nat → Int32) (x1 x2 : Int32) : Int32 := if badV x1 = 0 then (if badP x1.toNatClampNeg x2 = 0 then sc (x1.toNatClampNeg * 16 + x2.toNatClampNeg) else nI 0) else nI 0
def scoreU (sc : Nat → Int32) (x1 x2 x3 : Int32) : Nat → Int32 := if scoreR x1 x2 x3 = nI 0 then upd sc (x1.toNatClampNeg * 16 + x2.toNatClampNeg) x3 else sc
theorem scoreR_a {x1 x2 x3 : Int32} (h : ¬ badV x1 = 0) : scoreR x1 x2 x3 = -1 := by unfold scoreR; rw [if_neg h]
theorem scoreR_b {x1 x2 x3 : Int32} {a : Nat} (h : badV x1 = 0) (ha : a < 4) (e : x1 = nI a) (hb : ¬ badP a x2 = 0) : scoreR x1 x2 x3 = -2 := by
  unfold scoreR
  rw [if_pos h, if_neg (by rw [e, nI_clamp (by omega)]; exact hb)]
theorem scoreR_c {x1 x2 x3 : Int32} {a : Nat} (h : badV x1 = 0) (ha : a < 4) (e : x1 = nI a) (hb : badP a x2 = 0) (h3 : x3 < -1000) : scoreR x1 x2 x3 = -3 := by
  unfold scoreR
  rw [if_pos h, if_pos (by rw [e, nI_clamp (by omega)]; exact hb), if_pos h3]
theorem scoreR_d {x1 x2 x3 : Int32} {a : Nat} (h : badV x1 = 0) (ha : a < 4) (e : x1 = nI a) (hb : badP a x2 = 0) (h3 : ¬ x3 < -1000) (h4 : ¬ x3 ≤ nI 1000) : scoreR x1 x2 x3 = -3 := by
  unfold scoreR
  rw [if_pos h, if_pos (by rw [e, nI_clamp (by omega)]; exact hb), if_neg h3, if_neg h4]
theorem scoreR_e {x1 x2 x3 : Int32} {a : Nat} (h : badV x1 = 0) (ha : a < 4) (e : x1 = nI a) (hb : badP a x2 = 0) (h3 : ¬ x3 < -1000) (h4 : x3 ≤ nI 1000) : scoreR x1 x2 x3 = nI 0 := by
  unfold scoreR
  rw [if_pos h, if_pos (by rw [e, nI_clamp (by omega)]; exact hb), if_neg h3, if_pos h4]
theorem scoreU_no {sc : Nat → Int32} {x1 x2 x3 : Int32} (h : ¬ scoreR x1 x2 x3 = nI 0) : scoreU sc x1 x2 x3 = sc := by unfold scoreU; rw [if_neg h]
theorem scoreU_ok {sc : Nat → Int32} {x1 x2 x3 : Int32} {a q : Nat} (h : scoreR x1 x2 x3 = nI 0) (ha : a < 4) (hq : q < 16) (e1 : x1 = nI a) (e2 : x2 = nI q) : scoreU sc x1 x2 x3 = upd sc (a * 16 + q) x3 := by
  unfold scoreU
  rw [if_pos h, e1, e2, nI_clamp (by omega), nI_clamp (by omega)]
theorem edB_a {x y : Int32} (h : ¬ badV x = 0) : edB x y = 1 := by unfold edB; rw [if_neg h]
theorem edB_b {x y : Int32} (h : badV x = 0) (h2 : ¬ badV y = 0) : edB x y = 1 := by unfold edB; rw [if_pos h, if_neg h2]
theorem edB_c {x y : Int32} {a b : Nat} (h : badV x = 0) (h2 : badV y = 0) (e1 : x = nI a) (e2 : y = nI b) (hab : a = b) : edB x y = 1 := by unfold edB; rw [if_pos h, if_pos h2, if_pos (by rw [e1, e2, hab])]
theorem edB_d {x y : Int32} {a b : Nat} (h : badV x = 0) (h2 : badV y = 0) (ha : a < 4) (hb : b < 4) (e1 : x = nI a) (e2 : y = nI b) (hab : ¬ a = b) : edB x y = 0 := by
  unfold edB
  rw [if_pos h, if_pos h2, if_neg (fun q => hab ((nI_eq (by omega) (by omega)).mp (by rw [← e1, ← e2]; exact q)))]
theorem ffI_1 {mo : Int32} {fb rq sc : Nat → Int32} {w : Int32} {v p : Nat} {st : (Nat → Int32) × Nat} (h : st.2 = 0) : ffI mo fb rq sc w v p st = (upd st.1 v (nI p), if BEST (alN mo fb rq (upd st.1 v (nI p)) c0 c0) sc = w then 1 else 0) := by unfold ffI; rw [if_pos h]
theorem ffI_2 {mo : Int32} {fb rq sc : Nat → Int32} {w : Int32} {v p : Nat} {st : (Nat → Int32) × Nat} (h : ¬ st.2 = 0) : ffI mo fb rq sc w v p st = st := by unfold ffI; rw [if_neg h]
theorem ffI_stay {mo : Int32} {fb rq sc : Nat → Int32} {w : Int32} {v q : Nat} {s : (Nat → Int32) × Nat} (h : ¬ (lit (ffI mo fb rq sc w v) s q).2 = 0) : ∀ n, q ≤ n → lit (ffI mo fb rq sc w v) s n = lit (ffI mo fb rq sc w v) s q := by
  intro n
  induction n with
  | zero => intro hq; rw [show q = 0 by omega]
  | succ n ih =>
    intro hq
    by_cases e : q = n + 1
    · rw [e]
    · rw [lit_succ, ih (by omega), ffI_2 h]
theorem ffI_at {mo : Int32} {fb rq sc : Nat → Int32} {w : Int32} {v : Nat} {fx : Nat → Int32} : ∀ n, 0 < n → (∃ j, j < n ∧ (lit (ffI mo fb rq sc w v) (fx, 0) n).1 v = nI j) ∧ ∀ k, k ≠ v → (lit (ffI mo fb rq sc w v) (fx, 0) n).1 k = fx k := by
  intro n
  induction n with
  | zero => intro h; exact absurd h (Nat.lt_irrefl 0)
  | succ n ih =>
    intro _
    rw [lit_succ]
    by_cases c : (lit (ffI mo fb rq sc w v) (fx, 0) n).2 = 0
    · rw [ffI_1 c]
      refine ⟨⟨n, by omega, upd_s⟩, fun k hk => ?_⟩
      show upd _ v _ k = _
      rw [upd_n hk]
      by_cases h0 : n = 0
      · subst h0; rfl
      · exact (ih (by omega)).2 k hk
    · rw [ffI_2 c]
      have h0 : n ≠ 0 := by
        intro h0
        subst h0
        exact c rfl
      obtain ⟨⟨j, hj, e⟩, h⟩ := ih (by omega)
      exact ⟨⟨j, by omega, e⟩, h⟩
theorem ffO_at {mo : Int32} {fb rq sc : Nat → Int32} {w : Int32} : ∀ n, ∀ v, v < n → ∃ j, j < 16 ∧ lit (ffO mo fb rq sc w) cM n v = nI j := by
  intro n
  induction n with
  | zero => intro v h; exact absurd h (Nat.not_lt_zero v)
  | succ n ih =>
    intro v hv
    rw [lit_succ]
    have hA := ffI_at (mo := mo) (fb := fb) (rq := rq) (sc := sc) (w := w) (v := n) (fx := lit (ffO mo fb rq sc w) cM n) 16 (by decide)
    by_cases e : v = n
    · subst e; exact hA.1
    · obtain ⟨j, hj, h⟩ := ih v (by omega)
      exact ⟨j, hj, by rw [← h]; exact hA.2 v e⟩
theorem ffF_at (mo : Int32) (fb rq sc : Nat → Int32) {v : Nat} (hv : v < 4) : ffF mo fb rq sc v = nI ((ffF mo fb rq sc v).toNatClampNeg) ∧ (ffF mo fb rq sc v).toNatClampNeg < 16 := by
  obtain ⟨j, hj, e⟩ := ffO_at (mo := mo) (fb := fb) (rq := rq) (sc := sc) (w := BEST (AL0 mo fb rq) sc) 4 v hv
  have e2 : ffF mo fb rq sc v = nI j := e
  rw [e2, nI_clamp (by omega)]
  exact ⟨rfl, hj⟩
end
section
/-! what the reference computes, in plain Lean -/
def maskN (v d : Nat) : Nat := (d &&& ((1 <<< v) - 1)) ||| ((d >>> v) <<< (v + 1))
def digM (v x : Nat) : Nat := (x &&& ((1 <<< v) - 1)) ||| ((x >>> (v + 1)) <<< v)
def dgt (z v : Nat) : Nat := (z >>> (3 * (3 - v))) &&& 7
def parN (z v : Nat) : Nat := maskN v (dgt z v)
theorem dgt_lt (z v : Nat) : dgt z v < 8 := Nat.lt_of_le_of_lt Nat.and_le_right (by decide)
theorem maskN_lt : ∀ v, v < 4 → ∀ d, d < 8 → maskN v d < 16 := by decide +kernel
theorem digM_lt : ∀ v, v < 4 → ∀ x, x < 16 → digM v x < 8 := by decide +kernel
theorem parN_lt (z : Nat) {v : Nat} (hv : v < 4) : parN z v < 16 := maskN_lt v hv _ (dgt_lt z v)
theorem mask_raw : ∀ v, v < 4 → ∀ d, d < 8 → ((nI d &&& (nI (1 <<< v) - nI 1)) ||| (nI (d >>> v) <<< (nI (v + 1) &&& 31))) = nI (maskN v d) := by decide +kernel
theorem digit_raw : ∀ v, v < 4 → ∀ x, x < 16 → ((nI x &&& (nI (1 <<< v) - nI 1)) ||| (nI (x >>> (v + 1)) <<< (nI v &&& 31))) = nI (digM v x) := by decide +kernel
theorem dgt_raw : ∀ v, v < 4 → nI 3 * (nI 3 - nI v) = nI (3 * (3 - v)) := by decide +kernel
theorem bits_sz : ∀ x, x < 16 → (((x &&& 1) + ((x >>> 1) &&& 1)) + ((x >>> 2) &&& 1)) + ((x >>> 3) &&& 1) = szN x := by decide +kernel
theorem sh16 : ∀ v, v < 4 → 1 <<< v < 2 ^ 4 := by decide
-- ---- circles
def hcS (z v t : Nat) : Nat := if andn (parN z v) t = 0 then t ||| (1 <<< v) else t
def hcO (z : Nat) (_ : Nat) (t : Nat) : Nat := lit (hcS z) t 4
def circ (z : Nat) : Nat := if lit (hcO z) 0 4 = 15 then 0 else 1
-- ---- bad
theorem lt4 (x : Int32) : x ≤ nI 3 ↔ x < nI 4 := by
  rw [Int32.le_iff_toInt_le, Int32.lt_iff_toInt_lt, nI_toInt (by decide), nI_toInt (by decide)]
  omega
theorem ge16 (x : Int32) : nI 15 < x ↔ nI 16 ≤ x := by
  rw [Int32.le_iff_toInt_le, Int32.lt_iff_toInt_lt, nI_toInt (by decide), nI_toInt (by decide)]
  omega
theorem badV_1a {x : Int32} (h : x < 0) : badV x = 1 := by unfold badV; rw [if_pos h]
theorem badV_1b {x : Int32} (h : ¬ x < 0) (h2 : x ≤ nI 3) : badV x = 0 := by unfold badV; rw [if_neg h, if_pos ((lt4 x).mp h2)]
theorem badV_1c {x : Int32} (h : ¬ x < 0) (h2 : ¬ x ≤ nI 3) : badV x = 1 := by unfold badV; rw [if_neg h, if_neg (fun q => h2 ((lt4 x).mpr q))]
theorem badP_1a {v : Nat} {x : Int32} (h : x < 0) : badP v x = 1 := by unfold badP; rw [if_pos h]
theorem badP_1b {v : Nat} {x : Int32} (h : ¬ x < 0) (h2 : nI 15 < x) : badP v x = 1 := by unfold badP; rw [if_neg h, if_pos ((ge16 x).mp h2)]
theorem badP_1c {v : Nat} {x : Int32} (h : ¬ x < 0) (h2 : ¬ nI 15 < x) (h3 : ¬ (x >>> (nI v &&& 31)) &&& nI 1 = nI 1) : badP v x = 0 := by unfold badP; rw [if_neg h, if_neg (fun q => h2 ((ge16 x).mpr q)), if_neg h3]
theorem badP_1d {v : Nat} {x : Int32} (h : ¬ x < 0) (h2 : ¬ nI 15 < x) (h3 : (x >>> (nI v &&& 31)) &&& nI 1 = nI 1) : badP v x = 1 := by unfold badP; rw [if_neg h, if_neg (fun q => h2 ((ge16 x).mpr q)), if_pos h3]
-- ---- settings
def scoreU1 (sc : Nat → Int32) (kn : Int32) (x1 x2 x3 : Int32) : (Nat → Int32) × Int32 := if scoreR x1 x2 x3 = nI 0 then (upd sc (x1.toNatClampNeg * 8 + digM x1.toNatClampNeg x2.toNatClampNeg) x3, nI 0) else (sc, kn)
theorem scoreU1_no {sc : Nat → Int32} {kn x1 x2 x3 : Int32} (h : ¬ scoreR x1 x2 x3 = nI 0) : scoreU1 sc kn x1 x2 x3 = (sc, kn) := by unfold scoreU1; rw [if_neg h]
theorem scoreU1_ok {sc : Nat → Int32} {kn x1 x2 x3 : Int32} {a q : Nat} (h : scoreR x1 x2 x3 = nI 0) (ha : a < 4) (hq : q < 16) (e1 : x1 = nI a) (e2 : x2 = nI q) : scoreU1 sc kn x1 x2 x3 = (upd sc (a * 8 + digM a q) x3, nI 0) := by
  unfold scoreU1
  rw [if_pos h, e1, e2, nI_clamp (by omega), nI_clamp (by omega)]
def limK (kn x : Int32) : Int32 := if x < 0 then kn else if x ≤ nI 3 then nI 0 else kn
def so1R (sc : Nat → Int32) (x1 x2 : Int32) : Int32 := if badV x1 = 0 then (if badP x1.toNatClampNeg x2 = 0 then sc (x1.toNatClampNeg * 8 + digM x1.toNatClampNeg x2.toNatClampNeg) else nI 0) else nI 0
-- ---- data
theorem hitS_gr {cs : Int64} {v p t j z o : Nat} (h : nib cs j &&& p = t) : hitS cs v p t j (z, o) = (z + 1 - ((nib cs j >>> v) &&& 1), o + ((nib cs j >>> v) &&& 1)) := by
  unfold hitS
  rw [if_pos h]
  have hb : (nib cs j >>> v) &&& 1 ≤ 1 := Nat.and_le_right
  by_cases e : (nib cs j >>> v) &&& 1 = 1
  · rw [if_pos e, e, Nat.add_sub_cancel]
  · rw [if_neg e, show (nib cs j >>> v) &&& 1 = 0 by omega]
    rfl
def ln1I (cs : Int64) (v d : Nat) (sc : Nat → Int32) : Nat → Int32 := upd sc (v * 8 + d) (sfF cs v (maskN v d))
def ln1O (cs : Int64) (v : Nat) (sc : Nat → Int32) : Nat → Int32 := lit (ln1I cs v) sc 8
-- ---- structures
abbrev okU (sa : Nat → Int32) (v p u : Nat) : Prop := ¬ (sa (u * 4 + v) = nI 1 ∧ (p >>> u) &&& 1 = 1) ∧ ¬ (sa (u * 4 + v) = nI 2 ∧ (p >>> u) &&& 1 = 0)
abbrev okV (li : Int32) (sa : Nat → Int32) (v p : Nat) : Prop := nI (szN p) ≤ li ∧ ∀ u, u < 4 → okU sa v p u
abbrev okS (li : Int32) (sa : Nat → Int32) (z : Nat) : Prop := ∀ v, v < 4 → okV li sa v (parN z v)
def alwN (li : Int32) (sa nc : Nat → Int32) (z : Nat) : Nat := if nc z = 0 then 0 else if okS li sa z then 1 else 0
theorem alwN_le (li : Int32) (sa nc : Nat → Int32) (z : Nat) : alwN li sa nc z ≤ 1 := by unfold alwN; (repeat' split) <;> omega
def worF (sc : Nat → Int32) (z : Nat) : Int32 := lit (fun v w => w + sc (v * 8 + dgt z v)) (nI 0) 4
def woS (li : Int32) (sa nc sc : Nat → Int32) (z : Nat) (st : Int32 × Int32) : Int32 × Int32 := if alwN li sa nc z = 0 then st else if worF sc z ≤ st.1 then st else (worF sc z, nI z)
def woF (li : Int32) (sa nc sc : Nat → Int32) : Int32 × Int32 := lit (woS li sa nc sc) (-100000, nI 0) 4096
theorem woS_fi {li : Int32} {sa nc sc : Nat → Int32} : ∀ n, n ≤ 4096 → ∃ f : Nat, f < 4096 ∧ (lit (woS li sa nc sc) (-100000, nI 0) n).2 = nI f := by
  intro n
  induction n with
  | zero => intro _; exact ⟨0, by decide, rfl⟩
  | succ n ih =>
    intro hn
    rw [lit_succ]
    obtain ⟨f, hf, e⟩ := ih (by omega)
    generalize lit (woS li sa nc sc) (-100000, nI 0) n = st at e
    unfold woS
    by_cases h1 : alwN li sa nc n = 0
    · rw [if_pos h1]; exact ⟨f, hf, e⟩
    · rw [if_neg h1]
      by_cases h2 : worF sc n ≤ st.1
      · rw [if_pos h2]; exact ⟨f, hf, e⟩
      · rw [if_neg h2]; exact ⟨n, by omega, rfl⟩
theorem woF_fi (li : Int32) (sa nc sc : Nat → Int32) : ∃ f : Nat, f < 4096 ∧ (woF li sa nc sc).2 = nI f := woS_fi 4096 (Nat.le_refl _)
/-- what workOut leaves in known, most, first -/
def WO (li : Int32) (sa nc sc : Nat → Int32) (kn mo fi : Int32) (u : Int32 × Int32 × Int32) : Prop := (¬ kn = 0 ∧ u = (kn, mo, fi)) ∨ (kn = 0 ∧ u.1 = nI 1 ∧ u.2 = woF li sa nc sc)
theorem WO_fi {li : Int32} {sa nc sc : Nat → Int32} {kn mo fi : Int32} {u : Int32 × Int32 × Int32} (h : WO li sa nc sc kn mo fi u) (hf : ∃ f : Nat, f < 4096 ∧ fi = nI f) : ∃ f : Nat, f < 4096 ∧ u.2.2 = nI f := by
  rcases h with h | h
  · rw [h.2]; exact hf
  · rw [h.2.2]; exact woF_fi li sa nc sc
def bbS (li : Int32) (sa nc sc : Nat → Int32) (a b t : Nat) (z : Nat) (top : Int32) : Int32 := if (parN z b >>> a) &&& 1 = t then (if alwN li sa nc z = 0 then top else if worF sc z ≤ top then top else worF sc z) else top
def bbF (li : Int32) (sa nc sc : Nat → Int32) (a b t : Nat) : Int32 := lit (bbS li sa nc sc a b t) (-100000) 4096
def eg1N (f : Nat) : Nat := lit (fun v n => n + szN (parN f v)) 0 4
def folN (z a b c d : Nat) : Nat := if parN z a = 0 then (if andn (parN z b) (1 <<< a) = 0 then (if andn (parN z c) ((1 <<< a) ||| (1 <<< b)) = 0 then (if d = a then 0 else 1) else 0) else 0) else 0
theorem folN_le (z a b c d : Nat) : folN z a b c d ≤ 1 := by unfold folN; (repeat' split) <;> omega
abbrev sofP (li mo : Int32) (sa nc sc : Nat → Int32) (a b c d z : Nat) : Prop := ¬ folN z a b c d = 0 ∧ worF sc z = mo ∧ ¬ alwN li sa nc z = 0
noncomputable def sofN (li mo : Int32) (sa nc sc : Nat → Int32) (a b c d : Nat) : Nat := @ite Nat (∀ z, z < 4096 → ¬ sofP li mo sa nc sc a b c d z) (Classical.propDecidable _) 0 1
theorem sofN_le (li mo : Int32) (sa nc sc : Nat → Int32) (a b c d : Nat) : sofN li mo sa nc sc a b c d ≤ 1 := by unfold sofN; split <;> omega
noncomputable def ordS (li mo : Int32) (sa nc sc : Nat → Int32) (co n : Nat) : Nat := if (((1 <<< (co &&& 3)) ||| (1 <<< ((co >>> 2) &&& 3))) ||| (1 <<< ((co >>> 4) &&& 3))) ||| (1 <<< ((co >>> 6) &&& 3)) = 15 then (if sofN li mo sa nc sc (co &&& 3) ((co >>> 2) &&& 3) ((co >>> 4) &&& 3) ((co >>> 6) &&& 3) = 0 then n else n + 1) else n
noncomputable def ordN (li mo : Int32) (sa nc sc : Nat → Int32) : Nat := lit (ordS li mo sa nc sc) 0 256
end
section
set_option maxHeartbeats 4000000 in
set_option maxRecDepth 100000 in
theorem metX0_bad (l : Launch) (x : Int32) : Met l yX0_bad (ws_ yX0_bad cX0_bad 1 (some .boolean)) ({ frames := 0, cells := 0, slots := 0, locals := 0 } : Room) (fun vv _ => vv = ([.int x] : List Value).toArray) (vp_Si (fun r : Int32 => r = nI (badV x))) 0 0 (fun _ => False) := by
  refine Met.ofW (cc := cX0_bad) (maxL := 1) (ret := (some .boolean)) (by decide) rfl ?_
  intro p e s m args below meth c s₁ B hml hpre
  obtain rfl := hpre
  have hx := B.exec
  have hb := B.bytes
  have hr := B.returns
  have hts := atoms_spec (ws := (ws_ yX0_bad cX0_bad 1 (some .boolean))) B.pre
  have hts : ∀ w ∈ lw_all, w.before _ s = true := fun w h => hts w (List.mem_cons_of_mem _ h)
  have hown : s.vm.findClass RX0 = some m.cls := findClass_of_methodNamed B.named
  have hlocks := B.notSynchronized
  have hl := lv_entry ([.int x]) (n := 1) (Nat.le_of_ble_eq_true rfl)
  rw [lg_entry_eq]
  generalize (lg_sl ([.int x]) ++ List.replicate (1 - (lg_sl ([.int x])).length) Slot.unset).toArray = ls at hl ⊢
  have hl : lv_has ls 1 [(0, .int x)] := hl
  refine lv_iload_n hx hb dX0_bad_0 rfl (lv_at hl 0 rfl) ?_
  refine lv_if_lt (tgt := 9) hx hb dX0_bad_1 (by decide) (fun c_1 => ?_) (fun c_1 => ?_)
  · refine lv_iconst (v := nI 1) hx hb dX0_bad_9 (by decide) ?_
    refine lv_goto (tgt := 14) hx hb dX0_bad_10 (by decide) ?_
    exact W.zret (v := nI 1) hx hb hr rfl (fun T9 hT9 hW9 => ⟨nI 1, rfl, (by unfold badV; (repeat' split) <;> first | rfl | contradiction | omega), hT9⟩) (fun q h => absurd h List.not_mem_nil) dX0_bad_14
  · refine lv_iload_n hx hb dX0_bad_4 rfl (lv_at hl 0 rfl) ?_
    refine lv_iconst (v := nI 4) hx hb dX0_bad_5 (by decide) ?_
    refine lv_icmp_lt (tgt := 13) hx hb dX0_bad_6 (by decide) (fun c_6 => ?_) (fun c_6 => ?_)
    · refine lv_iconst (v := nI 0) hx hb dX0_bad_13 (by decide) ?_
      exact W.zret (v := nI 0) hx hb hr rfl (fun T9 hT9 hW9 => ⟨nI 0, rfl, (by unfold badV; (repeat' split) <;> first | rfl | contradiction | omega), hT9⟩) (fun q h => absurd h List.not_mem_nil) dX0_bad_14
    · refine lv_iconst (v := nI 1) hx hb dX0_bad_9 (by decide) ?_
      refine lv_goto (tgt := 14) hx hb dX0_bad_10 (by decide) ?_
      exact W.zret (v := nI 1) hx hb hr rfl (fun T9 hT9 hW9 => ⟨nI 1, rfl, (by unfold badV; (repeat' split) <;> first | rfl | contradiction | omega), hT9⟩) (fun q h => absurd h List.not_mem_nil) dX0_bad_14
set_option maxHeartbeats 4000000 in
set_option maxRecDepth 100000 in
theorem metX0_badParents (l : Launch) (v : Nat) (x : Int32) (hv : v < 4) : Met l yX0_badParents (ws_ yX0_badParents cX0_badParents 2 (some .boolean)) ({ frames := 0, cells := 0, slots := 0, locals := 0 } : Room) (fun vv _ => vv = ([.int (nI v), .int x] : List Value).toArray) (vp_Si (fun r : Int32 => r = nI (badP v x))) 0 0 (fun _ => False) := by
  refine Met.ofW (cc := cX0_badParents) (maxL := 2) (ret := (some .boolean)) (by decide) rfl ?_
  intro p e s m args below meth c s₁ B hml hpre
  obtain rfl := hpre
  have hx := B.exec
  have hb := B.bytes
  have hr := B.returns
  have hts := atoms_spec (ws := (ws_ yX0_badParents cX0_badParents 2 (some .boolean))) B.pre
  have hts : ∀ w ∈ lw_all, w.before _ s = true := fun w h => hts w (List.mem_cons_of_mem _ h)
  have hown : s.vm.findClass RX0 = some m.cls := findClass_of_methodNamed B.named
  have hlocks := B.notSynchronized
  have hl := lv_entry ([.int (nI v), .int x]) (n := 2) (Nat.le_of_ble_eq_true rfl)
  rw [lg_entry_eq]
  generalize (lg_sl ([.int (nI v), .int x]) ++ List.replicate (2 - (lg_sl ([.int (nI v), .int x])).length) Slot.unset).toArray = ls at hl ⊢
  have hl : lv_has ls 2 [(0, .int (nI v)), (1, .int x)] := hl
  refine lv_iload_n hx hb dX0_badParents_0 rfl (lv_at hl 1 rfl) ?_
  refine lv_if_lt (tgt := 19) hx hb dX0_badParents_1 (by decide) (fun c_1 => ?_) (fun c_1 => ?_)
  · refine lv_iconst (v := nI 1) hx hb dX0_badParents_19 (by decide) ?_
    refine lv_goto (tgt := 24) hx hb dX0_badParents_20 (by decide) ?_
    exact W.zret (v := nI 1) hx hb hr rfl (fun T9 hT9 hW9 => ⟨nI 1, rfl, (by unfold badP; (repeat' split) <;> first | rfl | contradiction | omega), hT9⟩) (fun q h => absurd h List.not_mem_nil) dX0_badParents_24
  · refine lv_iload_n hx hb dX0_badParents_4 rfl (lv_at hl 1 rfl) ?_
    refine lv_bipush (v := nI 16) hx hb dX0_badParents_5 (by decide) ?_
    refine lv_icmp_ge (tgt := 19) hx hb dX0_badParents_7 (by decide) (fun c_7 => ?_) (fun c_7 => ?_)
    · refine lv_iconst (v := nI 1) hx hb dX0_badParents_19 (by decide) ?_
      refine lv_goto (tgt := 24) hx hb dX0_badParents_20 (by decide) ?_
      exact W.zret (v := nI 1) hx hb hr rfl (fun T9 hT9 hW9 => ⟨nI 1, rfl, (by unfold badP; (repeat' split) <;> first | rfl | contradiction | omega), hT9⟩) (fun q h => absurd h List.not_mem_nil) dX0_badParents_24
    · refine lv_iload_n hx hb dX0_badParents_10 rfl (lv_at hl 1 rfl) ?_
      refine lv_iload_n hx hb dX0_badParents_11 rfl (lv_at hl 0 rfl) ?_
      refine lv_ishr hx hb dX0_badParents_12 ?_
      refine lv_iconst (v := nI 1) hx hb dX0_badParents_13 (by decide) ?_
      refine lv_iand hx hb dX0_badParents_14 ?_
      refine lv_iconst (v := nI 1) hx hb dX0_badParents_15 (by decide) ?_
      refine lv_icmp_ne (tgt := 23) hx hb dX0_badParents_16 (by decide) (fun c_16 => ?_) (fun c_16 => ?_)
      · refine lv_iconst (v := nI 0) hx hb dX0_badParents_23 (by decide) ?_
        exact W.zret (v := nI 0) hx hb hr rfl (fun T9 hT9 hW9 => ⟨nI 0, rfl, (by unfold badP; (repeat' split) <;> first | rfl | contradiction | omega), hT9⟩) (fun q h => absurd h List.not_mem_nil) dX0_badParents_24
      · refine lv_iconst (v := nI 1) hx hb dX0_badParents_19 (by decide) ?_
        refine lv_goto (tgt := 24) hx hb dX0_badParents_20 (by decide) ?_
        exact W.zret (v := nI 1) hx hb hr rfl (fun T9 hT9 hW9 => ⟨nI 1, rfl, (by unfold badP; (repeat' split) <;> first | rfl | contradiction | omega), hT9⟩) (fun q h => absurd h List.not_mem_nil) dX0_badParents_24
set_option maxHeartbeats 4000000 in
set_option maxRecDepth 100000 in
theorem metX0_size (l : Launch) (x : Nat) (hx16 : x < 16) : Met l yX0_size (ws_ yX0_size cX0_size 3 (some .int)) ({ frames := 0, cells := 0, slots := 0, locals := 0 } : Room) (fun vv _ => vv = ([.int (nI x)] : List Value).toArray) (vp_Si (fun r : Int32 => r = nI (szN x))) 0 0 (fun _ => False) := by
  refine Met.ofW (cc := cX0_size) (maxL := 3) (ret := (some .int)) (by decide) rfl ?_
  intro p e s m args below meth c s₁ B hml hpre
  obtain rfl := hpre
  have hx := B.exec
  have hb := B.bytes
  have hr := B.returns
  have hts := atoms_spec (ws := (ws_ yX0_size cX0_size 3 (some .int))) B.pre
  have hts : ∀ w ∈ lw_all, w.before _ s = true := fun w h => hts w (List.mem_cons_of_mem _ h)
  have hown : s.vm.findClass RX0 = some m.cls := findClass_of_methodNamed B.named
  have hlocks := B.notSynchronized
  have hl := lv_entry ([.int (nI x)]) (n := 3) (Nat.le_of_ble_eq_true rfl)
  rw [lg_entry_eq]
  generalize (lg_sl ([.int (nI x)]) ++ List.replicate (3 - (lg_sl ([.int (nI x)])).length) Slot.unset).toArray = ls at hl ⊢
  have hl : lv_has ls 3 [(0, .int (nI x))] := hl
  refine lv_iconst (v := nI 0) hx hb dX0_size_0 (by decide) ?_
  refine lv_istore_n (lv' := [(1, .int (nI 0)), (0, .int (nI x))]) hx hb dX0_size_1 rfl hl (by decide) rfl (fun ls hl => ?_)
  refine lv_iconst (v := nI 0) hx hb dX0_size_2 (by decide) ?_
  refine lv_istore_n (lv' := [(2, .int (nI 0)), (1, .int (nI 0)), (0, .int (nI x))]) hx hb dX0_size_3 rfl hl (by decide) rfl (fun ls hl => ?_)
  have loop_4 : ∀ (k_4 i : Nat) (n : Nat), i ≤ 4 → 4 + 1 ≤ i + k_4 → (n = lit (fun v n => n + ((x >>> v) &&& 1)) 0 i) → ∀ (ls : Array Slot), lv_has ls 3 [(0, .int (nI x)), (1, .int (nI n)), (2, .int (nI i))] → W p l e (headSpec (ws_ yX0_size cX0_size 3 (some .int)) ({ frames := 0, cells := 0, slots := 0, locals := 0 } : Room)).room s m ([.int (nI x)] : List Value).toArray below meth c s.heap [] 0 0 (MQ below (vp_Si (fun r : Int32 => r = nI (szN x))) ([.int (nI x)] : List Value).toArray s 0 0 (fun _ => False)) (F0 m 4 ls []) := by
    intro k_4
    induction k_4 with
    | zero =>
      intro i n h1 h2
      exact absurd h2 (by omega)
    | succ k_4 ih_4 =>
      intro i n hi_4 hk_4 hinv_4 ls hl
      refine lv_iload_n hx hb dX0_size_4 rfl (lv_at hl 2 rfl) ?_
      refine lv_iconst (v := nI 4) hx hb dX0_size_5 (by decide) ?_
      refine wk_icmp_ge (tgt := 23) hx hb dX0_size_6 (by decide) (by omega) (by decide) (fun c_6 => ?_) (fun c_6 => ?_)
      · have he_i : i = 4 := by omega
        subst he_i
        refine lv_iload_n hx hb dX0_size_23 rfl (lv_at hl 1 rfl) ?_
        exact W.iret (v := nI n) hx hb hr (fun T9 hT9 hW9 => ⟨nI n, rfl, (congrArg nI hinv_4), hT9⟩) (fun q h => absurd h List.not_mem_nil) dX0_size_24
      · refine lv_iload_n hx hb dX0_size_9 rfl (lv_at hl 1 rfl) ?_
        refine lv_iload_n hx hb dX0_size_10 rfl (lv_at hl 0 rfl) ?_
        refine lv_iload_n hx hb dX0_size_11 rfl (lv_at hl 2 rfl) ?_
        refine wk_ishr hx hb dX0_size_12 (by omega) (by omega) ?_
        refine lv_iconst (v := nI 1) hx hb dX0_size_13 (by decide) ?_
        refine wk_iand hx hb dX0_size_14 ?_
        have hf_14 : ((x >>> i) &&& 1) ≤ 1 := Nat.and_le_right
        refine wk_iadd hx hb dX0_size_15 ?_
        refine lv_istore_n (lv' := [(1, .int (nI (n + ((x >>> i) &&& 1)))), (0, .int (nI x)), (2, .int (nI i))]) hx hb dX0_size_16 rfl hl (by decide) rfl (fun ls hl => ?_)
        refine wk_iinc (lv' := [(2, .int (nI (i + 1))), (1, .int (nI (n + ((x >>> i) &&& 1)))), (0, .int (nI x))]) hx hb dX0_size_17 hl (k := 2) rfl (by decide) rfl (fun ls hl => ?_)
        refine lv_goto (tgt := 4) hx hb dX0_size_20 (by decide) ?_
        exact ih_4 (i + 1) (n + ((x >>> i) &&& 1)) (by omega) (by omega) (by rw [lit_succ, ← hinv_4]) ls (lv_sub hl [2, 1, 0] rfl)
  exact loop_4 (4 + 1) 0 0 (by omega) (by omega) rfl ls (lv_sub hl [2, 1, 0] rfl)
set_option maxHeartbeats 4000000 in
set_option maxRecDepth 100000 in
theorem metX0_caseAt (l : Launch) (cs : Int64) (j : Nat) (hj : j < 16) : Met l yX0_caseAt (ws_ yX0_caseAt cX0_caseAt 3 (some .int)) ({ frames := 0, cells := 0, slots := 0, locals := 0 } : Room) (fun vv _ => vv = ([.long cs, .int (nI j)] : List Value).toArray) (vp_Si (fun r : Int32 => r = nI (nib cs j))) 0 0 (fun _ => False) := by
  refine Met.ofW (cc := cX0_caseAt) (maxL := 3) (ret := (some .int)) (by decide) rfl ?_
  intro p e s m args below meth c s₁ B hml hpre
  obtain rfl := hpre
  have hx := B.exec
  have hb := B.bytes
  have hr := B.returns
  have hts := atoms_spec (ws := (ws_ yX0_caseAt cX0_caseAt 3 (some .int))) B.pre
  have hts : ∀ w ∈ lw_all, w.before _ s = true := fun w h => hts w (List.mem_cons_of_mem _ h)
  have hown : s.vm.findClass RX0 = some m.cls := findClass_of_methodNamed B.named
  have hlocks := B.notSynchronized
  have hl := lv_entry ([.long cs, .int (nI j)]) (n := 3) (Nat.le_of_ble_eq_true rfl)
  rw [lg_entry_eq]
  generalize (lg_sl ([.long cs, .int (nI j)]) ++ List.replicate (3 - (lg_sl ([.long cs, .int (nI j)])).length) Slot.unset).toArray = ls at hl ⊢
  have hl : lv_has ls 3 [(0, .long cs), (2, .int (nI j))] := hl
  refine lv_lload_n hx hb dX0_caseAt_0 rfl (lv_at hl 0 rfl) ?_
  refine lv_iconst (v := nI 4) hx hb dX0_caseAt_1 (by decide) ?_
  refine lv_iload_n hx hb dX0_caseAt_2 rfl (lv_at hl 1 rfl) ?_
  refine wk_imul hx hb dX0_caseAt_3 ?_
  refine lv_lushr hx hb dX0_caseAt_4 rfl ?_
  refine lv_l2i hx hb dX0_caseAt_5 rfl ?_
  refine lv_bipush (v := nI 15) hx hb dX0_caseAt_6 (by decide) ?_
  refine lv_iand hx hb dX0_caseAt_8 ?_
  refine wk_top (y := nI (nib cs j)) (nib_u cs hj) ?_
  exact W.iret (v := nI (nib cs j)) hx hb hr (fun T9 hT9 hW9 => ⟨nI (nib cs j), rfl, rfl, hT9⟩) (fun q h => absurd h List.not_mem_nil) dX0_caseAt_9
set_option maxHeartbeats 4000000 in
set_option maxRecDepth 100000 in
theorem metX0_hitsAt (l : Launch) (cs : Int64) (v p0 t : Nat) (hv : v < 4) (hp : p0 < 16) (ht : t < 16) : Met l yX0_hitsAt (ws_ yX0_hitsAt cX0_hitsAt 9 (some .int)) ({ frames := 1, cells := 0, slots := 0, locals := 22 } : Room) (fun vv _ => vv = ([.long cs, .int (nI v), .int (nI p0), .int (nI t)] : List Value).toArray) (vp_Si (fun r : Int32 => r = nI (hitF cs v p0 t))) 0 0 (fun _ => False) := by
  refine Met.ofW (cc := cX0_hitsAt) (maxL := 9) (ret := (some .int)) (by decide) rfl ?_
  intro p e s m args below meth c s₁ B hml hpre
  obtain rfl := hpre
  have hx := B.exec
  have hb := B.bytes
  have hr := B.returns
  have hts := atoms_spec (ws := (ws_ yX0_hitsAt cX0_hitsAt 9 (some .int))) B.pre
  have hts : ∀ w ∈ lw_all, w.before _ s = true := fun w h => hts w (List.mem_cons_of_mem _ h)
  have hown : s.vm.findClass RX0 = some m.cls := findClass_of_methodNamed B.named
  have hlocks := B.notSynchronized
  have hl := lv_entry ([.long cs, .int (nI v), .int (nI p0), .int (nI t)]) (n := 9) (Nat.le_of_ble_eq_true rfl)
  rw [lg_entry_eq]
  generalize (lg_sl ([.long cs, .int (nI v), .int (nI p0), .int (nI t)]) ++ List.replicate (9 - (lg_sl ([.long cs, .int (nI v), .int (nI p0), .int (nI t)])).length) Slot.unset).toArray = ls at hl ⊢
  have hl : lv_has ls 9 [(0, .long cs), (2, .int (nI v)), (3, .int (nI p0)), (4, .int (nI t))] := hl
  refine lv_iconst (v := nI 0) hx hb dX0_hitsAt_0 (by decide) ?_
  refine lv_istore (lv' := [(5, .int (nI 0)), (0, .long cs), (2, .int (nI v)), (3, .int (nI p0)), (4, .int (nI t))]) hx hb dX0_hitsAt_1 hl (by decide) rfl (fun ls hl => ?_)
  refine lv_iconst (v := nI 0) hx hb dX0_hitsAt_3 (by decide) ?_
  refine lv_istore (lv' := [(6, .int (nI 0)), (5, .int (nI 0)), (0, .long cs), (2, .int (nI v)), (3, .int (nI p0)), (4, .int (nI t))]) hx hb dX0_hitsAt_4 hl (by decide) rfl (fun ls hl => ?_)
  refine lv_iconst (v := nI 0) hx hb dX0_hitsAt_6 (by decide) ?_
  refine lv_istore (lv' := [(7, .int (nI 0)), (6, .int (nI 0)), (5, .int (nI 0)), (0, .long cs), (2, .int (nI v)), (3, .int (nI p0)), (4, .int (nI t))]) hx hb dX0_hitsAt_7 hl (by decide) rfl (fun ls hl => ?_)
  have loop_9 : ∀ (k_9 j : Nat) (z : Nat) (o : Nat), j ≤ 16 → 16 + 1 ≤ j + k_9 → ((z, o) = lit (hitS cs v p0 t) (0, 0) j ∧ z + o ≤ j) → ∀ (ls : Array Slot), lv_has ls 9 [(0, .long cs), (2, .int (nI v)), (3, .int (nI p0)), (4, .int (nI t)), (5, .int (nI z)), (6, .int (nI o)), (7, .int (nI j))] → W p l e (headSpec (ws_ yX0_hitsAt cX0_hitsAt 9 (some .int)) ({ frames := 1, cells := 0, slots := 0, locals := 22 } : Room)).room s m ([.long cs, .int (nI v), .int (nI p0), .int (nI t)] : List Value).toArray below meth c s.heap [] 0 0 (MQ below (vp_Si (fun r : Int32 => r = nI (hitF cs v p0 t))) ([.long cs, .int (nI v), .int (nI p0), .int (nI t)] : List Value).toArray s 0 0 (fun _ => False)) (F0 m 9 ls []) := by
    intro k_9
    induction k_9 with
    | zero =>
      intro j z o h1 h2
      exact absurd h2 (by omega)
    | succ k_9 ih_9 =>
      intro j z o hi_9 hk_9 hinv_9 ls hl
      have hb_9 := hinv_9.2
      refine lv_iload hx hb dX0_hitsAt_9 (lv_at hl 6 rfl) ?_
      refine lv_bipush (v := nI 16) hx hb dX0_hitsAt_11 (by decide) ?_
      refine wk_icmp_ge (tgt := 58) hx hb dX0_hitsAt_13 (by decide) (by omega) (by decide) (fun c_13 => ?_) (fun c_13 => ?_)
      · have he_j : j = 16 := by omega
        subst he_j
        refine lv_iload hx hb dX0_hitsAt_58 (lv_at hl 4 rfl) ?_
        refine lv_iload hx hb dX0_hitsAt_60 (lv_at hl 5 rfl) ?_
        refine wk_icmp_le (tgt := 70) hx hb dX0_hitsAt_62 (by decide) (by omega) (by omega) (fun c_62 => ?_) (fun c_62 => ?_)
        · refine lv_iload hx hb dX0_hitsAt_70 (lv_at hl 5 rfl) ?_
          exact W.iret (v := nI o) hx hb hr (fun T9 hT9 hW9 => ⟨nI o, rfl, (by unfold hitF; rw [← hinv_9.1]; rw [if_pos c_62]), hT9⟩) (fun q h => absurd h List.not_mem_nil) dX0_hitsAt_72
        · refine lv_iload hx hb dX0_hitsAt_65 (lv_at hl 4 rfl) ?_
          refine lv_goto (tgt := 72) hx hb dX0_hitsAt_67 (by decide) ?_
          exact W.iret (v := nI z) hx hb hr (fun T9 hT9 hW9 => ⟨nI z, rfl, (by unfold hitF; rw [← hinv_9.1]; rw [if_neg (Nat.not_le.mpr c_62)]), hT9⟩) (fun q h => absurd h List.not_mem_nil) dX0_hitsAt_72
      · refine lv_lload_n hx hb dX0_hitsAt_16 rfl (lv_at hl 0 rfl) ?_
        refine lv_iload hx hb dX0_hitsAt_17 (lv_at hl 6 rfl) ?_
        refine vp_callSi (W.runS (As := [.long cs, .int (nI j)]) (rest := []) ⟨hx, hb, hml, hown, hts⟩ (metX0_caseAt l cs j (by omega)) (va_cwS 2 hts (lw_S q97 q98 q23 q99) rfl rfl rfl (by decide +kernel) ⟨Nat.le_of_ble_eq_true rfl, Nat.le_of_ble_eq_true rfl⟩) preEq rfl rfl hl.1 rfl (lv_room (Nat.le_of_ble_eq_true rfl)) dX0_hitsAt_19 ⟨Nat.le_of_ble_eq_true rfl, Nat.le_of_ble_eq_true rfl⟩) (fun r hr_19 => ?_)
        have hr_19 : r = nI (nib cs j) := hr_19
        subst hr_19
        have hn_19 := nib_lt cs j
        refine lv_istore (lv' := [(8, .int (nI (nib cs j))), (0, .long cs), (2, .int (nI v)), (3, .int (nI p0)), (4, .int (nI t)), (5, .int (nI z)), (6, .int (nI o)), (7, .int (nI j))]) hx hb dX0_hitsAt_22 hl (by decide) rfl (fun ls hl => ?_)
        refine lv_iload hx hb dX0_hitsAt_24 (lv_at hl 0 rfl) ?_
        refine lv_iload_n hx hb dX0_hitsAt_26 rfl (lv_at hl 3 rfl) ?_
        refine wk_iand hx hb dX0_hitsAt_27 ?_
        refine lv_iload hx hb dX0_hitsAt_28 (lv_at hl 4 rfl) ?_
        refine wk_icmp_ne (tgt := 52) hx hb dX0_hitsAt_30 (by decide) (Nat.lt_of_le_of_lt Nat.and_le_left (by omega)) (by omega) (fun c_30 => ?_) (fun c_30 => ?_)
        · refine wk_iinc (lv' := [(7, .int (nI (j + 1))), (8, .int (nI (nib cs j))), (0, .long cs), (2, .int (nI v)), (3, .int (nI p0)), (4, .int (nI t)), (5, .int (nI z)), (6, .int (nI o))]) hx hb dX0_hitsAt_52 hl (k := 7) rfl (by decide) rfl (fun ls hl => ?_)
          refine lv_goto (tgt := 9) hx hb dX0_hitsAt_55 (by decide) ?_
          exact ih_9 (j + 1) z o (by omega) (by omega) ⟨by rw [lit_succ, ← hinv_9.1]; unfold hitS;   rw [if_neg c_30], by have := hinv_9.2; omega⟩ ls (lv_sub hl [2, 3, 4, 5, 6, 7, 0] rfl)
        · refine lv_iload hx hb dX0_hitsAt_33 (lv_at hl 0 rfl) ?_
          refine lv_iload_n hx hb dX0_hitsAt_35 rfl (lv_at hl 2 rfl) ?_
          refine wk_ishr hx hb dX0_hitsAt_36 (by omega) (by omega) ?_
          refine lv_iconst (v := nI 1) hx hb dX0_hitsAt_37 (by decide) ?_
          refine wk_iand hx hb dX0_hitsAt_38 ?_
          have hf_38 : (((nib cs j) >>> v) &&& 1) ≤ 1 := Nat.and_le_right
          refine lv_iconst (v := nI 1) hx hb dX0_hitsAt_39 (by decide) ?_
          refine wk_icmp_ne (tgt := 49) hx hb dX0_hitsAt_40 (by decide) (Nat.lt_of_le_of_lt Nat.and_le_right (by decide)) (by decide) (fun c_40 => ?_) (fun c_40 => ?_)
          · refine wk_iinc (lv' := [(5, .int (nI (z + 1))), (8, .int (nI (nib cs j))), (0, .long cs), (2, .int (nI v)), (3, .int (nI p0)), (4, .int (nI t)), (6, .int (nI o)), (7, .int (nI j))]) hx hb dX0_hitsAt_49 hl (k := 5) rfl (by decide) rfl (fun ls hl => ?_)
            refine wk_iinc (lv' := [(7, .int (nI (j + 1))), (5, .int (nI (z + 1))), (8, .int (nI (nib cs j))), (0, .long cs), (2, .int (nI v)), (3, .int (nI p0)), (4, .int (nI t)), (6, .int (nI o))]) hx hb dX0_hitsAt_52 hl (k := 7) rfl (by decide) rfl (fun ls hl => ?_)
            refine lv_goto (tgt := 9) hx hb dX0_hitsAt_55 (by decide) ?_
            exact ih_9 (j + 1) (z + 1) o (by omega) (by omega) ⟨by rw [lit_succ, ← hinv_9.1]; unfold hitS;   rw [if_pos c_30]; rw [if_neg c_40], by have := hinv_9.2; omega⟩ ls (lv_sub hl [3, 4, 5, 6, 1, 7, 0] rfl)
          · refine wk_iinc (lv' := [(6, .int (nI (o + 1))), (8, .int (nI (nib cs j))), (0, .long cs), (2, .int (nI v)), (3, .int (nI p0)), (4, .int (nI t)), (5, .int (nI z)), (7, .int (nI j))]) hx hb dX0_hitsAt_43 hl (k := 6) rfl (by decide) rfl (fun ls hl => ?_)
            refine lv_goto (tgt := 52) hx hb dX0_hitsAt_46 (by decide) ?_
            refine wk_iinc (lv' := [(7, .int (nI (j + 1))), (6, .int (nI (o + 1))), (8, .int (nI (nib cs j))), (0, .long cs), (2, .int (nI v)), (3, .int (nI p0)), (4, .int (nI t)), (5, .int (nI z))]) hx hb dX0_hitsAt_52 hl (k := 7) rfl (by decide) rfl (fun ls hl => ?_)
            refine lv_goto (tgt := 9) hx hb dX0_hitsAt_55 (by decide) ?_
            exact ih_9 (j + 1) z (o + 1) (by omega) (by omega) ⟨by rw [lit_succ, ← hinv_9.1]; unfold hitS;   rw [if_pos c_30]; rw [if_pos c_40], by have := hinv_9.2; omega⟩ ls (lv_sub hl [3, 4, 5, 6, 7, 1, 0] rfl)
  exact loop_9 (16 + 1) 0 0 0 (by omega) (by omega) ⟨rfl, by omega⟩ ls (lv_sub hl [3, 4, 5, 6, 2, 1, 0] rfl)
set_option maxHeartbeats 4000000 in
set_option maxRecDepth 100000 in
theorem metX0_scoreFrom (l : Launch) (cs : Int64) (v p0 : Nat) (hv : v < 4) (hp : p0 < 16) : Met l yX0_scoreFrom (ws_ yX0_scoreFrom cX0_scoreFrom 6 (some .int)) ({ frames := 2, cells := 0, slots := 0, locals := 50 } : Room) (fun vv _ => vv = ([.long cs, .int (nI v), .int (nI p0)] : List Value).toArray) (vp_Si (fun r : Int32 => r = sfF cs v p0)) 0 0 (fun _ => False) := by
  refine Met.ofW (cc := cX0_scoreFrom) (maxL := 6) (ret := (some .int)) (by decide) rfl ?_
  intro p e s m args below meth c s₁ B hml hpre
  obtain rfl := hpre
  have hx := B.exec
  have hb := B.bytes
  have hr := B.returns
  have hts := atoms_spec (ws := (ws_ yX0_scoreFrom cX0_scoreFrom 6 (some .int))) B.pre
  have hts : ∀ w ∈ lw_all, w.before _ s = true := fun w h => hts w (List.mem_cons_of_mem _ h)
  have hown : s.vm.findClass RX0 = some m.cls := findClass_of_methodNamed B.named
  have hlocks := B.notSynchronized
  have hl := lv_entry ([.long cs, .int (nI v), .int (nI p0)]) (n := 6) (Nat.le_of_ble_eq_true rfl)
  rw [lg_entry_eq]
  generalize (lg_sl ([.long cs, .int (nI v), .int (nI p0)]) ++ List.replicate (6 - (lg_sl ([.long cs, .int (nI v), .int (nI p0)])).length) Slot.unset).toArray = ls at hl ⊢
  have hl : lv_has ls 6 [(0, .long cs), (2, .int (nI v)), (3, .int (nI p0))] := hl
  refine lv_iconst (v := nI 0) hx hb dX0_scoreFrom_0 (by decide) ?_
  refine lv_istore (lv' := [(4, .int (nI 0)), (0, .long cs), (2, .int (nI v)), (3, .int (nI p0))]) hx hb dX0_scoreFrom_1 hl (by decide) rfl (fun ls hl => ?_)
  refine lv_iconst (v := nI 0) hx hb dX0_scoreFrom_3 (by decide) ?_
  refine lv_istore (lv' := [(5, .int (nI 0)), (4, .int (nI 0)), (0, .long cs), (2, .int (nI v)), (3, .int (nI p0))]) hx hb dX0_scoreFrom_4 hl (by decide) rfl (fun ls hl => ?_)
  have loop_6 : ∀ (k_6 t : Nat) (n : Nat), t ≤ 16 → 16 + 1 ≤ t + k_6 → (n = lit (sumS cs v p0) 0 t) → ∀ (ls : Array Slot), lv_has ls 6 [(0, .long cs), (2, .int (nI v)), (3, .int (nI p0)), (4, .int (nI n)), (5, .int (nI t))] → W p l e (headSpec (ws_ yX0_scoreFrom cX0_scoreFrom 6 (some .int)) ({ frames := 2, cells := 0, slots := 0, locals := 50 } : Room)).room s m ([.long cs, .int (nI v), .int (nI p0)] : List Value).toArray below meth c s.heap [] 0 0 (MQ below (vp_Si (fun r : Int32 => r = sfF cs v p0)) ([.long cs, .int (nI v), .int (nI p0)] : List Value).toArray s 0 0 (fun _ => False)) (F0 m 6 ls []) := by
    intro k_6
    induction k_6 with
    | zero =>
      intro t n h1 h2
      exact absurd h2 (by omega)
    | succ k_6 ih_6 =>
      intro t n hi_6 hk_6 hinv_6 ls hl
      refine lv_iload hx hb dX0_scoreFrom_6 (lv_at hl 4 rfl) ?_
      refine lv_bipush (v := nI 16) hx hb dX0_scoreFrom_8 (by decide) ?_
      refine wk_icmp_ge (tgt := 41) hx hb dX0_scoreFrom_10 (by decide) (by omega) (by decide) (fun c_10 => ?_) (fun c_10 => ?_)
      · have he_t : t = 16 := by omega
        subst he_t
        refine lv_iload hx hb dX0_scoreFrom_41 (lv_at hl 3 rfl) ?_
        refine lv_iconst (v := nI 3) hx hb dX0_scoreFrom_43 (by decide) ?_
        refine lv_iconst (v := nI 1) hx hb dX0_scoreFrom_44 (by decide) ?_
        refine lv_iload_n hx hb dX0_scoreFrom_45 rfl (lv_at hl 2 rfl) ?_
        refine vp_callSi (W.runS (As := [.int (nI p0)]) (rest := [.int (nI 1), .int (nI 3), .int (nI n)]) ⟨hx, hb, hml, hown, hts⟩ (metX0_size l p0 hp) (va_cwS 1 hts (lw_S q100 q101 q23 q102) rfl rfl rfl (by decide +kernel) ⟨Nat.le_of_ble_eq_true rfl, Nat.le_of_ble_eq_true rfl⟩) preEq rfl rfl hl.1 rfl (lv_room (Nat.le_of_ble_eq_true rfl)) dX0_scoreFrom_46 ⟨Nat.le_of_ble_eq_true rfl, Nat.le_of_ble_eq_true rfl⟩) (fun r hr_46 => ?_)
        have hr_46 : r = nI (szN p0) := hr_46
        subst hr_46
        have hs_46 := szN_le p0 hp
        refine wk_ishl1 hx hb dX0_scoreFrom_49 (by omega) ?_
        refine wk_imul hx hb dX0_scoreFrom_50 ?_
        refine lv_isub hx hb dX0_scoreFrom_51 ?_
        exact W.iret (v := (nI n - nI (3 * (1 <<< (szN p0))))) hx hb hr (fun T9 hT9 hW9 => ⟨(nI n - nI (3 * (1 <<< (szN p0)))), rfl, (by unfold sfF; rw [hinv_6]), hT9⟩) (fun q h => absurd h List.not_mem_nil) dX0_scoreFrom_52
      · refine lv_iload hx hb dX0_scoreFrom_13 (lv_at hl 4 rfl) ?_
        refine lv_iload_n hx hb dX0_scoreFrom_15 rfl (lv_at hl 2 rfl) ?_
        refine lv_iconst (v := (-1)) hx hb dX0_scoreFrom_16 (by decide) ?_
        refine lv_ixor hx hb dX0_scoreFrom_17 ?_
        refine wk_iandn hx hb dX0_scoreFrom_18 ?_
        have hf_18 : (andn t p0) ≤ t := andn_le _ _
        refine wk_if_ne (tgt := 35) hx hb dX0_scoreFrom_19 (by decide) (Nat.lt_of_le_of_lt (andn_le _ _) (by omega)) (fun c_19 => ?_) (fun c_19 => ?_)
        · refine wk_iinc (lv' := [(5, .int (nI (t + 1))), (0, .long cs), (2, .int (nI v)), (3, .int (nI p0)), (4, .int (nI n))]) hx hb dX0_scoreFrom_35 hl (k := 4) rfl (by decide) rfl (fun ls hl => ?_)
          refine lv_goto (tgt := 6) hx hb dX0_scoreFrom_38 (by decide) ?_
          exact ih_6 (t + 1) n (by omega) (by omega) (by rw [lit_succ, ← hinv_6]; unfold sumS; rw [if_neg c_19]) ls (lv_sub hl [1, 2, 3, 4, 0] rfl)
        · refine lv_iload hx hb dX0_scoreFrom_22 (lv_at hl 3 rfl) ?_
          refine lv_lload_n hx hb dX0_scoreFrom_24 rfl (lv_at hl 0 rfl) ?_
          refine lv_iload_n hx hb dX0_scoreFrom_25 rfl (lv_at hl 1 rfl) ?_
          refine lv_iload_n hx hb dX0_scoreFrom_26 rfl (lv_at hl 2 rfl) ?_
          refine lv_iload hx hb dX0_scoreFrom_27 (lv_at hl 4 rfl) ?_
          refine vp_callSi (W.runS (As := [.long cs, .int (nI v), .int (nI p0), .int (nI t)]) (rest := [.int (nI n)]) ⟨hx, hb, hml, hown, hts⟩ (metX0_hitsAt l cs v p0 t hv hp (by omega)) (va_cwS 4 hts (lw_S q94 q95 q23 q96) rfl rfl rfl (by decide +kernel) ⟨Nat.le_of_ble_eq_true rfl, Nat.le_of_ble_eq_true rfl⟩) preEq rfl rfl hl.1 rfl (lv_room (Nat.le_of_ble_eq_true rfl)) dX0_scoreFrom_29 ⟨Nat.le_of_ble_eq_true rfl, Nat.le_of_ble_eq_true rfl⟩) (fun r hr_29 => ?_)
          have hr_29 : r = nI (hitF cs v p0 t) := hr_29
          subst hr_29
          refine wk_iadd hx hb dX0_scoreFrom_32 ?_
          refine lv_istore (lv' := [(4, .int (nI (n + (hitF cs v p0 t)))), (0, .long cs), (2, .int (nI v)), (3, .int (nI p0)), (5, .int (nI t))]) hx hb dX0_scoreFrom_33 hl (by decide) rfl (fun ls hl => ?_)
          refine wk_iinc (lv' := [(5, .int (nI (t + 1))), (4, .int (nI (n + (hitF cs v p0 t)))), (0, .long cs), (2, .int (nI v)), (3, .int (nI p0))]) hx hb dX0_scoreFrom_35 hl (k := 4) rfl (by decide) rfl (fun ls hl => ?_)
          refine lv_goto (tgt := 6) hx hb dX0_scoreFrom_38 (by decide) ?_
          exact ih_6 (t + 1) (n + (hitF cs v p0 t)) (by omega) (by omega) (by rw [lit_succ, ← hinv_6]; unfold sumS; rw [if_pos c_19]) ls (lv_sub hl [2, 3, 4, 1, 0] rfl)
  exact loop_6 (16 + 1) 0 0 (by omega) (by omega) rfl ls (lv_sub hl [2, 3, 4, 1, 0] rfl)
end
section
set_option maxHeartbeats 4000000 in
set_option maxRecDepth 100000 in
theorem metX0_isAllowed (l : Launch) (dC : Nat → ClassId) (dI : Nat → Nat → Nat) (h sz : Nat) (cI : ClassId) (g : Nat → Nat) (mo : Int32) (sc fb rq fx mu mn wi bo wa : Nat → Int32) (v p0 : Nat) (hv : v < 4) (hp : p0 < 16) : Met l yX0_isAllowed (ws_ yX0_isAllowed cX0_isAllowed 5 (some .boolean)) ({ frames := 1, cells := 0, slots := 0, locals := 22 } : Room) (va_Pc [.ref h, .int (nI v), .int (nI p0)] (fun U => va_P (dC, dI) vwCl (wX0 h cI g mo sc fb rq fx mu mn wi bo wa) U.heap ∧ va_K (dC, dI) vwCl [(cI, .int)] U)) (vp_Si (fun r : Int32 => r = nI (alN mo fb rq fx mu mn v p0))) 0 0 (fun _ => False) := by
  refine Met.ofW (cc := cX0_isAllowed) (maxL := 5) (ret := (some .boolean)) (by decide) rfl ?_
  intro p e s m args below meth c s₁ B hml hpre
  obtain ⟨rfl, hP, hK⟩ := hpre
  have hx := B.exec
  have hb := B.bytes
  have hr := B.returns
  have hts := atoms_spec (ws := (ws_ yX0_isAllowed cX0_isAllowed 5 (some .boolean))) B.pre
  have hts : ∀ w ∈ lw_all, w.before _ s = true := fun w h => hts w (List.mem_cons_of_mem _ h)
  have hown : s.vm.findClass RX0 = some m.cls := findClass_of_methodNamed B.named
  have hlocks := B.notSynchronized
  have hl := lv_entry ([.ref h, .int (nI v), .int (nI p0)]) (n := 5) (Nat.le_of_ble_eq_true rfl)
  rw [lg_entry_eq]
  generalize (lg_sl ([.ref h, .int (nI v), .int (nI p0)]) ++ List.replicate (5 - (lg_sl ([.ref h, .int (nI v), .int (nI p0)])).length) Slot.unset).toArray = ls at hl ⊢
  have hl : lv_has ls 5 [(0, .ref h), (1, .int (nI v)), (2, .int (nI p0))] := hl
  refine lv_iload_n hx hb dX0_isAllowed_0 rfl (lv_at hl 1 rfl) ?_
  refine lv_iload_n hx hb dX0_isAllowed_1 rfl (lv_at hl 2 rfl) ?_
  refine vp_callSi (W.runS (As := [.int (nI v), .int (nI p0)]) (rest := []) ⟨hx, hb, hml, hown, hts⟩ (metX0_badParents l v (nI p0) hv) (va_cwS 2 hts (lw_S q76 q77 q23 q78) rfl rfl rfl (by decide +kernel) ⟨Nat.le_of_ble_eq_true rfl, Nat.le_of_ble_eq_true rfl⟩) preEq rfl rfl hl.1 rfl (lv_room (Nat.le_of_ble_eq_true rfl)) dX0_isAllowed_2 ⟨Nat.le_of_ble_eq_true rfl, Nat.le_of_ble_eq_true rfl⟩) (fun r hr_2 => ?_)
  have hr_2 : r = nI (badP v (nI p0)) := hr_2
  subst hr_2
  refine wk_if_eq (tgt := 10) hx hb dX0_isAllowed_5 (by decide) (by have := badP_le v (nI p0); omega) (fun c_5 => ?_) (fun c_5 => ?_)
  · refine lv_aload_n hx hb dX0_isAllowed_10 rfl (lv_at hl 0 rfl) ?_
    refine va_get (D := (dC, dI)) (ci := 0) (v := .ref (g 3)) (C := RX0) (T := TX0) (N := 10) hx hb hts in_X0 hown hK hP 0 rfl rfl 4 (by decide) (hts _ q41) (fun _ h9 => h9) rfl dX0_isAllowed_11 ?_
    refine lv_iload_n hx hb dX0_isAllowed_14 rfl (lv_at hl 1 rfl) ?_
    refine wk_iald hx hb hK hP 4 0 rfl rfl (ix := v) (by omega) (by decide) dX0_isAllowed_15 ?_
    refine lv_if_lt (tgt := 31) hx hb dX0_isAllowed_16 (by decide) (fun c_16 => ?_) (fun c_16 => ?_)
    · refine lv_iload_n hx hb dX0_isAllowed_31 rfl (lv_at hl 2 rfl) ?_
      refine vp_callSi (W.runS (As := [.int (nI p0)]) (rest := []) ⟨hx, hb, hml, hown, hts⟩ (metX0_size l p0 hp) (va_cwS 1 hts (lw_S q100 q101 q23 q102) rfl rfl rfl (by decide +kernel) ⟨Nat.le_of_ble_eq_true rfl, Nat.le_of_ble_eq_true rfl⟩) preEq rfl rfl hl.1 rfl (lv_room (Nat.le_of_ble_eq_true rfl)) dX0_isAllowed_32 ⟨Nat.le_of_ble_eq_true rfl, Nat.le_of_ble_eq_true rfl⟩) (fun r hr_32 => ?_)
      have hr_32 : r = nI (szN p0) := hr_32
      subst hr_32
      have hs_32 := szN_le p0 hp
      refine lv_istore_n (lv' := [(3, .int (nI (szN p0))), (0, .ref h), (1, .int (nI v)), (2, .int (nI p0))]) hx hb dX0_isAllowed_35 rfl hl (by decide) rfl (fun ls hl => ?_)
      refine lv_aload_n hx hb dX0_isAllowed_36 rfl (lv_at hl 1 rfl) ?_
      refine va_get (D := (dC, dI)) (ci := 0) (v := .ref (g 2)) (C := RX0) (T := TX0) (N := 10) hx hb hts in_X0 hown hK hP 0 rfl rfl 3 (by decide) (hts _ q40) (fun _ h9 => h9) rfl dX0_isAllowed_37 ?_
      refine lv_iload_n hx hb dX0_isAllowed_40 rfl (lv_at hl 2 rfl) ?_
      refine wk_iald hx hb hK hP 3 0 rfl rfl (ix := v) (by omega) (by decide) dX0_isAllowed_41 ?_
      refine lv_aload_n hx hb dX0_isAllowed_42 rfl (lv_at hl 1 rfl) ?_
      refine va_get (D := (dC, dI)) (ci := 0) (v := .ref (g 4)) (C := RX0) (T := TX0) (N := 10) hx hb hts in_X0 hown hK hP 0 rfl rfl 5 (by decide) (hts _ q42) (fun _ h9 => h9) rfl dX0_isAllowed_43 ?_
      refine lv_iload_n hx hb dX0_isAllowed_46 rfl (lv_at hl 2 rfl) ?_
      refine wk_iald hx hb hK hP 5 0 rfl rfl (ix := v) (by omega) (by decide) dX0_isAllowed_47 ?_
      refine lv_ior hx hb dX0_isAllowed_48 ?_
      refine lv_istore (lv' := [(4, .int ((rq v) ||| (mu v))), (3, .int (nI (szN p0))), (0, .ref h), (1, .int (nI v)), (2, .int (nI p0))]) hx hb dX0_isAllowed_49 hl (by decide) rfl (fun ls hl => ?_)
      refine lv_iload_n hx hb dX0_isAllowed_51 rfl (lv_at hl 1 rfl) ?_
      refine lv_aload_n hx hb dX0_isAllowed_52 rfl (lv_at hl 2 rfl) ?_
      refine va_get (D := (dC, dI)) (ci := 0) (v := .int mo) (C := RX0) (T := TX0) (N := 10) hx hb hts in_X0 hown hK hP 0 rfl rfl 1 (by decide) (hts _ q38) (fun _ h9 => h9) rfl dX0_isAllowed_53 ?_
      refine lv_icmp_gt (tgt := 90) hx hb dX0_isAllowed_56 (by decide) (fun c_56 => ?_) (fun c_56 => ?_)
      · refine lv_iconst (v := nI 0) hx hb dX0_isAllowed_90 (by decide) ?_
        exact W.zret (v := nI 0) hx hb hr rfl (fun T9 hT9 hW9 => ⟨nI 0, rfl, (by unfold alN; (repeat' split) <;> first | rfl | contradiction | omega), hT9⟩) (fun q h => absurd h List.not_mem_nil) dX0_isAllowed_91
      · refine lv_iload_n hx hb dX0_isAllowed_59 rfl (lv_at hl 4 rfl) ?_
        refine lv_aload_n hx hb dX0_isAllowed_60 rfl (lv_at hl 2 rfl) ?_
        refine va_get (D := (dC, dI)) (ci := 0) (v := .ref (g 1)) (C := RX0) (T := TX0) (N := 10) hx hb hts in_X0 hown hK hP 0 rfl rfl 2 (by decide) (hts _ q39) (fun _ h9 => h9) rfl dX0_isAllowed_61 ?_
        refine lv_iload_n hx hb dX0_isAllowed_64 rfl (lv_at hl 3 rfl) ?_
        refine wk_iald hx hb hK hP 2 0 rfl rfl (ix := v) (by omega) (by decide) dX0_isAllowed_65 ?_
        refine lv_aload_n hx hb dX0_isAllowed_66 rfl (lv_at hl 2 rfl) ?_
        refine va_get (D := (dC, dI)) (ci := 0) (v := .ref (g 5)) (C := RX0) (T := TX0) (N := 10) hx hb hts in_X0 hown hK hP 0 rfl rfl 6 (by decide) (hts _ q43) (fun _ h9 => h9) rfl dX0_isAllowed_67 ?_
        refine lv_iload_n hx hb dX0_isAllowed_70 rfl (lv_at hl 3 rfl) ?_
        refine wk_iald hx hb hK hP 6 0 rfl rfl (ix := v) (by omega) (by decide) dX0_isAllowed_71 ?_
        refine lv_ior hx hb dX0_isAllowed_72 ?_
        refine lv_iand hx hb dX0_isAllowed_73 ?_
        refine lv_if_ne (tgt := 90) hx hb dX0_isAllowed_74 (by decide) (fun c_74 => ?_) (fun c_74 => ?_)
        · refine lv_iconst (v := nI 0) hx hb dX0_isAllowed_90 (by decide) ?_
          exact W.zret (v := nI 0) hx hb hr rfl (fun T9 hT9 hW9 => ⟨nI 0, rfl, (by unfold alN; (repeat' split) <;> first | rfl | contradiction | omega), hT9⟩) (fun q h => absurd h List.not_mem_nil) dX0_isAllowed_91
        · refine lv_iload_n hx hb dX0_isAllowed_77 rfl (lv_at hl 4 rfl) ?_
          refine lv_iload hx hb dX0_isAllowed_78 (lv_at hl 0 rfl) ?_
          refine lv_iand hx hb dX0_isAllowed_80 ?_
          refine lv_iload hx hb dX0_isAllowed_81 (lv_at hl 0 rfl) ?_
          refine lv_icmp_ne (tgt := 90) hx hb dX0_isAllowed_83 (by decide) (fun c_83 => ?_) (fun c_83 => ?_)
          · refine lv_iconst (v := nI 0) hx hb dX0_isAllowed_90 (by decide) ?_
            exact W.zret (v := nI 0) hx hb hr rfl (fun T9 hT9 hW9 => ⟨nI 0, rfl, (by unfold alN; (repeat' split) <;> first | rfl | contradiction | omega), hT9⟩) (fun q h => absurd h List.not_mem_nil) dX0_isAllowed_91
          · refine lv_iconst (v := nI 1) hx hb dX0_isAllowed_86 (by decide) ?_
            refine lv_goto (tgt := 91) hx hb dX0_isAllowed_87 (by decide) ?_
            exact W.zret (v := nI 1) hx hb hr rfl (fun T9 hT9 hW9 => ⟨nI 1, rfl, (by unfold alN; (repeat' split) <;> first | rfl | contradiction | omega), hT9⟩) (fun q h => absurd h List.not_mem_nil) dX0_isAllowed_91
    · refine lv_aload_n hx hb dX0_isAllowed_19 rfl (lv_at hl 0 rfl) ?_
      refine va_get (D := (dC, dI)) (ci := 0) (v := .ref (g 3)) (C := RX0) (T := TX0) (N := 10) hx hb hts in_X0 hown hK hP 0 rfl rfl 4 (by decide) (hts _ q41) (fun _ h9 => h9) rfl dX0_isAllowed_20 ?_
      refine lv_iload_n hx hb dX0_isAllowed_23 rfl (lv_at hl 1 rfl) ?_
      refine wk_iald hx hb hK hP 4 0 rfl rfl (ix := v) (by omega) (by decide) dX0_isAllowed_24 ?_
      refine lv_iload_n hx hb dX0_isAllowed_25 rfl (lv_at hl 2 rfl) ?_
      refine lv_icmp_eq (tgt := 31) hx hb dX0_isAllowed_26 (by decide) (fun c_26 => ?_) (fun c_26 => ?_)
      · refine lv_iload_n hx hb dX0_isAllowed_31 rfl (lv_at hl 2 rfl) ?_
        refine vp_callSi (W.runS (As := [.int (nI p0)]) (rest := []) ⟨hx, hb, hml, hown, hts⟩ (metX0_size l p0 hp) (va_cwS 1 hts (lw_S q100 q101 q23 q102) rfl rfl rfl (by decide +kernel) ⟨Nat.le_of_ble_eq_true rfl, Nat.le_of_ble_eq_true rfl⟩) preEq rfl rfl hl.1 rfl (lv_room (Nat.le_of_ble_eq_true rfl)) dX0_isAllowed_32 ⟨Nat.le_of_ble_eq_true rfl, Nat.le_of_ble_eq_true rfl⟩) (fun r hr_32 => ?_)
        have hr_32 : r = nI (szN p0) := hr_32
        subst hr_32
        have hs_32 := szN_le p0 hp
        refine lv_istore_n (lv' := [(3, .int (nI (szN p0))), (0, .ref h), (1, .int (nI v)), (2, .int (nI p0))]) hx hb dX0_isAllowed_35 rfl hl (by decide) rfl (fun ls hl => ?_)
        refine lv_aload_n hx hb dX0_isAllowed_36 rfl (lv_at hl 1 rfl) ?_
        refine va_get (D := (dC, dI)) (ci := 0) (v := .ref (g 2)) (C := RX0) (T := TX0) (N := 10) hx hb hts in_X0 hown hK hP 0 rfl rfl 3 (by decide) (hts _ q40) (fun _ h9 => h9) rfl dX0_isAllowed_37 ?_
        refine lv_iload_n hx hb dX0_isAllowed_40 rfl (lv_at hl 2 rfl) ?_
        refine wk_iald hx hb hK hP 3 0 rfl rfl (ix := v) (by omega) (by decide) dX0_isAllowed_41 ?_
        refine lv_aload_n hx hb dX0_isAllowed_42 rfl (lv_at hl 1 rfl) ?_
        refine va_get (D := (dC, dI)) (ci := 0) (v := .ref (g 4)) (C := RX0) (T := TX0) (N := 10) hx hb hts in_X0 hown hK hP 0 rfl rfl 5 (by decide) (hts _ q42) (fun _ h9 => h9) rfl dX0_isAllowed_43 ?_
        refine lv_iload_n hx hb dX0_isAllowed_46 rfl (lv_at hl 2 rfl) ?_
        refine wk_iald hx hb hK hP 5 0 rfl rfl (ix := v) (by omega) (by decide) dX0_isAllowed_47 ?_
        refine lv_ior hx hb dX0_isAllowed_48 ?_
        refine lv_istore (lv' := [(4, .int ((rq v) ||| (mu v))), (3, .int (nI (szN p0))), (0, .ref h), (1, .int (nI v)), (2, .int (nI p0))]) hx hb dX0_isAllowed_49 hl (by decide) rfl (fun ls hl => ?_)
        refine lv_iload_n hx hb dX0_isAllowed_51 rfl (lv_at hl 1 rfl) ?_
        refine lv_aload_n hx hb dX0_isAllowed_52 rfl (lv_at hl 2 rfl) ?_
        refine va_get (D := (dC, dI)) (ci := 0) (v := .int mo) (C := RX0) (T := TX0) (N := 10) hx hb hts in_X0 hown hK hP 0 rfl rfl 1 (by decide) (hts _ q38) (fun _ h9 => h9) rfl dX0_isAllowed_53 ?_
        refine lv_icmp_gt (tgt := 90) hx hb dX0_isAllowed_56 (by decide) (fun c_56 => ?_) (fun c_56 => ?_)
        · refine lv_iconst (v := nI 0) hx hb dX0_isAllowed_90 (by decide) ?_
          exact W.zret (v := nI 0) hx hb hr rfl (fun T9 hT9 hW9 => ⟨nI 0, rfl, (by unfold alN; (repeat' split) <;> first | rfl | contradiction | omega), hT9⟩) (fun q h => absurd h List.not_mem_nil) dX0_isAllowed_91
        · refine lv_iload_n hx hb dX0_isAllowed_59 rfl (lv_at hl 4 rfl) ?_
          refine lv_aload_n hx hb dX0_isAllowed_60 rfl (lv_at hl 2 rfl) ?_
          refine va_get (D := (dC, dI)) (ci := 0) (v := .ref (g 1)) (C := RX0) (T := TX0) (N := 10) hx hb hts in_X0 hown hK hP 0 rfl rfl 2 (by decide) (hts _ q39) (fun _ h9 => h9) rfl dX0_isAllowed_61 ?_
          refine lv_iload_n hx hb dX0_isAllowed_64 rfl (lv_at hl 3 rfl) ?_
          refine wk_iald hx hb hK hP 2 0 rfl rfl (ix := v) (by omega) (by decide) dX0_isAllowed_65 ?_
          refine lv_aload_n hx hb dX0_isAllowed_66 rfl (lv_at hl 2 rfl) ?_
          refine va_get (D := (dC, dI)) (ci := 0) (v := .ref (g 5)) (C := RX0) (T := TX0) (N := 10) hx hb hts in_X0 hown hK hP 0 rfl rfl 6 (by decide) (hts _ q43) (fun _ h9 => h9) rfl dX0_isAllowed_67 ?_
          refine lv_iload_n hx hb dX0_isAllowed_70 rfl (lv_at hl 3 rfl) ?_
          refine wk_iald hx hb hK hP 6 0 rfl rfl (ix := v) (by omega) (by decide) dX0_isAllowed_71 ?_
          refine lv_ior hx hb dX0_isAllowed_72 ?_
          refine lv_iand hx hb dX0_isAllowed_73 ?_
          refine lv_if_ne (tgt := 90) hx hb dX0_isAllowed_74 (by decide) (fun c_74 => ?_) (fun c_74 => ?_)
          · refine lv_iconst (v := nI 0) hx hb dX0_isAllowed_90 (by decide) ?_
            exact W.zret (v := nI 0) hx hb hr rfl (fun T9 hT9 hW9 => ⟨nI 0, rfl, (by unfold alN; (repeat' split) <;> first | rfl | contradiction | omega), hT9⟩) (fun q h => absurd h List.not_mem_nil) dX0_isAllowed_91
          · refine lv_iload_n hx hb dX0_isAllowed_77 rfl (lv_at hl 4 rfl) ?_
            refine lv_iload hx hb dX0_isAllowed_78 (lv_at hl 0 rfl) ?_
            refine lv_iand hx hb dX0_isAllowed_80 ?_
            refine lv_iload hx hb dX0_isAllowed_81 (lv_at hl 0 rfl) ?_
            refine lv_icmp_ne (tgt := 90) hx hb dX0_isAllowed_83 (by decide) (fun c_83 => ?_) (fun c_83 => ?_)
            · refine lv_iconst (v := nI 0) hx hb dX0_isAllowed_90 (by decide) ?_
              exact W.zret (v := nI 0) hx hb hr rfl (fun T9 hT9 hW9 => ⟨nI 0, rfl, (by unfold alN; (repeat' split) <;> first | rfl | contradiction | omega), hT9⟩) (fun q h => absurd h List.not_mem_nil) dX0_isAllowed_91
            · refine lv_iconst (v := nI 1) hx hb dX0_isAllowed_86 (by decide) ?_
              refine lv_goto (tgt := 91) hx hb dX0_isAllowed_87 (by decide) ?_
              exact W.zret (v := nI 1) hx hb hr rfl (fun T9 hT9 hW9 => ⟨nI 1, rfl, (by unfold alN; (repeat' split) <;> first | rfl | contradiction | omega), hT9⟩) (fun q h => absurd h List.not_mem_nil) dX0_isAllowed_91
      · refine lv_iconst (v := nI 0) hx hb dX0_isAllowed_29 (by decide) ?_
        exact W.zret (v := nI 0) hx hb hr rfl (fun T9 hT9 hW9 => ⟨nI 0, rfl, (by unfold alN; (repeat' split) <;> first | rfl | contradiction | omega), hT9⟩) (fun q h => absurd h List.not_mem_nil) dX0_isAllowed_30
  · refine lv_iconst (v := nI 0) hx hb dX0_isAllowed_8 (by decide) ?_
    exact W.zret (v := nI 0) hx hb hr rfl (fun T9 hT9 hW9 => ⟨nI 0, rfl, (by unfold alN; (repeat' split) <;> first | rfl | contradiction | omega), hT9⟩) (fun q h => absurd h List.not_mem_nil) dX0_isAllowed_9
set_option maxHeartbeats 4000000 in
set_option maxRecDepth 100000 in
theorem metX0_noDemands (l : Launch) (dC : Nat → ClassId) (dI : Nat → Nat → Nat) (h sz : Nat) (cI : ClassId) (g : Nat → Nat) (mo : Int32) (sc fb rq fx mu mn wi bo wa : Nat → Int32) : Met l yX0_noDemands (ws_ yX0_noDemands cX0_noDemands 2 none) ({ frames := 0, cells := 0, slots := 0, locals := 0 } : Room) (va_Pc [.ref h] (fun U => U.heap.size = sz ∧ va_P (dC, dI) vwCl (wX0 h cI g mo sc fb rq fx mu mn wi bo wa) U.heap ∧ va_K (dC, dI) vwCl [(cI, .int)] U ∧ va_D (fun _ => True) (wX0 h cI g mo sc fb rq fx mu mn wi bo wa))) (va_Qv (fun (u : Unit) => True) (fun (u : Unit) (t : State) => va_P (dC, dI) vwCl (wX0 h cI g mo sc fb rq cM c0 c0 wi bo wa) t.heap ∧ va_K (dC, dI) vwCl [(cI, .int)] t ∧ va_D (va_A (wX0 h cI g mo sc fb rq fx mu mn wi bo wa) sz) (wX0 h cI g mo sc fb rq cM c0 c0 wi bo wa)) (va_A (wX0 h cI g mo sc fb rq fx mu mn wi bo wa) sz)) 0 0 (va_A (wX0 h cI g mo sc fb rq fx mu mn wi bo wa) sz) := by
  refine Met.ofW (cc := cX0_noDemands) (maxL := 2) (ret := none) (by decide) rfl ?_
  intro p e s m args below meth c s₁ B hml hpre
  obtain ⟨rfl, hsz, hP, hK, hD0⟩ := hpre
  have hx := B.exec
  have hb := B.bytes
  have hr := B.returns
  have hts := atoms_spec (ws := (ws_ yX0_noDemands cX0_noDemands 2 none)) B.pre
  have hts : ∀ w ∈ lw_all, w.before _ s = true := fun w h => hts w (List.mem_cons_of_mem _ h)
  have hown : s.vm.findClass RX0 = some m.cls := findClass_of_methodNamed B.named
  have hlocks := B.notSynchronized
  subst hsz
  have hD := hD0.self (sz := s.heap.size)
  generalize hAe : va_A (wX0 h cI g mo sc fb rq fx mu mn wi bo wa) s.heap.size = A at hD ⊢
  have hA : ∀ q : Nat, s.heap.size ≤ q → A q := fun q h => by rw [← hAe]; exact Or.inr h
  have hS : va_S A s.heap s.heap [] := va_S.rf
  have hl := lv_entry ([.ref h]) (n := 2) (Nat.le_of_ble_eq_true rfl)
  rw [lg_entry_eq]
  generalize (lg_sl ([.ref h]) ++ List.replicate (2 - (lg_sl ([.ref h])).length) Slot.unset).toArray = ls at hl ⊢
  have hl : lv_has ls 2 [(0, .ref h)] := hl
  refine lv_iconst (v := nI 0) hx hb dX0_noDemands_0 (by decide) ?_
  refine lv_istore_n (lv' := [(1, .int (nI 0)), (0, .ref h)]) hx hb dX0_noDemands_1 rfl hl (by decide) rfl (fun ls hl => ?_)
  have loop_2 : ∀ (k_2 i : Nat) (f1 : Nat → Int32) (f2 : Nat → Int32) (f3 : Nat → Int32), i ≤ 4 → 4 + 1 ≤ i + k_2 → (∀ k, k < i → f1 k = cM k ∧ f2 k = c0 k ∧ f3 k = c0 k) → ∀ (H : Heap) (locs : List Loc), va_P (dC, dI) vwCl (wX0 h cI g mo sc fb rq f1 f2 f3 wi bo wa) H → va_D A (wX0 h cI g mo sc fb rq f1 f2 f3 wi bo wa) → va_S A s.heap H locs → ∀ (ls : Array Slot), lv_has ls 2 [(0, .ref h), (1, .int (nI i))] → W p l e (headSpec (ws_ yX0_noDemands cX0_noDemands 2 none) ({ frames := 0, cells := 0, slots := 0, locals := 0 } : Room)).room s m ([.ref h] : List Value).toArray below meth c H locs 0 0 (MQ below (va_Qv (fun (u : Unit) => True) (fun (u : Unit) (t : State) => va_P (dC, dI) vwCl (wX0 h cI g mo sc fb rq cM c0 c0 wi bo wa) t.heap ∧ va_K (dC, dI) vwCl [(cI, .int)] t ∧ va_D A (wX0 h cI g mo sc fb rq cM c0 c0 wi bo wa)) A) ([.ref h] : List Value).toArray s 0 0 A) (F0 m 2 ls []) := by
    intro k_2
    induction k_2 with
    | zero =>
      intro i f1 f2 f3 h1 h2
      exact absurd h2 (by omega)
    | succ k_2 ih_2 =>
      intro i f1 f2 f3 hi_2 hk_2 hinv_2 H locs hP hD hS ls hl
      refine lv_iload_n hx hb dX0_noDemands_2 rfl (lv_at hl 1 rfl) ?_
      refine lv_iconst (v := nI 4) hx hb dX0_noDemands_3 (by decide) ?_
      refine wk_icmp_ge (tgt := 34) hx hb dX0_noDemands_4 (by decide) (by omega) (by decide) (fun c_4 => ?_) (fun c_4 => ?_)
      · have he_i : i = 4 := by omega
        subst he_i
        have hP := wk_re hP 4 rfl (g := cM) (fun j hj => (hinv_2 j hj).1)
        have hD := hD.set (e := .inl (cI, 4, .inl cM)) (p := 4) rfl
        have hP : va_P (dC, dI) vwCl (wX0 h cI g mo sc fb rq cM f2 f3 wi bo wa) H := hP
        have hD : va_D A (wX0 h cI g mo sc fb rq cM f2 f3 wi bo wa) := hD
        have hP := wk_re hP 5 rfl (g := c0) (fun j hj => (hinv_2 j hj).2.1)
        have hD := hD.set (e := .inl (cI, 4, .inl c0)) (p := 5) rfl
        have hP : va_P (dC, dI) vwCl (wX0 h cI g mo sc fb rq cM c0 f3 wi bo wa) H := hP
        have hD : va_D A (wX0 h cI g mo sc fb rq cM c0 f3 wi bo wa) := hD
        have hP := wk_re hP 6 rfl (g := c0) (fun j hj => (hinv_2 j hj).2.2)
        have hD := hD.set (e := .inl (cI, 4, .inl c0)) (p := 6) rfl
        have hP : va_P (dC, dI) vwCl (wX0 h cI g mo sc fb rq cM c0 c0 wi bo wa) H := hP
        have hD : va_D A (wX0 h cI g mo sc fb rq cM c0 c0 wi bo wa) := hD
        exact W.vret hx hb hr (fun T9 hT9 hW9 => ⟨⟨(), rfl, trivial, by rw [hT9]; exact hP, va_K.moved hW9.alike hK, hD⟩, hS.F hT9⟩) hS.2.2 dX0_noDemands_34
      · refine lv_aload_n hx hb dX0_noDemands_7 rfl (lv_at hl 0 rfl) ?_
        refine va_get (D := (dC, dI)) (ci := 0) (v := .ref (g 3)) (C := RX0) (T := TX0) (N := 10) hx hb hts in_X0 hown hK hP 0 rfl rfl 4 (by decide) (hts _ q41) (fun _ h9 => h9) rfl dX0_noDemands_8 ?_
        refine lv_iload_n hx hb dX0_noDemands_11 rfl (lv_at hl 1 rfl) ?_
        refine lv_iconst (v := (-1)) hx hb dX0_noDemands_12 (by decide) ?_
        refine wk_iast hx hb hK hP hD hS 4 0 rfl rfl (ix := i) (by omega) (by decide) dX0_noDemands_13 (fun H locs hP hD hS => ?_)
        have hP : va_P (dC, dI) vwCl (wX0 h cI g mo sc fb rq (upd f1 i (-1)) f2 f3 wi bo wa) H := hP
        have hD : va_D A (wX0 h cI g mo sc fb rq (upd f1 i (-1)) f2 f3 wi bo wa) := hD
        refine lv_aload_n hx hb dX0_noDemands_14 rfl (lv_at hl 0 rfl) ?_
        refine va_get (D := (dC, dI)) (ci := 0) (v := .ref (g 4)) (C := RX0) (T := TX0) (N := 10) hx hb hts in_X0 hown hK hP 0 rfl rfl 5 (by decide) (hts _ q42) (fun _ h9 => h9) rfl dX0_noDemands_15 ?_
        refine lv_iload_n hx hb dX0_noDemands_18 rfl (lv_at hl 1 rfl) ?_
        refine lv_iconst (v := nI 0) hx hb dX0_noDemands_19 (by decide) ?_
        refine wk_iast hx hb hK hP hD hS 5 0 rfl rfl (ix := i) (by omega) (by decide) dX0_noDemands_20 (fun H locs hP hD hS => ?_)
        have hP : va_P (dC, dI) vwCl (wX0 h cI g mo sc fb rq (upd f1 i (-1)) (upd f2 i (nI 0)) f3 wi bo wa) H := hP
        have hD : va_D A (wX0 h cI g mo sc fb rq (upd f1 i (-1)) (upd f2 i (nI 0)) f3 wi bo wa) := hD
        refine lv_aload_n hx hb dX0_noDemands_21 rfl (lv_at hl 0 rfl) ?_
        refine va_get (D := (dC, dI)) (ci := 0) (v := .ref (g 5)) (C := RX0) (T := TX0) (N := 10) hx hb hts in_X0 hown hK hP 0 rfl rfl 6 (by decide) (hts _ q43) (fun _ h9 => h9) rfl dX0_noDemands_22 ?_
        refine lv_iload_n hx hb dX0_noDemands_25 rfl (lv_at hl 1 rfl) ?_
        refine lv_iconst (v := nI 0) hx hb dX0_noDemands_26 (by decide) ?_
        refine wk_iast hx hb hK hP hD hS 6 0 rfl rfl (ix := i) (by omega) (by decide) dX0_noDemands_27 (fun H locs hP hD hS => ?_)
        have hP : va_P (dC, dI) vwCl (wX0 h cI g mo sc fb rq (upd f1 i (-1)) (upd f2 i (nI 0)) (upd f3 i (nI 0)) wi bo wa) H := hP
        have hD : va_D A (wX0 h cI g mo sc fb rq (upd f1 i (-1)) (upd f2 i (nI 0)) (upd f3 i (nI 0)) wi bo wa) := hD
        refine wk_iinc (lv' := [(1, .int (nI (i + 1))), (0, .ref h)]) hx hb dX0_noDemands_28 hl (k := 1) rfl (by decide) rfl (fun ls hl => ?_)
        refine lv_goto (tgt := 2) hx hb dX0_noDemands_31 (by decide) ?_
        exact ih_2 (i + 1) (upd f1 i (-1)) (upd f2 i (nI 0)) (upd f3 i (nI 0)) (by omega) (by omega) (nd_step hinv_2) _ _ hP hD hS ls (lv_sub hl [1, 0] rfl)
  exact loop_2 (4 + 1) 0 fx mu mn (by omega) (by omega) (fun k hk => absurd hk (Nat.not_lt_zero k)) _ _ hP hD hS ls (lv_sub hl [1, 0] rfl)
set_option maxHeartbeats 4000000 in
set_option maxRecDepth 100000 in
theorem metX0_tryLast (l : Launch) (dC : Nat → ClassId) (dI : Nat → Nat → Nat) (h sz : Nat) (cI : ClassId) (g : Nat → Nat) (mo : Int32) (sc fb rq fx mu mn wi bo wa : Nat → Int32) (set v : Nat) (hs : set < 16) (hv : v < 4) : Met l yX0_tryLast (ws_ yX0_tryLast cX0_tryLast 6 none) ({ frames := 0, cells := 0, slots := 0, locals := 0 } : Room) (va_Pc [.ref h, .int (nI set), .int (nI v)] (fun U => U.heap.size = sz ∧ va_P (dC, dI) vwCl (wX0 h cI g mo sc fb rq fx mu mn wi bo wa) U.heap ∧ va_K (dC, dI) vwCl [(cI, .int)] U ∧ va_D (fun _ => True) (wX0 h cI g mo sc fb rq fx mu mn wi bo wa))) (va_Qv (fun (u : (Nat → Int32) × (Nat → Int32)) => u = tryF wi set v (bo, wa)) (fun (u : (Nat → Int32) × (Nat → Int32)) (t : State) => va_P (dC, dI) vwCl (wX0 h cI g mo sc fb rq fx mu mn wi u.1 u.2) t.heap ∧ va_K (dC, dI) vwCl [(cI, .int)] t ∧ va_D (va_A (wX0 h cI g mo sc fb rq fx mu mn wi bo wa) sz) (wX0 h cI g mo sc fb rq fx mu mn wi u.1 u.2)) (va_A (wX0 h cI g mo sc fb rq fx mu mn wi bo wa) sz)) 0 0 (va_A (wX0 h cI g mo sc fb rq fx mu mn wi bo wa) sz) := by
  refine Met.ofW (cc := cX0_tryLast) (maxL := 6) (ret := none) (by decide) rfl ?_
  intro p e s m args below meth c s₁ B hml hpre
  obtain ⟨rfl, hsz, hP, hK, hD0⟩ := hpre
  have hx := B.exec
  have hb := B.bytes
  have hr := B.returns
  have hts := atoms_spec (ws := (ws_ yX0_tryLast cX0_tryLast 6 none)) B.pre
  have hts : ∀ w ∈ lw_all, w.before _ s = true := fun w h => hts w (List.mem_cons_of_mem _ h)
  have hown : s.vm.findClass RX0 = some m.cls := findClass_of_methodNamed B.named
  have hlocks := B.notSynchronized
  subst hsz
  have hD := hD0.self (sz := s.heap.size)
  generalize hAe : va_A (wX0 h cI g mo sc fb rq fx mu mn wi bo wa) s.heap.size = A at hD ⊢
  have hA : ∀ q : Nat, s.heap.size ≤ q → A q := fun q h => by rw [← hAe]; exact Or.inr h
  have hS : va_S A s.heap s.heap [] := va_S.rf
  have hl := lv_entry ([.ref h, .int (nI set), .int (nI v)]) (n := 6) (Nat.le_of_ble_eq_true rfl)
  rw [lg_entry_eq]
  generalize (lg_sl ([.ref h, .int (nI set), .int (nI v)]) ++ List.replicate (6 - (lg_sl ([.ref h, .int (nI set), .int (nI v)])).length) Slot.unset).toArray = ls at hl ⊢
  have hl : lv_has ls 6 [(0, .ref h), (1, .int (nI set)), (2, .int (nI v))] := hl
  refine lv_iload_n hx hb dX0_tryLast_0 rfl (lv_at hl 1 rfl) ?_
  refine lv_iconst (v := nI 1) hx hb dX0_tryLast_1 (by decide) ?_
  refine lv_iload_n hx hb dX0_tryLast_2 rfl (lv_at hl 2 rfl) ?_
  refine wk_ishl1 hx hb dX0_tryLast_3 (by omega) ?_
  refine lv_iconst (v := (-1)) hx hb dX0_tryLast_4 (by decide) ?_
  refine lv_ixor hx hb dX0_tryLast_5 ?_
  refine wk_iandn hx hb dX0_tryLast_6 ?_
  have hf_6 : (andn set (1 <<< v)) ≤ set := andn_le _ _
  refine lv_istore_n (lv' := [(3, .int (nI (andn set (1 <<< v)))), (0, .ref h), (1, .int (nI set)), (2, .int (nI v))]) hx hb dX0_tryLast_7 rfl hl (by decide) rfl (fun ls hl => ?_)
  refine lv_aload_n hx hb dX0_tryLast_8 rfl (lv_at hl 1 rfl) ?_
  refine va_get (D := (dC, dI)) (ci := 0) (v := .ref (g 6)) (C := RX0) (T := TX0) (N := 10) hx hb hts in_X0 hown hK hP 0 rfl rfl 7 (by decide) (hts _ q44) (fun _ h9 => h9) rfl dX0_tryLast_9 ?_
  refine lv_iload_n hx hb dX0_tryLast_12 rfl (lv_at hl 3 rfl) ?_
  refine lv_bipush (v := nI 16) hx hb dX0_tryLast_13 (by decide) ?_
  refine wk_imul hx hb dX0_tryLast_15 ?_
  refine lv_iload_n hx hb dX0_tryLast_16 rfl (lv_at hl 0 rfl) ?_
  refine wk_iadd hx hb dX0_tryLast_17 ?_
  refine wk_iald hx hb hK hP 7 0 rfl rfl (ix := ((v * 16) + (andn set (1 <<< v)))) (by omega) (by decide) dX0_tryLast_18 ?_
  refine lv_istore (lv' := [(4, .int (wi ((v * 16) + (andn set (1 <<< v))))), (3, .int (nI (andn set (1 <<< v)))), (0, .ref h), (1, .int (nI set)), (2, .int (nI v))]) hx hb dX0_tryLast_19 hl (by decide) rfl (fun ls hl => ?_)
  refine lv_iload hx hb dX0_tryLast_21 (lv_at hl 0 rfl) ?_
  refine lv_ldc hx hb hown (hts _ q119) dX0_tryLast_23 ?_
  refine lv_icmp_eq (tgt := 39) hx hb dX0_tryLast_25 (by decide) (fun c_25 => ?_) (fun c_25 => ?_)
  · exact W.vret hx hb hr (fun T9 hT9 hW9 => ⟨⟨(bo, wa), rfl, (by unfold tryF tryB tryA; (repeat' split) <;> first | rfl | contradiction), by rw [hT9]; exact hP, va_K.moved hW9.alike hK, hD⟩, hS.F hT9⟩) hS.2.2 dX0_tryLast_39
  · refine lv_aload_n hx hb dX0_tryLast_28 rfl (lv_at hl 2 rfl) ?_
    refine va_get (D := (dC, dI)) (ci := 0) (v := .ref (g 7)) (C := RX0) (T := TX0) (N := 10) hx hb hts in_X0 hown hK hP 0 rfl rfl 8 (by decide) (hts _ q45) (fun _ h9 => h9) rfl dX0_tryLast_29 ?_
    refine lv_iload_n hx hb dX0_tryLast_32 rfl (lv_at hl 1 rfl) ?_
    refine wk_iald hx hb hK hP 8 0 rfl rfl (ix := (andn set (1 <<< v))) (by omega) (by decide) dX0_tryLast_33 ?_
    refine lv_ldc hx hb hown (hts _ q119) dX0_tryLast_34 ?_
    refine lv_icmp_ne (tgt := 40) hx hb dX0_tryLast_36 (by decide) (fun c_36 => ?_) (fun c_36 => ?_)
    · refine lv_aload_n hx hb dX0_tryLast_40 rfl (lv_at hl 2 rfl) ?_
      refine va_get (D := (dC, dI)) (ci := 0) (v := .ref (g 7)) (C := RX0) (T := TX0) (N := 10) hx hb hts in_X0 hown hK hP 0 rfl rfl 8 (by decide) (hts _ q45) (fun _ h9 => h9) rfl dX0_tryLast_41 ?_
      refine lv_iload_n hx hb dX0_tryLast_44 rfl (lv_at hl 1 rfl) ?_
      refine wk_iald hx hb hK hP 8 0 rfl rfl (ix := (andn set (1 <<< v))) (by omega) (by decide) dX0_tryLast_45 ?_
      refine lv_iload hx hb dX0_tryLast_46 (lv_at hl 0 rfl) ?_
      refine lv_iadd hx hb dX0_tryLast_48 ?_
      refine lv_istore (lv' := [(5, .int ((bo (andn set (1 <<< v))) + (wi ((v * 16) + (andn set (1 <<< v)))))), (4, .int (wi ((v * 16) + (andn set (1 <<< v))))), (3, .int (nI (andn set (1 <<< v)))), (0, .ref h), (1, .int (nI set)), (2, .int (nI v))]) hx hb dX0_tryLast_49 hl (by decide) rfl (fun ls hl => ?_)
      refine lv_iload hx hb dX0_tryLast_51 (lv_at hl 0 rfl) ?_
      refine lv_aload_n hx hb dX0_tryLast_53 rfl (lv_at hl 3 rfl) ?_
      refine va_get (D := (dC, dI)) (ci := 0) (v := .ref (g 7)) (C := RX0) (T := TX0) (N := 10) hx hb hts in_X0 hown hK hP 0 rfl rfl 8 (by decide) (hts _ q45) (fun _ h9 => h9) rfl dX0_tryLast_54 ?_
      refine lv_iload_n hx hb dX0_tryLast_57 rfl (lv_at hl 4 rfl) ?_
      refine wk_iald hx hb hK hP 8 0 rfl rfl (ix := set) (by omega) (by decide) dX0_tryLast_58 ?_
      refine lv_icmp_le (tgt := 77) hx hb dX0_tryLast_59 (by decide) (fun c_59 => ?_) (fun c_59 => ?_)
      · refine lv_iload hx hb dX0_tryLast_77 (lv_at hl 0 rfl) ?_
        refine lv_aload_n hx hb dX0_tryLast_79 rfl (lv_at hl 3 rfl) ?_
        refine va_get (D := (dC, dI)) (ci := 0) (v := .ref (g 7)) (C := RX0) (T := TX0) (N := 10) hx hb hts in_X0 hown hK hP 0 rfl rfl 8 (by decide) (hts _ q45) (fun _ h9 => h9) rfl dX0_tryLast_80 ?_
        refine lv_iload_n hx hb dX0_tryLast_83 rfl (lv_at hl 4 rfl) ?_
        refine wk_iald hx hb hK hP 8 0 rfl rfl (ix := set) (by omega) (by decide) dX0_tryLast_84 ?_
        refine lv_icmp_ne (tgt := 103) hx hb dX0_tryLast_85 (by decide) (fun c_85 => ?_) (fun c_85 => ?_)
        · exact W.vret hx hb hr (fun T9 hT9 hW9 => ⟨⟨(bo, wa), rfl, (by unfold tryF tryB tryA; (repeat' split) <;> first | rfl | contradiction), by rw [hT9]; exact hP, va_K.moved hW9.alike hK, hD⟩, hS.F hT9⟩) hS.2.2 dX0_tryLast_103
        · refine lv_aload_n hx hb dX0_tryLast_88 rfl (lv_at hl 3 rfl) ?_
          refine va_get (D := (dC, dI)) (ci := 0) (v := .ref (g 8)) (C := RX0) (T := TX0) (N := 10) hx hb hts in_X0 hown hK hP 0 rfl rfl 9 (by decide) (hts _ q46) (fun _ h9 => h9) rfl dX0_tryLast_89 ?_
          refine lv_iload_n hx hb dX0_tryLast_92 rfl (lv_at hl 4 rfl) ?_
          refine lv_dup2_11 hx hb dX0_tryLast_93 rfl rfl ?_
          refine wk_iald hx hb hK hP 9 0 rfl rfl (ix := set) (by omega) (by decide) dX0_tryLast_94 ?_
          refine lv_aload_n hx hb dX0_tryLast_95 rfl (lv_at hl 3 rfl) ?_
          refine va_get (D := (dC, dI)) (ci := 0) (v := .ref (g 8)) (C := RX0) (T := TX0) (N := 10) hx hb hts in_X0 hown hK hP 0 rfl rfl 9 (by decide) (hts _ q46) (fun _ h9 => h9) rfl dX0_tryLast_96 ?_
          refine lv_iload_n hx hb dX0_tryLast_99 rfl (lv_at hl 2 rfl) ?_
          refine wk_iald hx hb hK hP 9 0 rfl rfl (ix := (andn set (1 <<< v))) (by omega) (by decide) dX0_tryLast_100 ?_
          refine lv_iadd hx hb dX0_tryLast_101 ?_
          refine wk_iast hx hb hK hP hD hS 9 0 rfl rfl (ix := set) (by omega) (by decide) dX0_tryLast_102 (fun H locs hP hD hS => ?_)
          have hP : va_P (dC, dI) vwCl (wX0 h cI g mo sc fb rq fx mu mn wi bo (upd wa set ((wa set) + (wa (andn set (1 <<< v)))))) H := hP
          have hD : va_D A (wX0 h cI g mo sc fb rq fx mu mn wi bo (upd wa set ((wa set) + (wa (andn set (1 <<< v)))))) := hD
          exact W.vret hx hb hr (fun T9 hT9 hW9 => ⟨⟨(bo, (upd wa set ((wa set) + (wa (andn set (1 <<< v)))))), rfl, (by unfold tryF tryB tryA; (repeat' split) <;> first | rfl | contradiction), by rw [hT9]; exact hP, va_K.moved hW9.alike hK, hD⟩, hS.F hT9⟩) hS.2.2 dX0_tryLast_103
      · refine lv_aload_n hx hb dX0_tryLast_62 rfl (lv_at hl 3 rfl) ?_
        refine va_get (D := (dC, dI)) (ci := 0) (v := .ref (g 7)) (C := RX0) (T := TX0) (N := 10) hx hb hts in_X0 hown hK hP 0 rfl rfl 8 (by decide) (hts _ q45) (fun _ h9 => h9) rfl dX0_tryLast_63 ?_
        refine lv_iload_n hx hb dX0_tryLast_66 rfl (lv_at hl 4 rfl) ?_
        refine lv_iload hx hb dX0_tryLast_67 (lv_at hl 0 rfl) ?_
        refine wk_iast hx hb hK hP hD hS 8 0 rfl rfl (ix := set) (by omega) (by decide) dX0_tryLast_69 (fun H locs hP hD hS => ?_)
        have hP : va_P (dC, dI) vwCl (wX0 h cI g mo sc fb rq fx mu mn wi (upd bo set ((bo (andn set (1 <<< v))) + (wi ((v * 16) + (andn set (1 <<< v)))))) wa) H := hP
        have hD : va_D A (wX0 h cI g mo sc fb rq fx mu mn wi (upd bo set ((bo (andn set (1 <<< v))) + (wi ((v * 16) + (andn set (1 <<< v)))))) wa) := hD
        refine lv_aload_n hx hb dX0_tryLast_70 rfl (lv_at hl 3 rfl) ?_
        refine va_get (D := (dC, dI)) (ci := 0) (v := .ref (g 8)) (C := RX0) (T := TX0) (N := 10) hx hb hts in_X0 hown hK hP 0 rfl rfl 9 (by decide) (hts _ q46) (fun _ h9 => h9) rfl dX0_tryLast_71 ?_
        refine lv_iload_n hx hb dX0_tryLast_74 rfl (lv_at hl 4 rfl) ?_
        refine lv_iconst (v := nI 0) hx hb dX0_tryLast_75 (by decide) ?_
        refine wk_iast hx hb hK hP hD hS 9 0 rfl rfl (ix := set) (by omega) (by decide) dX0_tryLast_76 (fun H locs hP hD hS => ?_)
        have hP : va_P (dC, dI) vwCl (wX0 h cI g mo sc fb rq fx mu mn wi (upd bo set ((bo (andn set (1 <<< v))) + (wi ((v * 16) + (andn set (1 <<< v)))))) (upd wa set (nI 0))) H := hP
        have hD : va_D A (wX0 h cI g mo sc fb rq fx mu mn wi (upd bo set ((bo (andn set (1 <<< v))) + (wi ((v * 16) + (andn set (1 <<< v)))))) (upd wa set (nI 0))) := hD
        refine lv_iload hx hb dX0_tryLast_77 (lv_at hl 0 rfl) ?_
        refine lv_aload_n hx hb dX0_tryLast_79 rfl (lv_at hl 3 rfl) ?_
        refine va_get (D := (dC, dI)) (ci := 0) (v := .ref (g 7)) (C := RX0) (T := TX0) (N := 10) hx hb hts in_X0 hown hK hP 0 rfl rfl 8 (by decide) (hts _ q45) (fun _ h9 => h9) rfl dX0_tryLast_80 ?_
        refine lv_iload_n hx hb dX0_tryLast_83 rfl (lv_at hl 4 rfl) ?_
        refine wk_iald hx hb hK hP 8 0 rfl rfl (ix := set) (by omega) (by decide) dX0_tryLast_84 ?_
        refine lv_icmp_ne (tgt := 103) hx hb dX0_tryLast_85 (by decide) (fun c_85 => ?_) (fun c_85 => ?_)
        · exact W.vret hx hb hr (fun T9 hT9 hW9 => ⟨⟨((upd bo set ((bo (andn set (1 <<< v))) + (wi ((v * 16) + (andn set (1 <<< v)))))), (upd wa set (nI 0))), rfl, (by unfold tryF tryB tryA; (repeat' split) <;> first | rfl | contradiction), by rw [hT9]; exact hP, va_K.moved hW9.alike hK, hD⟩, hS.F hT9⟩) hS.2.2 dX0_tryLast_103
        · refine lv_aload_n hx hb dX0_tryLast_88 rfl (lv_at hl 3 rfl) ?_
          refine va_get (D := (dC, dI)) (ci := 0) (v := .ref (g 8)) (C := RX0) (T := TX0) (N := 10) hx hb hts in_X0 hown hK hP 0 rfl rfl 9 (by decide) (hts _ q46) (fun _ h9 => h9) rfl dX0_tryLast_89 ?_
          refine lv_iload_n hx hb dX0_tryLast_92 rfl (lv_at hl 4 rfl) ?_
          refine lv_dup2_11 hx hb dX0_tryLast_93 rfl rfl ?_
          refine wk_iald hx hb hK hP 9 0 rfl rfl (ix := set) (by omega) (by decide) dX0_tryLast_94 ?_
          refine lv_aload_n hx hb dX0_tryLast_95 rfl (lv_at hl 3 rfl) ?_
          refine va_get (D := (dC, dI)) (ci := 0) (v := .ref (g 8)) (C := RX0) (T := TX0) (N := 10) hx hb hts in_X0 hown hK hP 0 rfl rfl 9 (by decide) (hts _ q46) (fun _ h9 => h9) rfl dX0_tryLast_96 ?_
          refine lv_iload_n hx hb dX0_tryLast_99 rfl (lv_at hl 2 rfl) ?_
          refine wk_iald hx hb hK hP 9 0 rfl rfl (ix := (andn set (1 <<< v))) (by omega) (by decide) dX0_tryLast_100 ?_
          refine lv_iadd hx hb dX0_tryLast_101 ?_
          refine wk_iast hx hb hK hP hD hS 9 0 rfl rfl (ix := set) (by omega) (by decide) dX0_tryLast_102 (fun H locs hP hD hS => ?_)
          have hP : va_P (dC, dI) vwCl (wX0 h cI g mo sc fb rq fx mu mn wi (upd bo set ((bo (andn set (1 <<< v))) + (wi ((v * 16) + (andn set (1 <<< v)))))) (upd (upd wa set (nI 0)) set (((upd wa set (nI 0)) set) + ((upd wa set (nI 0)) (andn set (1 <<< v)))))) H := hP
          have hD : va_D A (wX0 h cI g mo sc fb rq fx mu mn wi (upd bo set ((bo (andn set (1 <<< v))) + (wi ((v * 16) + (andn set (1 <<< v)))))) (upd (upd wa set (nI 0)) set (((upd wa set (nI 0)) set) + ((upd wa set (nI 0)) (andn set (1 <<< v)))))) := hD
          exact W.vret hx hb hr (fun T9 hT9 hW9 => ⟨⟨((upd bo set ((bo (andn set (1 <<< v))) + (wi ((v * 16) + (andn set (1 <<< v)))))), (upd (upd wa set (nI 0)) set (((upd wa set (nI 0)) set) + ((upd wa set (nI 0)) (andn set (1 <<< v)))))), rfl, (by unfold tryF tryB tryA; (repeat' split) <;> first | rfl | contradiction), by rw [hT9]; exact hP, va_K.moved hW9.alike hK, hD⟩, hS.F hT9⟩) hS.2.2 dX0_tryLast_103
    · exact W.vret hx hb hr (fun T9 hT9 hW9 => ⟨⟨(bo, wa), rfl, (by unfold tryF tryB tryA; (repeat' split) <;> first | rfl | contradiction), by rw [hT9]; exact hP, va_K.moved hW9.alike hK, hD⟩, hS.F hT9⟩) hS.2.2 dX0_tryLast_39
end
section
set_option maxHeartbeats 4000000 in
set_option maxRecDepth 100000 in
theorem metX0_fillWithin (l : Launch) (dC : Nat → ClassId) (dI : Nat → Nat → Nat) (h sz : Nat) (cI : ClassId) (g : Nat → Nat) (mo : Int32) (sc fb rq fx mu mn wi bo wa : Nat → Int32) (v : Nat) (hv : v < 4) : Met l yX0_fillWithin (ws_ yX0_fillWithin cX0_fillWithin 7 none) ({ frames := 2, cells := 0, slots := 0, locals := 46 } : Room) (va_Pc [.ref h, .int (nI v)] (fun U => U.heap.size = sz ∧ va_P (dC, dI) vwCl (wX0 h cI g mo sc fb rq fx mu mn wi bo wa) U.heap ∧ va_K (dC, dI) vwCl [(cI, .int)] U ∧ va_D (fun _ => True) (wX0 h cI g mo sc fb rq fx mu mn wi bo wa))) (va_Qv (fun (u : (Nat → Int32)) => u = fillF (alN mo fb rq fx mu mn) sc v wi) (fun (u : (Nat → Int32)) (t : State) => va_P (dC, dI) vwCl (wX0 h cI g mo sc fb rq fx mu mn u bo wa) t.heap ∧ va_K (dC, dI) vwCl [(cI, .int)] t ∧ va_D (va_A (wX0 h cI g mo sc fb rq fx mu mn wi bo wa) sz) (wX0 h cI g mo sc fb rq fx mu mn u bo wa)) (va_A (wX0 h cI g mo sc fb rq fx mu mn wi bo wa) sz)) 0 0 (va_A (wX0 h cI g mo sc fb rq fx mu mn wi bo wa) sz) := by
  refine Met.ofW (cc := cX0_fillWithin) (maxL := 7) (ret := none) (by decide) rfl ?_
  intro p e s m args below meth c s₁ B hml hpre
  obtain ⟨rfl, hsz, hP, hK, hD0⟩ := hpre
  have hx := B.exec
  have hb := B.bytes
  have hr := B.returns
  have hts := atoms_spec (ws := (ws_ yX0_fillWithin cX0_fillWithin 7 none)) B.pre
  have hts : ∀ w ∈ lw_all, w.before _ s = true := fun w h => hts w (List.mem_cons_of_mem _ h)
  have hown : s.vm.findClass RX0 = some m.cls := findClass_of_methodNamed B.named
  have hlocks := B.notSynchronized
  subst hsz
  have hD := hD0.self (sz := s.heap.size)
  generalize hAe : va_A (wX0 h cI g mo sc fb rq fx mu mn wi bo wa) s.heap.size = A at hD ⊢
  have hA : ∀ q : Nat, s.heap.size ≤ q → A q := fun q h => by rw [← hAe]; exact Or.inr h
  have hS : va_S A s.heap s.heap [] := va_S.rf
  have hl := lv_entry ([.ref h, .int (nI v)]) (n := 7) (Nat.le_of_ble_eq_true rfl)
  rw [lg_entry_eq]
  generalize (lg_sl ([.ref h, .int (nI v)]) ++ List.replicate (7 - (lg_sl ([.ref h, .int (nI v)])).length) Slot.unset).toArray = ls at hl ⊢
  have hl : lv_has ls 7 [(0, .ref h), (1, .int (nI v))] := hl
  refine lv_iconst (v := nI 0) hx hb dX0_fillWithin_0 (by decide) ?_
  refine lv_istore_n (lv' := [(2, .int (nI 0)), (0, .ref h), (1, .int (nI v))]) hx hb dX0_fillWithin_1 rfl hl (by decide) rfl (fun ls hl => ?_)
  have loop_2 : ∀ (k_2 set : Nat) (w1 : Nat → Int32), set ≤ 16 → 16 + 1 ≤ set + k_2 → (w1 = lit (fillS (alN mo fb rq fx mu mn) sc v) wi set) → ∀ (H : Heap) (locs : List Loc), va_P (dC, dI) vwCl (wX0 h cI g mo sc fb rq fx mu mn w1 bo wa) H → va_D A (wX0 h cI g mo sc fb rq fx mu mn w1 bo wa) → va_S A s.heap H locs → ∀ (ls : Array Slot), lv_has ls 7 [(0, .ref h), (1, .int (nI v)), (2, .int (nI set))] → W p l e (headSpec (ws_ yX0_fillWithin cX0_fillWithin 7 none) ({ frames := 2, cells := 0, slots := 0, locals := 46 } : Room)).room s m ([.ref h, .int (nI v)] : List Value).toArray below meth c H locs 0 0 (MQ below (va_Qv (fun (u : (Nat → Int32)) => u = fillF (alN mo fb rq fx mu mn) sc v wi) (fun (u : (Nat → Int32)) (t : State) => va_P (dC, dI) vwCl (wX0 h cI g mo sc fb rq fx mu mn u bo wa) t.heap ∧ va_K (dC, dI) vwCl [(cI, .int)] t ∧ va_D A (wX0 h cI g mo sc fb rq fx mu mn u bo wa)) A) ([.ref h, .int (nI v)] : List Value).toArray s 0 0 A) (F0 m 2 ls []) := by
    intro k_2
    induction k_2 with
    | zero =>
      intro set w1 h1 h2
      exact absurd h2 (by omega)
    | succ k_2 ih_2 =>
      intro set w1 hi_2 hk_2 hinv_2 H locs hP hD hS ls hl
      refine lv_iload_n hx hb dX0_fillWithin_2 rfl (lv_at hl 2 rfl) ?_
      refine lv_bipush (v := nI 16) hx hb dX0_fillWithin_3 (by decide) ?_
      refine wk_icmp_ge (tgt := 118) hx hb dX0_fillWithin_5 (by decide) (by omega) (by decide) (fun c_5 => ?_) (fun c_5 => ?_)
      · have he_set : set = 16 := by omega
        subst he_set
        exact W.vret hx hb hr (fun T9 hT9 hW9 => ⟨⟨(w1), rfl, hinv_2, by rw [hT9]; exact hP, va_K.moved hW9.alike hK, hD⟩, hS.F hT9⟩) hS.2.2 dX0_fillWithin_118
      · refine lv_aload_n hx hb dX0_fillWithin_8 rfl (lv_at hl 0 rfl) ?_
        refine lv_iload_n hx hb dX0_fillWithin_9 rfl (lv_at hl 1 rfl) ?_
        refine lv_iload_n hx hb dX0_fillWithin_10 rfl (lv_at hl 2 rfl) ?_
        refine vp_callSi (W.runV (b := h) (As := [.int (nI v), .int (nI set)]) (rest := []) ⟨hx, hb, hml, hown, hts⟩ (metX0_isAllowed l dC dI h 0 cI g mo sc fb rq fx mu mn w1 bo wa v set hv (by omega)) (cwV 2 hts (lw_V q115 q117 qs3 q23 q118) rfl rfl rfl (by decide +kernel) ⟨Nat.le_of_ble_eq_true rfl, Nat.le_of_ble_eq_true rfl⟩) ⟨fun a U g mk q => ⟨q.1, q.2.1, va_K.moved (u := U) (U := U.calling g mk a) (Vm.Alike.refl U.vm) q.2.2⟩, va_recv hK hP (ci := 0) (q0 := 0) rfl rfl, fun U hU hW => ⟨rfl, by rw [hU]; exact hP, va_K.moved hW.alike hK⟩⟩ rfl rfl hl.1 rfl (lv_room (Nat.le_of_ble_eq_true rfl)) dX0_fillWithin_11 ⟨Nat.le_of_ble_eq_true rfl, Nat.le_of_ble_eq_true rfl⟩) (fun r hr_11 => ?_)
        have hr_11 : r = nI (alN mo fb rq fx mu mn v set) := hr_11
        subst hr_11
        refine lv_istore_n (lv' := [(3, .int (nI (alN mo fb rq fx mu mn v set))), (0, .ref h), (1, .int (nI v)), (2, .int (nI set))]) hx hb dX0_fillWithin_14 rfl hl (by decide) rfl (fun ls hl => ?_)
        refine lv_iload_n hx hb dX0_fillWithin_15 rfl (lv_at hl 0 rfl) ?_
        have join_35 : ∀ (b0 : Int32), (b0 = fwB (alN mo fb rq fx mu mn) sc v set) → ∀ (H : Heap) (locs : List Loc), va_P (dC, dI) vwCl (wX0 h cI g mo sc fb rq fx mu mn w1 bo wa) H → va_D A (wX0 h cI g mo sc fb rq fx mu mn w1 bo wa) → va_S A s.heap H locs → ∀ (ls : Array Slot), lv_has ls 7 [(0, .ref h), (1, .int (nI v)), (2, .int (nI set)), (3, .int (nI (alN mo fb rq fx mu mn v set)))] → W p l e (headSpec (ws_ yX0_fillWithin cX0_fillWithin 7 none) ({ frames := 2, cells := 0, slots := 0, locals := 46 } : Room)).room s m ([.ref h, .int (nI v)] : List Value).toArray below meth c H locs 0 0 (MQ below (va_Qv (fun (u : (Nat → Int32)) => u = fillF (alN mo fb rq fx mu mn) sc v wi) (fun (u : (Nat → Int32)) (t : State) => va_P (dC, dI) vwCl (wX0 h cI g mo sc fb rq fx mu mn u bo wa) t.heap ∧ va_K (dC, dI) vwCl [(cI, .int)] t ∧ va_D A (wX0 h cI g mo sc fb rq fx mu mn u bo wa)) A) ([.ref h, .int (nI v)] : List Value).toArray s 0 0 A) (F0 m 35 ls [.int b0]) := by
          intro b0 hinv_35 H locs hP hD hS ls hl
          refine lv_istore (lv' := [(4, .int b0), (0, .ref h), (1, .int (nI v)), (2, .int (nI set)), (3, .int (nI (alN mo fb rq fx mu mn v set)))]) hx hb dX0_fillWithin_35 hl (by decide) rfl (fun ls hl => ?_)
          refine lv_iconst (v := nI 0) hx hb dX0_fillWithin_37 (by decide) ?_
          refine lv_istore (lv' := [(5, .int (nI 0)), (4, .int b0), (0, .ref h), (1, .int (nI v)), (2, .int (nI set)), (3, .int (nI (alN mo fb rq fx mu mn v set)))]) hx hb dX0_fillWithin_38 hl (by decide) rfl (fun ls hl => ?_)
          have loop_40 : ∀ (k_40 u : Nat) (b : Int32), u ≤ 4 → 4 + 1 ≤ u + k_40 → (b = lit (rowS (fun s => w1 (v * 16 + s)) set) b0 u) → ∀ (H : Heap) (locs : List Loc), va_P (dC, dI) vwCl (wX0 h cI g mo sc fb rq fx mu mn w1 bo wa) H → va_D A (wX0 h cI g mo sc fb rq fx mu mn w1 bo wa) → va_S A s.heap H locs → ∀ (ls : Array Slot), lv_has ls 7 [(0, .ref h), (1, .int (nI v)), (2, .int (nI set)), (3, .int (nI (alN mo fb rq fx mu mn v set))), (4, .int b), (5, .int (nI u))] → W p l e (headSpec (ws_ yX0_fillWithin cX0_fillWithin 7 none) ({ frames := 2, cells := 0, slots := 0, locals := 46 } : Room)).room s m ([.ref h, .int (nI v)] : List Value).toArray below meth c H locs 0 0 (MQ below (va_Qv (fun (u : (Nat → Int32)) => u = fillF (alN mo fb rq fx mu mn) sc v wi) (fun (u : (Nat → Int32)) (t : State) => va_P (dC, dI) vwCl (wX0 h cI g mo sc fb rq fx mu mn u bo wa) t.heap ∧ va_K (dC, dI) vwCl [(cI, .int)] t ∧ va_D A (wX0 h cI g mo sc fb rq fx mu mn u bo wa)) A) ([.ref h, .int (nI v)] : List Value).toArray s 0 0 A) (F0 m 40 ls []) := by
            intro k_40
            induction k_40 with
            | zero =>
              intro u b h1 h2
              exact absurd h2 (by omega)
            | succ k_40 ih_40 =>
              intro u b hi_40 hk_40 hinv_40 H locs hP hD hS ls hl
              refine lv_iload hx hb dX0_fillWithin_40 (lv_at hl 5 rfl) ?_
              refine lv_iconst (v := nI 4) hx hb dX0_fillWithin_42 (by decide) ?_
              refine wk_icmp_ge (tgt := 99) hx hb dX0_fillWithin_43 (by decide) (by omega) (by decide) (fun c_43 => ?_) (fun c_43 => ?_)
              · have he_u : u = 4 := by omega
                subst he_u
                refine lv_aload_n hx hb dX0_fillWithin_99 rfl (lv_at hl 0 rfl) ?_
                refine va_get (D := (dC, dI)) (ci := 0) (v := .ref (g 6)) (C := RX0) (T := TX0) (N := 10) hx hb hts in_X0 hown hK hP 0 rfl rfl 7 (by decide) (hts _ q44) (fun _ h9 => h9) rfl dX0_fillWithin_100 ?_
                refine lv_iload_n hx hb dX0_fillWithin_103 rfl (lv_at hl 1 rfl) ?_
                refine lv_bipush (v := nI 16) hx hb dX0_fillWithin_104 (by decide) ?_
                refine wk_imul hx hb dX0_fillWithin_106 ?_
                refine lv_iload_n hx hb dX0_fillWithin_107 rfl (lv_at hl 2 rfl) ?_
                refine wk_iadd hx hb dX0_fillWithin_108 ?_
                refine lv_iload hx hb dX0_fillWithin_109 (lv_at hl 4 rfl) ?_
                refine wk_iast hx hb hK hP hD hS 7 0 rfl rfl (ix := ((v * 16) + set)) (by omega) (by decide) dX0_fillWithin_111 (fun H locs hP hD hS => ?_)
                have hP : va_P (dC, dI) vwCl (wX0 h cI g mo sc fb rq fx mu mn (upd w1 ((v * 16) + set) b) bo wa) H := hP
                have hD : va_D A (wX0 h cI g mo sc fb rq fx mu mn (upd w1 ((v * 16) + set) b) bo wa) := hD
                refine wk_iinc (lv' := [(2, .int (nI (set + 1))), (0, .ref h), (1, .int (nI v)), (3, .int (nI (alN mo fb rq fx mu mn v set))), (4, .int b), (5, .int (nI 4))]) hx hb dX0_fillWithin_112 hl (k := 2) rfl (by decide) rfl (fun ls hl => ?_)
                refine lv_goto (tgt := 2) hx hb dX0_fillWithin_115 (by decide) ?_
                exact ih_2 (set + 1) (upd w1 ((v * 16) + set) b) (by omega) (by omega) (by rw [lit_succ, ← hinv_2]; unfold fillS; rw [← hinv_35, ← hinv_40]) _ _ hP hD hS ls (lv_sub hl [1, 2, 0] rfl)
              · refine lv_iload_n hx hb dX0_fillWithin_46 rfl (lv_at hl 2 rfl) ?_
                refine lv_iconst (v := nI 1) hx hb dX0_fillWithin_47 (by decide) ?_
                refine lv_iload hx hb dX0_fillWithin_48 (lv_at hl 5 rfl) ?_
                refine wk_ishl1 hx hb dX0_fillWithin_50 (by omega) ?_
                refine lv_iconst (v := (-1)) hx hb dX0_fillWithin_51 (by decide) ?_
                refine lv_ixor hx hb dX0_fillWithin_52 ?_
                refine wk_iandn hx hb dX0_fillWithin_53 ?_
                have hf_53 : (andn set (1 <<< u)) ≤ set := andn_le _ _
                refine lv_istore (lv' := [(6, .int (nI (andn set (1 <<< u)))), (0, .ref h), (1, .int (nI v)), (2, .int (nI set)), (3, .int (nI (alN mo fb rq fx mu mn v set))), (4, .int b), (5, .int (nI u))]) hx hb dX0_fillWithin_54 hl (by decide) rfl (fun ls hl => ?_)
                refine lv_iload hx hb dX0_fillWithin_56 (lv_at hl 0 rfl) ?_
                refine lv_iload_n hx hb dX0_fillWithin_58 rfl (lv_at hl 3 rfl) ?_
                refine wk_icmp_eq (tgt := 93) hx hb dX0_fillWithin_59 (by decide) (Nat.lt_of_le_of_lt (andn_le _ _) (by omega)) (by omega) (fun c_59 => ?_) (fun c_59 => ?_)
                · refine wk_iinc (lv' := [(5, .int (nI (u + 1))), (6, .int (nI (andn set (1 <<< u)))), (0, .ref h), (1, .int (nI v)), (2, .int (nI set)), (3, .int (nI (alN mo fb rq fx mu mn v set))), (4, .int b)]) hx hb dX0_fillWithin_93 hl (k := 6) rfl (by decide) rfl (fun ls hl => ?_)
                  refine lv_goto (tgt := 40) hx hb dX0_fillWithin_96 (by decide) ?_
                  exact ih_40 (u + 1) b (by omega) (by omega) (by rw [lit_succ, ← hinv_40]; unfold rowS; rw [if_pos c_59]) _ _ hP hD hS ls (lv_sub hl [2, 3, 4, 5, 6, 0] rfl)
                · refine lv_aload_n hx hb dX0_fillWithin_62 rfl (lv_at hl 1 rfl) ?_
                  refine va_get (D := (dC, dI)) (ci := 0) (v := .ref (g 6)) (C := RX0) (T := TX0) (N := 10) hx hb hts in_X0 hown hK hP 0 rfl rfl 7 (by decide) (hts _ q44) (fun _ h9 => h9) rfl dX0_fillWithin_63 ?_
                  refine lv_iload_n hx hb dX0_fillWithin_66 rfl (lv_at hl 2 rfl) ?_
                  refine lv_bipush (v := nI 16) hx hb dX0_fillWithin_67 (by decide) ?_
                  refine wk_imul hx hb dX0_fillWithin_69 ?_
                  refine lv_iload hx hb dX0_fillWithin_70 (lv_at hl 0 rfl) ?_
                  refine wk_iadd hx hb dX0_fillWithin_72 ?_
                  refine wk_iald hx hb hK hP 7 0 rfl rfl (ix := ((v * 16) + (andn set (1 <<< u)))) (by omega) (by decide) dX0_fillWithin_73 ?_
                  refine lv_iload hx hb dX0_fillWithin_74 (lv_at hl 5 rfl) ?_
                  refine lv_icmp_le (tgt := 93) hx hb dX0_fillWithin_76 (by decide) (fun c_76 => ?_) (fun c_76 => ?_)
                  · refine wk_iinc (lv' := [(5, .int (nI (u + 1))), (6, .int (nI (andn set (1 <<< u)))), (0, .ref h), (1, .int (nI v)), (2, .int (nI set)), (3, .int (nI (alN mo fb rq fx mu mn v set))), (4, .int b)]) hx hb dX0_fillWithin_93 hl (k := 6) rfl (by decide) rfl (fun ls hl => ?_)
                    refine lv_goto (tgt := 40) hx hb dX0_fillWithin_96 (by decide) ?_
                    exact ih_40 (u + 1) b (by omega) (by omega) (by rw [lit_succ, ← hinv_40]; unfold rowS; rw [if_neg c_59, if_pos c_76]) _ _ hP hD hS ls (lv_sub hl [2, 3, 4, 5, 6, 0] rfl)
                  · refine lv_aload_n hx hb dX0_fillWithin_79 rfl (lv_at hl 1 rfl) ?_
                    refine va_get (D := (dC, dI)) (ci := 0) (v := .ref (g 6)) (C := RX0) (T := TX0) (N := 10) hx hb hts in_X0 hown hK hP 0 rfl rfl 7 (by decide) (hts _ q44) (fun _ h9 => h9) rfl dX0_fillWithin_80 ?_
                    refine lv_iload_n hx hb dX0_fillWithin_83 rfl (lv_at hl 2 rfl) ?_
                    refine lv_bipush (v := nI 16) hx hb dX0_fillWithin_84 (by decide) ?_
                    refine wk_imul hx hb dX0_fillWithin_86 ?_
                    refine lv_iload hx hb dX0_fillWithin_87 (lv_at hl 0 rfl) ?_
                    refine wk_iadd hx hb dX0_fillWithin_89 ?_
                    refine wk_iald hx hb hK hP 7 0 rfl rfl (ix := ((v * 16) + (andn set (1 <<< u)))) (by omega) (by decide) dX0_fillWithin_90 ?_
                    refine lv_istore (lv' := [(4, .int (w1 ((v * 16) + (andn set (1 <<< u))))), (6, .int (nI (andn set (1 <<< u)))), (0, .ref h), (1, .int (nI v)), (2, .int (nI set)), (3, .int (nI (alN mo fb rq fx mu mn v set))), (5, .int (nI u))]) hx hb dX0_fillWithin_91 hl (by decide) rfl (fun ls hl => ?_)
                    refine wk_iinc (lv' := [(5, .int (nI (u + 1))), (4, .int (w1 ((v * 16) + (andn set (1 <<< u))))), (6, .int (nI (andn set (1 <<< u)))), (0, .ref h), (1, .int (nI v)), (2, .int (nI set)), (3, .int (nI (alN mo fb rq fx mu mn v set)))]) hx hb dX0_fillWithin_93 hl (k := 6) rfl (by decide) rfl (fun ls hl => ?_)
                    refine lv_goto (tgt := 40) hx hb dX0_fillWithin_96 (by decide) ?_
                    exact ih_40 (u + 1) (w1 ((v * 16) + (andn set (1 <<< u)))) (by omega) (by omega) (by rw [lit_succ, ← hinv_40]; unfold rowS; rw [if_neg c_59, if_neg c_76]) _ _ hP hD hS ls (lv_sub hl [3, 4, 5, 6, 1, 0] rfl)
          exact loop_40 (4 + 1) 0 b0 (by omega) (by omega) rfl _ _ hP hD hS ls (lv_sub hl [2, 3, 4, 5, 1, 0] rfl)
        refine wk_if_eq (tgt := 33) hx hb dX0_fillWithin_16 (by decide) (by have := alN_le mo fb rq fx mu mn v set; omega) (fun c_16 => ?_) (fun c_16 => ?_)
        · refine lv_ldc hx hb hown (hts _ q119) dX0_fillWithin_33 ?_
          exact join_35 (-100000) (by unfold fwB; rw [if_pos c_16]) _ _ hP hD hS ls (lv_sub hl [1, 2, 3, 0] rfl)
        · refine lv_aload_n hx hb dX0_fillWithin_19 rfl (lv_at hl 1 rfl) ?_
          refine va_get (D := (dC, dI)) (ci := 0) (v := .ref (g 0)) (C := RX0) (T := TX0) (N := 10) hx hb hts in_X0 hown hK hP 0 rfl rfl 0 (by decide) (hts _ q37) (fun _ h9 => h9) rfl dX0_fillWithin_20 ?_
          refine lv_iload_n hx hb dX0_fillWithin_23 rfl (lv_at hl 2 rfl) ?_
          refine lv_bipush (v := nI 16) hx hb dX0_fillWithin_24 (by decide) ?_
          refine wk_imul hx hb dX0_fillWithin_26 ?_
          refine lv_iload_n hx hb dX0_fillWithin_27 rfl (lv_at hl 3 rfl) ?_
          refine wk_iadd hx hb dX0_fillWithin_28 ?_
          refine wk_iald hx hb hK hP 1 0 rfl rfl (ix := ((v * 16) + set)) (by omega) (by decide) dX0_fillWithin_29 ?_
          refine lv_goto (tgt := 35) hx hb dX0_fillWithin_30 (by decide) ?_
          exact join_35 (sc ((v * 16) + set)) (by unfold fwB; rw [if_neg c_16]) _ _ hP hD hS ls (lv_sub hl [1, 2, 3, 0] rfl)
  exact loop_2 (16 + 1) 0 wi (by omega) (by omega) rfl _ _ hP hD hS ls (lv_sub hl [1, 2, 0] rfl)
set_option maxHeartbeats 4000000 in
set_option maxRecDepth 100000 in
theorem metX0_solve (l : Launch) (dC : Nat → ClassId) (dI : Nat → Nat → Nat) (h sz : Nat) (cI : ClassId) (g : Nat → Nat) (mo : Int32) (sc fb rq fx mu mn wi bo wa : Nat → Int32) : Met l yX0_solve (ws_ yX0_solve cX0_solve 3 none) ({ frames := 3, cells := 0, slots := 0, locals := 72 } : Room) (va_Pc [.ref h] (fun U => U.heap.size = sz ∧ va_P (dC, dI) vwCl (wX0 h cI g mo sc fb rq fx mu mn wi bo wa) U.heap ∧ va_K (dC, dI) vwCl [(cI, .int)] U ∧ va_D (fun _ => True) (wX0 h cI g mo sc fb rq fx mu mn wi bo wa))) (va_Qv (fun (u : (Nat → Int32) × (Nat → Int32) × (Nat → Int32)) => u.2.1 15 = BEST (alN mo fb rq fx mu mn) sc ∧ u.2.2 15 = WAYS (alN mo fb rq fx mu mn) sc) (fun (u : (Nat → Int32) × (Nat → Int32) × (Nat → Int32)) (t : State) => va_P (dC, dI) vwCl (wX0 h cI g mo sc fb rq fx mu mn u.1 u.2.1 u.2.2) t.heap ∧ va_K (dC, dI) vwCl [(cI, .int)] t ∧ va_D (va_A (wX0 h cI g mo sc fb rq fx mu mn wi bo wa) sz) (wX0 h cI g mo sc fb rq fx mu mn u.1 u.2.1 u.2.2)) (va_A (wX0 h cI g mo sc fb rq fx mu mn wi bo wa) sz)) 0 0 (va_A (wX0 h cI g mo sc fb rq fx mu mn wi bo wa) sz) := by
  refine Met.ofW (cc := cX0_solve) (maxL := 3) (ret := none) (by decide) rfl ?_
  intro p e s m args below meth c s₁ B hml hpre
  obtain ⟨rfl, hsz, hP, hK, hD0⟩ := hpre
  have hx := B.exec
  have hb := B.bytes
  have hr := B.returns
  have hts := atoms_spec (ws := (ws_ yX0_solve cX0_solve 3 none)) B.pre
  have hts : ∀ w ∈ lw_all, w.before _ s = true := fun w h => hts w (List.mem_cons_of_mem _ h)
  have hown : s.vm.findClass RX0 = some m.cls := findClass_of_methodNamed B.named
  have hlocks := B.notSynchronized
  subst hsz
  have hD := hD0.self (sz := s.heap.size)
  generalize hAe : va_A (wX0 h cI g mo sc fb rq fx mu mn wi bo wa) s.heap.size = A at hD ⊢
  have hA : ∀ q : Nat, s.heap.size ≤ q → A q := fun q h => by rw [← hAe]; exact Or.inr h
  have hS : va_S A s.heap s.heap [] := va_S.rf
  have hl := lv_entry ([.ref h]) (n := 3) (Nat.le_of_ble_eq_true rfl)
  rw [lg_entry_eq]
  generalize (lg_sl ([.ref h]) ++ List.replicate (3 - (lg_sl ([.ref h])).length) Slot.unset).toArray = ls at hl ⊢
  have hl : lv_has ls 3 [(0, .ref h)] := hl
  refine lv_iconst (v := nI 0) hx hb dX0_solve_0 (by decide) ?_
  refine lv_istore_n (lv' := [(1, .int (nI 0)), (0, .ref h)]) hx hb dX0_solve_1 rfl hl (by decide) rfl (fun ls hl => ?_)
  have loop_2 : ∀ (k_2 v : Nat) (w1 : Nat → Int32), v ≤ 4 → 4 + 1 ≤ v + k_2 → (w1 = lit (fun v w => fillF (alN mo fb rq fx mu mn) sc v w) wi v) → ∀ (H : Heap) (locs : List Loc), va_P (dC, dI) vwCl (wX0 h cI g mo sc fb rq fx mu mn w1 bo wa) H → va_D A (wX0 h cI g mo sc fb rq fx mu mn w1 bo wa) → va_S A s.heap H locs → ∀ (ls : Array Slot), lv_has ls 3 [(0, .ref h), (1, .int (nI v))] → W p l e (headSpec (ws_ yX0_solve cX0_solve 3 none) ({ frames := 3, cells := 0, slots := 0, locals := 72 } : Room)).room s m ([.ref h] : List Value).toArray below meth c H locs 0 0 (MQ below (va_Qv (fun (u : (Nat → Int32) × (Nat → Int32) × (Nat → Int32)) => u.2.1 15 = BEST (alN mo fb rq fx mu mn) sc ∧ u.2.2 15 = WAYS (alN mo fb rq fx mu mn) sc) (fun (u : (Nat → Int32) × (Nat → Int32) × (Nat → Int32)) (t : State) => va_P (dC, dI) vwCl (wX0 h cI g mo sc fb rq fx mu mn u.1 u.2.1 u.2.2) t.heap ∧ va_K (dC, dI) vwCl [(cI, .int)] t ∧ va_D A (wX0 h cI g mo sc fb rq fx mu mn u.1 u.2.1 u.2.2)) A) ([.ref h] : List Value).toArray s 0 0 A) (F0 m 2 ls []) := by
    intro k_2
    induction k_2 with
    | zero =>
      intro v w1 h1 h2
      exact absurd h2 (by omega)
    | succ k_2 ih_2 =>
      intro v w1 hi_2 hk_2 hinv_2 H locs hP hD hS ls hl
      refine lv_iload_n hx hb dX0_solve_2 rfl (lv_at hl 1 rfl) ?_
      refine lv_iconst (v := nI 4) hx hb dX0_solve_3 (by decide) ?_
      refine wk_icmp_ge (tgt := 18) hx hb dX0_solve_4 (by decide) (by omega) (by decide) (fun c_4 => ?_) (fun c_4 => ?_)
      · have he_v : v = 4 := by omega
        subst he_v
        refine lv_aload_n hx hb dX0_solve_18 rfl (lv_at hl 0 rfl) ?_
        refine va_get (D := (dC, dI)) (ci := 0) (v := .ref (g 7)) (C := RX0) (T := TX0) (N := 10) hx hb hts in_X0 hown hK hP 0 rfl rfl 8 (by decide) (hts _ q45) (fun _ h9 => h9) rfl dX0_solve_19 ?_
        refine lv_iconst (v := nI 0) hx hb dX0_solve_22 (by decide) ?_
        refine lv_iconst (v := nI 0) hx hb dX0_solve_23 (by decide) ?_
        refine wk_iast hx hb hK hP hD hS 8 0 rfl rfl (ix := 0) (by omega) (by decide) dX0_solve_24 (fun H locs hP hD hS => ?_)
        have hP : va_P (dC, dI) vwCl (wX0 h cI g mo sc fb rq fx mu mn w1 (upd bo 0 (nI 0)) wa) H := hP
        have hD : va_D A (wX0 h cI g mo sc fb rq fx mu mn w1 (upd bo 0 (nI 0)) wa) := hD
        refine lv_aload_n hx hb dX0_solve_25 rfl (lv_at hl 0 rfl) ?_
        refine va_get (D := (dC, dI)) (ci := 0) (v := .ref (g 8)) (C := RX0) (T := TX0) (N := 10) hx hb hts in_X0 hown hK hP 0 rfl rfl 9 (by decide) (hts _ q46) (fun _ h9 => h9) rfl dX0_solve_26 ?_
        refine lv_iconst (v := nI 0) hx hb dX0_solve_29 (by decide) ?_
        refine lv_iconst (v := nI 1) hx hb dX0_solve_30 (by decide) ?_
        refine wk_iast hx hb hK hP hD hS 9 0 rfl rfl (ix := 0) (by omega) (by decide) dX0_solve_31 (fun H locs hP hD hS => ?_)
        have hP : va_P (dC, dI) vwCl (wX0 h cI g mo sc fb rq fx mu mn w1 (upd bo 0 (nI 0)) (upd wa 0 (nI 1))) H := hP
        have hD : va_D A (wX0 h cI g mo sc fb rq fx mu mn w1 (upd bo 0 (nI 0)) (upd wa 0 (nI 1))) := hD
        refine lv_iconst (v := nI 1) hx hb dX0_solve_32 (by decide) ?_
        refine lv_istore_n (lv' := [(1, .int (nI 1)), (0, .ref h)]) hx hb dX0_solve_33 rfl hl (by decide) rfl (fun ls hl => ?_)
        have loop_34 : ∀ (k_34 n : Nat) (b1 : Nat → Int32) (a1 : Nat → Int32), n ≤ 16 → 16 + 1 ≤ n + k_34 → (∃ j : Nat, n = j + 1 ∧ (b1, a1) = lit (solS w1) (upd bo 0 (nI 0), upd wa 0 (nI 1)) j) → ∀ (H : Heap) (locs : List Loc), va_P (dC, dI) vwCl (wX0 h cI g mo sc fb rq fx mu mn w1 b1 a1) H → va_D A (wX0 h cI g mo sc fb rq fx mu mn w1 b1 a1) → va_S A s.heap H locs → ∀ (ls : Array Slot), lv_has ls 3 [(0, .ref h), (1, .int (nI n))] → W p l e (headSpec (ws_ yX0_solve cX0_solve 3 none) ({ frames := 3, cells := 0, slots := 0, locals := 72 } : Room)).room s m ([.ref h] : List Value).toArray below meth c H locs 0 0 (MQ below (va_Qv (fun (u : (Nat → Int32) × (Nat → Int32) × (Nat → Int32)) => u.2.1 15 = BEST (alN mo fb rq fx mu mn) sc ∧ u.2.2 15 = WAYS (alN mo fb rq fx mu mn) sc) (fun (u : (Nat → Int32) × (Nat → Int32) × (Nat → Int32)) (t : State) => va_P (dC, dI) vwCl (wX0 h cI g mo sc fb rq fx mu mn u.1 u.2.1 u.2.2) t.heap ∧ va_K (dC, dI) vwCl [(cI, .int)] t ∧ va_D A (wX0 h cI g mo sc fb rq fx mu mn u.1 u.2.1 u.2.2)) A) ([.ref h] : List Value).toArray s 0 0 A) (F0 m 34 ls []) := by
          intro k_34
          induction k_34 with
          | zero =>
            intro n b1 a1 h1 h2
            exact absurd h2 (by omega)
          | succ k_34 ih_34 =>
            intro n b1 a1 hi_34 hk_34 hinv_34 H locs hP hD hS ls hl
            obtain ⟨j, hje, hj_34⟩ := hinv_34
            subst hje
            refine lv_iload_n hx hb dX0_solve_34 rfl (lv_at hl 1 rfl) ?_
            refine lv_bipush (v := nI 16) hx hb dX0_solve_35 (by decide) ?_
            refine wk_icmp_ge (tgt := 89) hx hb dX0_solve_37 (by decide) (by omega) (by decide) (fun c_37 => ?_) (fun c_37 => ?_)
            · have he_j : j = 15 := by omega
              subst he_j
              have h15 := solve_15 (al := (alN mo fb rq fx mu mn)) (sc := sc) (wi := wi) (bo := bo) (wa := wa)
              unfold solveF solB fillA at h15
              rw [← hinv_2, ← hj_34] at h15
              exact W.vret hx hb hr (fun T9 hT9 hW9 => ⟨⟨(w1, b1, a1), rfl, h15, by rw [hT9]; exact hP, va_K.moved hW9.alike hK, hD⟩, hS.F hT9⟩) hS.2.2 dX0_solve_89
            · refine lv_aload_n hx hb dX0_solve_40 rfl (lv_at hl 0 rfl) ?_
              refine va_get (D := (dC, dI)) (ci := 0) (v := .ref (g 7)) (C := RX0) (T := TX0) (N := 10) hx hb hts in_X0 hown hK hP 0 rfl rfl 8 (by decide) (hts _ q45) (fun _ h9 => h9) rfl dX0_solve_41 ?_
              refine lv_iload_n hx hb dX0_solve_44 rfl (lv_at hl 1 rfl) ?_
              refine lv_ldc hx hb hown (hts _ q119) dX0_solve_45 ?_
              refine wk_iast hx hb hK hP hD hS 8 0 rfl rfl (ix := (j + 1)) (by omega) (by decide) dX0_solve_47 (fun H locs hP hD hS => ?_)
              have hP : va_P (dC, dI) vwCl (wX0 h cI g mo sc fb rq fx mu mn w1 (upd b1 (j + 1) (-100000)) a1) H := hP
              have hD : va_D A (wX0 h cI g mo sc fb rq fx mu mn w1 (upd b1 (j + 1) (-100000)) a1) := hD
              refine lv_aload_n hx hb dX0_solve_48 rfl (lv_at hl 0 rfl) ?_
              refine va_get (D := (dC, dI)) (ci := 0) (v := .ref (g 8)) (C := RX0) (T := TX0) (N := 10) hx hb hts in_X0 hown hK hP 0 rfl rfl 9 (by decide) (hts _ q46) (fun _ h9 => h9) rfl dX0_solve_49 ?_
              refine lv_iload_n hx hb dX0_solve_52 rfl (lv_at hl 1 rfl) ?_
              refine lv_iconst (v := nI 0) hx hb dX0_solve_53 (by decide) ?_
              refine wk_iast hx hb hK hP hD hS 9 0 rfl rfl (ix := (j + 1)) (by omega) (by decide) dX0_solve_54 (fun H locs hP hD hS => ?_)
              have hP : va_P (dC, dI) vwCl (wX0 h cI g mo sc fb rq fx mu mn w1 (upd b1 (j + 1) (-100000)) (upd a1 (j + 1) (nI 0))) H := hP
              have hD : va_D A (wX0 h cI g mo sc fb rq fx mu mn w1 (upd b1 (j + 1) (-100000)) (upd a1 (j + 1) (nI 0))) := hD
              refine lv_iconst (v := nI 0) hx hb dX0_solve_55 (by decide) ?_
              refine lv_istore_n (lv' := [(2, .int (nI 0)), (0, .ref h), (1, .int (nI (j + 1)))]) hx hb dX0_solve_56 rfl hl (by decide) rfl (fun ls hl => ?_)
              have loop_57 : ∀ (k_57 v : Nat) (b2 : Nat → Int32) (a2 : Nat → Int32), v ≤ 4 → 4 + 1 ≤ v + k_57 → ((b2, a2) = lit (solV w1 (j + 1)) (upd b1 (j + 1) (-100000), upd a1 (j + 1) (nI 0)) v) → ∀ (H : Heap) (locs : List Loc), va_P (dC, dI) vwCl (wX0 h cI g mo sc fb rq fx mu mn w1 b2 a2) H → va_D A (wX0 h cI g mo sc fb rq fx mu mn w1 b2 a2) → va_S A s.heap H locs → ∀ (ls : Array Slot), lv_has ls 3 [(0, .ref h), (1, .int (nI (j + 1))), (2, .int (nI v))] → W p l e (headSpec (ws_ yX0_solve cX0_solve 3 none) ({ frames := 3, cells := 0, slots := 0, locals := 72 } : Room)).room s m ([.ref h] : List Value).toArray below meth c H locs 0 0 (MQ below (va_Qv (fun (u : (Nat → Int32) × (Nat → Int32) × (Nat → Int32)) => u.2.1 15 = BEST (alN mo fb rq fx mu mn) sc ∧ u.2.2 15 = WAYS (alN mo fb rq fx mu mn) sc) (fun (u : (Nat → Int32) × (Nat → Int32) × (Nat → Int32)) (t : State) => va_P (dC, dI) vwCl (wX0 h cI g mo sc fb rq fx mu mn u.1 u.2.1 u.2.2) t.heap ∧ va_K (dC, dI) vwCl [(cI, .int)] t ∧ va_D A (wX0 h cI g mo sc fb rq fx mu mn u.1 u.2.1 u.2.2)) A) ([.ref h] : List Value).toArray s 0 0 A) (F0 m 57 ls []) := by
                intro k_57
                induction k_57 with
                | zero =>
                  intro v b2 a2 h1 h2
                  exact absurd h2 (by omega)
                | succ k_57 ih_57 =>
                  intro v b2 a2 hi_57 hk_57 hinv_57 H locs hP hD hS ls hl
                  refine lv_iload_n hx hb dX0_solve_57 rfl (lv_at hl 2 rfl) ?_
                  refine lv_iconst (v := nI 4) hx hb dX0_solve_58 (by decide) ?_
                  refine wk_icmp_ge (tgt := 83) hx hb dX0_solve_59 (by decide) (by omega) (by decide) (fun c_59 => ?_) (fun c_59 => ?_)
                  · have he_v : v = 4 := by omega
                    subst he_v
                    refine wk_iinc (lv' := [(1, .int (nI ((j + 1) + 1))), (0, .ref h), (2, .int (nI 4))]) hx hb dX0_solve_83 hl (k := 1) rfl (by decide) rfl (fun ls hl => ?_)
                    refine lv_goto (tgt := 34) hx hb dX0_solve_86 (by decide) ?_
                    exact ih_34 ((j + 1) + 1) b2 a2 (by omega) (by omega) ⟨j + 1, rfl, by rw [lit_succ, ← hj_34]; unfold solS; exact hinv_57⟩ _ _ hP hD hS ls (lv_sub hl [1, 0] rfl)
                  · refine lv_iload_n hx hb dX0_solve_62 rfl (lv_at hl 1 rfl) ?_
                    refine lv_iload_n hx hb dX0_solve_63 rfl (lv_at hl 2 rfl) ?_
                    refine wk_ishr hx hb dX0_solve_64 (by omega) (by omega) ?_
                    refine lv_iconst (v := nI 1) hx hb dX0_solve_65 (by decide) ?_
                    refine wk_iand hx hb dX0_solve_66 ?_
                    have hf_66 : (((j + 1) >>> v) &&& 1) ≤ 1 := Nat.and_le_right
                    refine lv_iconst (v := nI 1) hx hb dX0_solve_67 (by decide) ?_
                    refine wk_icmp_ne (tgt := 77) hx hb dX0_solve_68 (by decide) (Nat.lt_of_le_of_lt Nat.and_le_right (by decide)) (by decide) (fun c_68 => ?_) (fun c_68 => ?_)
                    · refine wk_iinc (lv' := [(2, .int (nI (v + 1))), (0, .ref h), (1, .int (nI (j + 1)))]) hx hb dX0_solve_77 hl (k := 2) rfl (by decide) rfl (fun ls hl => ?_)
                      refine lv_goto (tgt := 57) hx hb dX0_solve_80 (by decide) ?_
                      exact ih_57 (v + 1) b2 a2 (by omega) (by omega) (by rw [lit_succ, ← hinv_57]; unfold solV; rw [if_neg c_68]) _ _ hP hD hS ls (lv_sub hl [1, 2, 0] rfl)
                    · refine lv_aload_n hx hb dX0_solve_71 rfl (lv_at hl 0 rfl) ?_
                      refine lv_iload_n hx hb dX0_solve_72 rfl (lv_at hl 1 rfl) ?_
                      refine lv_iload_n hx hb dX0_solve_73 rfl (lv_at hl 2 rfl) ?_
                      have hFc := va_free (wc := (wX0 h cI g mo sc fb rq fx mu mn w1 b2 a2)) hD hS hA [0, 1, 2, 3, 4, 5, 6, 7, 8, 9] rfl
                      refine va_callv (va_runV (b := h) (As := [.int (nI (j + 1)), .int (nI v)]) (rest := []) ⟨hx, hb, hml, hown, hts⟩ (metX0_tryLast l dC dI h H.size cI g mo sc fb rq fx mu mn w1 b2 a2 (j + 1) v (by omega) (by omega)) (cwV 2 hts (lw_V q120 q122 qs4 q23 q123) rfl rfl rfl (by decide +kernel) ⟨Nat.le_of_ble_eq_true rfl, Nat.le_of_ble_eq_true rfl⟩) ⟨fun a U g mk q => by obtain ⟨q0, q1, qP, qK, qD⟩ := q; exact ⟨q0, q1, qP, va_K.moved (u := U) (U := U.calling g mk a) (Vm.Alike.refl U.vm) qK, qD⟩, va_recv hK hP (ci := 0) (q0 := 0) rfl rfl, fun U hU hW => ⟨rfl, by rw [hU], by rw [hU]; exact hP, va_K.moved hW.alike hK, hD.weaken (fun _ _ _ _ => trivial)⟩⟩ rfl rfl hl.1 rfl (lv_room (Nat.le_of_ble_eq_true rfl)) dX0_solve_74 ⟨Nat.le_of_ble_eq_true rfl, Nat.le_of_ble_eq_true rfl⟩) hS (fun q _ h => hFc q h) hFc (fun u t H1 locs ht hvm hw_74 hB hz1 hk1 hS => ?_)
                      obtain ⟨bo_74, wa_74⟩ := u
                      obtain ⟨hP1, hK1, hD1⟩ := hB
                      rw [ht] at hP1
                      try dsimp only at hw_74
                      have hP : va_P (dC, dI) vwCl (wX0 h cI g mo sc fb rq fx mu mn w1 bo_74 wa_74) H1 := hP1
                      have hD : va_D A (wX0 h cI g mo sc fb rq fx mu mn w1 bo_74 wa_74) := hD1.weaken (fun _ q _ h => hFc q.1 h)
                      generalize H1 = H at hP hS ⊢
                      refine wk_iinc (lv' := [(2, .int (nI (v + 1))), (0, .ref h), (1, .int (nI (j + 1)))]) hx hb dX0_solve_77 hl (k := 2) rfl (by decide) rfl (fun ls hl => ?_)
                      refine lv_goto (tgt := 57) hx hb dX0_solve_80 (by decide) ?_
                      exact ih_57 (v + 1) bo_74 wa_74 (by omega) (by omega) (by rw [lit_succ, ← hinv_57]; unfold solV; rw [if_pos c_68]; exact hw_74) _ _ hP hD hS ls (lv_sub hl [1, 2, 0] rfl)
              exact loop_57 (4 + 1) 0 (upd b1 (j + 1) (-100000)) (upd a1 (j + 1) (nI 0)) (by omega) (by omega) rfl _ _ hP hD hS ls (lv_sub hl [1, 2, 0] rfl)
        exact loop_34 (16 + 1) 1 (upd bo 0 (nI 0)) (upd wa 0 (nI 1)) (by omega) (by omega) ⟨0, rfl, rfl⟩ _ _ hP hD hS ls (lv_sub hl [1, 0] rfl)
      · refine lv_aload_n hx hb dX0_solve_7 rfl (lv_at hl 0 rfl) ?_
        refine lv_iload_n hx hb dX0_solve_8 rfl (lv_at hl 1 rfl) ?_
        have hFc := va_free (wc := (wX0 h cI g mo sc fb rq fx mu mn w1 bo wa)) hD hS hA [0, 1, 2, 3, 4, 5, 6, 7, 8, 9] rfl
        refine va_callv (va_runV (b := h) (As := [.int (nI v)]) (rest := []) ⟨hx, hb, hml, hown, hts⟩ (metX0_fillWithin l dC dI h H.size cI g mo sc fb rq fx mu mn w1 bo wa v (by omega)) (cwV 1 hts (lw_V q111 q113 qs2 q23 q114) rfl rfl rfl (by decide +kernel) ⟨Nat.le_of_ble_eq_true rfl, Nat.le_of_ble_eq_true rfl⟩) ⟨fun a U g mk q => by obtain ⟨q0, q1, qP, qK, qD⟩ := q; exact ⟨q0, q1, qP, va_K.moved (u := U) (U := U.calling g mk a) (Vm.Alike.refl U.vm) qK, qD⟩, va_recv hK hP (ci := 0) (q0 := 0) rfl rfl, fun U hU hW => ⟨rfl, by rw [hU], by rw [hU]; exact hP, va_K.moved hW.alike hK, hD.weaken (fun _ _ _ _ => trivial)⟩⟩ rfl rfl hl.1 rfl (lv_room (Nat.le_of_ble_eq_true rfl)) dX0_solve_9 ⟨Nat.le_of_ble_eq_true rfl, Nat.le_of_ble_eq_true rfl⟩) hS (fun q _ h => hFc q h) hFc (fun u t H1 locs ht hvm hw_9 hB hz1 hk1 hS => ?_)
        obtain ⟨wi_9, rfl⟩ : ∃ z, z = u := ⟨_, rfl⟩
        obtain ⟨hP1, hK1, hD1⟩ := hB
        rw [ht] at hP1
        try dsimp only at hw_9
        have hP : va_P (dC, dI) vwCl (wX0 h cI g mo sc fb rq fx mu mn wi_9 bo wa) H1 := hP1
        have hD : va_D A (wX0 h cI g mo sc fb rq fx mu mn wi_9 bo wa) := hD1.weaken (fun _ q _ h => hFc q.1 h)
        generalize H1 = H at hP hS ⊢
        refine wk_iinc (lv' := [(1, .int (nI (v + 1))), (0, .ref h)]) hx hb dX0_solve_12 hl (k := 1) rfl (by decide) rfl (fun ls hl => ?_)
        refine lv_goto (tgt := 2) hx hb dX0_solve_15 (by decide) ?_
        exact ih_2 (v + 1) wi_9 (by omega) (by omega) (by rw [lit_succ, ← hinv_2]; exact hw_9) _ _ hP hD hS ls (lv_sub hl [1, 0] rfl)
  exact loop_2 (4 + 1) 0 wi (by omega) (by omega) rfl _ _ hP hD hS ls (lv_sub hl [1, 0] rfl)
set_option maxHeartbeats 4000000 in
set_option maxRecDepth 100000 in
theorem metX0_best (l : Launch) (dC : Nat → ClassId) (dI : Nat → Nat → Nat) (h sz : Nat) (cI : ClassId) (g : Nat → Nat) (mo : Int32) (sc fb rq fx mu mn wi bo wa : Nat → Int32) : Met l yX0_best (ws_ yX0_best cX0_best 1 (some .int)) ({ frames := 4, cells := 0, slots := 0, locals := 94 } : Room) (va_Pc [.ref h] (fun U => U.heap.size = sz ∧ va_P (dC, dI) vwCl (wX0 h cI g mo sc fb rq fx mu mn wi bo wa) U.heap ∧ va_K (dC, dI) vwCl [(cI, .int)] U ∧ va_D (fun _ => True) (wX0 h cI g mo sc fb rq fx mu mn wi bo wa))) (va_Qi (fun (r : Int32) (u : (Nat → Int32) × (Nat → Int32) × (Nat → Int32)) => r = BEST (AL0 mo fb rq) sc) (fun (u : (Nat → Int32) × (Nat → Int32) × (Nat → Int32)) (t : State) => va_P (dC, dI) vwCl (wX0 h cI g mo sc fb rq cM c0 c0 u.1 u.2.1 u.2.2) t.heap ∧ va_K (dC, dI) vwCl [(cI, .int)] t ∧ va_D (va_A (wX0 h cI g mo sc fb rq fx mu mn wi bo wa) sz) (wX0 h cI g mo sc fb rq cM c0 c0 u.1 u.2.1 u.2.2)) (va_A (wX0 h cI g mo sc fb rq fx mu mn wi bo wa) sz)) 0 0 (va_A (wX0 h cI g mo sc fb rq fx mu mn wi bo wa) sz) := by
  refine Met.ofW (cc := cX0_best) (maxL := 1) (ret := (some .int)) (by decide) rfl ?_
  intro p e s m args below meth c s₁ B hml hpre
  obtain ⟨rfl, hsz, hP, hK, hD0⟩ := hpre
  have hx := B.exec
  have hb := B.bytes
  have hr := B.returns
  have hts := atoms_spec (ws := (ws_ yX0_best cX0_best 1 (some .int))) B.pre
  have hts : ∀ w ∈ lw_all, w.before _ s = true := fun w h => hts w (List.mem_cons_of_mem _ h)
  have hown : s.vm.findClass RX0 = some m.cls := findClass_of_methodNamed B.named
  have hlocks := B.notSynchronized
  subst hsz
  have hD := hD0.self (sz := s.heap.size)
  generalize hAe : va_A (wX0 h cI g mo sc fb rq fx mu mn wi bo wa) s.heap.size = A at hD ⊢
  have hA : ∀ q : Nat, s.heap.size ≤ q → A q := fun q h => by rw [← hAe]; exact Or.inr h
  have hS : va_S A s.heap s.heap [] := va_S.rf
  have hl := lv_entry ([.ref h]) (n := 1) (Nat.le_of_ble_eq_true rfl)
  rw [lg_entry_eq]
  generalize (lg_sl ([.ref h]) ++ List.replicate (1 - (lg_sl ([.ref h])).length) Slot.unset).toArray = ls at hl ⊢
  have hl : lv_has ls 1 [(0, .ref h)] := hl
  refine lv_aload_n hx hb dX0_best_0 rfl (lv_at hl 0 rfl) ?_
  have hFc := va_free (wc := (wX0 h cI g mo sc fb rq fx mu mn wi bo wa)) hD hS hA [0, 1, 2, 3, 4, 5, 6, 7, 8, 9] rfl
  refine va_callv (va_runV (b := h) (As := []) (rest := []) ⟨hx, hb, hml, hown, hts⟩ (metX0_noDemands l dC dI h s.heap.size cI g mo sc fb rq fx mu mn wi bo wa ) (cwV 0 hts (lw_V q33 q35 qs0 q23 q36) rfl rfl rfl (by decide +kernel) ⟨Nat.le_of_ble_eq_true rfl, Nat.le_of_ble_eq_true rfl⟩) ⟨fun a U g mk q => by obtain ⟨q0, q1, qP, qK, qD⟩ := q; exact ⟨q0, q1, qP, va_K.moved (u := U) (U := U.calling g mk a) (Vm.Alike.refl U.vm) qK, qD⟩, va_recv hK hP (ci := 0) (q0 := 0) rfl rfl, fun U hU hW => ⟨rfl, by rw [hU], by rw [hU]; exact hP, va_K.moved hW.alike hK, hD.weaken (fun _ _ _ _ => trivial)⟩⟩ rfl rfl hl.1 rfl (lv_room (Nat.le_of_ble_eq_true rfl)) dX0_best_1 ⟨Nat.le_of_ble_eq_true rfl, Nat.le_of_ble_eq_true rfl⟩) hS (fun q _ h => hFc q h) hFc (fun u t H1 locs ht hvm hw_1 hB hz1 hk1 hS => ?_)
  obtain ⟨hP1, hK1, hD1⟩ := hB
  rw [ht] at hP1
  try dsimp only at hw_1
  have hP : va_P (dC, dI) vwCl (wX0 h cI g mo sc fb rq cM c0 c0 wi bo wa) H1 := hP1
  have hD : va_D A (wX0 h cI g mo sc fb rq cM c0 c0 wi bo wa) := hD1.weaken (fun _ q _ h => hFc q.1 h)
  generalize H1 = H at hP hS ⊢
  refine lv_aload_n hx hb dX0_best_4 rfl (lv_at hl 0 rfl) ?_
  have hFc := va_free (wc := (wX0 h cI g mo sc fb rq cM c0 c0 wi bo wa)) hD hS hA [0, 1, 2, 3, 4, 5, 6, 7, 8, 9] rfl
  refine va_callv (va_runV (b := h) (As := []) (rest := []) ⟨hx, hb, hml, hown, hts⟩ (metX0_solve l dC dI h H.size cI g mo sc fb rq cM c0 c0 wi bo wa ) (cwV 0 hts (lw_V q107 q109 qs1 q23 q110) rfl rfl rfl (by decide +kernel) ⟨Nat.le_of_ble_eq_true rfl, Nat.le_of_ble_eq_true rfl⟩) ⟨fun a U g mk q => by obtain ⟨q0, q1, qP, qK, qD⟩ := q; exact ⟨q0, q1, qP, va_K.moved (u := U) (U := U.calling g mk a) (Vm.Alike.refl U.vm) qK, qD⟩, va_recv hK hP (ci := 0) (q0 := 0) rfl rfl, fun U hU hW => ⟨rfl, by rw [hU], by rw [hU]; exact hP, va_K.moved hW.alike hK, hD.weaken (fun _ _ _ _ => trivial)⟩⟩ rfl rfl hl.1 rfl (lv_room (Nat.le_of_ble_eq_true rfl)) dX0_best_5 ⟨Nat.le_of_ble_eq_true rfl, Nat.le_of_ble_eq_true rfl⟩) hS (fun q _ h => hFc q h) hFc (fun u t H1 locs ht hvm hw_5 hB hz1 hk1 hS => ?_)
  obtain ⟨wi_5, bo_5, wa_5⟩ := u
  obtain ⟨hP1, hK1, hD1⟩ := hB
  rw [ht] at hP1
  try dsimp only at hw_5
  have hP : va_P (dC, dI) vwCl (wX0 h cI g mo sc fb rq cM c0 c0 wi_5 bo_5 wa_5) H1 := hP1
  have hD : va_D A (wX0 h cI g mo sc fb rq cM c0 c0 wi_5 bo_5 wa_5) := hD1.weaken (fun _ q _ h => hFc q.1 h)
  generalize H1 = H at hP hS ⊢
  refine lv_aload_n hx hb dX0_best_8 rfl (lv_at hl 0 rfl) ?_
  refine va_get (D := (dC, dI)) (ci := 0) (v := .ref (g 7)) (C := RX0) (T := TX0) (N := 10) hx hb hts in_X0 hown hK hP 0 rfl rfl 8 (by decide) (hts _ q45) (fun _ h9 => h9) rfl dX0_best_9 ?_
  refine lv_bipush (v := nI 15) hx hb dX0_best_12 (by decide) ?_
  refine wk_iald hx hb hK hP 8 0 rfl rfl (ix := 15) (by omega) (by decide) dX0_best_14 ?_
  exact W.iret (v := (bo_5 15)) hx hb hr (fun T9 hT9 hW9 => ⟨⟨(bo_5 15), (wi_5, bo_5, wa_5), rfl, hw_5.1, by rw [hT9]; exact hP, va_K.moved hW9.alike hK, hD⟩, hS.F hT9⟩) hS.2.2 dX0_best_15
set_option maxHeartbeats 4000000 in
set_option maxRecDepth 100000 in
theorem metX0_findFirst (l : Launch) (dC : Nat → ClassId) (dI : Nat → Nat → Nat) (h sz : Nat) (cI : ClassId) (g : Nat → Nat) (mo : Int32) (sc fb rq fx mu mn wi bo wa : Nat → Int32) : Met l yX0_findFirst (ws_ yX0_findFirst cX0_findFirst 5 (some .boolean)) ({ frames := 5, cells := 0, slots := 0, locals := 114 } : Room) (va_Pc [.ref h] (fun U => U.heap.size = sz ∧ va_P (dC, dI) vwCl (wX0 h cI g mo sc fb rq fx mu mn wi bo wa) U.heap ∧ va_K (dC, dI) vwCl [(cI, .int)] U ∧ va_D (fun _ => True) (wX0 h cI g mo sc fb rq fx mu mn wi bo wa))) (va_Qi (fun (r : Int32) (u : (Nat → Int32) × (Nat → Int32) × (Nat → Int32) × (Nat → Int32)) => (r = nI 0 ∧ BEST (AL0 mo fb rq) sc = -100000) ∨ (r = nI 1 ∧ ¬ BEST (AL0 mo fb rq) sc = -100000 ∧ u.1 = ffF mo fb rq sc)) (fun (u : (Nat → Int32) × (Nat → Int32) × (Nat → Int32) × (Nat → Int32)) (t : State) => va_P (dC, dI) vwCl (wX0 h cI g mo sc fb rq u.1 c0 c0 u.2.1 u.2.2.1 u.2.2.2) t.heap ∧ va_K (dC, dI) vwCl [(cI, .int)] t ∧ va_D (va_A (wX0 h cI g mo sc fb rq fx mu mn wi bo wa) sz) (wX0 h cI g mo sc fb rq u.1 c0 c0 u.2.1 u.2.2.1 u.2.2.2)) (va_A (wX0 h cI g mo sc fb rq fx mu mn wi bo wa) sz)) 0 0 (va_A (wX0 h cI g mo sc fb rq fx mu mn wi bo wa) sz) := by
  refine Met.ofW (cc := cX0_findFirst) (maxL := 5) (ret := (some .boolean)) (by decide) rfl ?_
  intro p e s m args below meth c s₁ B hml hpre
  obtain ⟨rfl, hsz, hP, hK, hD0⟩ := hpre
  have hx := B.exec
  have hb := B.bytes
  have hr := B.returns
  have hts := atoms_spec (ws := (ws_ yX0_findFirst cX0_findFirst 5 (some .boolean))) B.pre
  have hts : ∀ w ∈ lw_all, w.before _ s = true := fun w h => hts w (List.mem_cons_of_mem _ h)
  have hown : s.vm.findClass RX0 = some m.cls := findClass_of_methodNamed B.named
  have hlocks := B.notSynchronized
  subst hsz
  have hD := hD0.self (sz := s.heap.size)
  generalize hAe : va_A (wX0 h cI g mo sc fb rq fx mu mn wi bo wa) s.heap.size = A at hD ⊢
  have hA : ∀ q : Nat, s.heap.size ≤ q → A q := fun q h => by rw [← hAe]; exact Or.inr h
  have hS : va_S A s.heap s.heap [] := va_S.rf
  have hl := lv_entry ([.ref h]) (n := 5) (Nat.le_of_ble_eq_true rfl)
  rw [lg_entry_eq]
  generalize (lg_sl ([.ref h]) ++ List.replicate (5 - (lg_sl ([.ref h])).length) Slot.unset).toArray = ls at hl ⊢
  have hl : lv_has ls 5 [(0, .ref h)] := hl
  refine lv_aload_n hx hb dX0_findFirst_0 rfl (lv_at hl 0 rfl) ?_
  have hFc := va_free (wc := (wX0 h cI g mo sc fb rq fx mu mn wi bo wa)) hD hS hA [0, 1, 2, 3, 4, 5, 6, 7, 8, 9] rfl
  refine va_calli (va_runV (b := h) (As := []) (rest := []) ⟨hx, hb, hml, hown, hts⟩ (metX0_best l dC dI h s.heap.size cI g mo sc fb rq fx mu mn wi bo wa ) (cwV 0 hts (lw_V q132 q104 q105 q23 q106) rfl rfl rfl (by decide +kernel) ⟨Nat.le_of_ble_eq_true rfl, Nat.le_of_ble_eq_true rfl⟩) ⟨fun a U g mk q => by obtain ⟨q0, q1, qP, qK, qD⟩ := q; exact ⟨q0, q1, qP, va_K.moved (u := U) (U := U.calling g mk a) (Vm.Alike.refl U.vm) qK, qD⟩, va_recv hK hP (ci := 0) (q0 := 0) rfl rfl, fun U hU hW => ⟨rfl, by rw [hU], by rw [hU]; exact hP, va_K.moved hW.alike hK, hD.weaken (fun _ _ _ _ => trivial)⟩⟩ rfl rfl hl.1 rfl (lv_room (Nat.le_of_ble_eq_true rfl)) dX0_findFirst_1 ⟨Nat.le_of_ble_eq_true rfl, Nat.le_of_ble_eq_true rfl⟩) hS (fun q _ h => hFc q h) hFc (fun r_1 u t H1 locs ht hvm hw_1 hB hz1 hk1 hS => ?_)
  obtain ⟨wi_1, bo_1, wa_1⟩ := u
  obtain ⟨hP1, hK1, hD1⟩ := hB
  rw [ht] at hP1
  try dsimp only at hw_1
  have hP : va_P (dC, dI) vwCl (wX0 h cI g mo sc fb rq cM c0 c0 wi_1 bo_1 wa_1) H1 := hP1
  have hD : va_D A (wX0 h cI g mo sc fb rq cM c0 c0 wi_1 bo_1 wa_1) := hD1.weaken (fun _ q _ h => hFc q.1 h)
  generalize H1 = H at hP hS ⊢
  refine lv_istore_n (lv' := [(1, .int r_1), (0, .ref h)]) hx hb dX0_findFirst_4 rfl hl (by decide) rfl (fun ls hl => ?_)
  refine lv_iload_n hx hb dX0_findFirst_5 rfl (lv_at hl 0 rfl) ?_
  refine lv_ldc hx hb hown (hts _ q119) dX0_findFirst_6 ?_
  refine lv_icmp_ne (tgt := 13) hx hb dX0_findFirst_8 (by decide) (fun c_8 => ?_) (fun c_8 => ?_)
  · refine lv_iconst (v := nI 0) hx hb dX0_findFirst_13 (by decide) ?_
    refine lv_istore_n (lv' := [(2, .int (nI 0)), (1, .int r_1), (0, .ref h)]) hx hb dX0_findFirst_14 rfl hl (by decide) rfl (fun ls hl => ?_)
    have loop_15 : ∀ (k_15 v : Nat) (f1 : Nat → Int32) (w1 : Nat → Int32) (b1 : Nat → Int32) (a1 : Nat → Int32), v ≤ 4 → 4 + 1 ≤ v + k_15 → (f1 = lit (ffO mo fb rq sc r_1) cM v) → ∀ (H : Heap) (locs : List Loc), va_P (dC, dI) vwCl (wX0 h cI g mo sc fb rq f1 c0 c0 w1 b1 a1) H → va_D A (wX0 h cI g mo sc fb rq f1 c0 c0 w1 b1 a1) → va_S A s.heap H locs → ∀ (ls : Array Slot), lv_has ls 5 [(0, .ref h), (1, .int r_1), (2, .int (nI v))] → W p l e (headSpec (ws_ yX0_findFirst cX0_findFirst 5 (some .boolean)) ({ frames := 5, cells := 0, slots := 0, locals := 114 } : Room)).room s m ([.ref h] : List Value).toArray below meth c H locs 0 0 (MQ below (va_Qi (fun (r : Int32) (u : (Nat → Int32) × (Nat → Int32) × (Nat → Int32) × (Nat → Int32)) => (r = nI 0 ∧ BEST (AL0 mo fb rq) sc = -100000) ∨ (r = nI 1 ∧ ¬ BEST (AL0 mo fb rq) sc = -100000 ∧ u.1 = ffF mo fb rq sc)) (fun (u : (Nat → Int32) × (Nat → Int32) × (Nat → Int32) × (Nat → Int32)) (t : State) => va_P (dC, dI) vwCl (wX0 h cI g mo sc fb rq u.1 c0 c0 u.2.1 u.2.2.1 u.2.2.2) t.heap ∧ va_K (dC, dI) vwCl [(cI, .int)] t ∧ va_D A (wX0 h cI g mo sc fb rq u.1 c0 c0 u.2.1 u.2.2.1 u.2.2.2)) A) ([.ref h] : List Value).toArray s 0 0 A) (F0 m 15 ls []) := by
      intro k_15
      induction k_15 with
      | zero =>
        intro v f1 w1 b1 a1 h1 h2
        exact absurd h2 (by omega)
      | succ k_15 ih_15 =>
        intro v f1 w1 b1 a1 hi_15 hk_15 hinv_15 H locs hP hD hS ls hl
        refine lv_iload_n hx hb dX0_findFirst_15 rfl (lv_at hl 2 rfl) ?_
        refine lv_iconst (v := nI 4) hx hb dX0_findFirst_16 (by decide) ?_
        refine wk_icmp_ge (tgt := 77) hx hb dX0_findFirst_17 (by decide) (by omega) (by decide) (fun c_17 => ?_) (fun c_17 => ?_)
        · have he_v : v = 4 := by omega
          subst he_v
          refine lv_iconst (v := nI 1) hx hb dX0_findFirst_77 (by decide) ?_
          exact W.zret (v := nI 1) hx hb hr rfl (fun T9 hT9 hW9 => ⟨⟨nI 1, (f1, w1, b1, a1), rfl, (Or.inr ⟨rfl, by rw [← hw_1]; exact c_8, by unfold ffF; rw [← hw_1]; exact hinv_15⟩), by rw [hT9]; exact hP, va_K.moved hW9.alike hK, hD⟩, hS.F hT9⟩) hS.2.2 dX0_findFirst_78
        · refine lv_iconst (v := nI 0) hx hb dX0_findFirst_20 (by decide) ?_
          refine lv_istore_n (lv' := [(3, .int (nI 0)), (0, .ref h), (1, .int r_1), (2, .int (nI v))]) hx hb dX0_findFirst_21 rfl hl (by decide) rfl (fun ls hl => ?_)
          refine lv_iconst (v := nI 0) hx hb dX0_findFirst_22 (by decide) ?_
          refine lv_istore (lv' := [(4, .int (nI 0)), (3, .int (nI 0)), (0, .ref h), (1, .int r_1), (2, .int (nI v))]) hx hb dX0_findFirst_23 hl (by decide) rfl (fun ls hl => ?_)
          have loop_25 : ∀ (k_25 q : Nat) (fd : Nat) (f2 : Nat → Int32) (w2 : Nat → Int32) (b2 : Nat → Int32) (a2 : Nat → Int32), q ≤ 16 → 16 + 1 ≤ q + k_25 → ((f2, fd) = lit (ffI mo fb rq sc r_1 v) (f1, 0) q ∧ fd ≤ 1) → ∀ (H : Heap) (locs : List Loc), va_P (dC, dI) vwCl (wX0 h cI g mo sc fb rq f2 c0 c0 w2 b2 a2) H → va_D A (wX0 h cI g mo sc fb rq f2 c0 c0 w2 b2 a2) → va_S A s.heap H locs → ∀ (ls : Array Slot), lv_has ls 5 [(0, .ref h), (1, .int r_1), (2, .int (nI v)), (3, .int (nI fd)), (4, .int (nI q))] → W p l e (headSpec (ws_ yX0_findFirst cX0_findFirst 5 (some .boolean)) ({ frames := 5, cells := 0, slots := 0, locals := 114 } : Room)).room s m ([.ref h] : List Value).toArray below meth c H locs 0 0 (MQ below (va_Qi (fun (r : Int32) (u : (Nat → Int32) × (Nat → Int32) × (Nat → Int32) × (Nat → Int32)) => (r = nI 0 ∧ BEST (AL0 mo fb rq) sc = -100000) ∨ (r = nI 1 ∧ ¬ BEST (AL0 mo fb rq) sc = -100000 ∧ u.1 = ffF mo fb rq sc)) (fun (u : (Nat → Int32) × (Nat → Int32) × (Nat → Int32) × (Nat → Int32)) (t : State) => va_P (dC, dI) vwCl (wX0 h cI g mo sc fb rq u.1 c0 c0 u.2.1 u.2.2.1 u.2.2.2) t.heap ∧ va_K (dC, dI) vwCl [(cI, .int)] t ∧ va_D A (wX0 h cI g mo sc fb rq u.1 c0 c0 u.2.1 u.2.2.1 u.2.2.2)) A) ([.ref h] : List Value).toArray s 0 0 A) (F0 m 25 ls []) := by
            intro k_25
            induction k_25 with
            | zero =>
              intro q fd f2 w2 b2 a2 h1 h2
              exact absurd h2 (by omega)
            | succ k_25 ih_25 =>
              intro q fd f2 w2 b2 a2 hi_25 hk_25 hinv_25 H locs hP hD hS ls hl
              have hfd := hinv_25.2
              refine lv_iload hx hb dX0_findFirst_25 (lv_at hl 4 rfl) ?_
              refine lv_bipush (v := nI 16) hx hb dX0_findFirst_27 (by decide) ?_
              refine wk_icmp_ge (tgt := 71) hx hb dX0_findFirst_29 (by decide) (by omega) (by decide) (fun c_29 => ?_) (fun c_29 => ?_)
              · have he_q : q = 16 := by omega
                subst he_q
                refine wk_iinc (lv' := [(2, .int (nI (v + 1))), (0, .ref h), (1, .int r_1), (3, .int (nI fd)), (4, .int (nI 16))]) hx hb dX0_findFirst_71 hl (k := 2) rfl (by decide) rfl (fun ls hl => ?_)
                refine lv_goto (tgt := 15) hx hb dX0_findFirst_74 (by decide) ?_
                exact ih_15 (v + 1) f2 w2 b2 a2 (by omega) (by omega) (by rw [lit_succ, ← hinv_15]; unfold ffO; rw [← hinv_25.1]) _ _ hP hD hS ls (lv_sub hl [1, 2, 0] rfl)
              · refine lv_iload_n hx hb dX0_findFirst_32 rfl (lv_at hl 3 rfl) ?_
                refine wk_if_ne (tgt := 71) hx hb dX0_findFirst_33 (by decide) (by omega) (fun c_33 => ?_) (fun c_33 => ?_)
                · refine wk_iinc (lv' := [(2, .int (nI (v + 1))), (0, .ref h), (1, .int r_1), (3, .int (nI fd)), (4, .int (nI q))]) hx hb dX0_findFirst_71 hl (k := 2) rfl (by decide) rfl (fun ls hl => ?_)
                  refine lv_goto (tgt := 15) hx hb dX0_findFirst_74 (by decide) ?_
                  exact ih_15 (v + 1) f2 w2 b2 a2 (by omega) (by omega) (by rw [lit_succ, ← hinv_15]; unfold ffO; rw [ffI_stay (q := q) (by rw [← hinv_25.1]; exact c_33) 16 (by omega), ← hinv_25.1]) _ _ hP hD hS ls (lv_sub hl [1, 2, 0] rfl)
                · refine lv_aload_n hx hb dX0_findFirst_36 rfl (lv_at hl 0 rfl) ?_
                  refine va_get (D := (dC, dI)) (ci := 0) (v := .ref (g 3)) (C := RX0) (T := TX0) (N := 10) hx hb hts in_X0 hown hK hP 0 rfl rfl 4 (by decide) (hts _ q41) (fun _ h9 => h9) rfl dX0_findFirst_37 ?_
                  refine lv_iload_n hx hb dX0_findFirst_40 rfl (lv_at hl 2 rfl) ?_
                  refine lv_iload hx hb dX0_findFirst_41 (lv_at hl 4 rfl) ?_
                  refine wk_iast hx hb hK hP hD hS 4 0 rfl rfl (ix := v) (by omega) (by decide) dX0_findFirst_43 (fun H locs hP hD hS => ?_)
                  have hP : va_P (dC, dI) vwCl (wX0 h cI g mo sc fb rq (upd f2 v (nI q)) c0 c0 w2 b2 a2) H := hP
                  have hD : va_D A (wX0 h cI g mo sc fb rq (upd f2 v (nI q)) c0 c0 w2 b2 a2) := hD
                  refine lv_aload_n hx hb dX0_findFirst_44 rfl (lv_at hl 0 rfl) ?_
                  have hFc := va_free (wc := (wX0 h cI g mo sc fb rq (upd f2 v (nI q)) c0 c0 w2 b2 a2)) hD hS hA [0, 1, 2, 3, 4, 5, 6, 7, 8, 9] rfl
                  refine va_callv (va_runV (b := h) (As := []) (rest := []) ⟨hx, hb, hml, hown, hts⟩ (metX0_solve l dC dI h H.size cI g mo sc fb rq (upd f2 v (nI q)) c0 c0 w2 b2 a2 ) (cwV 0 hts (lw_V q107 q109 qs1 q23 q110) rfl rfl rfl (by decide +kernel) ⟨Nat.le_of_ble_eq_true rfl, Nat.le_of_ble_eq_true rfl⟩) ⟨fun a U g mk q => by obtain ⟨q0, q1, qP, qK, qD⟩ := q; exact ⟨q0, q1, qP, va_K.moved (u := U) (U := U.calling g mk a) (Vm.Alike.refl U.vm) qK, qD⟩, va_recv hK hP (ci := 0) (q0 := 0) rfl rfl, fun U hU hW => ⟨rfl, by rw [hU], by rw [hU]; exact hP, va_K.moved hW.alike hK, hD.weaken (fun _ _ _ _ => trivial)⟩⟩ rfl rfl hl.1 rfl (lv_room (Nat.le_of_ble_eq_true rfl)) dX0_findFirst_45 ⟨Nat.le_of_ble_eq_true rfl, Nat.le_of_ble_eq_true rfl⟩) hS (fun q _ h => hFc q h) hFc (fun u t H1 locs ht hvm hw_45 hB hz1 hk1 hS => ?_)
                  obtain ⟨wi_45, bo_45, wa_45⟩ := u
                  obtain ⟨hP1, hK1, hD1⟩ := hB
                  rw [ht] at hP1
                  try dsimp only at hw_45
                  have hP : va_P (dC, dI) vwCl (wX0 h cI g mo sc fb rq (upd f2 v (nI q)) c0 c0 wi_45 bo_45 wa_45) H1 := hP1
                  have hD : va_D A (wX0 h cI g mo sc fb rq (upd f2 v (nI q)) c0 c0 wi_45 bo_45 wa_45) := hD1.weaken (fun _ q _ h => hFc q.1 h)
                  generalize H1 = H at hP hS ⊢
                  refine lv_aload_n hx hb dX0_findFirst_48 rfl (lv_at hl 0 rfl) ?_
                  refine va_get (D := (dC, dI)) (ci := 0) (v := .ref (g 7)) (C := RX0) (T := TX0) (N := 10) hx hb hts in_X0 hown hK hP 0 rfl rfl 8 (by decide) (hts _ q45) (fun _ h9 => h9) rfl dX0_findFirst_49 ?_
                  refine lv_bipush (v := nI 15) hx hb dX0_findFirst_52 (by decide) ?_
                  refine wk_iald hx hb hK hP 8 0 rfl rfl (ix := 15) (by omega) (by decide) dX0_findFirst_54 ?_
                  refine lv_iload_n hx hb dX0_findFirst_55 rfl (lv_at hl 1 rfl) ?_
                  refine lv_icmp_ne (tgt := 63) hx hb dX0_findFirst_56 (by decide) (fun c_56 => ?_) (fun c_56 => ?_)
                  · refine lv_iconst (v := nI 0) hx hb dX0_findFirst_63 (by decide) ?_
                    refine lv_istore_n (lv' := [(3, .int (nI 0)), (0, .ref h), (1, .int r_1), (2, .int (nI v)), (4, .int (nI q))]) hx hb dX0_findFirst_64 rfl hl (by decide) rfl (fun ls hl => ?_)
                    refine wk_iinc (lv' := [(4, .int (nI (q + 1))), (3, .int (nI 0)), (0, .ref h), (1, .int r_1), (2, .int (nI v))]) hx hb dX0_findFirst_65 hl (k := 4) rfl (by decide) rfl (fun ls hl => ?_)
                    refine lv_goto (tgt := 25) hx hb dX0_findFirst_68 (by decide) ?_
                    exact ih_25 (q + 1) 0 (upd f2 v (nI q)) wi_45 bo_45 wa_45 (by omega) (by omega) ⟨by rw [lit_succ, ← hinv_25.1, ffI_1 c_33, ← hw_45.1, if_neg c_56], by omega⟩ _ _ hP hD hS ls (lv_sub hl [2, 3, 4, 1, 0] rfl)
                  · refine lv_iconst (v := nI 1) hx hb dX0_findFirst_59 (by decide) ?_
                    refine lv_goto (tgt := 64) hx hb dX0_findFirst_60 (by decide) ?_
                    refine lv_istore_n (lv' := [(3, .int (nI 1)), (0, .ref h), (1, .int r_1), (2, .int (nI v)), (4, .int (nI q))]) hx hb dX0_findFirst_64 rfl hl (by decide) rfl (fun ls hl => ?_)
                    refine wk_iinc (lv' := [(4, .int (nI (q + 1))), (3, .int (nI 1)), (0, .ref h), (1, .int r_1), (2, .int (nI v))]) hx hb dX0_findFirst_65 hl (k := 4) rfl (by decide) rfl (fun ls hl => ?_)
                    refine lv_goto (tgt := 25) hx hb dX0_findFirst_68 (by decide) ?_
                    exact ih_25 (q + 1) 1 (upd f2 v (nI q)) wi_45 bo_45 wa_45 (by omega) (by omega) ⟨by rw [lit_succ, ← hinv_25.1, ffI_1 c_33, ← hw_45.1, if_pos c_56], by omega⟩ _ _ hP hD hS ls (lv_sub hl [2, 3, 4, 1, 0] rfl)
          exact loop_25 (16 + 1) 0 0 f1 w1 b1 a1 (by omega) (by omega) ⟨rfl, by omega⟩ _ _ hP hD hS ls (lv_sub hl [2, 3, 4, 1, 0] rfl)
    exact loop_15 (4 + 1) 0 cM wi_1 bo_1 wa_1 (by omega) (by omega) rfl _ _ hP hD hS ls (lv_sub hl [2, 1, 0] rfl)
  · refine lv_iconst (v := nI 0) hx hb dX0_findFirst_11 (by decide) ?_
    exact W.zret (v := nI 0) hx hb hr rfl (fun T9 hT9 hW9 => ⟨⟨nI 0, (cM, wi_1, bo_1, wa_1), rfl, (Or.inl ⟨rfl, by rw [← hw_1]; exact c_8⟩), by rw [hT9]; exact hP, va_K.moved hW9.alike hK, hD⟩, hS.F hT9⟩) hS.2.2 dX0_findFirst_12
end
section
set_option maxHeartbeats 4000000 in
set_option maxRecDepth 100000 in
theorem metX0_parents (l : Launch) (dC : Nat → ClassId) (dI : Nat → Nat → Nat) (h sz : Nat) (cI : ClassId) (g : Nat → Nat) (mo : Int32) (sc fb rq fx mu mn wi bo wa : Nat → Int32) (x : Int32) : Met l yX0_parents (ws_ yX0_parents cX0_parents 3 (some .int)) ({ frames := 6, cells := 0, slots := 0, locals := 138 } : Room) (va_Pc [.ref h, .int x] (fun U => U.heap.size = sz ∧ va_P (dC, dI) vwCl (wX0 h cI g mo sc fb rq fx mu mn wi bo wa) U.heap ∧ va_K (dC, dI) vwCl [(cI, .int)] U ∧ va_D (fun _ => True) (wX0 h cI g mo sc fb rq fx mu mn wi bo wa))) (va_Qi (fun (r : Int32) (u : (Nat → Int32) × (Nat → Int32) × (Nat → Int32) × (Nat → Int32) × (Nat → Int32) × (Nat → Int32)) => r = parR mo fb rq sc x) (fun (u : (Nat → Int32) × (Nat → Int32) × (Nat → Int32) × (Nat → Int32) × (Nat → Int32) × (Nat → Int32)) (t : State) => va_P (dC, dI) vwCl (wX0 h cI g mo sc fb rq u.1 u.2.1 u.2.2.1 u.2.2.2.1 u.2.2.2.2.1 u.2.2.2.2.2) t.heap ∧ va_K (dC, dI) vwCl [(cI, .int)] t ∧ va_D (va_A (wX0 h cI g mo sc fb rq fx mu mn wi bo wa) sz) (wX0 h cI g mo sc fb rq u.1 u.2.1 u.2.2.1 u.2.2.2.1 u.2.2.2.2.1 u.2.2.2.2.2)) (va_A (wX0 h cI g mo sc fb rq fx mu mn wi bo wa) sz)) 0 0 (va_A (wX0 h cI g mo sc fb rq fx mu mn wi bo wa) sz) := by
  refine Met.ofW (cc := cX0_parents) (maxL := 3) (ret := (some .int)) (by decide) rfl ?_
  intro p e s m args below meth c s₁ B hml hpre
  obtain ⟨rfl, hsz, hP, hK, hD0⟩ := hpre
  have hx := B.exec
  have hb := B.bytes
  have hr := B.returns
  have hts := atoms_spec (ws := (ws_ yX0_parents cX0_parents 3 (some .int))) B.pre
  have hts : ∀ w ∈ lw_all, w.before _ s = true := fun w h => hts w (List.mem_cons_of_mem _ h)
  have hown : s.vm.findClass RX0 = some m.cls := findClass_of_methodNamed B.named
  have hlocks := B.notSynchronized
  subst hsz
  have hD := hD0.self (sz := s.heap.size)
  generalize hAe : va_A (wX0 h cI g mo sc fb rq fx mu mn wi bo wa) s.heap.size = A at hD ⊢
  have hA : ∀ q : Nat, s.heap.size ≤ q → A q := fun q h => by rw [← hAe]; exact Or.inr h
  have hS : va_S A s.heap s.heap [] := va_S.rf
  have hl := lv_entry ([.ref h, .int x]) (n := 3) (Nat.le_of_ble_eq_true rfl)
  rw [lg_entry_eq]
  generalize (lg_sl ([.ref h, .int x]) ++ List.replicate (3 - (lg_sl ([.ref h, .int x])).length) Slot.unset).toArray = ls at hl ⊢
  have hl : lv_has ls 3 [(0, .ref h), (1, .int x)] := hl
  refine lv_iload_n hx hb dX0_parents_0 rfl (lv_at hl 1 rfl) ?_
  refine vp_callSi (W.runS (As := [.int x]) (rest := []) ⟨hx, hb, hml, hown, hts⟩ (metX0_bad l x) (va_cwS 1 hts (lw_S q73 q74 q23 q75) rfl rfl rfl (by decide +kernel) ⟨Nat.le_of_ble_eq_true rfl, Nat.le_of_ble_eq_true rfl⟩) preEq rfl rfl hl.1 rfl (lv_room (Nat.le_of_ble_eq_true rfl)) dX0_parents_1 ⟨Nat.le_of_ble_eq_true rfl, Nat.le_of_ble_eq_true rfl⟩) (fun r hr_1 => ?_)
  have hr_1 : r = nI (badV x) := hr_1
  subst hr_1
  refine wk_if_eq (tgt := 9) hx hb dX0_parents_4 (by decide) (by have := badV_le x; omega) (fun c_4 => ?_) (fun c_4 => ?_)
  · obtain ⟨a, hlta, hxa⟩ := badV_0 c_4
    refine lv_aload_n hx hb dX0_parents_9 rfl (lv_at hl 0 rfl) ?_
    have hFc := va_free (wc := (wX0 h cI g mo sc fb rq fx mu mn wi bo wa)) hD hS hA [0, 1, 2, 3, 4, 5, 6, 7, 8, 9] rfl
    refine va_calli (va_runV (b := h) (As := []) (rest := []) ⟨hx, hb, hml, hown, hts⟩ (metX0_findFirst l dC dI h s.heap.size cI g mo sc fb rq fx mu mn wi bo wa ) (cwV 0 hts (lw_V q128 q130 qs5 q23 q131) rfl rfl rfl (by decide +kernel) ⟨Nat.le_of_ble_eq_true rfl, Nat.le_of_ble_eq_true rfl⟩) ⟨fun a U g mk q => by obtain ⟨q0, q1, qP, qK, qD⟩ := q; exact ⟨q0, q1, qP, va_K.moved (u := U) (U := U.calling g mk a) (Vm.Alike.refl U.vm) qK, qD⟩, va_recv hK hP (ci := 0) (q0 := 0) rfl rfl, fun U hU hW => ⟨rfl, by rw [hU], by rw [hU]; exact hP, va_K.moved hW.alike hK, hD.weaken (fun _ _ _ _ => trivial)⟩⟩ rfl rfl hl.1 rfl (lv_room (Nat.le_of_ble_eq_true rfl)) dX0_parents_10 ⟨Nat.le_of_ble_eq_true rfl, Nat.le_of_ble_eq_true rfl⟩) hS (fun q _ h => hFc q h) hFc (fun r_10 u t H1 locs ht hvm hw_10 hB hz1 hk1 hS => ?_)
    obtain ⟨fx_10, wi_10, bo_10, wa_10⟩ := u
    obtain ⟨hP1, hK1, hD1⟩ := hB
    rw [ht] at hP1
    try dsimp only at hw_10
    have hP : va_P (dC, dI) vwCl (wX0 h cI g mo sc fb rq fx_10 c0 c0 wi_10 bo_10 wa_10) H1 := hP1
    have hD : va_D A (wX0 h cI g mo sc fb rq fx_10 c0 c0 wi_10 bo_10 wa_10) := hD1.weaken (fun _ q _ h => hFc q.1 h)
    generalize H1 = H at hP hS ⊢
    refine lv_istore_n (lv' := [(2, .int r_10), (0, .ref h), (1, .int x)]) hx hb dX0_parents_13 rfl hl (by decide) rfl (fun ls hl => ?_)
    refine lv_iload_n hx hb dX0_parents_14 rfl (lv_at hl 0 rfl) ?_
    refine lv_if_eq (tgt := 27) hx hb dX0_parents_15 (by decide) (fun c_15 => ?_) (fun c_15 => ?_)
    · have hB_15 : BEST (AL0 mo fb rq) sc = -100000 := by rcases hw_10 with h | h; exact h.2; exact absurd (h.1.symm.trans c_15) (by decide)
      refine lv_ldc hx hb hown (hts _ q119) dX0_parents_27 ?_
      exact W.iret (v := (-100000)) hx hb hr (fun T9 hT9 hW9 => ⟨⟨(-100000), (fx_10, c0, c0, wi_10, bo_10, wa_10), rfl, (by unfold parR; rw [if_pos c_4, if_pos hB_15]), by rw [hT9]; exact hP, va_K.moved hW9.alike hK, hD⟩, hS.F hT9⟩) hS.2.2 dX0_parents_29
    · have hB_15 : ¬ BEST (AL0 mo fb rq) sc = -100000 ∧ fx_10 = ffF mo fb rq sc := by rcases hw_10 with h | h; exact absurd (h.1.trans nI_0) c_15; exact h.2
      refine lv_aload_n hx hb dX0_parents_18 rfl (lv_at hl 1 rfl) ?_
      refine va_get (D := (dC, dI)) (ci := 0) (v := .ref (g 3)) (C := RX0) (T := TX0) (N := 10) hx hb hts in_X0 hown hK hP 0 rfl rfl 4 (by decide) (hts _ q41) (fun _ h9 => h9) rfl dX0_parents_19 ?_
      refine lv_iload_n hx hb dX0_parents_22 rfl (lv_at hl 2 rfl) ?_
      refine wk_top hxa ?_
      refine wk_iald hx hb hK hP 4 0 rfl rfl (ix := a) (by omega) (by decide) dX0_parents_23 ?_
      refine lv_goto (tgt := 29) hx hb dX0_parents_24 (by decide) ?_
      exact W.iret (v := (fx_10 a)) hx hb hr (fun T9 hT9 hW9 => ⟨⟨(fx_10 a), (fx_10, c0, c0, wi_10, bo_10, wa_10), rfl, (by unfold parR; rw [if_pos c_4, if_neg hB_15.1, hB_15.2, hxa, nI_clamp (by omega)]), by rw [hT9]; exact hP, va_K.moved hW9.alike hK, hD⟩, hS.F hT9⟩) hS.2.2 dX0_parents_29
  · refine lv_iconst (v := (-1)) hx hb dX0_parents_7 (by decide) ?_
    exact W.iret (v := (-1)) hx hb hr (fun T9 hT9 hW9 => ⟨⟨(-1), (fx, mu, mn, wi, bo, wa), rfl, (by unfold parR; rw [if_neg c_4]), by rw [hT9]; exact hP, va_K.moved hW9.alike hK, hD⟩, hS.F hT9⟩) hS.2.2 dX0_parents_8
set_option maxHeartbeats 4000000 in
set_option maxRecDepth 100000 in
theorem metX0_bestWith (l : Launch) (dC : Nat → ClassId) (dI : Nat → Nat → Nat) (h sz : Nat) (cI : ClassId) (g : Nat → Nat) (mo : Int32) (sc fb rq fx mu mn wi bo wa : Nat → Int32) (x1 x2 : Int32) : Met l yX0_bestWith (ws_ yX0_bestWith cX0_bestWith 3 (some .int)) ({ frames := 4, cells := 0, slots := 0, locals := 94 } : Room) (va_Pc [.ref h, .int x1, .int x2] (fun U => U.heap.size = sz ∧ va_P (dC, dI) vwCl (wX0 h cI g mo sc fb rq fx mu mn wi bo wa) U.heap ∧ va_K (dC, dI) vwCl [(cI, .int)] U ∧ va_D (fun _ => True) (wX0 h cI g mo sc fb rq fx mu mn wi bo wa))) (va_Qi (fun (r : Int32) (u : (Nat → Int32) × (Nat → Int32) × (Nat → Int32) × (Nat → Int32) × (Nat → Int32) × (Nat → Int32)) => (edB x1 x2 = 1 ∧ r = -1) ∨ (edB x1 x2 = 0 ∧ r = BEST (alN mo fb rq cM (upd c0 x2.toNatClampNeg (nI (1 <<< x1.toNatClampNeg))) c0) sc)) (fun (u : (Nat → Int32) × (Nat → Int32) × (Nat → Int32) × (Nat → Int32) × (Nat → Int32) × (Nat → Int32)) (t : State) => va_P (dC, dI) vwCl (wX0 h cI g mo sc fb rq u.1 u.2.1 u.2.2.1 u.2.2.2.1 u.2.2.2.2.1 u.2.2.2.2.2) t.heap ∧ va_K (dC, dI) vwCl [(cI, .int)] t ∧ va_D (va_A (wX0 h cI g mo sc fb rq fx mu mn wi bo wa) sz) (wX0 h cI g mo sc fb rq u.1 u.2.1 u.2.2.1 u.2.2.2.1 u.2.2.2.2.1 u.2.2.2.2.2)) (va_A (wX0 h cI g mo sc fb rq fx mu mn wi bo wa) sz)) 0 0 (va_A (wX0 h cI g mo sc fb rq fx mu mn wi bo wa) sz) := by
  refine Met.ofW (cc := cX0_bestWith) (maxL := 3) (ret := (some .int)) (by decide) rfl ?_
  intro p e s m args below meth c s₁ B hml hpre
  obtain ⟨rfl, hsz, hP, hK, hD0⟩ := hpre
  have hx := B.exec
  have hb := B.bytes
  have hr := B.returns
  have hts := atoms_spec (ws := (ws_ yX0_bestWith cX0_bestWith 3 (some .int))) B.pre
  have hts : ∀ w ∈ lw_all, w.before _ s = true := fun w h => hts w (List.mem_cons_of_mem _ h)
  have hown : s.vm.findClass RX0 = some m.cls := findClass_of_methodNamed B.named
  have hlocks := B.notSynchronized
  subst hsz
  have hD := hD0.self (sz := s.heap.size)
  generalize hAe : va_A (wX0 h cI g mo sc fb rq fx mu mn wi bo wa) s.heap.size = A at hD ⊢
  have hA : ∀ q : Nat, s.heap.size ≤ q → A q := fun q h => by rw [← hAe]; exact Or.inr h
  have hS : va_S A s.heap s.heap [] := va_S.rf
  have hl := lv_entry ([.ref h, .int x1, .int x2]) (n := 3) (Nat.le_of_ble_eq_true rfl)
  rw [lg_entry_eq]
  generalize (lg_sl ([.ref h, .int x1, .int x2]) ++ List.replicate (3 - (lg_sl ([.ref h, .int x1, .int x2])).length) Slot.unset).toArray = ls at hl ⊢
  have hl : lv_has ls 3 [(0, .ref h), (1, .int x1), (2, .int x2)] := hl
  refine lv_iload_n hx hb dX0_bestWith_0 rfl (lv_at hl 1 rfl) ?_
  refine vp_callSi (W.runS (As := [.int x1]) (rest := []) ⟨hx, hb, hml, hown, hts⟩ (metX0_bad l x1) (va_cwS 1 hts (lw_S q73 q74 q23 q75) rfl rfl rfl (by decide +kernel) ⟨Nat.le_of_ble_eq_true rfl, Nat.le_of_ble_eq_true rfl⟩) preEq rfl rfl hl.1 rfl (lv_room (Nat.le_of_ble_eq_true rfl)) dX0_bestWith_1 ⟨Nat.le_of_ble_eq_true rfl, Nat.le_of_ble_eq_true rfl⟩) (fun r hr_1 => ?_)
  have hr_1 : r = nI (badV x1) := hr_1
  subst hr_1
  refine wk_if_ne (tgt := 19) hx hb dX0_bestWith_4 (by decide) (by have := badV_le x1; omega) (fun c_4 => ?_) (fun c_4 => ?_)
  · refine lv_iconst (v := (-1)) hx hb dX0_bestWith_19 (by decide) ?_
    exact W.iret (v := (-1)) hx hb hr (fun T9 hT9 hW9 => ⟨⟨(-1), (fx, mu, mn, wi, bo, wa), rfl, (Or.inl ⟨edB_a c_4, rfl⟩), by rw [hT9]; exact hP, va_K.moved hW9.alike hK, hD⟩, hS.F hT9⟩) hS.2.2 dX0_bestWith_20
  · obtain ⟨a, hlta, hxa⟩ := badV_0 c_4
    refine lv_iload_n hx hb dX0_bestWith_7 rfl (lv_at hl 2 rfl) ?_
    refine vp_callSi (W.runS (As := [.int x2]) (rest := []) ⟨hx, hb, hml, hown, hts⟩ (metX0_bad l x2) (va_cwS 1 hts (lw_S q73 q74 q23 q75) rfl rfl rfl (by decide +kernel) ⟨Nat.le_of_ble_eq_true rfl, Nat.le_of_ble_eq_true rfl⟩) preEq rfl rfl hl.1 rfl (lv_room (Nat.le_of_ble_eq_true rfl)) dX0_bestWith_8 ⟨Nat.le_of_ble_eq_true rfl, Nat.le_of_ble_eq_true rfl⟩) (fun r hr_8 => ?_)
    have hr_8 : r = nI (badV x2) := hr_8
    subst hr_8
    refine wk_if_ne (tgt := 19) hx hb dX0_bestWith_11 (by decide) (by have := badV_le x2; omega) (fun c_11 => ?_) (fun c_11 => ?_)
    · refine lv_iconst (v := (-1)) hx hb dX0_bestWith_19 (by decide) ?_
      exact W.iret (v := (-1)) hx hb hr (fun T9 hT9 hW9 => ⟨⟨(-1), (fx, mu, mn, wi, bo, wa), rfl, (Or.inl ⟨edB_b c_4 c_11, rfl⟩), by rw [hT9]; exact hP, va_K.moved hW9.alike hK, hD⟩, hS.F hT9⟩) hS.2.2 dX0_bestWith_20
    · obtain ⟨b, hltb, hxb⟩ := badV_0 c_11
      refine lv_iload_n hx hb dX0_bestWith_14 rfl (lv_at hl 1 rfl) ?_
      refine wk_top hxa ?_
      refine lv_iload_n hx hb dX0_bestWith_15 rfl (lv_at hl 2 rfl) ?_
      refine wk_top hxb ?_
      refine wk_icmp_ne (tgt := 21) hx hb dX0_bestWith_16 (by decide) (by omega) (by omega) (fun c_16 => ?_) (fun c_16 => ?_)
      · refine lv_aload_n hx hb dX0_bestWith_21 rfl (lv_at hl 0 rfl) ?_
        have hFc := va_free (wc := (wX0 h cI g mo sc fb rq fx mu mn wi bo wa)) hD hS hA [0, 1, 2, 3, 4, 5, 6, 7, 8, 9] rfl
        refine va_callv (va_runV (b := h) (As := []) (rest := []) ⟨hx, hb, hml, hown, hts⟩ (metX0_noDemands l dC dI h s.heap.size cI g mo sc fb rq fx mu mn wi bo wa ) (cwV 0 hts (lw_V q33 q35 qs0 q23 q36) rfl rfl rfl (by decide +kernel) ⟨Nat.le_of_ble_eq_true rfl, Nat.le_of_ble_eq_true rfl⟩) ⟨fun a U g mk q => by obtain ⟨q0, q1, qP, qK, qD⟩ := q; exact ⟨q0, q1, qP, va_K.moved (u := U) (U := U.calling g mk a) (Vm.Alike.refl U.vm) qK, qD⟩, va_recv hK hP (ci := 0) (q0 := 0) rfl rfl, fun U hU hW => ⟨rfl, by rw [hU], by rw [hU]; exact hP, va_K.moved hW.alike hK, hD.weaken (fun _ _ _ _ => trivial)⟩⟩ rfl rfl hl.1 rfl (lv_room (Nat.le_of_ble_eq_true rfl)) dX0_bestWith_22 ⟨Nat.le_of_ble_eq_true rfl, Nat.le_of_ble_eq_true rfl⟩) hS (fun q _ h => hFc q h) hFc (fun u t H1 locs ht hvm hw_22 hB hz1 hk1 hS => ?_)
        obtain ⟨hP1, hK1, hD1⟩ := hB
        rw [ht] at hP1
        try dsimp only at hw_22
        have hP : va_P (dC, dI) vwCl (wX0 h cI g mo sc fb rq cM c0 c0 wi bo wa) H1 := hP1
        have hD : va_D A (wX0 h cI g mo sc fb rq cM c0 c0 wi bo wa) := hD1.weaken (fun _ q _ h => hFc q.1 h)
        generalize H1 = H at hP hS ⊢
        refine lv_aload_n hx hb dX0_bestWith_25 rfl (lv_at hl 0 rfl) ?_
        refine va_get (D := (dC, dI)) (ci := 0) (v := .ref (g 4)) (C := RX0) (T := TX0) (N := 10) hx hb hts in_X0 hown hK hP 0 rfl rfl 5 (by decide) (hts _ q42) (fun _ h9 => h9) rfl dX0_bestWith_26 ?_
        refine lv_iload_n hx hb dX0_bestWith_29 rfl (lv_at hl 2 rfl) ?_
        refine wk_top hxb ?_
        refine lv_iconst (v := nI 1) hx hb dX0_bestWith_30 (by decide) ?_
        refine lv_iload_n hx hb dX0_bestWith_31 rfl (lv_at hl 1 rfl) ?_
        refine wk_top hxa ?_
        refine wk_ishl1 hx hb dX0_bestWith_32 (by omega) ?_
        refine wk_iast hx hb hK hP hD hS 5 0 rfl rfl (ix := b) (by omega) (by decide) dX0_bestWith_33 (fun H locs hP hD hS => ?_)
        have hP : va_P (dC, dI) vwCl (wX0 h cI g mo sc fb rq cM (upd c0 b (nI (1 <<< a))) c0 wi bo wa) H := hP
        have hD : va_D A (wX0 h cI g mo sc fb rq cM (upd c0 b (nI (1 <<< a))) c0 wi bo wa) := hD
        refine lv_aload_n hx hb dX0_bestWith_34 rfl (lv_at hl 0 rfl) ?_
        have hFc := va_free (wc := (wX0 h cI g mo sc fb rq cM (upd c0 b (nI (1 <<< a))) c0 wi bo wa)) hD hS hA [0, 1, 2, 3, 4, 5, 6, 7, 8, 9] rfl
        refine va_callv (va_runV (b := h) (As := []) (rest := []) ⟨hx, hb, hml, hown, hts⟩ (metX0_solve l dC dI h H.size cI g mo sc fb rq cM (upd c0 b (nI (1 <<< a))) c0 wi bo wa ) (cwV 0 hts (lw_V q107 q109 qs1 q23 q110) rfl rfl rfl (by decide +kernel) ⟨Nat.le_of_ble_eq_true rfl, Nat.le_of_ble_eq_true rfl⟩) ⟨fun a U g mk q => by obtain ⟨q0, q1, qP, qK, qD⟩ := q; exact ⟨q0, q1, qP, va_K.moved (u := U) (U := U.calling g mk a) (Vm.Alike.refl U.vm) qK, qD⟩, va_recv hK hP (ci := 0) (q0 := 0) rfl rfl, fun U hU hW => ⟨rfl, by rw [hU], by rw [hU]; exact hP, va_K.moved hW.alike hK, hD.weaken (fun _ _ _ _ => trivial)⟩⟩ rfl rfl hl.1 rfl (lv_room (Nat.le_of_ble_eq_true rfl)) dX0_bestWith_35 ⟨Nat.le_of_ble_eq_true rfl, Nat.le_of_ble_eq_true rfl⟩) hS (fun q _ h => hFc q h) hFc (fun u t H1 locs ht hvm hw_35 hB hz1 hk1 hS => ?_)
        obtain ⟨wi_35, bo_35, wa_35⟩ := u
        obtain ⟨hP1, hK1, hD1⟩ := hB
        rw [ht] at hP1
        try dsimp only at hw_35
        have hP : va_P (dC, dI) vwCl (wX0 h cI g mo sc fb rq cM (upd c0 b (nI (1 <<< a))) c0 wi_35 bo_35 wa_35) H1 := hP1
        have hD : va_D A (wX0 h cI g mo sc fb rq cM (upd c0 b (nI (1 <<< a))) c0 wi_35 bo_35 wa_35) := hD1.weaken (fun _ q _ h => hFc q.1 h)
        generalize H1 = H at hP hS ⊢
        refine lv_aload_n hx hb dX0_bestWith_38 rfl (lv_at hl 0 rfl) ?_
        refine va_get (D := (dC, dI)) (ci := 0) (v := .ref (g 7)) (C := RX0) (T := TX0) (N := 10) hx hb hts in_X0 hown hK hP 0 rfl rfl 8 (by decide) (hts _ q45) (fun _ h9 => h9) rfl dX0_bestWith_39 ?_
        refine lv_bipush (v := nI 15) hx hb dX0_bestWith_42 (by decide) ?_
        refine wk_iald hx hb hK hP 8 0 rfl rfl (ix := 15) (by omega) (by decide) dX0_bestWith_44 ?_
        exact W.iret (v := (bo_35 15)) hx hb hr (fun T9 hT9 hW9 => ⟨⟨(bo_35 15), (cM, (upd c0 b (nI (1 <<< a))), c0, wi_35, bo_35, wa_35), rfl, (Or.inr ⟨edB_d c_4 c_11 hlta hltb hxa hxb c_16, by rw [hxa, hxb, nI_clamp (by omega), nI_clamp (by omega)]; exact hw_35.1⟩), by rw [hT9]; exact hP, va_K.moved hW9.alike hK, hD⟩, hS.F hT9⟩) hS.2.2 dX0_bestWith_45
      · refine lv_iconst (v := (-1)) hx hb dX0_bestWith_19 (by decide) ?_
        exact W.iret (v := (-1)) hx hb hr (fun T9 hT9 hW9 => ⟨⟨(-1), (fx, mu, mn, wi, bo, wa), rfl, (Or.inl ⟨edB_c c_4 c_11 hxa hxb c_16, rfl⟩), by rw [hT9]; exact hP, va_K.moved hW9.alike hK, hD⟩, hS.F hT9⟩) hS.2.2 dX0_bestWith_20
set_option maxHeartbeats 4000000 in
set_option maxRecDepth 100000 in
theorem metX0_bestWithout (l : Launch) (dC : Nat → ClassId) (dI : Nat → Nat → Nat) (h sz : Nat) (cI : ClassId) (g : Nat → Nat) (mo : Int32) (sc fb rq fx mu mn wi bo wa : Nat → Int32) (x1 x2 : Int32) : Met l yX0_bestWithout (ws_ yX0_bestWithout cX0_bestWithout 3 (some .int)) ({ frames := 4, cells := 0, slots := 0, locals := 94 } : Room) (va_Pc [.ref h, .int x1, .int x2] (fun U => U.heap.size = sz ∧ va_P (dC, dI) vwCl (wX0 h cI g mo sc fb rq fx mu mn wi bo wa) U.heap ∧ va_K (dC, dI) vwCl [(cI, .int)] U ∧ va_D (fun _ => True) (wX0 h cI g mo sc fb rq fx mu mn wi bo wa))) (va_Qi (fun (r : Int32) (u : (Nat → Int32) × (Nat → Int32) × (Nat → Int32) × (Nat → Int32) × (Nat → Int32) × (Nat → Int32)) => (edB x1 x2 = 1 ∧ r = -1) ∨ (edB x1 x2 = 0 ∧ r = BEST (alN mo fb rq cM c0 (upd c0 x2.toNatClampNeg (nI (1 <<< x1.toNatClampNeg)))) sc)) (fun (u : (Nat → Int32) × (Nat → Int32) × (Nat → Int32) × (Nat → Int32) × (Nat → Int32) × (Nat → Int32)) (t : State) => va_P (dC, dI) vwCl (wX0 h cI g mo sc fb rq u.1 u.2.1 u.2.2.1 u.2.2.2.1 u.2.2.2.2.1 u.2.2.2.2.2) t.heap ∧ va_K (dC, dI) vwCl [(cI, .int)] t ∧ va_D (va_A (wX0 h cI g mo sc fb rq fx mu mn wi bo wa) sz) (wX0 h cI g mo sc fb rq u.1 u.2.1 u.2.2.1 u.2.2.2.1 u.2.2.2.2.1 u.2.2.2.2.2)) (va_A (wX0 h cI g mo sc fb rq fx mu mn wi bo wa) sz)) 0 0 (va_A (wX0 h cI g mo sc fb rq fx mu mn wi bo wa) sz) := by
  refine Met.ofW (cc := cX0_bestWithout) (maxL := 3) (ret := (some .int)) (by decide) rfl ?_
  intro p e s m args below meth c s₁ B hml hpre
  obtain ⟨rfl, hsz, hP, hK, hD0⟩ := hpre
  have hx := B.exec
  have hb := B.bytes
  have hr := B.returns
  have hts := atoms_spec (ws := (ws_ yX0_bestWithout cX0_bestWithout 3 (some .int))) B.pre
  have hts : ∀ w ∈ lw_all, w.before _ s = true := fun w h => hts w (List.mem_cons_of_mem _ h)
  have hown : s.vm.findClass RX0 = some m.cls := findClass_of_methodNamed B.named
  have hlocks := B.notSynchronized
  subst hsz
  have hD := hD0.self (sz := s.heap.size)
  generalize hAe : va_A (wX0 h cI g mo sc fb rq fx mu mn wi bo wa) s.heap.size = A at hD ⊢
  have hA : ∀ q : Nat, s.heap.size ≤ q → A q := fun q h => by rw [← hAe]; exact Or.inr h
  have hS : va_S A s.heap s.heap [] := va_S.rf
  have hl := lv_entry ([.ref h, .int x1, .int x2]) (n := 3) (Nat.le_of_ble_eq_true rfl)
  rw [lg_entry_eq]
  generalize (lg_sl ([.ref h, .int x1, .int x2]) ++ List.replicate (3 - (lg_sl ([.ref h, .int x1, .int x2])).length) Slot.unset).toArray = ls at hl ⊢
  have hl : lv_has ls 3 [(0, .ref h), (1, .int x1), (2, .int x2)] := hl
  refine lv_iload_n hx hb dX0_bestWithout_0 rfl (lv_at hl 1 rfl) ?_
  refine vp_callSi (W.runS (As := [.int x1]) (rest := []) ⟨hx, hb, hml, hown, hts⟩ (metX0_bad l x1) (va_cwS 1 hts (lw_S q73 q74 q23 q75) rfl rfl rfl (by decide +kernel) ⟨Nat.le_of_ble_eq_true rfl, Nat.le_of_ble_eq_true rfl⟩) preEq rfl rfl hl.1 rfl (lv_room (Nat.le_of_ble_eq_true rfl)) dX0_bestWithout_1 ⟨Nat.le_of_ble_eq_true rfl, Nat.le_of_ble_eq_true rfl⟩) (fun r hr_1 => ?_)
  have hr_1 : r = nI (badV x1) := hr_1
  subst hr_1
  refine wk_if_ne (tgt := 19) hx hb dX0_bestWithout_4 (by decide) (by have := badV_le x1; omega) (fun c_4 => ?_) (fun c_4 => ?_)
  · refine lv_iconst (v := (-1)) hx hb dX0_bestWithout_19 (by decide) ?_
    exact W.iret (v := (-1)) hx hb hr (fun T9 hT9 hW9 => ⟨⟨(-1), (fx, mu, mn, wi, bo, wa), rfl, (Or.inl ⟨edB_a c_4, rfl⟩), by rw [hT9]; exact hP, va_K.moved hW9.alike hK, hD⟩, hS.F hT9⟩) hS.2.2 dX0_bestWithout_20
  · obtain ⟨a, hlta, hxa⟩ := badV_0 c_4
    refine lv_iload_n hx hb dX0_bestWithout_7 rfl (lv_at hl 2 rfl) ?_
    refine vp_callSi (W.runS (As := [.int x2]) (rest := []) ⟨hx, hb, hml, hown, hts⟩ (metX0_bad l x2) (va_cwS 1 hts (lw_S q73 q74 q23 q75) rfl rfl rfl (by decide +kernel) ⟨Nat.le_of_ble_eq_true rfl, Nat.le_of_ble_eq_true rfl⟩) preEq rfl rfl hl.1 rfl (lv_room (Nat.le_of_ble_eq_true rfl)) dX0_bestWithout_8 ⟨Nat.le_of_ble_eq_true rfl, Nat.le_of_ble_eq_true rfl⟩) (fun r hr_8 => ?_)
    have hr_8 : r = nI (badV x2) := hr_8
    subst hr_8
    refine wk_if_ne (tgt := 19) hx hb dX0_bestWithout_11 (by decide) (by have := badV_le x2; omega) (fun c_11 => ?_) (fun c_11 => ?_)
    · refine lv_iconst (v := (-1)) hx hb dX0_bestWithout_19 (by decide) ?_
      exact W.iret (v := (-1)) hx hb hr (fun T9 hT9 hW9 => ⟨⟨(-1), (fx, mu, mn, wi, bo, wa), rfl, (Or.inl ⟨edB_b c_4 c_11, rfl⟩), by rw [hT9]; exact hP, va_K.moved hW9.alike hK, hD⟩, hS.F hT9⟩) hS.2.2 dX0_bestWithout_20
    · obtain ⟨b, hltb, hxb⟩ := badV_0 c_11
      refine lv_iload_n hx hb dX0_bestWithout_14 rfl (lv_at hl 1 rfl) ?_
      refine wk_top hxa ?_
      refine lv_iload_n hx hb dX0_bestWithout_15 rfl (lv_at hl 2 rfl) ?_
      refine wk_top hxb ?_
      refine wk_icmp_ne (tgt := 21) hx hb dX0_bestWithout_16 (by decide) (by omega) (by omega) (fun c_16 => ?_) (fun c_16 => ?_)
      · refine lv_aload_n hx hb dX0_bestWithout_21 rfl (lv_at hl 0 rfl) ?_
        have hFc := va_free (wc := (wX0 h cI g mo sc fb rq fx mu mn wi bo wa)) hD hS hA [0, 1, 2, 3, 4, 5, 6, 7, 8, 9] rfl
        refine va_callv (va_runV (b := h) (As := []) (rest := []) ⟨hx, hb, hml, hown, hts⟩ (metX0_noDemands l dC dI h s.heap.size cI g mo sc fb rq fx mu mn wi bo wa ) (cwV 0 hts (lw_V q33 q35 qs0 q23 q36) rfl rfl rfl (by decide +kernel) ⟨Nat.le_of_ble_eq_true rfl, Nat.le_of_ble_eq_true rfl⟩) ⟨fun a U g mk q => by obtain ⟨q0, q1, qP, qK, qD⟩ := q; exact ⟨q0, q1, qP, va_K.moved (u := U) (U := U.calling g mk a) (Vm.Alike.refl U.vm) qK, qD⟩, va_recv hK hP (ci := 0) (q0 := 0) rfl rfl, fun U hU hW => ⟨rfl, by rw [hU], by rw [hU]; exact hP, va_K.moved hW.alike hK, hD.weaken (fun _ _ _ _ => trivial)⟩⟩ rfl rfl hl.1 rfl (lv_room (Nat.le_of_ble_eq_true rfl)) dX0_bestWithout_22 ⟨Nat.le_of_ble_eq_true rfl, Nat.le_of_ble_eq_true rfl⟩) hS (fun q _ h => hFc q h) hFc (fun u t H1 locs ht hvm hw_22 hB hz1 hk1 hS => ?_)
        obtain ⟨hP1, hK1, hD1⟩ := hB
        rw [ht] at hP1
        try dsimp only at hw_22
        have hP : va_P (dC, dI) vwCl (wX0 h cI g mo sc fb rq cM c0 c0 wi bo wa) H1 := hP1
        have hD : va_D A (wX0 h cI g mo sc fb rq cM c0 c0 wi bo wa) := hD1.weaken (fun _ q _ h => hFc q.1 h)
        generalize H1 = H at hP hS ⊢
        refine lv_aload_n hx hb dX0_bestWithout_25 rfl (lv_at hl 0 rfl) ?_
        refine va_get (D := (dC, dI)) (ci := 0) (v := .ref (g 5)) (C := RX0) (T := TX0) (N := 10) hx hb hts in_X0 hown hK hP 0 rfl rfl 6 (by decide) (hts _ q43) (fun _ h9 => h9) rfl dX0_bestWithout_26 ?_
        refine lv_iload_n hx hb dX0_bestWithout_29 rfl (lv_at hl 2 rfl) ?_
        refine wk_top hxb ?_
        refine lv_iconst (v := nI 1) hx hb dX0_bestWithout_30 (by decide) ?_
        refine lv_iload_n hx hb dX0_bestWithout_31 rfl (lv_at hl 1 rfl) ?_
        refine wk_top hxa ?_
        refine wk_ishl1 hx hb dX0_bestWithout_32 (by omega) ?_
        refine wk_iast hx hb hK hP hD hS 6 0 rfl rfl (ix := b) (by omega) (by decide) dX0_bestWithout_33 (fun H locs hP hD hS => ?_)
        have hP : va_P (dC, dI) vwCl (wX0 h cI g mo sc fb rq cM c0 (upd c0 b (nI (1 <<< a))) wi bo wa) H := hP
        have hD : va_D A (wX0 h cI g mo sc fb rq cM c0 (upd c0 b (nI (1 <<< a))) wi bo wa) := hD
        refine lv_aload_n hx hb dX0_bestWithout_34 rfl (lv_at hl 0 rfl) ?_
        have hFc := va_free (wc := (wX0 h cI g mo sc fb rq cM c0 (upd c0 b (nI (1 <<< a))) wi bo wa)) hD hS hA [0, 1, 2, 3, 4, 5, 6, 7, 8, 9] rfl
        refine va_callv (va_runV (b := h) (As := []) (rest := []) ⟨hx, hb, hml, hown, hts⟩ (metX0_solve l dC dI h H.size cI g mo sc fb rq cM c0 (upd c0 b (nI (1 <<< a))) wi bo wa ) (cwV 0 hts (lw_V q107 q109 qs1 q23 q110) rfl rfl rfl (by decide +kernel) ⟨Nat.le_of_ble_eq_true rfl, Nat.le_of_ble_eq_true rfl⟩) ⟨fun a U g mk q => by obtain ⟨q0, q1, qP, qK, qD⟩ := q; exact ⟨q0, q1, qP, va_K.moved (u := U) (U := U.calling g mk a) (Vm.Alike.refl U.vm) qK, qD⟩, va_recv hK hP (ci := 0) (q0 := 0) rfl rfl, fun U hU hW => ⟨rfl, by rw [hU], by rw [hU]; exact hP, va_K.moved hW.alike hK, hD.weaken (fun _ _ _ _ => trivial)⟩⟩ rfl rfl hl.1 rfl (lv_room (Nat.le_of_ble_eq_true rfl)) dX0_bestWithout_35 ⟨Nat.le_of_ble_eq_true rfl, Nat.le_of_ble_eq_true rfl⟩) hS (fun q _ h => hFc q h) hFc (fun u t H1 locs ht hvm hw_35 hB hz1 hk1 hS => ?_)
        obtain ⟨wi_35, bo_35, wa_35⟩ := u
        obtain ⟨hP1, hK1, hD1⟩ := hB
        rw [ht] at hP1
        try dsimp only at hw_35
        have hP : va_P (dC, dI) vwCl (wX0 h cI g mo sc fb rq cM c0 (upd c0 b (nI (1 <<< a))) wi_35 bo_35 wa_35) H1 := hP1
        have hD : va_D A (wX0 h cI g mo sc fb rq cM c0 (upd c0 b (nI (1 <<< a))) wi_35 bo_35 wa_35) := hD1.weaken (fun _ q _ h => hFc q.1 h)
        generalize H1 = H at hP hS ⊢
        refine lv_aload_n hx hb dX0_bestWithout_38 rfl (lv_at hl 0 rfl) ?_
        refine va_get (D := (dC, dI)) (ci := 0) (v := .ref (g 7)) (C := RX0) (T := TX0) (N := 10) hx hb hts in_X0 hown hK hP 0 rfl rfl 8 (by decide) (hts _ q45) (fun _ h9 => h9) rfl dX0_bestWithout_39 ?_
        refine lv_bipush (v := nI 15) hx hb dX0_bestWithout_42 (by decide) ?_
        refine wk_iald hx hb hK hP 8 0 rfl rfl (ix := 15) (by omega) (by decide) dX0_bestWithout_44 ?_
        exact W.iret (v := (bo_35 15)) hx hb hr (fun T9 hT9 hW9 => ⟨⟨(bo_35 15), (cM, c0, (upd c0 b (nI (1 <<< a))), wi_35, bo_35, wa_35), rfl, (Or.inr ⟨edB_d c_4 c_11 hlta hltb hxa hxb c_16, by rw [hxa, hxb, nI_clamp (by omega), nI_clamp (by omega)]; exact hw_35.1⟩), by rw [hT9]; exact hP, va_K.moved hW9.alike hK, hD⟩, hS.F hT9⟩) hS.2.2 dX0_bestWithout_45
      · refine lv_iconst (v := (-1)) hx hb dX0_bestWithout_19 (by decide) ?_
        exact W.iret (v := (-1)) hx hb hr (fun T9 hT9 hW9 => ⟨⟨(-1), (fx, mu, mn, wi, bo, wa), rfl, (Or.inl ⟨edB_c c_4 c_11 hxa hxb c_16, rfl⟩), by rw [hT9]; exact hP, va_K.moved hW9.alike hK, hD⟩, hS.F hT9⟩) hS.2.2 dX0_bestWithout_20
set_option maxHeartbeats 4000000 in
set_option maxRecDepth 100000 in
theorem metX0_edges (l : Launch) (dC : Nat → ClassId) (dI : Nat → Nat → Nat) (h sz : Nat) (cI : ClassId) (g : Nat → Nat) (mo : Int32) (sc fb rq fx mu mn wi bo wa : Nat → Int32) : Met l yX0_edges (ws_ yX0_edges cX0_edges 4 (some .int)) ({ frames := 6, cells := 0, slots := 0, locals := 138 } : Room) (va_Pc [.ref h] (fun U => U.heap.size = sz ∧ va_P (dC, dI) vwCl (wX0 h cI g mo sc fb rq fx mu mn wi bo wa) U.heap ∧ va_K (dC, dI) vwCl [(cI, .int)] U ∧ va_D (fun _ => True) (wX0 h cI g mo sc fb rq fx mu mn wi bo wa))) (va_Qi (fun (r : Int32) (u : (Nat → Int32) × (Nat → Int32) × (Nat → Int32) × (Nat → Int32) × (Nat → Int32) × (Nat → Int32)) => r = if BEST (AL0 mo fb rq) sc = -100000 then -100000 else nI (edgN mo fb rq sc)) (fun (u : (Nat → Int32) × (Nat → Int32) × (Nat → Int32) × (Nat → Int32) × (Nat → Int32) × (Nat → Int32)) (t : State) => va_P (dC, dI) vwCl (wX0 h cI g mo sc fb rq u.1 u.2.1 u.2.2.1 u.2.2.2.1 u.2.2.2.2.1 u.2.2.2.2.2) t.heap ∧ va_K (dC, dI) vwCl [(cI, .int)] t ∧ va_D (va_A (wX0 h cI g mo sc fb rq fx mu mn wi bo wa) sz) (wX0 h cI g mo sc fb rq u.1 u.2.1 u.2.2.1 u.2.2.2.1 u.2.2.2.2.1 u.2.2.2.2.2)) (va_A (wX0 h cI g mo sc fb rq fx mu mn wi bo wa) sz)) 0 0 (va_A (wX0 h cI g mo sc fb rq fx mu mn wi bo wa) sz) := by
  refine Met.ofW (cc := cX0_edges) (maxL := 4) (ret := (some .int)) (by decide) rfl ?_
  intro p e s m args below meth c s₁ B hml hpre
  obtain ⟨rfl, hsz, hP, hK, hD0⟩ := hpre
  have hx := B.exec
  have hb := B.bytes
  have hr := B.returns
  have hts := atoms_spec (ws := (ws_ yX0_edges cX0_edges 4 (some .int))) B.pre
  have hts : ∀ w ∈ lw_all, w.before _ s = true := fun w h => hts w (List.mem_cons_of_mem _ h)
  have hown : s.vm.findClass RX0 = some m.cls := findClass_of_methodNamed B.named
  have hlocks := B.notSynchronized
  subst hsz
  have hD := hD0.self (sz := s.heap.size)
  generalize hAe : va_A (wX0 h cI g mo sc fb rq fx mu mn wi bo wa) s.heap.size = A at hD ⊢
  have hA : ∀ q : Nat, s.heap.size ≤ q → A q := fun q h => by rw [← hAe]; exact Or.inr h
  have hS : va_S A s.heap s.heap [] := va_S.rf
  have hl := lv_entry ([.ref h]) (n := 4) (Nat.le_of_ble_eq_true rfl)
  rw [lg_entry_eq]
  generalize (lg_sl ([.ref h]) ++ List.replicate (4 - (lg_sl ([.ref h])).length) Slot.unset).toArray = ls at hl ⊢
  have hl : lv_has ls 4 [(0, .ref h)] := hl
  refine lv_aload_n hx hb dX0_edges_0 rfl (lv_at hl 0 rfl) ?_
  have hFc := va_free (wc := (wX0 h cI g mo sc fb rq fx mu mn wi bo wa)) hD hS hA [0, 1, 2, 3, 4, 5, 6, 7, 8, 9] rfl
  refine va_calli (va_runV (b := h) (As := []) (rest := []) ⟨hx, hb, hml, hown, hts⟩ (metX0_findFirst l dC dI h s.heap.size cI g mo sc fb rq fx mu mn wi bo wa ) (cwV 0 hts (lw_V q128 q130 qs5 q23 q131) rfl rfl rfl (by decide +kernel) ⟨Nat.le_of_ble_eq_true rfl, Nat.le_of_ble_eq_true rfl⟩) ⟨fun a U g mk q => by obtain ⟨q0, q1, qP, qK, qD⟩ := q; exact ⟨q0, q1, qP, va_K.moved (u := U) (U := U.calling g mk a) (Vm.Alike.refl U.vm) qK, qD⟩, va_recv hK hP (ci := 0) (q0 := 0) rfl rfl, fun U hU hW => ⟨rfl, by rw [hU], by rw [hU]; exact hP, va_K.moved hW.alike hK, hD.weaken (fun _ _ _ _ => trivial)⟩⟩ rfl rfl hl.1 rfl (lv_room (Nat.le_of_ble_eq_true rfl)) dX0_edges_1 ⟨Nat.le_of_ble_eq_true rfl, Nat.le_of_ble_eq_true rfl⟩) hS (fun q _ h => hFc q h) hFc (fun r_1 u t H1 locs ht hvm hw_1 hB hz1 hk1 hS => ?_)
  obtain ⟨fx_1, wi_1, bo_1, wa_1⟩ := u
  obtain ⟨hP1, hK1, hD1⟩ := hB
  rw [ht] at hP1
  try dsimp only at hw_1
  have hP : va_P (dC, dI) vwCl (wX0 h cI g mo sc fb rq fx_1 c0 c0 wi_1 bo_1 wa_1) H1 := hP1
  have hD : va_D A (wX0 h cI g mo sc fb rq fx_1 c0 c0 wi_1 bo_1 wa_1) := hD1.weaken (fun _ q _ h => hFc q.1 h)
  generalize H1 = H at hP hS ⊢
  refine lv_istore_n (lv' := [(1, .int r_1), (0, .ref h)]) hx hb dX0_edges_4 rfl hl (by decide) rfl (fun ls hl => ?_)
  refine lv_iload_n hx hb dX0_edges_5 rfl (lv_at hl 0 rfl) ?_
  refine lv_if_ne (tgt := 12) hx hb dX0_edges_6 (by decide) (fun c_6 => ?_) (fun c_6 => ?_)
  · have hB_6 : ¬ BEST (AL0 mo fb rq) sc = -100000 ∧ fx_1 = ffF mo fb rq sc := by rcases hw_1 with h | h; exact absurd (h.1.trans nI_0) c_6; exact h.2
    refine lv_iconst (v := nI 0) hx hb dX0_edges_12 (by decide) ?_
    refine lv_istore_n (lv' := [(2, .int (nI 0)), (1, .int r_1), (0, .ref h)]) hx hb dX0_edges_13 rfl hl (by decide) rfl (fun ls hl => ?_)
    refine lv_iconst (v := nI 0) hx hb dX0_edges_14 (by decide) ?_
    refine lv_istore_n (lv' := [(3, .int (nI 0)), (2, .int (nI 0)), (1, .int r_1), (0, .ref h)]) hx hb dX0_edges_15 rfl hl (by decide) rfl (fun ls hl => ?_)
    have loop_16 : ∀ (k_16 v : Nat) (n : Nat), v ≤ 4 → 4 + 1 ≤ v + k_16 → (n = lit (fun v n => n + szN ((ffF mo fb rq sc v).toNatClampNeg)) 0 v) → ∀ (H : Heap) (locs : List Loc), va_P (dC, dI) vwCl (wX0 h cI g mo sc fb rq fx_1 c0 c0 wi_1 bo_1 wa_1) H → va_D A (wX0 h cI g mo sc fb rq fx_1 c0 c0 wi_1 bo_1 wa_1) → va_S A s.heap H locs → ∀ (ls : Array Slot), lv_has ls 4 [(0, .ref h), (1, .int r_1), (2, .int (nI n)), (3, .int (nI v))] → W p l e (headSpec (ws_ yX0_edges cX0_edges 4 (some .int)) ({ frames := 6, cells := 0, slots := 0, locals := 138 } : Room)).room s m ([.ref h] : List Value).toArray below meth c H locs 0 0 (MQ below (va_Qi (fun (r : Int32) (u : (Nat → Int32) × (Nat → Int32) × (Nat → Int32) × (Nat → Int32) × (Nat → Int32) × (Nat → Int32)) => r = if BEST (AL0 mo fb rq) sc = -100000 then -100000 else nI (edgN mo fb rq sc)) (fun (u : (Nat → Int32) × (Nat → Int32) × (Nat → Int32) × (Nat → Int32) × (Nat → Int32) × (Nat → Int32)) (t : State) => va_P (dC, dI) vwCl (wX0 h cI g mo sc fb rq u.1 u.2.1 u.2.2.1 u.2.2.2.1 u.2.2.2.2.1 u.2.2.2.2.2) t.heap ∧ va_K (dC, dI) vwCl [(cI, .int)] t ∧ va_D A (wX0 h cI g mo sc fb rq u.1 u.2.1 u.2.2.1 u.2.2.2.1 u.2.2.2.2.1 u.2.2.2.2.2)) A) ([.ref h] : List Value).toArray s 0 0 A) (F0 m 16 ls []) := by
      intro k_16
      induction k_16 with
      | zero =>
        intro v n h1 h2
        exact absurd h2 (by omega)
      | succ k_16 ih_16 =>
        intro v n hi_16 hk_16 hinv_16 H locs hP hD hS ls hl
        refine lv_iload_n hx hb dX0_edges_16 rfl (lv_at hl 3 rfl) ?_
        refine lv_iconst (v := nI 4) hx hb dX0_edges_17 (by decide) ?_
        refine wk_icmp_ge (tgt := 39) hx hb dX0_edges_18 (by decide) (by omega) (by decide) (fun c_18 => ?_) (fun c_18 => ?_)
        · have he_v : v = 4 := by omega
          subst he_v
          refine lv_iload_n hx hb dX0_edges_39 rfl (lv_at hl 2 rfl) ?_
          exact W.iret (v := nI n) hx hb hr (fun T9 hT9 hW9 => ⟨⟨nI n, (fx_1, c0, c0, wi_1, bo_1, wa_1), rfl, (by rw [if_neg hB_6.1]; unfold edgN; rw [hinv_16]), by rw [hT9]; exact hP, va_K.moved hW9.alike hK, hD⟩, hS.F hT9⟩) hS.2.2 dX0_edges_40
        · refine lv_iload_n hx hb dX0_edges_21 rfl (lv_at hl 2 rfl) ?_
          refine lv_aload_n hx hb dX0_edges_22 rfl (lv_at hl 0 rfl) ?_
          refine va_get (D := (dC, dI)) (ci := 0) (v := .ref (g 3)) (C := RX0) (T := TX0) (N := 10) hx hb hts in_X0 hown hK hP 0 rfl rfl 4 (by decide) (hts _ q41) (fun _ h9 => h9) rfl dX0_edges_23 ?_
          refine lv_iload_n hx hb dX0_edges_26 rfl (lv_at hl 3 rfl) ?_
          refine wk_iald hx hb hK hP 4 0 rfl rfl (ix := v) (by omega) (by decide) dX0_edges_27 ?_
          refine wk_top (y := nI ((ffF mo fb rq sc v).toNatClampNeg)) (by rw [hB_6.2]; exact (ffF_at mo fb rq sc (by omega)).1) ?_
          refine vp_callSi (W.runS (As := [.int (nI ((ffF mo fb rq sc v).toNatClampNeg))]) (rest := [.int (nI n)]) ⟨hx, hb, hml, hown, hts⟩ (metX0_size l ((ffF mo fb rq sc v).toNatClampNeg) (ffF_at mo fb rq sc (by omega)).2) (va_cwS 1 hts (lw_S q100 q101 q23 q102) rfl rfl rfl (by decide +kernel) ⟨Nat.le_of_ble_eq_true rfl, Nat.le_of_ble_eq_true rfl⟩) preEq rfl rfl hl.1 rfl (lv_room (Nat.le_of_ble_eq_true rfl)) dX0_edges_28 ⟨Nat.le_of_ble_eq_true rfl, Nat.le_of_ble_eq_true rfl⟩) (fun r hr_28 => ?_)
          have hr_28 : r = nI (szN ((ffF mo fb rq sc v).toNatClampNeg)) := hr_28
          subst hr_28
          refine wk_iadd hx hb dX0_edges_31 ?_
          refine lv_istore_n (lv' := [(2, .int (nI (n + (szN ((ffF mo fb rq sc v).toNatClampNeg))))), (0, .ref h), (1, .int r_1), (3, .int (nI v))]) hx hb dX0_edges_32 rfl hl (by decide) rfl (fun ls hl => ?_)
          refine wk_iinc (lv' := [(3, .int (nI (v + 1))), (2, .int (nI (n + (szN ((ffF mo fb rq sc v).toNatClampNeg))))), (0, .ref h), (1, .int r_1)]) hx hb dX0_edges_33 hl (k := 3) rfl (by decide) rfl (fun ls hl => ?_)
          refine lv_goto (tgt := 16) hx hb dX0_edges_36 (by decide) ?_
          exact ih_16 (v + 1) (n + (szN ((ffF mo fb rq sc v).toNatClampNeg))) (by omega) (by omega) (by rw [lit_succ, ← hinv_16]) _ _ hP hD hS ls (lv_sub hl [2, 3, 1, 0] rfl)
    exact loop_16 (4 + 1) 0 0 (by omega) (by omega) rfl _ _ hP hD hS ls (lv_sub hl [3, 2, 1, 0] rfl)
  · have hB_6 : BEST (AL0 mo fb rq) sc = -100000 := by rcases hw_1 with h | h; exact h.2; exact absurd (h.1.symm.trans c_6) (by decide)
    refine lv_ldc hx hb hown (hts _ q119) dX0_edges_9 ?_
    exact W.iret (v := (-100000)) hx hb hr (fun T9 hT9 hW9 => ⟨⟨(-100000), (fx_1, c0, c0, wi_1, bo_1, wa_1), rfl, (by rw [if_pos hB_6]), by rw [hT9]; exact hP, va_K.moved hW9.alike hK, hD⟩, hS.F hT9⟩) hS.2.2 dX0_edges_11
set_option maxHeartbeats 4000000 in
set_option maxRecDepth 100000 in
theorem metX0_orders (l : Launch) (dC : Nat → ClassId) (dI : Nat → Nat → Nat) (h sz : Nat) (cI : ClassId) (g : Nat → Nat) (mo : Int32) (sc fb rq fx mu mn wi bo wa : Nat → Int32) : Met l yX0_orders (ws_ yX0_orders cX0_orders 1 (some .int)) ({ frames := 4, cells := 0, slots := 0, locals := 94 } : Room) (va_Pc [.ref h] (fun U => U.heap.size = sz ∧ va_P (dC, dI) vwCl (wX0 h cI g mo sc fb rq fx mu mn wi bo wa) U.heap ∧ va_K (dC, dI) vwCl [(cI, .int)] U ∧ va_D (fun _ => True) (wX0 h cI g mo sc fb rq fx mu mn wi bo wa))) (va_Qi (fun (r : Int32) (u : (Nat → Int32) × (Nat → Int32) × (Nat → Int32) × (Nat → Int32) × (Nat → Int32) × (Nat → Int32)) => r = if BEST (AL0 mo fb rq) sc = -100000 then nI 0 else WAYS (AL0 mo fb rq) sc) (fun (u : (Nat → Int32) × (Nat → Int32) × (Nat → Int32) × (Nat → Int32) × (Nat → Int32) × (Nat → Int32)) (t : State) => va_P (dC, dI) vwCl (wX0 h cI g mo sc fb rq u.1 u.2.1 u.2.2.1 u.2.2.2.1 u.2.2.2.2.1 u.2.2.2.2.2) t.heap ∧ va_K (dC, dI) vwCl [(cI, .int)] t ∧ va_D (va_A (wX0 h cI g mo sc fb rq fx mu mn wi bo wa) sz) (wX0 h cI g mo sc fb rq u.1 u.2.1 u.2.2.1 u.2.2.2.1 u.2.2.2.2.1 u.2.2.2.2.2)) (va_A (wX0 h cI g mo sc fb rq fx mu mn wi bo wa) sz)) 0 0 (va_A (wX0 h cI g mo sc fb rq fx mu mn wi bo wa) sz) := by
  refine Met.ofW (cc := cX0_orders) (maxL := 1) (ret := (some .int)) (by decide) rfl ?_
  intro p e s m args below meth c s₁ B hml hpre
  obtain ⟨rfl, hsz, hP, hK, hD0⟩ := hpre
  have hx := B.exec
  have hb := B.bytes
  have hr := B.returns
  have hts := atoms_spec (ws := (ws_ yX0_orders cX0_orders 1 (some .int))) B.pre
  have hts : ∀ w ∈ lw_all, w.before _ s = true := fun w h => hts w (List.mem_cons_of_mem _ h)
  have hown : s.vm.findClass RX0 = some m.cls := findClass_of_methodNamed B.named
  have hlocks := B.notSynchronized
  subst hsz
  have hD := hD0.self (sz := s.heap.size)
  generalize hAe : va_A (wX0 h cI g mo sc fb rq fx mu mn wi bo wa) s.heap.size = A at hD ⊢
  have hA : ∀ q : Nat, s.heap.size ≤ q → A q := fun q h => by rw [← hAe]; exact Or.inr h
  have hS : va_S A s.heap s.heap [] := va_S.rf
  have hl := lv_entry ([.ref h]) (n := 1) (Nat.le_of_ble_eq_true rfl)
  rw [lg_entry_eq]
  generalize (lg_sl ([.ref h]) ++ List.replicate (1 - (lg_sl ([.ref h])).length) Slot.unset).toArray = ls at hl ⊢
  have hl : lv_has ls 1 [(0, .ref h)] := hl
  refine lv_aload_n hx hb dX0_orders_0 rfl (lv_at hl 0 rfl) ?_
  have hFc := va_free (wc := (wX0 h cI g mo sc fb rq fx mu mn wi bo wa)) hD hS hA [0, 1, 2, 3, 4, 5, 6, 7, 8, 9] rfl
  refine va_callv (va_runV (b := h) (As := []) (rest := []) ⟨hx, hb, hml, hown, hts⟩ (metX0_noDemands l dC dI h s.heap.size cI g mo sc fb rq fx mu mn wi bo wa ) (cwV 0 hts (lw_V q33 q35 qs0 q23 q36) rfl rfl rfl (by decide +kernel) ⟨Nat.le_of_ble_eq_true rfl, Nat.le_of_ble_eq_true rfl⟩) ⟨fun a U g mk q => by obtain ⟨q0, q1, qP, qK, qD⟩ := q; exact ⟨q0, q1, qP, va_K.moved (u := U) (U := U.calling g mk a) (Vm.Alike.refl U.vm) qK, qD⟩, va_recv hK hP (ci := 0) (q0 := 0) rfl rfl, fun U hU hW => ⟨rfl, by rw [hU], by rw [hU]; exact hP, va_K.moved hW.alike hK, hD.weaken (fun _ _ _ _ => trivial)⟩⟩ rfl rfl hl.1 rfl (lv_room (Nat.le_of_ble_eq_true rfl)) dX0_orders_1 ⟨Nat.le_of_ble_eq_true rfl, Nat.le_of_ble_eq_true rfl⟩) hS (fun q _ h => hFc q h) hFc (fun u t H1 locs ht hvm hw_1 hB hz1 hk1 hS => ?_)
  obtain ⟨hP1, hK1, hD1⟩ := hB
  rw [ht] at hP1
  try dsimp only at hw_1
  have hP : va_P (dC, dI) vwCl (wX0 h cI g mo sc fb rq cM c0 c0 wi bo wa) H1 := hP1
  have hD : va_D A (wX0 h cI g mo sc fb rq cM c0 c0 wi bo wa) := hD1.weaken (fun _ q _ h => hFc q.1 h)
  generalize H1 = H at hP hS ⊢
  refine lv_aload_n hx hb dX0_orders_4 rfl (lv_at hl 0 rfl) ?_
  have hFc := va_free (wc := (wX0 h cI g mo sc fb rq cM c0 c0 wi bo wa)) hD hS hA [0, 1, 2, 3, 4, 5, 6, 7, 8, 9] rfl
  refine va_callv (va_runV (b := h) (As := []) (rest := []) ⟨hx, hb, hml, hown, hts⟩ (metX0_solve l dC dI h H.size cI g mo sc fb rq cM c0 c0 wi bo wa ) (cwV 0 hts (lw_V q107 q109 qs1 q23 q110) rfl rfl rfl (by decide +kernel) ⟨Nat.le_of_ble_eq_true rfl, Nat.le_of_ble_eq_true rfl⟩) ⟨fun a U g mk q => by obtain ⟨q0, q1, qP, qK, qD⟩ := q; exact ⟨q0, q1, qP, va_K.moved (u := U) (U := U.calling g mk a) (Vm.Alike.refl U.vm) qK, qD⟩, va_recv hK hP (ci := 0) (q0 := 0) rfl rfl, fun U hU hW => ⟨rfl, by rw [hU], by rw [hU]; exact hP, va_K.moved hW.alike hK, hD.weaken (fun _ _ _ _ => trivial)⟩⟩ rfl rfl hl.1 rfl (lv_room (Nat.le_of_ble_eq_true rfl)) dX0_orders_5 ⟨Nat.le_of_ble_eq_true rfl, Nat.le_of_ble_eq_true rfl⟩) hS (fun q _ h => hFc q h) hFc (fun u t H1 locs ht hvm hw_5 hB hz1 hk1 hS => ?_)
  obtain ⟨wi_5, bo_5, wa_5⟩ := u
  obtain ⟨hP1, hK1, hD1⟩ := hB
  rw [ht] at hP1
  try dsimp only at hw_5
  have hP : va_P (dC, dI) vwCl (wX0 h cI g mo sc fb rq cM c0 c0 wi_5 bo_5 wa_5) H1 := hP1
  have hD : va_D A (wX0 h cI g mo sc fb rq cM c0 c0 wi_5 bo_5 wa_5) := hD1.weaken (fun _ q _ h => hFc q.1 h)
  generalize H1 = H at hP hS ⊢
  refine lv_aload_n hx hb dX0_orders_8 rfl (lv_at hl 0 rfl) ?_
  refine va_get (D := (dC, dI)) (ci := 0) (v := .ref (g 7)) (C := RX0) (T := TX0) (N := 10) hx hb hts in_X0 hown hK hP 0 rfl rfl 8 (by decide) (hts _ q45) (fun _ h9 => h9) rfl dX0_orders_9 ?_
  refine lv_bipush (v := nI 15) hx hb dX0_orders_12 (by decide) ?_
  refine wk_iald hx hb hK hP 8 0 rfl rfl (ix := 15) (by omega) (by decide) dX0_orders_14 ?_
  refine lv_ldc hx hb hown (hts _ q119) dX0_orders_15 ?_
  refine lv_icmp_ne (tgt := 24) hx hb dX0_orders_17 (by decide) (fun c_17 => ?_) (fun c_17 => ?_)
  · refine lv_aload_n hx hb dX0_orders_24 rfl (lv_at hl 0 rfl) ?_
    refine va_get (D := (dC, dI)) (ci := 0) (v := .ref (g 8)) (C := RX0) (T := TX0) (N := 10) hx hb hts in_X0 hown hK hP 0 rfl rfl 9 (by decide) (hts _ q46) (fun _ h9 => h9) rfl dX0_orders_25 ?_
    refine lv_bipush (v := nI 15) hx hb dX0_orders_28 (by decide) ?_
    refine wk_iald hx hb hK hP 9 0 rfl rfl (ix := 15) (by omega) (by decide) dX0_orders_30 ?_
    exact W.iret (v := (wa_5 15)) hx hb hr (fun T9 hT9 hW9 => ⟨⟨(wa_5 15), (cM, c0, c0, wi_5, bo_5, wa_5), rfl, (by rw [← hw_5.1, ← hw_5.2, if_neg c_17]), by rw [hT9]; exact hP, va_K.moved hW9.alike hK, hD⟩, hS.F hT9⟩) hS.2.2 dX0_orders_31
  · refine lv_iconst (v := nI 0) hx hb dX0_orders_20 (by decide) ?_
    refine lv_goto (tgt := 31) hx hb dX0_orders_21 (by decide) ?_
    exact W.iret (v := nI 0) hx hb hr (fun T9 hT9 hW9 => ⟨⟨nI 0, (cM, c0, c0, wi_5, bo_5, wa_5), rfl, (by rw [← hw_5.1, if_pos c_17]), by rw [hT9]; exact hP, va_K.moved hW9.alike hK, hD⟩, hS.F hT9⟩) hS.2.2 dX0_orders_31
set_option maxHeartbeats 4000000 in
set_option maxRecDepth 100000 in
theorem metX0_scoreOf (l : Launch) (dC : Nat → ClassId) (dI : Nat → Nat → Nat) (h sz : Nat) (cI : ClassId) (g : Nat → Nat) (mo : Int32) (sc fb rq fx mu mn wi bo wa : Nat → Int32) (x1 x2 : Int32) : Met l yX0_scoreOf (ws_ yX0_scoreOf cX0_scoreOf 3 (some .int)) ({ frames := 1, cells := 0, slots := 0, locals := 21 } : Room) (va_Pc [.ref h, .int x1, .int x2] (fun U => va_P (dC, dI) vwCl (wX0 h cI g mo sc fb rq fx mu mn wi bo wa) U.heap ∧ va_K (dC, dI) vwCl [(cI, .int)] U)) (vp_Si (fun r : Int32 => r = soR sc x1 x2)) 0 0 (fun _ => False) := by
  refine Met.ofW (cc := cX0_scoreOf) (maxL := 3) (ret := (some .int)) (by decide) rfl ?_
  intro p e s m args below meth c s₁ B hml hpre
  obtain ⟨rfl, hP, hK⟩ := hpre
  have hx := B.exec
  have hb := B.bytes
  have hr := B.returns
  have hts := atoms_spec (ws := (ws_ yX0_scoreOf cX0_scoreOf 3 (some .int))) B.pre
  have hts : ∀ w ∈ lw_all, w.before _ s = true := fun w h => hts w (List.mem_cons_of_mem _ h)
  have hown : s.vm.findClass RX0 = some m.cls := findClass_of_methodNamed B.named
  have hlocks := B.notSynchronized
  have hl := lv_entry ([.ref h, .int x1, .int x2]) (n := 3) (Nat.le_of_ble_eq_true rfl)
  rw [lg_entry_eq]
  generalize (lg_sl ([.ref h, .int x1, .int x2]) ++ List.replicate (3 - (lg_sl ([.ref h, .int x1, .int x2])).length) Slot.unset).toArray = ls at hl ⊢
  have hl : lv_has ls 3 [(0, .ref h), (1, .int x1), (2, .int x2)] := hl
  refine lv_iload_n hx hb dX0_scoreOf_0 rfl (lv_at hl 1 rfl) ?_
  refine vp_callSi (W.runS (As := [.int x1]) (rest := []) ⟨hx, hb, hml, hown, hts⟩ (metX0_bad l x1) (va_cwS 1 hts (lw_S q73 q74 q23 q75) rfl rfl rfl (by decide +kernel) ⟨Nat.le_of_ble_eq_true rfl, Nat.le_of_ble_eq_true rfl⟩) preEq rfl rfl hl.1 rfl (lv_room (Nat.le_of_ble_eq_true rfl)) dX0_scoreOf_1 ⟨Nat.le_of_ble_eq_true rfl, Nat.le_of_ble_eq_true rfl⟩) (fun r hr_1 => ?_)
  have hr_1 : r = nI (badV x1) := hr_1
  subst hr_1
  refine wk_if_ne (tgt := 15) hx hb dX0_scoreOf_4 (by decide) (by have := badV_le x1; omega) (fun c_4 => ?_) (fun c_4 => ?_)
  · refine lv_iconst (v := nI 0) hx hb dX0_scoreOf_15 (by decide) ?_
    exact W.iret (v := nI 0) hx hb hr (fun T9 hT9 hW9 => ⟨nI 0, rfl, (by unfold soR; rw [if_neg c_4]), hT9⟩) (fun q h => absurd h List.not_mem_nil) dX0_scoreOf_16
  · obtain ⟨a, hlta, hxa⟩ := badV_0 c_4
    refine lv_iload_n hx hb dX0_scoreOf_7 rfl (lv_at hl 1 rfl) ?_
    refine wk_top hxa ?_
    refine lv_iload_n hx hb dX0_scoreOf_8 rfl (lv_at hl 2 rfl) ?_
    refine vp_callSi (W.runS (As := [.int (nI a), .int x2]) (rest := []) ⟨hx, hb, hml, hown, hts⟩ (metX0_badParents l a x2 hlta) (va_cwS 2 hts (lw_S q76 q77 q23 q78) rfl rfl rfl (by decide +kernel) ⟨Nat.le_of_ble_eq_true rfl, Nat.le_of_ble_eq_true rfl⟩) preEq rfl rfl hl.1 rfl (lv_room (Nat.le_of_ble_eq_true rfl)) dX0_scoreOf_9 ⟨Nat.le_of_ble_eq_true rfl, Nat.le_of_ble_eq_true rfl⟩) (fun r hr_9 => ?_)
    have hr_9 : r = nI (badP a x2) := hr_9
    subst hr_9
    refine wk_if_eq (tgt := 17) hx hb dX0_scoreOf_12 (by decide) (by have := badP_le a x2; omega) (fun c_12 => ?_) (fun c_12 => ?_)
    · obtain ⟨q, hltq, hxq, hbit_12⟩ := badP_0 hlta c_12
      refine lv_aload_n hx hb dX0_scoreOf_17 rfl (lv_at hl 0 rfl) ?_
      refine va_get (D := (dC, dI)) (ci := 0) (v := .ref (g 0)) (C := RX0) (T := TX0) (N := 10) hx hb hts in_X0 hown hK hP 0 rfl rfl 0 (by decide) (hts _ q37) (fun _ h9 => h9) rfl dX0_scoreOf_18 ?_
      refine lv_iload_n hx hb dX0_scoreOf_21 rfl (lv_at hl 1 rfl) ?_
      refine wk_top hxa ?_
      refine lv_bipush (v := nI 16) hx hb dX0_scoreOf_22 (by decide) ?_
      refine wk_imul hx hb dX0_scoreOf_24 ?_
      refine lv_iload_n hx hb dX0_scoreOf_25 rfl (lv_at hl 2 rfl) ?_
      refine wk_top hxq ?_
      refine wk_iadd hx hb dX0_scoreOf_26 ?_
      refine wk_iald hx hb hK hP 1 0 rfl rfl (ix := ((a * 16) + q)) (by omega) (by decide) dX0_scoreOf_27 ?_
      exact W.iret (v := (sc ((a * 16) + q))) hx hb hr (fun T9 hT9 hW9 => ⟨(sc ((a * 16) + q)), rfl, (by unfold soR; rw [if_pos c_4, if_pos (by rw [hxa, nI_clamp (by omega)]; exact c_12), hxa, hxq, nI_clamp (by omega), nI_clamp (by omega)]), hT9⟩) (fun q h => absurd h List.not_mem_nil) dX0_scoreOf_28
    · refine lv_iconst (v := nI 0) hx hb dX0_scoreOf_15 (by decide) ?_
      exact W.iret (v := nI 0) hx hb hr (fun T9 hT9 hW9 => ⟨nI 0, rfl, (by unfold soR; rw [if_pos c_4, if_neg (by rw [hxa, nI_clamp (by omega)]; exact c_12)]), hT9⟩) (fun q h => absurd h List.not_mem_nil) dX0_scoreOf_16
end
section
set_option maxHeartbeats 4000000 in
set_option maxRecDepth 100000 in
theorem metX0_score (l : Launch) (dC : Nat → ClassId) (dI : Nat → Nat → Nat) (h sz : Nat) (cI : ClassId) (g : Nat → Nat) (mo : Int32) (sc fb rq fx mu mn wi bo wa : Nat → Int32) (x1 x2 x3 : Int32) : Met l yX0_score (ws_ yX0_score cX0_score 4 (some .int)) ({ frames := 1, cells := 0, slots := 0, locals := 21 } : Room) (va_Pc [.ref h, .int x1, .int x2, .int x3] (fun U => U.heap.size = sz ∧ va_P (dC, dI) vwCl (wX0 h cI g mo sc fb rq fx mu mn wi bo wa) U.heap ∧ va_K (dC, dI) vwCl [(cI, .int)] U ∧ va_D (fun _ => True) (wX0 h cI g mo sc fb rq fx mu mn wi bo wa))) (va_Qi (fun (r : Int32) (u : (Nat → Int32)) => r = scoreR x1 x2 x3 ∧ u = scoreU sc x1 x2 x3) (fun (u : (Nat → Int32)) (t : State) => va_P (dC, dI) vwCl (wX0 h cI g mo u fb rq fx mu mn wi bo wa) t.heap ∧ va_K (dC, dI) vwCl [(cI, .int)] t ∧ va_D (va_A (wX0 h cI g mo sc fb rq fx mu mn wi bo wa) sz) (wX0 h cI g mo u fb rq fx mu mn wi bo wa)) (va_A (wX0 h cI g mo sc fb rq fx mu mn wi bo wa) sz)) 0 0 (va_A (wX0 h cI g mo sc fb rq fx mu mn wi bo wa) sz) := by
  refine Met.ofW (cc := cX0_score) (maxL := 4) (ret := (some .int)) (by decide) rfl ?_
  intro p e s m args below meth c s₁ B hml hpre
  obtain ⟨rfl, hsz, hP, hK, hD0⟩ := hpre
  have hx := B.exec
  have hb := B.bytes
  have hr := B.returns
  have hts := atoms_spec (ws := (ws_ yX0_score cX0_score 4 (some .int))) B.pre
  have hts : ∀ w ∈ lw_all, w.before _ s = true := fun w h => hts w (List.mem_cons_of_mem _ h)
  have hown : s.vm.findClass RX0 = some m.cls := findClass_of_methodNamed B.named
  have hlocks := B.notSynchronized
  subst hsz
  have hD := hD0.self (sz := s.heap.size)
  generalize hAe : va_A (wX0 h cI g mo sc fb rq fx mu mn wi bo wa) s.heap.size = A at hD ⊢
  have hA : ∀ q : Nat, s.heap.size ≤ q → A q := fun q h => by rw [← hAe]; exact Or.inr h
  have hS : va_S A s.heap s.heap [] := va_S.rf
  have hl := lv_entry ([.ref h, .int x1, .int x2, .int x3]) (n := 4) (Nat.le_of_ble_eq_true rfl)
  rw [lg_entry_eq]
  generalize (lg_sl ([.ref h, .int x1, .int x2, .int x3]) ++ List.replicate (4 - (lg_sl ([.ref h, .int x1, .int x2, .int x3])).length) Slot.unset).toArray = ls at hl ⊢
  have hl : lv_has ls 4 [(0, .ref h), (1, .int x1), (2, .int x2), (3, .int x3)] := hl
  refine lv_iload_n hx hb dX0_score_0 rfl (lv_at hl 1 rfl) ?_
  refine vp_callSi (W.runS (As := [.int x1]) (rest := []) ⟨hx, hb, hml, hown, hts⟩ (metX0_bad l x1) (va_cwS 1 hts (lw_S q73 q74 q23 q75) rfl rfl rfl (by decide +kernel) ⟨Nat.le_of_ble_eq_true rfl, Nat.le_of_ble_eq_true rfl⟩) preEq rfl rfl hl.1 rfl (lv_room (Nat.le_of_ble_eq_true rfl)) dX0_score_1 ⟨Nat.le_of_ble_eq_true rfl, Nat.le_of_ble_eq_true rfl⟩) (fun r hr_1 => ?_)
  have hr_1 : r = nI (badV x1) := hr_1
  subst hr_1
  refine wk_if_eq (tgt := 9) hx hb dX0_score_4 (by decide) (by have := badV_le x1; omega) (fun c_4 => ?_) (fun c_4 => ?_)
  · obtain ⟨a, hlta, hxa⟩ := badV_0 c_4
    refine lv_iload_n hx hb dX0_score_9 rfl (lv_at hl 1 rfl) ?_
    refine wk_top hxa ?_
    refine lv_iload_n hx hb dX0_score_10 rfl (lv_at hl 2 rfl) ?_
    refine vp_callSi (W.runS (As := [.int (nI a), .int x2]) (rest := []) ⟨hx, hb, hml, hown, hts⟩ (metX0_badParents l a x2 hlta) (va_cwS 2 hts (lw_S q76 q77 q23 q78) rfl rfl rfl (by decide +kernel) ⟨Nat.le_of_ble_eq_true rfl, Nat.le_of_ble_eq_true rfl⟩) preEq rfl rfl hl.1 rfl (lv_room (Nat.le_of_ble_eq_true rfl)) dX0_score_11 ⟨Nat.le_of_ble_eq_true rfl, Nat.le_of_ble_eq_true rfl⟩) (fun r hr_11 => ?_)
    have hr_11 : r = nI (badP a x2) := hr_11
    subst hr_11
    refine wk_if_eq (tgt := 20) hx hb dX0_score_14 (by decide) (by have := badP_le a x2; omega) (fun c_14 => ?_) (fun c_14 => ?_)
    · obtain ⟨q, hltq, hxq, hbit_14⟩ := badP_0 hlta c_14
      refine lv_iload_n hx hb dX0_score_20 rfl (lv_at hl 3 rfl) ?_
      refine lv_sipush (v := (-1000)) hx hb dX0_score_21 (by decide) ?_
      refine lv_icmp_lt (tgt := 34) hx hb dX0_score_24 (by decide) (fun c_24 => ?_) (fun c_24 => ?_)
      · refine lv_bipush (v := (-3)) hx hb dX0_score_34 (by decide) ?_
        have hR := scoreR_c c_4 hlta hxa c_14 c_24
        exact W.iret (v := (-3)) hx hb hr (fun T9 hT9 hW9 => ⟨⟨(-3), (sc), rfl, ⟨hR.symm, (scoreU_no (by rw [hR]; decide)).symm⟩, by rw [hT9]; exact hP, va_K.moved hW9.alike hK, hD⟩, hS.F hT9⟩) hS.2.2 dX0_score_36
      · refine lv_iload_n hx hb dX0_score_27 rfl (lv_at hl 3 rfl) ?_
        refine lv_sipush (v := nI 1000) hx hb dX0_score_28 (by decide) ?_
        refine lv_icmp_le (tgt := 37) hx hb dX0_score_31 (by decide) (fun c_31 => ?_) (fun c_31 => ?_)
        · refine lv_aload_n hx hb dX0_score_37 rfl (lv_at hl 0 rfl) ?_
          refine va_get (D := (dC, dI)) (ci := 0) (v := .ref (g 0)) (C := RX0) (T := TX0) (N := 10) hx hb hts in_X0 hown hK hP 0 rfl rfl 0 (by decide) (hts _ q37) (fun _ h9 => h9) rfl dX0_score_38 ?_
          refine lv_iload_n hx hb dX0_score_41 rfl (lv_at hl 1 rfl) ?_
          refine wk_top hxa ?_
          refine lv_bipush (v := nI 16) hx hb dX0_score_42 (by decide) ?_
          refine wk_imul hx hb dX0_score_44 ?_
          refine lv_iload_n hx hb dX0_score_45 rfl (lv_at hl 2 rfl) ?_
          refine wk_top hxq ?_
          refine wk_iadd hx hb dX0_score_46 ?_
          refine lv_iload_n hx hb dX0_score_47 rfl (lv_at hl 3 rfl) ?_
          refine wk_iast hx hb hK hP hD hS 1 0 rfl rfl (ix := ((a * 16) + q)) (by omega) (by decide) dX0_score_48 (fun H locs hP hD hS => ?_)
          have hP : va_P (dC, dI) vwCl (wX0 h cI g mo (upd sc ((a * 16) + q) x3) fb rq fx mu mn wi bo wa) H := hP
          have hD : va_D A (wX0 h cI g mo (upd sc ((a * 16) + q) x3) fb rq fx mu mn wi bo wa) := hD
          refine lv_iconst (v := nI 0) hx hb dX0_score_49 (by decide) ?_
          have hR := scoreR_e c_4 hlta hxa c_14 c_24 c_31
          exact W.iret (v := nI 0) hx hb hr (fun T9 hT9 hW9 => ⟨⟨nI 0, ((upd sc ((a * 16) + q) x3)), rfl, ⟨hR.symm, (scoreU_ok hR hlta hltq hxa hxq).symm⟩, by rw [hT9]; exact hP, va_K.moved hW9.alike hK, hD⟩, hS.F hT9⟩) hS.2.2 dX0_score_50
        · refine lv_bipush (v := (-3)) hx hb dX0_score_34 (by decide) ?_
          have hR := scoreR_d c_4 hlta hxa c_14 c_24 c_31
          exact W.iret (v := (-3)) hx hb hr (fun T9 hT9 hW9 => ⟨⟨(-3), (sc), rfl, ⟨hR.symm, (scoreU_no (by rw [hR]; decide)).symm⟩, by rw [hT9]; exact hP, va_K.moved hW9.alike hK, hD⟩, hS.F hT9⟩) hS.2.2 dX0_score_36
    · refine lv_bipush (v := (-2)) hx hb dX0_score_17 (by decide) ?_
      have hR := scoreR_b (x3 := x3) c_4 hlta hxa c_14
      exact W.iret (v := (-2)) hx hb hr (fun T9 hT9 hW9 => ⟨⟨(-2), (sc), rfl, ⟨hR.symm, (scoreU_no (by rw [hR]; decide)).symm⟩, by rw [hT9]; exact hP, va_K.moved hW9.alike hK, hD⟩, hS.F hT9⟩) hS.2.2 dX0_score_19
  · refine lv_iconst (v := (-1)) hx hb dX0_score_7 (by decide) ?_
    have hR := scoreR_a (x2 := x2) (x3 := x3) c_4
    exact W.iret (v := (-1)) hx hb hr (fun T9 hT9 hW9 => ⟨⟨(-1), (sc), rfl, ⟨hR.symm, (scoreU_no (by rw [hR]; decide)).symm⟩, by rw [hT9]; exact hP, va_K.moved hW9.alike hK, hD⟩, hS.F hT9⟩) hS.2.2 dX0_score_8
set_option maxHeartbeats 4000000 in
set_option maxRecDepth 100000 in
theorem metX0_limit (l : Launch) (dC : Nat → ClassId) (dI : Nat → Nat → Nat) (h sz : Nat) (cI : ClassId) (g : Nat → Nat) (mo : Int32) (sc fb rq fx mu mn wi bo wa : Nat → Int32) (x : Int32) : Met l yX0_limit (ws_ yX0_limit cX0_limit 3 (some .int)) ({ frames := 0, cells := 0, slots := 0, locals := 0 } : Room) (va_Pc [.ref h, .int x] (fun U => U.heap.size = sz ∧ va_P (dC, dI) vwCl (wX0 h cI g mo sc fb rq fx mu mn wi bo wa) U.heap ∧ va_K (dC, dI) vwCl [(cI, .int)] U ∧ va_D (fun _ => True) (wX0 h cI g mo sc fb rq fx mu mn wi bo wa))) (va_Qi (fun (r : Int32) (u : Int32) => r = limR mo x ∧ u = limU mo x) (fun (u : Int32) (t : State) => va_P (dC, dI) vwCl (wX0 h cI g u sc fb rq fx mu mn wi bo wa) t.heap ∧ va_K (dC, dI) vwCl [(cI, .int)] t ∧ va_D (va_A (wX0 h cI g mo sc fb rq fx mu mn wi bo wa) sz) (wX0 h cI g u sc fb rq fx mu mn wi bo wa)) (va_A (wX0 h cI g mo sc fb rq fx mu mn wi bo wa) sz)) 0 0 (va_A (wX0 h cI g mo sc fb rq fx mu mn wi bo wa) sz) := by
  refine Met.ofW (cc := cX0_limit) (maxL := 3) (ret := (some .int)) (by decide) rfl ?_
  intro p e s m args below meth c s₁ B hml hpre
  obtain ⟨rfl, hsz, hP, hK, hD0⟩ := hpre
  have hx := B.exec
  have hb := B.bytes
  have hr := B.returns
  have hts := atoms_spec (ws := (ws_ yX0_limit cX0_limit 3 (some .int))) B.pre
  have hts : ∀ w ∈ lw_all, w.before _ s = true := fun w h => hts w (List.mem_cons_of_mem _ h)
  have hown : s.vm.findClass RX0 = some m.cls := findClass_of_methodNamed B.named
  have hlocks := B.notSynchronized
  subst hsz
  have hD := hD0.self (sz := s.heap.size)
  generalize hAe : va_A (wX0 h cI g mo sc fb rq fx mu mn wi bo wa) s.heap.size = A at hD ⊢
  have hA : ∀ q : Nat, s.heap.size ≤ q → A q := fun q h => by rw [← hAe]; exact Or.inr h
  have hS : va_S A s.heap s.heap [] := va_S.rf
  have hl := lv_entry ([.ref h, .int x]) (n := 3) (Nat.le_of_ble_eq_true rfl)
  rw [lg_entry_eq]
  generalize (lg_sl ([.ref h, .int x]) ++ List.replicate (3 - (lg_sl ([.ref h, .int x])).length) Slot.unset).toArray = ls at hl ⊢
  have hl : lv_has ls 3 [(0, .ref h), (1, .int x)] := hl
  refine lv_iload_n hx hb dX0_limit_0 rfl (lv_at hl 1 rfl) ?_
  refine lv_if_lt (tgt := 9) hx hb dX0_limit_1 (by decide) (fun c_1 => ?_) (fun c_1 => ?_)
  · refine lv_bipush (v := (-4)) hx hb dX0_limit_9 (by decide) ?_
    exact W.iret (v := (-4)) hx hb hr (fun T9 hT9 hW9 => ⟨⟨(-4), (mo), rfl, ⟨(by unfold limR; (repeat' split) <;> first | rfl | contradiction | omega), (by unfold limU; (repeat' split) <;> first | rfl | contradiction | omega)⟩, by rw [hT9]; exact hP, va_K.moved hW9.alike hK, hD⟩, hS.F hT9⟩) hS.2.2 dX0_limit_11
  · refine lv_iload_n hx hb dX0_limit_4 rfl (lv_at hl 1 rfl) ?_
    refine lv_iconst (v := nI 3) hx hb dX0_limit_5 (by decide) ?_
    refine lv_icmp_le (tgt := 12) hx hb dX0_limit_6 (by decide) (fun c_6 => ?_) (fun c_6 => ?_)
    · refine lv_aload_n hx hb dX0_limit_12 rfl (lv_at hl 0 rfl) ?_
      refine va_get (D := (dC, dI)) (ci := 0) (v := .int mo) (C := RX0) (T := TX0) (N := 10) hx hb hts in_X0 hown hK hP 0 rfl rfl 1 (by decide) (hts _ q38) (fun _ h9 => h9) rfl dX0_limit_13 ?_
      refine lv_istore_n (lv' := [(2, .int mo), (0, .ref h), (1, .int x)]) hx hb dX0_limit_16 rfl hl (by decide) rfl (fun ls hl => ?_)
      refine lv_aload_n hx hb dX0_limit_17 rfl (lv_at hl 1 rfl) ?_
      refine lv_iload_n hx hb dX0_limit_18 rfl (lv_at hl 2 rfl) ?_
      refine va_put (D := (dC, dI)) (ci := 0) (v := .int x) (ty := .int) (C := RX0) (T := TX0) (N := 10) hx hb hts in_X0 tyX0 tyX0_ok nmX0 hown hK hP hD hS 0 rfl rfl 1 (by decide) (hts _ q38) (fun _ h9 => h9) rfl (by decide +kernel) rfl rfl (Nat.le_of_ble_eq_true rfl) dX0_limit_19 (fun H locs hP hD hS => ?_)
      have hP : va_P (dC, dI) vwCl (wX0 h cI g x sc fb rq fx mu mn wi bo wa) H := hP
      have hD : va_D A (wX0 h cI g x sc fb rq fx mu mn wi bo wa) := hD
      refine lv_iload_n hx hb dX0_limit_22 rfl (lv_at hl 0 rfl) ?_
      exact W.iret (v := mo) hx hb hr (fun T9 hT9 hW9 => ⟨⟨mo, (x), rfl, ⟨(by unfold limR; (repeat' split) <;> first | rfl | contradiction | omega), (by unfold limU; (repeat' split) <;> first | rfl | contradiction | omega)⟩, by rw [hT9]; exact hP, va_K.moved hW9.alike hK, hD⟩, hS.F hT9⟩) hS.2.2 dX0_limit_23
    · refine lv_bipush (v := (-4)) hx hb dX0_limit_9 (by decide) ?_
      exact W.iret (v := (-4)) hx hb hr (fun T9 hT9 hW9 => ⟨⟨(-4), (mo), rfl, ⟨(by unfold limR; (repeat' split) <;> first | rfl | contradiction | omega), (by unfold limU; (repeat' split) <;> first | rfl | contradiction | omega)⟩, by rw [hT9]; exact hP, va_K.moved hW9.alike hK, hD⟩, hS.F hT9⟩) hS.2.2 dX0_limit_11
set_option maxHeartbeats 4000000 in
set_option maxRecDepth 100000 in
theorem metX0_edge (l : Launch) (dC : Nat → ClassId) (dI : Nat → Nat → Nat) (h sz : Nat) (cI : ClassId) (g : Nat → Nat) (mo : Int32) (sc fb rq fx mu mn wi bo wa : Nat → Int32) (x1 x2 x3 : Int32) : Met l yX0_edge (ws_ yX0_edge cX0_edge 6 (some .int)) ({ frames := 1, cells := 0, slots := 0, locals := 20 } : Room) (va_Pc [.ref h, .int x1, .int x2, .int x3] (fun U => U.heap.size = sz ∧ va_P (dC, dI) vwCl (wX0 h cI g mo sc fb rq fx mu mn wi bo wa) U.heap ∧ va_K (dC, dI) vwCl [(cI, .int)] U ∧ va_D (fun _ => True) (wX0 h cI g mo sc fb rq fx mu mn wi bo wa))) (va_Qi (fun (r : Int32) (u : (Nat → Int32) × (Nat → Int32)) => (edB x1 x2 = 1 ∧ r = -1 ∧ u = (fb, rq)) ∨ (∃ a b : Nat, a < 4 ∧ b < 4 ∧ ¬ a = b ∧ x1 = nI a ∧ x2 = nI b ∧ r = edO (fb b) (rq b) (nI (1 <<< a)) ∧ u = (upd fb b (edN (fb b) (nI (1 <<< a)) x3 (nI 1)), upd rq b (edN (rq b) (nI (1 <<< a)) x3 (nI 2))))) (fun (u : (Nat → Int32) × (Nat → Int32)) (t : State) => va_P (dC, dI) vwCl (wX0 h cI g mo sc u.1 u.2 fx mu mn wi bo wa) t.heap ∧ va_K (dC, dI) vwCl [(cI, .int)] t ∧ va_D (va_A (wX0 h cI g mo sc fb rq fx mu mn wi bo wa) sz) (wX0 h cI g mo sc u.1 u.2 fx mu mn wi bo wa)) (va_A (wX0 h cI g mo sc fb rq fx mu mn wi bo wa) sz)) 0 0 (va_A (wX0 h cI g mo sc fb rq fx mu mn wi bo wa) sz) := by
  refine Met.ofW (cc := cX0_edge) (maxL := 6) (ret := (some .int)) (by decide) rfl ?_
  intro p e s m args below meth c s₁ B hml hpre
  obtain ⟨rfl, hsz, hP, hK, hD0⟩ := hpre
  have hx := B.exec
  have hb := B.bytes
  have hr := B.returns
  have hts := atoms_spec (ws := (ws_ yX0_edge cX0_edge 6 (some .int))) B.pre
  have hts : ∀ w ∈ lw_all, w.before _ s = true := fun w h => hts w (List.mem_cons_of_mem _ h)
  have hown : s.vm.findClass RX0 = some m.cls := findClass_of_methodNamed B.named
  have hlocks := B.notSynchronized
  subst hsz
  have hD := hD0.self (sz := s.heap.size)
  generalize hAe : va_A (wX0 h cI g mo sc fb rq fx mu mn wi bo wa) s.heap.size = A at hD ⊢
  have hA : ∀ q : Nat, s.heap.size ≤ q → A q := fun q h => by rw [← hAe]; exact Or.inr h
  have hS : va_S A s.heap s.heap [] := va_S.rf
  have hl := lv_entry ([.ref h, .int x1, .int x2, .int x3]) (n := 6) (Nat.le_of_ble_eq_true rfl)
  rw [lg_entry_eq]
  generalize (lg_sl ([.ref h, .int x1, .int x2, .int x3]) ++ List.replicate (6 - (lg_sl ([.ref h, .int x1, .int x2, .int x3])).length) Slot.unset).toArray = ls at hl ⊢
  have hl : lv_has ls 6 [(0, .ref h), (1, .int x1), (2, .int x2), (3, .int x3)] := hl
  refine lv_iload_n hx hb dX0_edge_0 rfl (lv_at hl 1 rfl) ?_
  refine vp_callSi (W.runS (As := [.int x1]) (rest := []) ⟨hx, hb, hml, hown, hts⟩ (metX0_bad l x1) (va_cwS 1 hts (lw_S q73 q74 q23 q75) rfl rfl rfl (by decide +kernel) ⟨Nat.le_of_ble_eq_true rfl, Nat.le_of_ble_eq_true rfl⟩) preEq rfl rfl hl.1 rfl (lv_room (Nat.le_of_ble_eq_true rfl)) dX0_edge_1 ⟨Nat.le_of_ble_eq_true rfl, Nat.le_of_ble_eq_true rfl⟩) (fun r hr_1 => ?_)
  have hr_1 : r = nI (badV x1) := hr_1
  subst hr_1
  refine wk_if_ne (tgt := 19) hx hb dX0_edge_4 (by decide) (by have := badV_le x1; omega) (fun c_4 => ?_) (fun c_4 => ?_)
  · refine lv_iconst (v := (-1)) hx hb dX0_edge_19 (by decide) ?_
    exact W.iret (v := (-1)) hx hb hr (fun T9 hT9 hW9 => ⟨⟨(-1), (fb, rq), rfl, (Or.inl ⟨edB_a c_4, rfl, rfl⟩), by rw [hT9]; exact hP, va_K.moved hW9.alike hK, hD⟩, hS.F hT9⟩) hS.2.2 dX0_edge_20
  · obtain ⟨a, hlta, hxa⟩ := badV_0 c_4
    refine lv_iload_n hx hb dX0_edge_7 rfl (lv_at hl 2 rfl) ?_
    refine vp_callSi (W.runS (As := [.int x2]) (rest := []) ⟨hx, hb, hml, hown, hts⟩ (metX0_bad l x2) (va_cwS 1 hts (lw_S q73 q74 q23 q75) rfl rfl rfl (by decide +kernel) ⟨Nat.le_of_ble_eq_true rfl, Nat.le_of_ble_eq_true rfl⟩) preEq rfl rfl hl.1 rfl (lv_room (Nat.le_of_ble_eq_true rfl)) dX0_edge_8 ⟨Nat.le_of_ble_eq_true rfl, Nat.le_of_ble_eq_true rfl⟩) (fun r hr_8 => ?_)
    have hr_8 : r = nI (badV x2) := hr_8
    subst hr_8
    refine wk_if_ne (tgt := 19) hx hb dX0_edge_11 (by decide) (by have := badV_le x2; omega) (fun c_11 => ?_) (fun c_11 => ?_)
    · refine lv_iconst (v := (-1)) hx hb dX0_edge_19 (by decide) ?_
      exact W.iret (v := (-1)) hx hb hr (fun T9 hT9 hW9 => ⟨⟨(-1), (fb, rq), rfl, (Or.inl ⟨edB_b c_4 c_11, rfl, rfl⟩), by rw [hT9]; exact hP, va_K.moved hW9.alike hK, hD⟩, hS.F hT9⟩) hS.2.2 dX0_edge_20
    · obtain ⟨b, hltb, hxb⟩ := badV_0 c_11
      refine lv_iload_n hx hb dX0_edge_14 rfl (lv_at hl 1 rfl) ?_
      refine wk_top hxa ?_
      refine lv_iload_n hx hb dX0_edge_15 rfl (lv_at hl 2 rfl) ?_
      refine wk_top hxb ?_
      refine wk_icmp_ne (tgt := 21) hx hb dX0_edge_16 (by decide) (by omega) (by omega) (fun c_16 => ?_) (fun c_16 => ?_)
      · refine lv_iconst (v := nI 1) hx hb dX0_edge_21 (by decide) ?_
        refine lv_iload_n hx hb dX0_edge_22 rfl (lv_at hl 1 rfl) ?_
        refine wk_top hxa ?_
        refine wk_ishl1 hx hb dX0_edge_23 (by omega) ?_
        refine lv_istore (lv' := [(4, .int (nI (1 <<< a))), (0, .ref h), (1, .int x1), (2, .int x2), (3, .int x3)]) hx hb dX0_edge_24 hl (by decide) rfl (fun ls hl => ?_)
        refine lv_aload_n hx hb dX0_edge_26 rfl (lv_at hl 1 rfl) ?_
        refine va_get (D := (dC, dI)) (ci := 0) (v := .ref (g 1)) (C := RX0) (T := TX0) (N := 10) hx hb hts in_X0 hown hK hP 0 rfl rfl 2 (by decide) (hts _ q39) (fun _ h9 => h9) rfl dX0_edge_27 ?_
        refine lv_iload_n hx hb dX0_edge_30 rfl (lv_at hl 3 rfl) ?_
        refine wk_top hxb ?_
        refine wk_iald hx hb hK hP 2 0 rfl rfl (ix := b) (by omega) (by decide) dX0_edge_31 ?_
        refine lv_iload hx hb dX0_edge_32 (lv_at hl 0 rfl) ?_
        refine lv_iand hx hb dX0_edge_34 ?_
        have join_59 : ∀ (old : Int32), (old = edO (fb b) (rq b) (nI (1 <<< a))) → ∀ (H : Heap) (locs : List Loc), va_P (dC, dI) vwCl (wX0 h cI g mo sc fb rq fx mu mn wi bo wa) H → va_D A (wX0 h cI g mo sc fb rq fx mu mn wi bo wa) → va_S A s.heap H locs → ∀ (ls : Array Slot), lv_has ls 6 [(0, .ref h), (1, .int x1), (2, .int x2), (3, .int x3), (4, .int (nI (1 <<< a)))] → W p l e (headSpec (ws_ yX0_edge cX0_edge 6 (some .int)) ({ frames := 1, cells := 0, slots := 0, locals := 20 } : Room)).room s m ([.ref h, .int x1, .int x2, .int x3] : List Value).toArray below meth c H locs 0 0 (MQ below (va_Qi (fun (r : Int32) (u : (Nat → Int32) × (Nat → Int32)) => (edB x1 x2 = 1 ∧ r = -1 ∧ u = (fb, rq)) ∨ (∃ a b : Nat, a < 4 ∧ b < 4 ∧ ¬ a = b ∧ x1 = nI a ∧ x2 = nI b ∧ r = edO (fb b) (rq b) (nI (1 <<< a)) ∧ u = (upd fb b (edN (fb b) (nI (1 <<< a)) x3 (nI 1)), upd rq b (edN (rq b) (nI (1 <<< a)) x3 (nI 2))))) (fun (u : (Nat → Int32) × (Nat → Int32)) (t : State) => va_P (dC, dI) vwCl (wX0 h cI g mo sc u.1 u.2 fx mu mn wi bo wa) t.heap ∧ va_K (dC, dI) vwCl [(cI, .int)] t ∧ va_D A (wX0 h cI g mo sc u.1 u.2 fx mu mn wi bo wa)) A) ([.ref h, .int x1, .int x2, .int x3] : List Value).toArray s 0 0 A) (F0 m 59 ls [.int old]) := by
          intro old hinv_59 H locs hP hD hS ls hl
          refine lv_istore (lv' := [(5, .int old), (0, .ref h), (1, .int x1), (2, .int x2), (3, .int x3), (4, .int (nI (1 <<< a)))]) hx hb dX0_edge_59 hl (by decide) rfl (fun ls hl => ?_)
          refine lv_aload_n hx hb dX0_edge_61 rfl (lv_at hl 1 rfl) ?_
          refine va_get (D := (dC, dI)) (ci := 0) (v := .ref (g 1)) (C := RX0) (T := TX0) (N := 10) hx hb hts in_X0 hown hK hP 0 rfl rfl 2 (by decide) (hts _ q39) (fun _ h9 => h9) rfl dX0_edge_62 ?_
          refine lv_iload_n hx hb dX0_edge_65 rfl (lv_at hl 3 rfl) ?_
          refine wk_top hxb ?_
          refine lv_dup2_11 hx hb dX0_edge_66 rfl rfl ?_
          refine wk_iald hx hb hK hP 2 0 rfl rfl (ix := b) (by omega) (by decide) dX0_edge_67 ?_
          refine lv_iload hx hb dX0_edge_68 (lv_at hl 5 rfl) ?_
          refine lv_iconst (v := (-1)) hx hb dX0_edge_70 (by decide) ?_
          refine lv_ixor hx hb dX0_edge_71 ?_
          refine lv_iand hx hb dX0_edge_72 ?_
          refine wk_iast hx hb hK hP hD hS 2 0 rfl rfl (ix := b) (by omega) (by decide) dX0_edge_73 (fun H locs hP hD hS => ?_)
          have hP : va_P (dC, dI) vwCl (wX0 h cI g mo sc (upd fb b ((fb b) &&& (nI (1 <<< a) ^^^ (-1)))) rq fx mu mn wi bo wa) H := hP
          have hD : va_D A (wX0 h cI g mo sc (upd fb b ((fb b) &&& (nI (1 <<< a) ^^^ (-1)))) rq fx mu mn wi bo wa) := hD
          refine lv_aload_n hx hb dX0_edge_74 rfl (lv_at hl 1 rfl) ?_
          refine va_get (D := (dC, dI)) (ci := 0) (v := .ref (g 2)) (C := RX0) (T := TX0) (N := 10) hx hb hts in_X0 hown hK hP 0 rfl rfl 3 (by decide) (hts _ q40) (fun _ h9 => h9) rfl dX0_edge_75 ?_
          refine lv_iload_n hx hb dX0_edge_78 rfl (lv_at hl 3 rfl) ?_
          refine wk_top hxb ?_
          refine lv_dup2_11 hx hb dX0_edge_79 rfl rfl ?_
          refine wk_iald hx hb hK hP 3 0 rfl rfl (ix := b) (by omega) (by decide) dX0_edge_80 ?_
          refine lv_iload hx hb dX0_edge_81 (lv_at hl 5 rfl) ?_
          refine lv_iconst (v := (-1)) hx hb dX0_edge_83 (by decide) ?_
          refine lv_ixor hx hb dX0_edge_84 ?_
          refine lv_iand hx hb dX0_edge_85 ?_
          refine wk_iast hx hb hK hP hD hS 3 0 rfl rfl (ix := b) (by omega) (by decide) dX0_edge_86 (fun H locs hP hD hS => ?_)
          have hP : va_P (dC, dI) vwCl (wX0 h cI g mo sc (upd fb b ((fb b) &&& (nI (1 <<< a) ^^^ (-1)))) (upd rq b ((rq b) &&& (nI (1 <<< a) ^^^ (-1)))) fx mu mn wi bo wa) H := hP
          have hD : va_D A (wX0 h cI g mo sc (upd fb b ((fb b) &&& (nI (1 <<< a) ^^^ (-1)))) (upd rq b ((rq b) &&& (nI (1 <<< a) ^^^ (-1)))) fx mu mn wi bo wa) := hD
          refine lv_iload_n hx hb dX0_edge_87 rfl (lv_at hl 4 rfl) ?_
          refine lv_iconst (v := nI 3) hx hb dX0_edge_88 (by decide) ?_
          refine lv_iand hx hb dX0_edge_89 ?_
          refine lv_iconst (v := nI 1) hx hb dX0_edge_90 (by decide) ?_
          refine lv_icmp_ne (tgt := 105) hx hb dX0_edge_91 (by decide) (fun c_91 => ?_) (fun c_91 => ?_)
          · refine lv_iload_n hx hb dX0_edge_105 rfl (lv_at hl 4 rfl) ?_
            refine lv_iconst (v := nI 3) hx hb dX0_edge_106 (by decide) ?_
            refine lv_iand hx hb dX0_edge_107 ?_
            refine lv_iconst (v := nI 2) hx hb dX0_edge_108 (by decide) ?_
            refine lv_icmp_ne (tgt := 123) hx hb dX0_edge_109 (by decide) (fun c_109 => ?_) (fun c_109 => ?_)
            · refine lv_iload hx hb dX0_edge_123 (lv_at hl 0 rfl) ?_
              exact W.iret (v := old) hx hb hr (fun T9 hT9 hW9 => ⟨⟨old, ((upd fb b ((fb b) &&& (nI (1 <<< a) ^^^ (-1)))), (upd rq b ((rq b) &&& (nI (1 <<< a) ^^^ (-1))))), rfl, (Or.inr ⟨a, b, hlta, hltb, c_16, hxa, hxb, hinv_59, by simp only [edN, if_neg c_91, if_neg c_109, upd_s, upd_u]⟩), by rw [hT9]; exact hP, va_K.moved hW9.alike hK, hD⟩, hS.F hT9⟩) hS.2.2 dX0_edge_125
            · refine lv_aload_n hx hb dX0_edge_112 rfl (lv_at hl 1 rfl) ?_
              refine va_get (D := (dC, dI)) (ci := 0) (v := .ref (g 2)) (C := RX0) (T := TX0) (N := 10) hx hb hts in_X0 hown hK hP 0 rfl rfl 3 (by decide) (hts _ q40) (fun _ h9 => h9) rfl dX0_edge_113 ?_
              refine lv_iload_n hx hb dX0_edge_116 rfl (lv_at hl 3 rfl) ?_
              refine wk_top hxb ?_
              refine lv_dup2_11 hx hb dX0_edge_117 rfl rfl ?_
              refine wk_iald hx hb hK hP 3 0 rfl rfl (ix := b) (by omega) (by decide) dX0_edge_118 ?_
              refine lv_iload hx hb dX0_edge_119 (lv_at hl 5 rfl) ?_
              refine lv_ior hx hb dX0_edge_121 ?_
              refine wk_iast hx hb hK hP hD hS 3 0 rfl rfl (ix := b) (by omega) (by decide) dX0_edge_122 (fun H locs hP hD hS => ?_)
              have hP : va_P (dC, dI) vwCl (wX0 h cI g mo sc (upd fb b ((fb b) &&& (nI (1 <<< a) ^^^ (-1)))) (upd (upd rq b ((rq b) &&& (nI (1 <<< a) ^^^ (-1)))) b (((upd rq b ((rq b) &&& (nI (1 <<< a) ^^^ (-1)))) b) ||| nI (1 <<< a))) fx mu mn wi bo wa) H := hP
              have hD : va_D A (wX0 h cI g mo sc (upd fb b ((fb b) &&& (nI (1 <<< a) ^^^ (-1)))) (upd (upd rq b ((rq b) &&& (nI (1 <<< a) ^^^ (-1)))) b (((upd rq b ((rq b) &&& (nI (1 <<< a) ^^^ (-1)))) b) ||| nI (1 <<< a))) fx mu mn wi bo wa) := hD
              refine lv_iload hx hb dX0_edge_123 (lv_at hl 0 rfl) ?_
              exact W.iret (v := old) hx hb hr (fun T9 hT9 hW9 => ⟨⟨old, ((upd fb b ((fb b) &&& (nI (1 <<< a) ^^^ (-1)))), (upd (upd rq b ((rq b) &&& (nI (1 <<< a) ^^^ (-1)))) b (((upd rq b ((rq b) &&& (nI (1 <<< a) ^^^ (-1)))) b) ||| nI (1 <<< a)))), rfl, (Or.inr ⟨a, b, hlta, hltb, c_16, hxa, hxb, hinv_59, by simp only [edN, if_neg c_91, if_pos c_109, upd_s, upd_u]⟩), by rw [hT9]; exact hP, va_K.moved hW9.alike hK, hD⟩, hS.F hT9⟩) hS.2.2 dX0_edge_125
          · refine lv_aload_n hx hb dX0_edge_94 rfl (lv_at hl 1 rfl) ?_
            refine va_get (D := (dC, dI)) (ci := 0) (v := .ref (g 1)) (C := RX0) (T := TX0) (N := 10) hx hb hts in_X0 hown hK hP 0 rfl rfl 2 (by decide) (hts _ q39) (fun _ h9 => h9) rfl dX0_edge_95 ?_
            refine lv_iload_n hx hb dX0_edge_98 rfl (lv_at hl 3 rfl) ?_
            refine wk_top hxb ?_
            refine lv_dup2_11 hx hb dX0_edge_99 rfl rfl ?_
            refine wk_iald hx hb hK hP 2 0 rfl rfl (ix := b) (by omega) (by decide) dX0_edge_100 ?_
            refine lv_iload hx hb dX0_edge_101 (lv_at hl 5 rfl) ?_
            refine lv_ior hx hb dX0_edge_103 ?_
            refine wk_iast hx hb hK hP hD hS 2 0 rfl rfl (ix := b) (by omega) (by decide) dX0_edge_104 (fun H locs hP hD hS => ?_)
            have hP : va_P (dC, dI) vwCl (wX0 h cI g mo sc (upd (upd fb b ((fb b) &&& (nI (1 <<< a) ^^^ (-1)))) b (((upd fb b ((fb b) &&& (nI (1 <<< a) ^^^ (-1)))) b) ||| nI (1 <<< a))) (upd rq b ((rq b) &&& (nI (1 <<< a) ^^^ (-1)))) fx mu mn wi bo wa) H := hP
            have hD : va_D A (wX0 h cI g mo sc (upd (upd fb b ((fb b) &&& (nI (1 <<< a) ^^^ (-1)))) b (((upd fb b ((fb b) &&& (nI (1 <<< a) ^^^ (-1)))) b) ||| nI (1 <<< a))) (upd rq b ((rq b) &&& (nI (1 <<< a) ^^^ (-1)))) fx mu mn wi bo wa) := hD
            refine lv_iload_n hx hb dX0_edge_105 rfl (lv_at hl 4 rfl) ?_
            refine lv_iconst (v := nI 3) hx hb dX0_edge_106 (by decide) ?_
            refine lv_iand hx hb dX0_edge_107 ?_
            refine lv_iconst (v := nI 2) hx hb dX0_edge_108 (by decide) ?_
            refine lv_icmp_ne (tgt := 123) hx hb dX0_edge_109 (by decide) (fun c_109 => ?_) (fun c_109 => ?_)
            · refine lv_iload hx hb dX0_edge_123 (lv_at hl 0 rfl) ?_
              exact W.iret (v := old) hx hb hr (fun T9 hT9 hW9 => ⟨⟨old, ((upd (upd fb b ((fb b) &&& (nI (1 <<< a) ^^^ (-1)))) b (((upd fb b ((fb b) &&& (nI (1 <<< a) ^^^ (-1)))) b) ||| nI (1 <<< a))), (upd rq b ((rq b) &&& (nI (1 <<< a) ^^^ (-1))))), rfl, (Or.inr ⟨a, b, hlta, hltb, c_16, hxa, hxb, hinv_59, by simp only [edN, if_pos c_91, if_neg c_109, upd_s, upd_u]⟩), by rw [hT9]; exact hP, va_K.moved hW9.alike hK, hD⟩, hS.F hT9⟩) hS.2.2 dX0_edge_125
            · refine lv_aload_n hx hb dX0_edge_112 rfl (lv_at hl 1 rfl) ?_
              refine va_get (D := (dC, dI)) (ci := 0) (v := .ref (g 2)) (C := RX0) (T := TX0) (N := 10) hx hb hts in_X0 hown hK hP 0 rfl rfl 3 (by decide) (hts _ q40) (fun _ h9 => h9) rfl dX0_edge_113 ?_
              refine lv_iload_n hx hb dX0_edge_116 rfl (lv_at hl 3 rfl) ?_
              refine wk_top hxb ?_
              refine lv_dup2_11 hx hb dX0_edge_117 rfl rfl ?_
              refine wk_iald hx hb hK hP 3 0 rfl rfl (ix := b) (by omega) (by decide) dX0_edge_118 ?_
              refine lv_iload hx hb dX0_edge_119 (lv_at hl 5 rfl) ?_
              refine lv_ior hx hb dX0_edge_121 ?_
              refine wk_iast hx hb hK hP hD hS 3 0 rfl rfl (ix := b) (by omega) (by decide) dX0_edge_122 (fun H locs hP hD hS => ?_)
              have hP : va_P (dC, dI) vwCl (wX0 h cI g mo sc (upd (upd fb b ((fb b) &&& (nI (1 <<< a) ^^^ (-1)))) b (((upd fb b ((fb b) &&& (nI (1 <<< a) ^^^ (-1)))) b) ||| nI (1 <<< a))) (upd (upd rq b ((rq b) &&& (nI (1 <<< a) ^^^ (-1)))) b (((upd rq b ((rq b) &&& (nI (1 <<< a) ^^^ (-1)))) b) ||| nI (1 <<< a))) fx mu mn wi bo wa) H := hP
              have hD : va_D A (wX0 h cI g mo sc (upd (upd fb b ((fb b) &&& (nI (1 <<< a) ^^^ (-1)))) b (((upd fb b ((fb b) &&& (nI (1 <<< a) ^^^ (-1)))) b) ||| nI (1 <<< a))) (upd (upd rq b ((rq b) &&& (nI (1 <<< a) ^^^ (-1)))) b (((upd rq b ((rq b) &&& (nI (1 <<< a) ^^^ (-1)))) b) ||| nI (1 <<< a))) fx mu mn wi bo wa) := hD
              refine lv_iload hx hb dX0_edge_123 (lv_at hl 0 rfl) ?_
              exact W.iret (v := old) hx hb hr (fun T9 hT9 hW9 => ⟨⟨old, ((upd (upd fb b ((fb b) &&& (nI (1 <<< a) ^^^ (-1)))) b (((upd fb b ((fb b) &&& (nI (1 <<< a) ^^^ (-1)))) b) ||| nI (1 <<< a))), (upd (upd rq b ((rq b) &&& (nI (1 <<< a) ^^^ (-1)))) b (((upd rq b ((rq b) &&& (nI (1 <<< a) ^^^ (-1)))) b) ||| nI (1 <<< a)))), rfl, (Or.inr ⟨a, b, hlta, hltb, c_16, hxa, hxb, hinv_59, by simp only [edN, if_pos c_91, if_pos c_109, upd_s, upd_u]⟩), by rw [hT9]; exact hP, va_K.moved hW9.alike hK, hD⟩, hS.F hT9⟩) hS.2.2 dX0_edge_125
        refine lv_if_eq (tgt := 42) hx hb dX0_edge_35 (by decide) (fun c_35 => ?_) (fun c_35 => ?_)
        · refine lv_aload_n hx hb dX0_edge_42 rfl (lv_at hl 1 rfl) ?_
          refine va_get (D := (dC, dI)) (ci := 0) (v := .ref (g 2)) (C := RX0) (T := TX0) (N := 10) hx hb hts in_X0 hown hK hP 0 rfl rfl 3 (by decide) (hts _ q40) (fun _ h9 => h9) rfl dX0_edge_43 ?_
          refine lv_iload_n hx hb dX0_edge_46 rfl (lv_at hl 3 rfl) ?_
          refine wk_top hxb ?_
          refine wk_iald hx hb hK hP 3 0 rfl rfl (ix := b) (by omega) (by decide) dX0_edge_47 ?_
          refine lv_iload hx hb dX0_edge_48 (lv_at hl 0 rfl) ?_
          refine lv_iand hx hb dX0_edge_50 ?_
          refine lv_if_eq (tgt := 58) hx hb dX0_edge_51 (by decide) (fun c_51 => ?_) (fun c_51 => ?_)
          · refine lv_iconst (v := nI 0) hx hb dX0_edge_58 (by decide) ?_
            exact join_59 (nI 0) (by unfold edO; rw [if_pos c_35, if_pos c_51]) _ _ hP hD hS ls (lv_sub hl [1, 2, 3, 4, 0] rfl)
          · refine lv_iconst (v := nI 2) hx hb dX0_edge_54 (by decide) ?_
            refine lv_goto (tgt := 59) hx hb dX0_edge_55 (by decide) ?_
            exact join_59 (nI 2) (by unfold edO; rw [if_pos c_35, if_neg c_51]) _ _ hP hD hS ls (lv_sub hl [1, 2, 3, 4, 0] rfl)
        · refine lv_iconst (v := nI 1) hx hb dX0_edge_38 (by decide) ?_
          refine lv_goto (tgt := 59) hx hb dX0_edge_39 (by decide) ?_
          exact join_59 (nI 1) (by unfold edO; rw [if_neg c_35]) _ _ hP hD hS ls (lv_sub hl [1, 2, 3, 4, 0] rfl)
      · refine lv_iconst (v := (-1)) hx hb dX0_edge_19 (by decide) ?_
        exact W.iret (v := (-1)) hx hb hr (fun T9 hT9 hW9 => ⟨⟨(-1), (fb, rq), rfl, (Or.inl ⟨edB_c c_4 c_11 hxa hxb c_16, rfl, rfl⟩), by rw [hT9]; exact hP, va_K.moved hW9.alike hK, hD⟩, hS.F hT9⟩) hS.2.2 dX0_edge_20
set_option maxHeartbeats 4000000 in
set_option maxRecDepth 100000 in
theorem metX0_learn (l : Launch) (dC : Nat → ClassId) (dI : Nat → Nat → Nat) (h sz : Nat) (cI : ClassId) (g : Nat → Nat) (mo : Int32) (sc fb rq fx mu mn wi bo wa : Nat → Int32) (cs : Int64) : Met l yX0_learn (ws_ yX0_learn cX0_learn 5 (some .int)) ({ frames := 3, cells := 0, slots := 0, locals := 75 } : Room) (va_Pc [.ref h, .long cs] (fun U => U.heap.size = sz ∧ va_P (dC, dI) vwCl (wX0 h cI g mo sc fb rq fx mu mn wi bo wa) U.heap ∧ va_K (dC, dI) vwCl [(cI, .int)] U ∧ va_D (fun _ => True) (wX0 h cI g mo sc fb rq fx mu mn wi bo wa))) (va_Qi (fun (r : Int32) (u : (Nat → Int32)) => r = nI 0 ∧ u = lit (lnO cs) sc 4) (fun (u : (Nat → Int32)) (t : State) => va_P (dC, dI) vwCl (wX0 h cI g mo u fb rq fx mu mn wi bo wa) t.heap ∧ va_K (dC, dI) vwCl [(cI, .int)] t ∧ va_D (va_A (wX0 h cI g mo sc fb rq fx mu mn wi bo wa) sz) (wX0 h cI g mo u fb rq fx mu mn wi bo wa)) (va_A (wX0 h cI g mo sc fb rq fx mu mn wi bo wa) sz)) 0 0 (va_A (wX0 h cI g mo sc fb rq fx mu mn wi bo wa) sz) := by
  refine Met.ofW (cc := cX0_learn) (maxL := 5) (ret := (some .int)) (by decide) rfl ?_
  intro p e s m args below meth c s₁ B hml hpre
  obtain ⟨rfl, hsz, hP, hK, hD0⟩ := hpre
  have hx := B.exec
  have hb := B.bytes
  have hr := B.returns
  have hts := atoms_spec (ws := (ws_ yX0_learn cX0_learn 5 (some .int))) B.pre
  have hts : ∀ w ∈ lw_all, w.before _ s = true := fun w h => hts w (List.mem_cons_of_mem _ h)
  have hown : s.vm.findClass RX0 = some m.cls := findClass_of_methodNamed B.named
  have hlocks := B.notSynchronized
  subst hsz
  have hD := hD0.self (sz := s.heap.size)
  generalize hAe : va_A (wX0 h cI g mo sc fb rq fx mu mn wi bo wa) s.heap.size = A at hD ⊢
  have hA : ∀ q : Nat, s.heap.size ≤ q → A q := fun q h => by rw [← hAe]; exact Or.inr h
  have hS : va_S A s.heap s.heap [] := va_S.rf
  have hl := lv_entry ([.ref h, .long cs]) (n := 5) (Nat.le_of_ble_eq_true rfl)
  rw [lg_entry_eq]
  generalize (lg_sl ([.ref h, .long cs]) ++ List.replicate (5 - (lg_sl ([.ref h, .long cs])).length) Slot.unset).toArray = ls at hl ⊢
  have hl : lv_has ls 5 [(0, .ref h), (1, .long cs)] := hl
  refine lv_iconst (v := nI 0) hx hb dX0_learn_0 (by decide) ?_
  refine lv_istore_n (lv' := [(3, .int (nI 0)), (0, .ref h), (1, .long cs)]) hx hb dX0_learn_1 rfl hl (by decide) rfl (fun ls hl => ?_)
  have loop_2 : ∀ (k_2 v : Nat) (s1 : Nat → Int32), v ≤ 4 → 4 + 1 ≤ v + k_2 → (s1 = lit (lnO cs) sc v) → ∀ (H : Heap) (locs : List Loc), va_P (dC, dI) vwCl (wX0 h cI g mo s1 fb rq fx mu mn wi bo wa) H → va_D A (wX0 h cI g mo s1 fb rq fx mu mn wi bo wa) → va_S A s.heap H locs → ∀ (ls : Array Slot), lv_has ls 5 [(0, .ref h), (1, .long cs), (3, .int (nI v))] → W p l e (headSpec (ws_ yX0_learn cX0_learn 5 (some .int)) ({ frames := 3, cells := 0, slots := 0, locals := 75 } : Room)).room s m ([.ref h, .long cs] : List Value).toArray below meth c H locs 0 0 (MQ below (va_Qi (fun (r : Int32) (u : (Nat → Int32)) => r = nI 0 ∧ u = lit (lnO cs) sc 4) (fun (u : (Nat → Int32)) (t : State) => va_P (dC, dI) vwCl (wX0 h cI g mo u fb rq fx mu mn wi bo wa) t.heap ∧ va_K (dC, dI) vwCl [(cI, .int)] t ∧ va_D A (wX0 h cI g mo u fb rq fx mu mn wi bo wa)) A) ([.ref h, .long cs] : List Value).toArray s 0 0 A) (F0 m 2 ls []) := by
    intro k_2
    induction k_2 with
    | zero =>
      intro v s1 h1 h2
      exact absurd h2 (by omega)
    | succ k_2 ih_2 =>
      intro v s1 hi_2 hk_2 hinv_2 H locs hP hD hS ls hl
      refine lv_iload_n hx hb dX0_learn_2 rfl (lv_at hl 2 rfl) ?_
      refine lv_iconst (v := nI 4) hx hb dX0_learn_3 (by decide) ?_
      refine wk_icmp_ge (tgt := 57) hx hb dX0_learn_4 (by decide) (by omega) (by decide) (fun c_4 => ?_) (fun c_4 => ?_)
      · have he_v : v = 4 := by omega
        subst he_v
        refine lv_iconst (v := nI 0) hx hb dX0_learn_57 (by decide) ?_
        exact W.iret (v := nI 0) hx hb hr (fun T9 hT9 hW9 => ⟨⟨nI 0, (s1), rfl, ⟨rfl, hinv_2⟩, by rw [hT9]; exact hP, va_K.moved hW9.alike hK, hD⟩, hS.F hT9⟩) hS.2.2 dX0_learn_58
      · refine lv_iconst (v := nI 0) hx hb dX0_learn_7 (by decide) ?_
        refine lv_istore (lv' := [(4, .int (nI 0)), (0, .ref h), (1, .long cs), (3, .int (nI v))]) hx hb dX0_learn_8 hl (by decide) rfl (fun ls hl => ?_)
        have loop_10 : ∀ (k_10 q : Nat) (s2 : Nat → Int32), q ≤ 16 → 16 + 1 ≤ q + k_10 → (s2 = lit (lnI cs v) s1 q) → ∀ (H : Heap) (locs : List Loc), va_P (dC, dI) vwCl (wX0 h cI g mo s2 fb rq fx mu mn wi bo wa) H → va_D A (wX0 h cI g mo s2 fb rq fx mu mn wi bo wa) → va_S A s.heap H locs → ∀ (ls : Array Slot), lv_has ls 5 [(0, .ref h), (1, .long cs), (3, .int (nI v)), (4, .int (nI q))] → W p l e (headSpec (ws_ yX0_learn cX0_learn 5 (some .int)) ({ frames := 3, cells := 0, slots := 0, locals := 75 } : Room)).room s m ([.ref h, .long cs] : List Value).toArray below meth c H locs 0 0 (MQ below (va_Qi (fun (r : Int32) (u : (Nat → Int32)) => r = nI 0 ∧ u = lit (lnO cs) sc 4) (fun (u : (Nat → Int32)) (t : State) => va_P (dC, dI) vwCl (wX0 h cI g mo u fb rq fx mu mn wi bo wa) t.heap ∧ va_K (dC, dI) vwCl [(cI, .int)] t ∧ va_D A (wX0 h cI g mo u fb rq fx mu mn wi bo wa)) A) ([.ref h, .long cs] : List Value).toArray s 0 0 A) (F0 m 10 ls []) := by
          intro k_10
          induction k_10 with
          | zero =>
            intro q s2 h1 h2
            exact absurd h2 (by omega)
          | succ k_10 ih_10 =>
            intro q s2 hi_10 hk_10 hinv_10 H locs hP hD hS ls hl
            refine lv_iload hx hb dX0_learn_10 (lv_at hl 3 rfl) ?_
            refine lv_bipush (v := nI 16) hx hb dX0_learn_12 (by decide) ?_
            refine wk_icmp_ge (tgt := 51) hx hb dX0_learn_14 (by decide) (by omega) (by decide) (fun c_14 => ?_) (fun c_14 => ?_)
            · have he_q : q = 16 := by omega
              subst he_q
              refine wk_iinc (lv' := [(3, .int (nI (v + 1))), (0, .ref h), (1, .long cs), (4, .int (nI 16))]) hx hb dX0_learn_51 hl (k := 2) rfl (by decide) rfl (fun ls hl => ?_)
              refine lv_goto (tgt := 2) hx hb dX0_learn_54 (by decide) ?_
              exact ih_2 (v + 1) s2 (by omega) (by omega) (by rw [lit_succ, ← hinv_2]; exact hinv_10) _ _ hP hD hS ls (lv_sub hl [1, 2, 0] rfl)
            · refine lv_iload hx hb dX0_learn_17 (lv_at hl 3 rfl) ?_
              refine lv_iload_n hx hb dX0_learn_19 rfl (lv_at hl 2 rfl) ?_
              refine wk_ishr hx hb dX0_learn_20 (by omega) (by omega) ?_
              refine lv_iconst (v := nI 1) hx hb dX0_learn_21 (by decide) ?_
              refine wk_iand hx hb dX0_learn_22 ?_
              have hf_22 : ((q >>> v) &&& 1) ≤ 1 := Nat.and_le_right
              refine wk_if_ne (tgt := 45) hx hb dX0_learn_23 (by decide) (Nat.lt_of_le_of_lt Nat.and_le_right (by decide)) (fun c_23 => ?_) (fun c_23 => ?_)
              · refine wk_iinc (lv' := [(4, .int (nI (q + 1))), (0, .ref h), (1, .long cs), (3, .int (nI v))]) hx hb dX0_learn_45 hl (k := 3) rfl (by decide) rfl (fun ls hl => ?_)
                refine lv_goto (tgt := 10) hx hb dX0_learn_48 (by decide) ?_
                exact ih_10 (q + 1) s2 (by omega) (by omega) (by rw [lit_succ, ← hinv_10]; unfold lnI; rw [if_neg c_23]) _ _ hP hD hS ls (lv_sub hl [1, 2, 3, 0] rfl)
              · refine lv_aload_n hx hb dX0_learn_26 rfl (lv_at hl 0 rfl) ?_
                refine va_get (D := (dC, dI)) (ci := 0) (v := .ref (g 0)) (C := RX0) (T := TX0) (N := 10) hx hb hts in_X0 hown hK hP 0 rfl rfl 0 (by decide) (hts _ q37) (fun _ h9 => h9) rfl dX0_learn_27 ?_
                refine lv_iload_n hx hb dX0_learn_30 rfl (lv_at hl 2 rfl) ?_
                refine lv_bipush (v := nI 16) hx hb dX0_learn_31 (by decide) ?_
                refine wk_imul hx hb dX0_learn_33 ?_
                refine lv_iload hx hb dX0_learn_34 (lv_at hl 3 rfl) ?_
                refine wk_iadd hx hb dX0_learn_36 ?_
                refine lv_lload_n hx hb dX0_learn_37 rfl (lv_at hl 1 rfl) ?_
                refine lv_iload_n hx hb dX0_learn_38 rfl (lv_at hl 2 rfl) ?_
                refine lv_iload hx hb dX0_learn_39 (lv_at hl 3 rfl) ?_
                refine vp_callSi (W.runS (As := [.long cs, .int (nI v), .int (nI q)]) (rest := [.int (nI ((v * 16) + q)), .ref (g 0)]) ⟨hx, hb, hml, hown, hts⟩ (metX0_scoreFrom l cs v q (by omega) (by omega)) (va_cwS 3 hts (lw_S q91 q92 q23 q93) rfl rfl rfl (by decide +kernel) ⟨Nat.le_of_ble_eq_true rfl, Nat.le_of_ble_eq_true rfl⟩) preEq rfl rfl hl.1 rfl (lv_room (Nat.le_of_ble_eq_true rfl)) dX0_learn_41 ⟨Nat.le_of_ble_eq_true rfl, Nat.le_of_ble_eq_true rfl⟩) (fun r hr_41 => ?_)
                have hr_41 : r = (sfF cs v q) := hr_41
                subst hr_41
                refine wk_iast hx hb hK hP hD hS 1 0 rfl rfl (ix := ((v * 16) + q)) (by omega) (by decide) dX0_learn_44 (fun H locs hP hD hS => ?_)
                have hP : va_P (dC, dI) vwCl (wX0 h cI g mo (upd s2 ((v * 16) + q) (sfF cs v q)) fb rq fx mu mn wi bo wa) H := hP
                have hD : va_D A (wX0 h cI g mo (upd s2 ((v * 16) + q) (sfF cs v q)) fb rq fx mu mn wi bo wa) := hD
                refine wk_iinc (lv' := [(4, .int (nI (q + 1))), (0, .ref h), (1, .long cs), (3, .int (nI v))]) hx hb dX0_learn_45 hl (k := 3) rfl (by decide) rfl (fun ls hl => ?_)
                refine lv_goto (tgt := 10) hx hb dX0_learn_48 (by decide) ?_
                exact ih_10 (q + 1) (upd s2 ((v * 16) + q) (sfF cs v q)) (by omega) (by omega) (by rw [lit_succ, ← hinv_10]; unfold lnI; rw [if_pos c_23]) _ _ hP hD hS ls (lv_sub hl [1, 2, 3, 0] rfl)
        exact loop_10 (16 + 1) 0 s1 (by omega) (by omega) rfl _ _ hP hD hS ls (lv_sub hl [1, 2, 3, 0] rfl)
  exact loop_2 (4 + 1) 0 sc (by omega) (by omega) rfl _ _ hP hD hS ls (lv_sub hl [1, 2, 0] rfl)
end
section
set_option maxHeartbeats 4000000 in
set_option maxRecDepth 100000 in
theorem metX1_bad (l : Launch) (dC : Nat → ClassId) (dI : Nat → Nat → Nat) (h sz : Nat) (cI cB : ClassId) (g : Nat → Nat) (li kn mo fi : Int32) (sc sa nc : Nat → Int32) (x : Int32) : Met l yX1_bad (ws_ yX1_bad cX1_bad 2 (some .boolean)) ({ frames := 0, cells := 0, slots := 0, locals := 0 } : Room) (va_Pc [.ref h, .int x] (fun U => va_P (dC, dI) vwCl (wX1 h cI cB g li kn mo fi sc sa nc) U.heap ∧ va_K (dC, dI) vwCl [(cI, .int), (cB, .boolean)] U)) (vp_Si (fun r : Int32 => r = nI (badV x))) 0 0 (fun _ => False) := by
  refine Met.ofW (cc := cX1_bad) (maxL := 2) (ret := (some .boolean)) (by decide) rfl ?_
  intro p e s m args below meth c s₁ B hml hpre
  obtain ⟨rfl, hP, hK⟩ := hpre
  have hx := B.exec
  have hb := B.bytes
  have hr := B.returns
  have hts := atoms_spec (ws := (ws_ yX1_bad cX1_bad 2 (some .boolean))) B.pre
  have hts : ∀ w ∈ lw_all, w.before _ s = true := fun w h => hts w (List.mem_cons_of_mem _ h)
  have hown : s.vm.findClass RX1 = some m.cls := findClass_of_methodNamed B.named
  have hlocks := B.notSynchronized
  have hl := lv_entry ([.ref h, .int x]) (n := 2) (Nat.le_of_ble_eq_true rfl)
  rw [lg_entry_eq]
  generalize (lg_sl ([.ref h, .int x]) ++ List.replicate (2 - (lg_sl ([.ref h, .int x])).length) Slot.unset).toArray = ls at hl ⊢
  have hl : lv_has ls 2 [(0, .ref h), (1, .int x)] := hl
  refine lv_iload_n hx hb dX1_bad_0 rfl (lv_at hl 1 rfl) ?_
  refine lv_if_lt (tgt := 9) hx hb dX1_bad_1 (by decide) (fun c_1 => ?_) (fun c_1 => ?_)
  · refine lv_iconst (v := nI 1) hx hb dX1_bad_9 (by decide) ?_
    refine lv_goto (tgt := 14) hx hb dX1_bad_10 (by decide) ?_
    exact W.zret (v := nI 1) hx hb hr rfl (fun T9 hT9 hW9 => ⟨nI 1, rfl, (congrArg nI (badV_1a c_1).symm), hT9⟩) (fun q h => absurd h List.not_mem_nil) dX1_bad_14
  · refine lv_iload_n hx hb dX1_bad_4 rfl (lv_at hl 1 rfl) ?_
    refine lv_iconst (v := nI 3) hx hb dX1_bad_5 (by decide) ?_
    refine lv_icmp_le (tgt := 13) hx hb dX1_bad_6 (by decide) (fun c_6 => ?_) (fun c_6 => ?_)
    · refine lv_iconst (v := nI 0) hx hb dX1_bad_13 (by decide) ?_
      exact W.zret (v := nI 0) hx hb hr rfl (fun T9 hT9 hW9 => ⟨nI 0, rfl, (congrArg nI (badV_1b c_1 c_6).symm), hT9⟩) (fun q h => absurd h List.not_mem_nil) dX1_bad_14
    · refine lv_iconst (v := nI 1) hx hb dX1_bad_9 (by decide) ?_
      refine lv_goto (tgt := 14) hx hb dX1_bad_10 (by decide) ?_
      exact W.zret (v := nI 1) hx hb hr rfl (fun T9 hT9 hW9 => ⟨nI 1, rfl, (congrArg nI (badV_1c c_1 c_6).symm), hT9⟩) (fun q h => absurd h List.not_mem_nil) dX1_bad_14
set_option maxHeartbeats 4000000 in
set_option maxRecDepth 100000 in
theorem metX1_badMask (l : Launch) (dC : Nat → ClassId) (dI : Nat → Nat → Nat) (h sz : Nat) (cI cB : ClassId) (g : Nat → Nat) (li kn mo fi : Int32) (sc sa nc : Nat → Int32) (v : Nat) (x : Int32) (hv : v < 4) : Met l yX1_badMask (ws_ yX1_badMask cX1_badMask 3 (some .boolean)) ({ frames := 0, cells := 0, slots := 0, locals := 0 } : Room) (va_Pc [.ref h, .int (nI v), .int x] (fun U => va_P (dC, dI) vwCl (wX1 h cI cB g li kn mo fi sc sa nc) U.heap ∧ va_K (dC, dI) vwCl [(cI, .int), (cB, .boolean)] U)) (vp_Si (fun r : Int32 => r = nI (badP v x))) 0 0 (fun _ => False) := by
  refine Met.ofW (cc := cX1_badMask) (maxL := 3) (ret := (some .boolean)) (by decide) rfl ?_
  intro p e s m args below meth c s₁ B hml hpre
  obtain ⟨rfl, hP, hK⟩ := hpre
  have hx := B.exec
  have hb := B.bytes
  have hr := B.returns
  have hts := atoms_spec (ws := (ws_ yX1_badMask cX1_badMask 3 (some .boolean))) B.pre
  have hts : ∀ w ∈ lw_all, w.before _ s = true := fun w h => hts w (List.mem_cons_of_mem _ h)
  have hown : s.vm.findClass RX1 = some m.cls := findClass_of_methodNamed B.named
  have hlocks := B.notSynchronized
  have hl := lv_entry ([.ref h, .int (nI v), .int x]) (n := 3) (Nat.le_of_ble_eq_true rfl)
  rw [lg_entry_eq]
  generalize (lg_sl ([.ref h, .int (nI v), .int x]) ++ List.replicate (3 - (lg_sl ([.ref h, .int (nI v), .int x])).length) Slot.unset).toArray = ls at hl ⊢
  have hl : lv_has ls 3 [(0, .ref h), (1, .int (nI v)), (2, .int x)] := hl
  refine lv_iload_n hx hb dX1_badMask_0 rfl (lv_at hl 2 rfl) ?_
  refine lv_if_lt (tgt := 19) hx hb dX1_badMask_1 (by decide) (fun c_1 => ?_) (fun c_1 => ?_)
  · refine lv_iconst (v := nI 1) hx hb dX1_badMask_19 (by decide) ?_
    refine lv_goto (tgt := 24) hx hb dX1_badMask_20 (by decide) ?_
    exact W.zret (v := nI 1) hx hb hr rfl (fun T9 hT9 hW9 => ⟨nI 1, rfl, (congrArg nI (badP_1a c_1).symm), hT9⟩) (fun q h => absurd h List.not_mem_nil) dX1_badMask_24
  · refine lv_iload_n hx hb dX1_badMask_4 rfl (lv_at hl 2 rfl) ?_
    refine lv_bipush (v := nI 15) hx hb dX1_badMask_5 (by decide) ?_
    refine lv_icmp_gt (tgt := 19) hx hb dX1_badMask_7 (by decide) (fun c_7 => ?_) (fun c_7 => ?_)
    · refine lv_iconst (v := nI 1) hx hb dX1_badMask_19 (by decide) ?_
      refine lv_goto (tgt := 24) hx hb dX1_badMask_20 (by decide) ?_
      exact W.zret (v := nI 1) hx hb hr rfl (fun T9 hT9 hW9 => ⟨nI 1, rfl, (congrArg nI (badP_1b c_1 c_7).symm), hT9⟩) (fun q h => absurd h List.not_mem_nil) dX1_badMask_24
    · refine lv_iload_n hx hb dX1_badMask_10 rfl (lv_at hl 2 rfl) ?_
      refine lv_iload_n hx hb dX1_badMask_11 rfl (lv_at hl 1 rfl) ?_
      refine lv_ishr hx hb dX1_badMask_12 ?_
      refine lv_iconst (v := nI 1) hx hb dX1_badMask_13 (by decide) ?_
      refine lv_iand hx hb dX1_badMask_14 ?_
      refine lv_iconst (v := nI 1) hx hb dX1_badMask_15 (by decide) ?_
      refine lv_icmp_ne (tgt := 23) hx hb dX1_badMask_16 (by decide) (fun c_16 => ?_) (fun c_16 => ?_)
      · refine lv_iconst (v := nI 0) hx hb dX1_badMask_23 (by decide) ?_
        exact W.zret (v := nI 0) hx hb hr rfl (fun T9 hT9 hW9 => ⟨nI 0, rfl, (congrArg nI (badP_1c c_1 c_7 c_16).symm), hT9⟩) (fun q h => absurd h List.not_mem_nil) dX1_badMask_24
      · refine lv_iconst (v := nI 1) hx hb dX1_badMask_19 (by decide) ?_
        refine lv_goto (tgt := 24) hx hb dX1_badMask_20 (by decide) ?_
        exact W.zret (v := nI 1) hx hb hr rfl (fun T9 hT9 hW9 => ⟨nI 1, rfl, (congrArg nI (badP_1d c_1 c_7 c_16).symm), hT9⟩) (fun q h => absurd h List.not_mem_nil) dX1_badMask_24
set_option maxHeartbeats 4000000 in
set_option maxRecDepth 100000 in
theorem metX1_mask (l : Launch) (dC : Nat → ClassId) (dI : Nat → Nat → Nat) (h sz : Nat) (cI cB : ClassId) (g : Nat → Nat) (li kn mo fi : Int32) (sc sa nc : Nat → Int32) (v d : Nat) (hv : v < 4) (hd : d < 8) : Met l yX1_mask (ws_ yX1_mask cX1_mask 4 (some .int)) ({ frames := 0, cells := 0, slots := 0, locals := 0 } : Room) (va_Pc [.ref h, .int (nI v), .int (nI d)] (fun U => va_P (dC, dI) vwCl (wX1 h cI cB g li kn mo fi sc sa nc) U.heap ∧ va_K (dC, dI) vwCl [(cI, .int), (cB, .boolean)] U)) (vp_Si (fun r : Int32 => r = nI (maskN v d))) 0 0 (fun _ => False) := by
  refine Met.ofW (cc := cX1_mask) (maxL := 4) (ret := (some .int)) (by decide) rfl ?_
  intro p e s m args below meth c s₁ B hml hpre
  obtain ⟨rfl, hP, hK⟩ := hpre
  have hx := B.exec
  have hb := B.bytes
  have hr := B.returns
  have hts := atoms_spec (ws := (ws_ yX1_mask cX1_mask 4 (some .int))) B.pre
  have hts : ∀ w ∈ lw_all, w.before _ s = true := fun w h => hts w (List.mem_cons_of_mem _ h)
  have hown : s.vm.findClass RX1 = some m.cls := findClass_of_methodNamed B.named
  have hlocks := B.notSynchronized
  have hl := lv_entry ([.ref h, .int (nI v), .int (nI d)]) (n := 4) (Nat.le_of_ble_eq_true rfl)
  rw [lg_entry_eq]
  generalize (lg_sl ([.ref h, .int (nI v), .int (nI d)]) ++ List.replicate (4 - (lg_sl ([.ref h, .int (nI v), .int (nI d)])).length) Slot.unset).toArray = ls at hl ⊢
  have hl : lv_has ls 4 [(0, .ref h), (1, .int (nI v)), (2, .int (nI d))] := hl
  refine lv_iload_n hx hb dX1_mask_0 rfl (lv_at hl 2 rfl) ?_
  refine lv_iconst (v := nI 1) hx hb dX1_mask_1 (by decide) ?_
  refine lv_iload_n hx hb dX1_mask_2 rfl (lv_at hl 1 rfl) ?_
  refine wk_ishl1 hx hb dX1_mask_3 (by omega) ?_
  refine lv_iconst (v := nI 1) hx hb dX1_mask_4 (by decide) ?_
  refine lv_isub hx hb dX1_mask_5 ?_
  refine lv_iand hx hb dX1_mask_6 ?_
  refine lv_istore_n (lv' := [(3, .int (nI d &&& (nI (1 <<< v) - nI 1))), (0, .ref h), (1, .int (nI v)), (2, .int (nI d))]) hx hb dX1_mask_7 rfl hl (by decide) rfl (fun ls hl => ?_)
  refine lv_iload_n hx hb dX1_mask_8 rfl (lv_at hl 0 rfl) ?_
  refine lv_iload_n hx hb dX1_mask_9 rfl (lv_at hl 3 rfl) ?_
  refine lv_iload_n hx hb dX1_mask_10 rfl (lv_at hl 2 rfl) ?_
  refine wk_ishr hx hb dX1_mask_11 (by omega) (by omega) ?_
  refine lv_iload_n hx hb dX1_mask_12 rfl (lv_at hl 2 rfl) ?_
  refine lv_iconst (v := nI 1) hx hb dX1_mask_13 (by decide) ?_
  refine wk_iadd hx hb dX1_mask_14 ?_
  refine lv_ishl hx hb dX1_mask_15 ?_
  refine lv_ior hx hb dX1_mask_16 ?_
  refine wk_top (y := nI (maskN v d)) (mask_raw v hv d hd) ?_
  exact W.iret (v := nI (maskN v d)) hx hb hr (fun T9 hT9 hW9 => ⟨nI (maskN v d), rfl, rfl, hT9⟩) (fun q h => absurd h List.not_mem_nil) dX1_mask_17
set_option maxHeartbeats 4000000 in
set_option maxRecDepth 100000 in
theorem metX1_digit (l : Launch) (dC : Nat → ClassId) (dI : Nat → Nat → Nat) (h sz : Nat) (cI cB : ClassId) (g : Nat → Nat) (li kn mo fi : Int32) (sc sa nc : Nat → Int32) (v x : Nat) (hv : v < 4) (hx16 : x < 16) : Met l yX1_digit (ws_ yX1_digit cX1_digit 4 (some .int)) ({ frames := 0, cells := 0, slots := 0, locals := 0 } : Room) (va_Pc [.ref h, .int (nI v), .int (nI x)] (fun U => va_P (dC, dI) vwCl (wX1 h cI cB g li kn mo fi sc sa nc) U.heap ∧ va_K (dC, dI) vwCl [(cI, .int), (cB, .boolean)] U)) (vp_Si (fun r : Int32 => r = nI (digM v x))) 0 0 (fun _ => False) := by
  refine Met.ofW (cc := cX1_digit) (maxL := 4) (ret := (some .int)) (by decide) rfl ?_
  intro p e s m args below meth c s₁ B hml hpre
  obtain ⟨rfl, hP, hK⟩ := hpre
  have hx := B.exec
  have hb := B.bytes
  have hr := B.returns
  have hts := atoms_spec (ws := (ws_ yX1_digit cX1_digit 4 (some .int))) B.pre
  have hts : ∀ w ∈ lw_all, w.before _ s = true := fun w h => hts w (List.mem_cons_of_mem _ h)
  have hown : s.vm.findClass RX1 = some m.cls := findClass_of_methodNamed B.named
  have hlocks := B.notSynchronized
  have hl := lv_entry ([.ref h, .int (nI v), .int (nI x)]) (n := 4) (Nat.le_of_ble_eq_true rfl)
  rw [lg_entry_eq]
  generalize (lg_sl ([.ref h, .int (nI v), .int (nI x)]) ++ List.replicate (4 - (lg_sl ([.ref h, .int (nI v), .int (nI x)])).length) Slot.unset).toArray = ls at hl ⊢
  have hl : lv_has ls 4 [(0, .ref h), (1, .int (nI v)), (2, .int (nI x))] := hl
  refine lv_iload_n hx hb dX1_digit_0 rfl (lv_at hl 2 rfl) ?_
  refine lv_iconst (v := nI 1) hx hb dX1_digit_1 (by decide) ?_
  refine lv_iload_n hx hb dX1_digit_2 rfl (lv_at hl 1 rfl) ?_
  refine wk_ishl1 hx hb dX1_digit_3 (by omega) ?_
  refine lv_iconst (v := nI 1) hx hb dX1_digit_4 (by decide) ?_
  refine lv_isub hx hb dX1_digit_5 ?_
  refine lv_iand hx hb dX1_digit_6 ?_
  refine lv_istore_n (lv' := [(3, .int (nI x &&& (nI (1 <<< v) - nI 1))), (0, .ref h), (1, .int (nI v)), (2, .int (nI x))]) hx hb dX1_digit_7 rfl hl (by decide) rfl (fun ls hl => ?_)
  refine lv_iload_n hx hb dX1_digit_8 rfl (lv_at hl 0 rfl) ?_
  refine lv_iload_n hx hb dX1_digit_9 rfl (lv_at hl 3 rfl) ?_
  refine lv_iload_n hx hb dX1_digit_10 rfl (lv_at hl 2 rfl) ?_
  refine lv_iconst (v := nI 1) hx hb dX1_digit_11 (by decide) ?_
  refine wk_iadd hx hb dX1_digit_12 ?_
  refine wk_ishr hx hb dX1_digit_13 (by omega) (by omega) ?_
  refine lv_iload_n hx hb dX1_digit_14 rfl (lv_at hl 2 rfl) ?_
  refine lv_ishl hx hb dX1_digit_15 ?_
  refine lv_ior hx hb dX1_digit_16 ?_
  refine wk_top (y := nI (digM v x)) (digit_raw v hv x hx16) ?_
  exact W.iret (v := nI (digM v x)) hx hb hr (fun T9 hT9 hW9 => ⟨nI (digM v x), rfl, rfl, hT9⟩) (fun q h => absurd h List.not_mem_nil) dX1_digit_17
set_option maxHeartbeats 4000000 in
set_option maxRecDepth 100000 in
theorem metX1_digitOf (l : Launch) (dC : Nat → ClassId) (dI : Nat → Nat → Nat) (h sz : Nat) (cI cB : ClassId) (g : Nat → Nat) (li kn mo fi : Int32) (sc sa nc : Nat → Int32) (z v : Nat) (hz : z < 4096) (hv : v < 4) : Met l yX1_digitOf (ws_ yX1_digitOf cX1_digitOf 3 (some .int)) ({ frames := 0, cells := 0, slots := 0, locals := 0 } : Room) (va_Pc [.ref h, .int (nI z), .int (nI v)] (fun U => va_P (dC, dI) vwCl (wX1 h cI cB g li kn mo fi sc sa nc) U.heap ∧ va_K (dC, dI) vwCl [(cI, .int), (cB, .boolean)] U)) (vp_Si (fun r : Int32 => r = nI (dgt z v))) 0 0 (fun _ => False) := by
  refine Met.ofW (cc := cX1_digitOf) (maxL := 3) (ret := (some .int)) (by decide) rfl ?_
  intro p e s m args below meth c s₁ B hml hpre
  obtain ⟨rfl, hP, hK⟩ := hpre
  have hx := B.exec
  have hb := B.bytes
  have hr := B.returns
  have hts := atoms_spec (ws := (ws_ yX1_digitOf cX1_digitOf 3 (some .int))) B.pre
  have hts : ∀ w ∈ lw_all, w.before _ s = true := fun w h => hts w (List.mem_cons_of_mem _ h)
  have hown : s.vm.findClass RX1 = some m.cls := findClass_of_methodNamed B.named
  have hlocks := B.notSynchronized
  have hl := lv_entry ([.ref h, .int (nI z), .int (nI v)]) (n := 3) (Nat.le_of_ble_eq_true rfl)
  rw [lg_entry_eq]
  generalize (lg_sl ([.ref h, .int (nI z), .int (nI v)]) ++ List.replicate (3 - (lg_sl ([.ref h, .int (nI z), .int (nI v)])).length) Slot.unset).toArray = ls at hl ⊢
  have hl : lv_has ls 3 [(0, .ref h), (1, .int (nI z)), (2, .int (nI v))] := hl
  refine lv_iload_n hx hb dX1_digitOf_0 rfl (lv_at hl 1 rfl) ?_
  refine lv_iconst (v := nI 3) hx hb dX1_digitOf_1 (by decide) ?_
  refine lv_iconst (v := nI 3) hx hb dX1_digitOf_2 (by decide) ?_
  refine lv_iload_n hx hb dX1_digitOf_3 rfl (lv_at hl 2 rfl) ?_
  refine lv_isub hx hb dX1_digitOf_4 ?_
  refine lv_imul hx hb dX1_digitOf_5 ?_
  refine wk_top (y := nI (3 * (3 - v))) (dgt_raw v hv) ?_
  refine wk_ishr hx hb dX1_digitOf_6 (by omega) (by omega) ?_
  refine lv_bipush (v := nI 7) hx hb dX1_digitOf_7 (by decide) ?_
  refine wk_iand hx hb dX1_digitOf_9 ?_
  have hf_9 : ((z >>> (3 * (3 - v))) &&& 7) ≤ 7 := Nat.and_le_right
  exact W.iret (v := nI ((z >>> (3 * (3 - v))) &&& 7)) hx hb hr (fun T9 hT9 hW9 => ⟨nI ((z >>> (3 * (3 - v))) &&& 7), rfl, rfl, hT9⟩) (fun q h => absurd h List.not_mem_nil) dX1_digitOf_10
set_option maxHeartbeats 4000000 in
set_option maxRecDepth 100000 in
theorem metX1_parentsOf (l : Launch) (dC : Nat → ClassId) (dI : Nat → Nat → Nat) (h sz : Nat) (cI cB : ClassId) (g : Nat → Nat) (li kn mo fi : Int32) (sc sa nc : Nat → Int32) (z v : Nat) (hz : z < 4096) (hv : v < 4) : Met l yX1_parentsOf (ws_ yX1_parentsOf cX1_parentsOf 4 (some .int)) ({ frames := 1, cells := 0, slots := 0, locals := 23 } : Room) (va_Pc [.ref h, .int (nI z), .int (nI v)] (fun U => va_P (dC, dI) vwCl (wX1 h cI cB g li kn mo fi sc sa nc) U.heap ∧ va_K (dC, dI) vwCl [(cI, .int), (cB, .boolean)] U)) (vp_Si (fun r : Int32 => r = nI (parN z v))) 0 0 (fun _ => False) := by
  refine Met.ofW (cc := cX1_parentsOf) (maxL := 4) (ret := (some .int)) (by decide) rfl ?_
  intro p e s m args below meth c s₁ B hml hpre
  obtain ⟨rfl, hP, hK⟩ := hpre
  have hx := B.exec
  have hb := B.bytes
  have hr := B.returns
  have hts := atoms_spec (ws := (ws_ yX1_parentsOf cX1_parentsOf 4 (some .int))) B.pre
  have hts : ∀ w ∈ lw_all, w.before _ s = true := fun w h => hts w (List.mem_cons_of_mem _ h)
  have hown : s.vm.findClass RX1 = some m.cls := findClass_of_methodNamed B.named
  have hlocks := B.notSynchronized
  have hl := lv_entry ([.ref h, .int (nI z), .int (nI v)]) (n := 4) (Nat.le_of_ble_eq_true rfl)
  rw [lg_entry_eq]
  generalize (lg_sl ([.ref h, .int (nI z), .int (nI v)]) ++ List.replicate (4 - (lg_sl ([.ref h, .int (nI z), .int (nI v)])).length) Slot.unset).toArray = ls at hl ⊢
  have hl : lv_has ls 4 [(0, .ref h), (1, .int (nI z)), (2, .int (nI v))] := hl
  refine lv_aload_n hx hb dX1_parentsOf_0 rfl (lv_at hl 0 rfl) ?_
  refine lv_iload_n hx hb dX1_parentsOf_1 rfl (lv_at hl 1 rfl) ?_
  refine lv_iload_n hx hb dX1_parentsOf_2 rfl (lv_at hl 2 rfl) ?_
  refine vp_callSi (W.runV (b := h) (As := [.int (nI z), .int (nI v)]) (rest := []) ⟨hx, hb, hml, hown, hts⟩ (metX1_digitOf l dC dI h 0 cI cB g li kn mo fi sc sa nc z v hz hv) (cwV 2 hts (lw_V q167 q169 qs8 q24 q170) rfl rfl rfl (by decide +kernel) ⟨Nat.le_of_ble_eq_true rfl, Nat.le_of_ble_eq_true rfl⟩) ⟨fun a U g mk q => ⟨q.1, q.2.1, va_K.moved (u := U) (U := U.calling g mk a) (Vm.Alike.refl U.vm) q.2.2⟩, va_recv hK hP (ci := 1) (q0 := 0) rfl rfl, fun U hU hW => ⟨rfl, by rw [hU]; exact hP, va_K.moved hW.alike hK⟩⟩ rfl rfl hl.1 rfl (lv_room (Nat.le_of_ble_eq_true rfl)) dX1_parentsOf_3 ⟨Nat.le_of_ble_eq_true rfl, Nat.le_of_ble_eq_true rfl⟩) (fun r hr_3 => ?_)
  have hr_3 : r = nI (dgt z v) := hr_3
  subst hr_3
  have hd_3 := dgt_lt z v
  refine lv_istore_n (lv' := [(3, .int (nI (dgt z v))), (0, .ref h), (1, .int (nI z)), (2, .int (nI v))]) hx hb dX1_parentsOf_6 rfl hl (by decide) rfl (fun ls hl => ?_)
  refine lv_aload_n hx hb dX1_parentsOf_7 rfl (lv_at hl 1 rfl) ?_
  refine lv_iload_n hx hb dX1_parentsOf_8 rfl (lv_at hl 3 rfl) ?_
  refine lv_iload_n hx hb dX1_parentsOf_9 rfl (lv_at hl 0 rfl) ?_
  refine vp_callSi (W.runV (b := h) (As := [.int (nI v), .int (nI (dgt z v))]) (rest := []) ⟨hx, hb, hml, hown, hts⟩ (metX1_mask l dC dI h 0 cI cB g li kn mo fi sc sa nc v (dgt z v) hv hd_3) (cwV 2 hts (lw_V q171 q173 qs9 q24 q174) rfl rfl rfl (by decide +kernel) ⟨Nat.le_of_ble_eq_true rfl, Nat.le_of_ble_eq_true rfl⟩) ⟨fun a U g mk q => ⟨q.1, q.2.1, va_K.moved (u := U) (U := U.calling g mk a) (Vm.Alike.refl U.vm) q.2.2⟩, va_recv hK hP (ci := 1) (q0 := 0) rfl rfl, fun U hU hW => ⟨rfl, by rw [hU]; exact hP, va_K.moved hW.alike hK⟩⟩ rfl rfl hl.1 rfl (lv_room (Nat.le_of_ble_eq_true rfl)) dX1_parentsOf_10 ⟨Nat.le_of_ble_eq_true rfl, Nat.le_of_ble_eq_true rfl⟩) (fun r hr_10 => ?_)
  have hr_10 : r = nI (maskN v (dgt z v)) := hr_10
  subst hr_10
  exact W.iret (v := nI (maskN v (dgt z v))) hx hb hr (fun T9 hT9 hW9 => ⟨nI (maskN v (dgt z v)), rfl, rfl, hT9⟩) (fun q h => absurd h List.not_mem_nil) dX1_parentsOf_13
set_option maxHeartbeats 4000000 in
set_option maxRecDepth 100000 in
theorem metX1_bits (l : Launch) (dC : Nat → ClassId) (dI : Nat → Nat → Nat) (h sz : Nat) (cI cB : ClassId) (g : Nat → Nat) (li kn mo fi : Int32) (sc sa nc : Nat → Int32) (x : Nat) (hx16 : x < 16) : Met l yX1_bits (ws_ yX1_bits cX1_bits 2 (some .int)) ({ frames := 0, cells := 0, slots := 0, locals := 0 } : Room) (va_Pc [.ref h, .int (nI x)] (fun U => va_P (dC, dI) vwCl (wX1 h cI cB g li kn mo fi sc sa nc) U.heap ∧ va_K (dC, dI) vwCl [(cI, .int), (cB, .boolean)] U)) (vp_Si (fun r : Int32 => r = nI (szN x))) 0 0 (fun _ => False) := by
  refine Met.ofW (cc := cX1_bits) (maxL := 2) (ret := (some .int)) (by decide) rfl ?_
  intro p e s m args below meth c s₁ B hml hpre
  obtain ⟨rfl, hP, hK⟩ := hpre
  have hx := B.exec
  have hb := B.bytes
  have hr := B.returns
  have hts := atoms_spec (ws := (ws_ yX1_bits cX1_bits 2 (some .int))) B.pre
  have hts : ∀ w ∈ lw_all, w.before _ s = true := fun w h => hts w (List.mem_cons_of_mem _ h)
  have hown : s.vm.findClass RX1 = some m.cls := findClass_of_methodNamed B.named
  have hlocks := B.notSynchronized
  have hl := lv_entry ([.ref h, .int (nI x)]) (n := 2) (Nat.le_of_ble_eq_true rfl)
  rw [lg_entry_eq]
  generalize (lg_sl ([.ref h, .int (nI x)]) ++ List.replicate (2 - (lg_sl ([.ref h, .int (nI x)])).length) Slot.unset).toArray = ls at hl ⊢
  have hl : lv_has ls 2 [(0, .ref h), (1, .int (nI x))] := hl
  refine lv_iload_n hx hb dX1_bits_0 rfl (lv_at hl 1 rfl) ?_
  refine lv_iconst (v := nI 1) hx hb dX1_bits_1 (by decide) ?_
  refine wk_iand hx hb dX1_bits_2 ?_
  have hf_2 : (x &&& 1) ≤ 1 := Nat.and_le_right
  refine lv_iload_n hx hb dX1_bits_3 rfl (lv_at hl 1 rfl) ?_
  refine lv_iconst (v := nI 1) hx hb dX1_bits_4 (by decide) ?_
  refine wk_ishr hx hb dX1_bits_5 (by omega) (by omega) ?_
  refine lv_iconst (v := nI 1) hx hb dX1_bits_6 (by decide) ?_
  refine wk_iand hx hb dX1_bits_7 ?_
  have hf_7 : ((x >>> 1) &&& 1) ≤ 1 := Nat.and_le_right
  refine wk_iadd hx hb dX1_bits_8 ?_
  refine lv_iload_n hx hb dX1_bits_9 rfl (lv_at hl 1 rfl) ?_
  refine lv_iconst (v := nI 2) hx hb dX1_bits_10 (by decide) ?_
  refine wk_ishr hx hb dX1_bits_11 (by omega) (by omega) ?_
  refine lv_iconst (v := nI 1) hx hb dX1_bits_12 (by decide) ?_
  refine wk_iand hx hb dX1_bits_13 ?_
  have hf_13 : ((x >>> 2) &&& 1) ≤ 1 := Nat.and_le_right
  refine wk_iadd hx hb dX1_bits_14 ?_
  refine lv_iload_n hx hb dX1_bits_15 rfl (lv_at hl 1 rfl) ?_
  refine lv_iconst (v := nI 3) hx hb dX1_bits_16 (by decide) ?_
  refine wk_ishr hx hb dX1_bits_17 (by omega) (by omega) ?_
  refine lv_iconst (v := nI 1) hx hb dX1_bits_18 (by decide) ?_
  refine wk_iand hx hb dX1_bits_19 ?_
  have hf_19 : ((x >>> 3) &&& 1) ≤ 1 := Nat.and_le_right
  refine wk_iadd hx hb dX1_bits_20 ?_
  exact W.iret (v := nI ((((x &&& 1) + ((x >>> 1) &&& 1)) + ((x >>> 2) &&& 1)) + ((x >>> 3) &&& 1))) hx hb hr (fun T9 hT9 hW9 => ⟨nI ((((x &&& 1) + ((x >>> 1) &&& 1)) + ((x >>> 2) &&& 1)) + ((x >>> 3) &&& 1)), rfl, (congrArg nI (bits_sz x hx16)), hT9⟩) (fun q h => absurd h List.not_mem_nil) dX1_bits_21
set_option maxHeartbeats 4000000 in
set_option maxRecDepth 100000 in
theorem metX1_hasCircle (l : Launch) (dC : Nat → ClassId) (dI : Nat → Nat → Nat) (h sz : Nat) (cI cB : ClassId) (g : Nat → Nat) (li kn mo fi : Int32) (sc sa nc : Nat → Int32) (z : Nat) (hz : z < 4096) : Met l yX1_hasCircle (ws_ yX1_hasCircle cX1_hasCircle 6 (some .boolean)) ({ frames := 2, cells := 0, slots := 0, locals := 46 } : Room) (va_Pc [.ref h, .int (nI z)] (fun U => va_P (dC, dI) vwCl (wX1 h cI cB g li kn mo fi sc sa nc) U.heap ∧ va_K (dC, dI) vwCl [(cI, .int), (cB, .boolean)] U)) (vp_Si (fun r : Int32 => r = nI (circ z))) 0 0 (fun _ => False) := by
  refine Met.ofW (cc := cX1_hasCircle) (maxL := 6) (ret := (some .boolean)) (by decide) rfl ?_
  intro p e s m args below meth c s₁ B hml hpre
  obtain ⟨rfl, hP, hK⟩ := hpre
  have hx := B.exec
  have hb := B.bytes
  have hr := B.returns
  have hts := atoms_spec (ws := (ws_ yX1_hasCircle cX1_hasCircle 6 (some .boolean))) B.pre
  have hts : ∀ w ∈ lw_all, w.before _ s = true := fun w h => hts w (List.mem_cons_of_mem _ h)
  have hown : s.vm.findClass RX1 = some m.cls := findClass_of_methodNamed B.named
  have hlocks := B.notSynchronized
  have hl := lv_entry ([.ref h, .int (nI z)]) (n := 6) (Nat.le_of_ble_eq_true rfl)
  rw [lg_entry_eq]
  generalize (lg_sl ([.ref h, .int (nI z)]) ++ List.replicate (6 - (lg_sl ([.ref h, .int (nI z)])).length) Slot.unset).toArray = ls at hl ⊢
  have hl : lv_has ls 6 [(0, .ref h), (1, .int (nI z))] := hl
  refine lv_iconst (v := nI 0) hx hb dX1_hasCircle_0 (by decide) ?_
  refine lv_istore_n (lv' := [(2, .int (nI 0)), (0, .ref h), (1, .int (nI z))]) hx hb dX1_hasCircle_1 rfl hl (by decide) rfl (fun ls hl => ?_)
  refine lv_iconst (v := nI 0) hx hb dX1_hasCircle_2 (by decide) ?_
  refine lv_istore_n (lv' := [(3, .int (nI 0)), (2, .int (nI 0)), (0, .ref h), (1, .int (nI z))]) hx hb dX1_hasCircle_3 rfl hl (by decide) rfl (fun ls hl => ?_)
  have loop_4 : ∀ (k_4 k : Nat) (tk : Nat), k ≤ 4 → 4 + 1 ≤ k + k_4 → (tk = lit (hcO z) 0 k ∧ tk < 16) → ∀ (ls : Array Slot), lv_has ls 6 [(0, .ref h), (1, .int (nI z)), (2, .int (nI tk)), (3, .int (nI k))] → W p l e (headSpec (ws_ yX1_hasCircle cX1_hasCircle 6 (some .boolean)) ({ frames := 2, cells := 0, slots := 0, locals := 46 } : Room)).room s m ([.ref h, .int (nI z)] : List Value).toArray below meth c s.heap [] 0 0 (MQ below (vp_Si (fun r : Int32 => r = nI (circ z))) ([.ref h, .int (nI z)] : List Value).toArray s 0 0 (fun _ => False)) (F0 m 4 ls []) := by
    intro k_4
    induction k_4 with
    | zero =>
      intro k tk h1 h2
      exact absurd h2 (by omega)
    | succ k_4 ih_4 =>
      intro k tk hi_4 hk_4 hinv_4 ls hl
      have hb_4 := hinv_4.2
      refine lv_iload_n hx hb dX1_hasCircle_4 rfl (lv_at hl 3 rfl) ?_
      refine lv_iconst (v := nI 4) hx hb dX1_hasCircle_5 (by decide) ?_
      refine wk_icmp_ge (tgt := 55) hx hb dX1_hasCircle_6 (by decide) (by omega) (by decide) (fun c_6 => ?_) (fun c_6 => ?_)
      · have he_k : k = 4 := by omega
        subst he_k
        refine lv_iload_n hx hb dX1_hasCircle_55 rfl (lv_at hl 2 rfl) ?_
        refine lv_bipush (v := nI 15) hx hb dX1_hasCircle_56 (by decide) ?_
        refine wk_icmp_eq (tgt := 65) hx hb dX1_hasCircle_58 (by decide) (by omega) (by decide) (fun c_58 => ?_) (fun c_58 => ?_)
        · refine lv_iconst (v := nI 0) hx hb dX1_hasCircle_65 (by decide) ?_
          exact W.zret (v := nI 0) hx hb hr rfl (fun T9 hT9 hW9 => ⟨nI 0, rfl, (by unfold circ; rw [← hinv_4.1, if_pos c_58]), hT9⟩) (fun q h => absurd h List.not_mem_nil) dX1_hasCircle_66
        · refine lv_iconst (v := nI 1) hx hb dX1_hasCircle_61 (by decide) ?_
          refine lv_goto (tgt := 66) hx hb dX1_hasCircle_62 (by decide) ?_
          exact W.zret (v := nI 1) hx hb hr rfl (fun T9 hT9 hW9 => ⟨nI 1, rfl, (by unfold circ; rw [← hinv_4.1, if_neg c_58]), hT9⟩) (fun q h => absurd h List.not_mem_nil) dX1_hasCircle_66
      · refine lv_iconst (v := nI 0) hx hb dX1_hasCircle_9 (by decide) ?_
        refine lv_istore (lv' := [(4, .int (nI 0)), (0, .ref h), (1, .int (nI z)), (2, .int (nI tk)), (3, .int (nI k))]) hx hb dX1_hasCircle_10 hl (by decide) rfl (fun ls hl => ?_)
        have loop_12 : ∀ (k_12 v : Nat) (t2 : Nat), v ≤ 4 → 4 + 1 ≤ v + k_12 → (t2 = lit (hcS z) tk v ∧ t2 < 16) → ∀ (ls : Array Slot), lv_has ls 6 [(0, .ref h), (1, .int (nI z)), (2, .int (nI t2)), (3, .int (nI k)), (4, .int (nI v))] → W p l e (headSpec (ws_ yX1_hasCircle cX1_hasCircle 6 (some .boolean)) ({ frames := 2, cells := 0, slots := 0, locals := 46 } : Room)).room s m ([.ref h, .int (nI z)] : List Value).toArray below meth c s.heap [] 0 0 (MQ below (vp_Si (fun r : Int32 => r = nI (circ z))) ([.ref h, .int (nI z)] : List Value).toArray s 0 0 (fun _ => False)) (F0 m 12 ls []) := by
          intro k_12
          induction k_12 with
          | zero =>
            intro v t2 h1 h2
            exact absurd h2 (by omega)
          | succ k_12 ih_12 =>
            intro v t2 hi_12 hk_12 hinv_12 ls hl
            have hb_12 := hinv_12.2
            refine lv_iload hx hb dX1_hasCircle_12 (lv_at hl 4 rfl) ?_
            refine lv_iconst (v := nI 4) hx hb dX1_hasCircle_14 (by decide) ?_
            refine wk_icmp_ge (tgt := 49) hx hb dX1_hasCircle_15 (by decide) (by omega) (by decide) (fun c_15 => ?_) (fun c_15 => ?_)
            · have he_v : v = 4 := by omega
              subst he_v
              refine wk_iinc (lv' := [(3, .int (nI (k + 1))), (0, .ref h), (1, .int (nI z)), (2, .int (nI t2)), (4, .int (nI 4))]) hx hb dX1_hasCircle_49 hl (k := 3) rfl (by decide) rfl (fun ls hl => ?_)
              refine lv_goto (tgt := 4) hx hb dX1_hasCircle_52 (by decide) ?_
              exact ih_4 (k + 1) t2 (by omega) (by omega) ⟨by rw [lit_succ, ← hinv_4.1]; exact hinv_12.1, hinv_12.2⟩ ls (lv_sub hl [1, 2, 3, 0] rfl)
            · refine lv_aload_n hx hb dX1_hasCircle_18 rfl (lv_at hl 0 rfl) ?_
              refine lv_iload_n hx hb dX1_hasCircle_19 rfl (lv_at hl 1 rfl) ?_
              refine lv_iload hx hb dX1_hasCircle_20 (lv_at hl 4 rfl) ?_
              refine vp_callSi (W.runV (b := h) (As := [.int (nI z), .int (nI v)]) (rest := []) ⟨hx, hb, hml, hown, hts⟩ (metX1_parentsOf l dC dI h 0 cI cB g li kn mo fi sc sa nc z v hz (by omega)) (cwV 2 hts (lw_V q163 q165 qs7 q24 q166) rfl rfl rfl (by decide +kernel) ⟨Nat.le_of_ble_eq_true rfl, Nat.le_of_ble_eq_true rfl⟩) ⟨fun a U g mk q => ⟨q.1, q.2.1, va_K.moved (u := U) (U := U.calling g mk a) (Vm.Alike.refl U.vm) q.2.2⟩, va_recv hK hP (ci := 1) (q0 := 0) rfl rfl, fun U hU hW => ⟨rfl, by rw [hU]; exact hP, va_K.moved hW.alike hK⟩⟩ rfl rfl hl.1 rfl (lv_room (Nat.le_of_ble_eq_true rfl)) dX1_hasCircle_22 ⟨Nat.le_of_ble_eq_true rfl, Nat.le_of_ble_eq_true rfl⟩) (fun r hr_22 => ?_)
              have hr_22 : r = nI (parN z v) := hr_22
              subst hr_22
              have hp_22 := parN_lt z (v := v) (by omega)
              refine lv_istore (lv' := [(5, .int (nI (parN z v))), (0, .ref h), (1, .int (nI z)), (2, .int (nI t2)), (3, .int (nI k)), (4, .int (nI v))]) hx hb dX1_hasCircle_25 hl (by decide) rfl (fun ls hl => ?_)
              refine lv_iload hx hb dX1_hasCircle_27 (lv_at hl 0 rfl) ?_
              refine lv_iload_n hx hb dX1_hasCircle_29 rfl (lv_at hl 3 rfl) ?_
              refine lv_iconst (v := (-1)) hx hb dX1_hasCircle_30 (by decide) ?_
              refine lv_ixor hx hb dX1_hasCircle_31 ?_
              refine wk_iandn hx hb dX1_hasCircle_32 ?_
              have hf_32 : (andn (parN z v) t2) ≤ (parN z v) := andn_le _ _
              refine wk_if_ne (tgt := 43) hx hb dX1_hasCircle_33 (by decide) (Nat.lt_of_le_of_lt (andn_le _ _) (by omega)) (fun c_33 => ?_) (fun c_33 => ?_)
              · refine wk_iinc (lv' := [(4, .int (nI (v + 1))), (5, .int (nI (parN z v))), (0, .ref h), (1, .int (nI z)), (2, .int (nI t2)), (3, .int (nI k))]) hx hb dX1_hasCircle_43 hl (k := 5) rfl (by decide) rfl (fun ls hl => ?_)
                refine lv_goto (tgt := 12) hx hb dX1_hasCircle_46 (by decide) ?_
                exact ih_12 (v + 1) t2 (by omega) (by omega) ⟨by rw [lit_succ, ← hinv_12.1]; unfold hcS; rw [if_neg c_33], hinv_12.2⟩ ls (lv_sub hl [2, 3, 4, 5, 0] rfl)
              · refine lv_iload_n hx hb dX1_hasCircle_36 rfl (lv_at hl 3 rfl) ?_
                refine lv_iconst (v := nI 1) hx hb dX1_hasCircle_37 (by decide) ?_
                refine lv_iload hx hb dX1_hasCircle_38 (lv_at hl 5 rfl) ?_
                refine wk_ishl1 hx hb dX1_hasCircle_40 (by omega) ?_
                refine wk_ior hx hb dX1_hasCircle_41 ?_
                refine lv_istore_n (lv' := [(2, .int (nI (t2 ||| (1 <<< v)))), (5, .int (nI (parN z v))), (0, .ref h), (1, .int (nI z)), (3, .int (nI k)), (4, .int (nI v))]) hx hb dX1_hasCircle_42 rfl hl (by decide) rfl (fun ls hl => ?_)
                refine wk_iinc (lv' := [(4, .int (nI (v + 1))), (2, .int (nI (t2 ||| (1 <<< v)))), (5, .int (nI (parN z v))), (0, .ref h), (1, .int (nI z)), (3, .int (nI k))]) hx hb dX1_hasCircle_43 hl (k := 5) rfl (by decide) rfl (fun ls hl => ?_)
                refine lv_goto (tgt := 12) hx hb dX1_hasCircle_46 (by decide) ?_
                exact ih_12 (v + 1) (t2 ||| (1 <<< v)) (by omega) (by omega) ⟨by rw [lit_succ, ← hinv_12.1]; unfold hcS; rw [if_pos c_33], Nat.or_lt_two_pow (n := 4) hinv_12.2 (sh16 v (by omega))⟩ ls (lv_sub hl [3, 4, 1, 5, 0] rfl)
        exact loop_12 (4 + 1) 0 tk (by omega) (by omega) ⟨rfl, hinv_4.2⟩ ls (lv_sub hl [1, 2, 3, 4, 0] rfl)
  exact loop_4 (4 + 1) 0 0 (by omega) (by omega) ⟨rfl, by omega⟩ ls (lv_sub hl [2, 3, 1, 0] rfl)
end
section
set_option maxHeartbeats 4000000 in
set_option maxRecDepth 100000 in
theorem metX1_score (l : Launch) (dC : Nat → ClassId) (dI : Nat → Nat → Nat) (h sz : Nat) (cI cB : ClassId) (g : Nat → Nat) (li kn mo fi : Int32) (sc sa nc : Nat → Int32) (x1 x2 x3 : Int32) : Met l yX1_score (ws_ yX1_score cX1_score 5 (some .int)) ({ frames := 1, cells := 0, slots := 0, locals := 23 } : Room) (va_Pc [.ref h, .int x1, .int x2, .int x3] (fun U => U.heap.size = sz ∧ va_P (dC, dI) vwCl (wX1 h cI cB g li kn mo fi sc sa nc) U.heap ∧ va_K (dC, dI) vwCl [(cI, .int), (cB, .boolean)] U ∧ va_D (fun _ => True) (wX1 h cI cB g li kn mo fi sc sa nc))) (va_Qi (fun (r : Int32) (u : (Nat → Int32) × Int32) => r = scoreR x1 x2 x3 ∧ u = scoreU1 sc kn x1 x2 x3) (fun (u : (Nat → Int32) × Int32) (t : State) => va_P (dC, dI) vwCl (wX1 h cI cB g li u.2 mo fi u.1 sa nc) t.heap ∧ va_K (dC, dI) vwCl [(cI, .int), (cB, .boolean)] t ∧ va_D (va_A (wX1 h cI cB g li kn mo fi sc sa nc) sz) (wX1 h cI cB g li u.2 mo fi u.1 sa nc)) (va_A (wX1 h cI cB g li kn mo fi sc sa nc) sz)) 0 0 (va_A (wX1 h cI cB g li kn mo fi sc sa nc) sz) := by
  refine Met.ofW (cc := cX1_score) (maxL := 5) (ret := (some .int)) (by decide) rfl ?_
  intro p e s m args below meth c s₁ B hml hpre
  obtain ⟨rfl, hsz, hP, hK, hD0⟩ := hpre
  have hx := B.exec
  have hb := B.bytes
  have hr := B.returns
  have hts := atoms_spec (ws := (ws_ yX1_score cX1_score 5 (some .int))) B.pre
  have hts : ∀ w ∈ lw_all, w.before _ s = true := fun w h => hts w (List.mem_cons_of_mem _ h)
  have hown : s.vm.findClass RX1 = some m.cls := findClass_of_methodNamed B.named
  have hlocks := B.notSynchronized
  subst hsz
  have hD := hD0.self (sz := s.heap.size)
  generalize hAe : va_A (wX1 h cI cB g li kn mo fi sc sa nc) s.heap.size = A at hD ⊢
  have hA : ∀ q : Nat, s.heap.size ≤ q → A q := fun q h => by rw [← hAe]; exact Or.inr h
  have hS : va_S A s.heap s.heap [] := va_S.rf
  have hl := lv_entry ([.ref h, .int x1, .int x2, .int x3]) (n := 5) (Nat.le_of_ble_eq_true rfl)
  rw [lg_entry_eq]
  generalize (lg_sl ([.ref h, .int x1, .int x2, .int x3]) ++ List.replicate (5 - (lg_sl ([.ref h, .int x1, .int x2, .int x3])).length) Slot.unset).toArray = ls at hl ⊢
  have hl : lv_has ls 5 [(0, .ref h), (1, .int x1), (2, .int x2), (3, .int x3)] := hl
  refine lv_aload_n hx hb dX1_score_0 rfl (lv_at hl 0 rfl) ?_
  refine lv_iload_n hx hb dX1_score_1 rfl (lv_at hl 1 rfl) ?_
  refine vp_callSi (W.runV (b := h) (As := [.int x1]) (rest := []) ⟨hx, hb, hml, hown, hts⟩ (metX1_bad l dC dI h 0 cI cB g li kn mo fi sc sa nc x1) (cwV 1 hts (lw_V q202 q204 qs10 q24 q205) rfl rfl rfl (by decide +kernel) ⟨Nat.le_of_ble_eq_true rfl, Nat.le_of_ble_eq_true rfl⟩) ⟨fun a U g mk q => ⟨q.1, q.2.1, va_K.moved (u := U) (U := U.calling g mk a) (Vm.Alike.refl U.vm) q.2.2⟩, va_recv hK hP (ci := 1) (q0 := 0) rfl rfl, fun U hU hW => ⟨rfl, by rw [hU]; exact hP, va_K.moved hW.alike hK⟩⟩ rfl rfl hl.1 rfl (lv_room (Nat.le_of_ble_eq_true rfl)) dX1_score_2 ⟨Nat.le_of_ble_eq_true rfl, Nat.le_of_ble_eq_true rfl⟩) (fun r hr_2 => ?_)
  have hr_2 : r = nI (badV x1) := hr_2
  subst hr_2
  refine wk_if_eq (tgt := 10) hx hb dX1_score_5 (by decide) (by have := badV_le x1; omega) (fun c_5 => ?_) (fun c_5 => ?_)
  · obtain ⟨a, hlta, hxa⟩ := badV_0 c_5
    refine lv_aload_n hx hb dX1_score_10 rfl (lv_at hl 0 rfl) ?_
    refine lv_iload_n hx hb dX1_score_11 rfl (lv_at hl 1 rfl) ?_
    refine wk_top hxa ?_
    refine lv_iload_n hx hb dX1_score_12 rfl (lv_at hl 2 rfl) ?_
    refine vp_callSi (W.runV (b := h) (As := [.int (nI a), .int x2]) (rest := []) ⟨hx, hb, hml, hown, hts⟩ (metX1_badMask l dC dI h 0 cI cB g li kn mo fi sc sa nc a x2 hlta) (cwV 2 hts (lw_V q206 q208 qs11 q24 q209) rfl rfl rfl (by decide +kernel) ⟨Nat.le_of_ble_eq_true rfl, Nat.le_of_ble_eq_true rfl⟩) ⟨fun a U g mk q => ⟨q.1, q.2.1, va_K.moved (u := U) (U := U.calling g mk a) (Vm.Alike.refl U.vm) q.2.2⟩, va_recv hK hP (ci := 1) (q0 := 0) rfl rfl, fun U hU hW => ⟨rfl, by rw [hU]; exact hP, va_K.moved hW.alike hK⟩⟩ rfl rfl hl.1 rfl (lv_room (Nat.le_of_ble_eq_true rfl)) dX1_score_13 ⟨Nat.le_of_ble_eq_true rfl, Nat.le_of_ble_eq_true rfl⟩) (fun r hr_13 => ?_)
    have hr_13 : r = nI (badP a x2) := hr_13
    subst hr_13
    refine wk_if_eq (tgt := 22) hx hb dX1_score_16 (by decide) (by have := badP_le a x2; omega) (fun c_16 => ?_) (fun c_16 => ?_)
    · obtain ⟨q, hltq, hxq, hbit_16⟩ := badP_0 hlta c_16
      refine lv_iload_n hx hb dX1_score_22 rfl (lv_at hl 3 rfl) ?_
      refine lv_sipush (v := (-1000)) hx hb dX1_score_23 (by decide) ?_
      refine lv_icmp_lt (tgt := 36) hx hb dX1_score_26 (by decide) (fun c_26 => ?_) (fun c_26 => ?_)
      · refine lv_bipush (v := (-3)) hx hb dX1_score_36 (by decide) ?_
        have hR := scoreR_c c_5 hlta hxa c_16 c_26
        exact W.iret (v := (-3)) hx hb hr (fun T9 hT9 hW9 => ⟨⟨(-3), (sc, kn), rfl, ⟨hR.symm, (scoreU1_no (by rw [hR]; decide)).symm⟩, by rw [hT9]; exact hP, va_K.moved hW9.alike hK, hD⟩, hS.F hT9⟩) hS.2.2 dX1_score_38
      · refine lv_iload_n hx hb dX1_score_29 rfl (lv_at hl 3 rfl) ?_
        refine lv_sipush (v := nI 1000) hx hb dX1_score_30 (by decide) ?_
        refine lv_icmp_le (tgt := 39) hx hb dX1_score_33 (by decide) (fun c_33 => ?_) (fun c_33 => ?_)
        · refine lv_aload_n hx hb dX1_score_39 rfl (lv_at hl 0 rfl) ?_
          refine lv_iload_n hx hb dX1_score_40 rfl (lv_at hl 1 rfl) ?_
          refine wk_top hxa ?_
          refine lv_iload_n hx hb dX1_score_41 rfl (lv_at hl 2 rfl) ?_
          refine wk_top hxq ?_
          refine vp_callSi (W.runV (b := h) (As := [.int (nI a), .int (nI q)]) (rest := []) ⟨hx, hb, hml, hown, hts⟩ (metX1_digit l dC dI h 0 cI cB g li kn mo fi sc sa nc a q hlta hltq) (cwV 2 hts (lw_V q210 q212 qs12 q24 q213) rfl rfl rfl (by decide +kernel) ⟨Nat.le_of_ble_eq_true rfl, Nat.le_of_ble_eq_true rfl⟩) ⟨fun a U g mk q => ⟨q.1, q.2.1, va_K.moved (u := U) (U := U.calling g mk a) (Vm.Alike.refl U.vm) q.2.2⟩, va_recv hK hP (ci := 1) (q0 := 0) rfl rfl, fun U hU hW => ⟨rfl, by rw [hU]; exact hP, va_K.moved hW.alike hK⟩⟩ rfl rfl hl.1 rfl (lv_room (Nat.le_of_ble_eq_true rfl)) dX1_score_42 ⟨Nat.le_of_ble_eq_true rfl, Nat.le_of_ble_eq_true rfl⟩) (fun r hr_42 => ?_)
          have hr_42 : r = nI (digM a q) := hr_42
          subst hr_42
          have hd_42 := digM_lt a hlta q hltq
          refine lv_istore (lv' := [(4, .int (nI (digM a q))), (0, .ref h), (1, .int x1), (2, .int x2), (3, .int x3)]) hx hb dX1_score_45 hl (by decide) rfl (fun ls hl => ?_)
          refine lv_aload_n hx hb dX1_score_47 rfl (lv_at hl 1 rfl) ?_
          refine va_get (D := (dC, dI)) (ci := 1) (v := .ref (g 0)) (C := RX1) (T := TX1) (N := 7) hx hb hts in_X1 hown hK hP 0 rfl rfl 0 (by decide) (hts _ q175) (fun _ h9 => h9) rfl dX1_score_48 ?_
          refine lv_iload_n hx hb dX1_score_51 rfl (lv_at hl 2 rfl) ?_
          refine wk_top hxa ?_
          refine lv_bipush (v := nI 8) hx hb dX1_score_52 (by decide) ?_
          refine wk_imul hx hb dX1_score_54 ?_
          refine lv_iload hx hb dX1_score_55 (lv_at hl 0 rfl) ?_
          refine wk_iadd hx hb dX1_score_57 ?_
          refine lv_iload_n hx hb dX1_score_58 rfl (lv_at hl 4 rfl) ?_
          refine wk_iast hx hb hK hP hD hS 1 0 rfl rfl (ix := ((a * 8) + (digM a q))) (by omega) (by decide) dX1_score_59 (fun H locs hP hD hS => ?_)
          have hP : va_P (dC, dI) vwCl (wX1 h cI cB g li kn mo fi (upd sc ((a * 8) + (digM a q)) x3) sa nc) H := hP
          have hD : va_D A (wX1 h cI cB g li kn mo fi (upd sc ((a * 8) + (digM a q)) x3) sa nc) := hD
          refine lv_aload_n hx hb dX1_score_60 rfl (lv_at hl 1 rfl) ?_
          refine lv_iconst (v := nI 0) hx hb dX1_score_61 (by decide) ?_
          refine va_put (D := (dC, dI)) (ci := 1) (v := .int (nI 0)) (ty := .boolean) (C := RX1) (T := TX1) (N := 7) hx hb hts in_X1 tyX1 tyX1_ok nmX1 hown hK hP hD hS 0 rfl rfl 4 (by decide) (hts _ q179) (fun _ h9 => h9) rfl (by decide +kernel) rfl rfl (Nat.le_of_ble_eq_true rfl) dX1_score_62 (fun H locs hP hD hS => ?_)
          have hP : va_P (dC, dI) vwCl (wX1 h cI cB g li (nI 0) mo fi (upd sc ((a * 8) + (digM a q)) x3) sa nc) H := hP
          have hD : va_D A (wX1 h cI cB g li (nI 0) mo fi (upd sc ((a * 8) + (digM a q)) x3) sa nc) := hD
          refine lv_iconst (v := nI 0) hx hb dX1_score_65 (by decide) ?_
          have hR := scoreR_e c_5 hlta hxa c_16 c_26 c_33
          exact W.iret (v := nI 0) hx hb hr (fun T9 hT9 hW9 => ⟨⟨nI 0, ((upd sc ((a * 8) + (digM a q)) x3), nI 0), rfl, ⟨hR.symm, (scoreU1_ok hR hlta hltq hxa hxq).symm⟩, by rw [hT9]; exact hP, va_K.moved hW9.alike hK, hD⟩, hS.F hT9⟩) hS.2.2 dX1_score_66
        · refine lv_bipush (v := (-3)) hx hb dX1_score_36 (by decide) ?_
          have hR := scoreR_d c_5 hlta hxa c_16 c_26 c_33
          exact W.iret (v := (-3)) hx hb hr (fun T9 hT9 hW9 => ⟨⟨(-3), (sc, kn), rfl, ⟨hR.symm, (scoreU1_no (by rw [hR]; decide)).symm⟩, by rw [hT9]; exact hP, va_K.moved hW9.alike hK, hD⟩, hS.F hT9⟩) hS.2.2 dX1_score_38
    · refine lv_bipush (v := (-2)) hx hb dX1_score_19 (by decide) ?_
      have hR := scoreR_b (x3 := x3) c_5 hlta hxa c_16
      exact W.iret (v := (-2)) hx hb hr (fun T9 hT9 hW9 => ⟨⟨(-2), (sc, kn), rfl, ⟨hR.symm, (scoreU1_no (by rw [hR]; decide)).symm⟩, by rw [hT9]; exact hP, va_K.moved hW9.alike hK, hD⟩, hS.F hT9⟩) hS.2.2 dX1_score_21
  · refine lv_iconst (v := (-1)) hx hb dX1_score_8 (by decide) ?_
    have hR := scoreR_a (x2 := x2) (x3 := x3) c_5
    exact W.iret (v := (-1)) hx hb hr (fun T9 hT9 hW9 => ⟨⟨(-1), (sc, kn), rfl, ⟨hR.symm, (scoreU1_no (by rw [hR]; decide)).symm⟩, by rw [hT9]; exact hP, va_K.moved hW9.alike hK, hD⟩, hS.F hT9⟩) hS.2.2 dX1_score_9
set_option maxHeartbeats 4000000 in
set_option maxRecDepth 100000 in
theorem metX1_limit (l : Launch) (dC : Nat → ClassId) (dI : Nat → Nat → Nat) (h sz : Nat) (cI cB : ClassId) (g : Nat → Nat) (li kn mo fi : Int32) (sc sa nc : Nat → Int32) (x : Int32) : Met l yX1_limit (ws_ yX1_limit cX1_limit 3 (some .int)) ({ frames := 0, cells := 0, slots := 0, locals := 0 } : Room) (va_Pc [.ref h, .int x] (fun U => U.heap.size = sz ∧ va_P (dC, dI) vwCl (wX1 h cI cB g li kn mo fi sc sa nc) U.heap ∧ va_K (dC, dI) vwCl [(cI, .int), (cB, .boolean)] U ∧ va_D (fun _ => True) (wX1 h cI cB g li kn mo fi sc sa nc))) (va_Qi (fun (r : Int32) (u : Int32 × Int32) => r = limR li x ∧ u = (limU li x, limK kn x)) (fun (u : Int32 × Int32) (t : State) => va_P (dC, dI) vwCl (wX1 h cI cB g u.1 u.2 mo fi sc sa nc) t.heap ∧ va_K (dC, dI) vwCl [(cI, .int), (cB, .boolean)] t ∧ va_D (va_A (wX1 h cI cB g li kn mo fi sc sa nc) sz) (wX1 h cI cB g u.1 u.2 mo fi sc sa nc)) (va_A (wX1 h cI cB g li kn mo fi sc sa nc) sz)) 0 0 (va_A (wX1 h cI cB g li kn mo fi sc sa nc) sz) := by
  refine Met.ofW (cc := cX1_limit) (maxL := 3) (ret := (some .int)) (by decide) rfl ?_
  intro p e s m args below meth c s₁ B hml hpre
  obtain ⟨rfl, hsz, hP, hK, hD0⟩ := hpre
  have hx := B.exec
  have hb := B.bytes
  have hr := B.returns
  have hts := atoms_spec (ws := (ws_ yX1_limit cX1_limit 3 (some .int))) B.pre
  have hts : ∀ w ∈ lw_all, w.before _ s = true := fun w h => hts w (List.mem_cons_of_mem _ h)
  have hown : s.vm.findClass RX1 = some m.cls := findClass_of_methodNamed B.named
  have hlocks := B.notSynchronized
  subst hsz
  have hD := hD0.self (sz := s.heap.size)
  generalize hAe : va_A (wX1 h cI cB g li kn mo fi sc sa nc) s.heap.size = A at hD ⊢
  have hA : ∀ q : Nat, s.heap.size ≤ q → A q := fun q h => by rw [← hAe]; exact Or.inr h
  have hS : va_S A s.heap s.heap [] := va_S.rf
  have hl := lv_entry ([.ref h, .int x]) (n := 3) (Nat.le_of_ble_eq_true rfl)
  rw [lg_entry_eq]
  generalize (lg_sl ([.ref h, .int x]) ++ List.replicate (3 - (lg_sl ([.ref h, .int x])).length) Slot.unset).toArray = ls at hl ⊢
  have hl : lv_has ls 3 [(0, .ref h), (1, .int x)] := hl
  refine lv_iload_n hx hb dX1_limit_0 rfl (lv_at hl 1 rfl) ?_
  refine lv_if_lt (tgt := 9) hx hb dX1_limit_1 (by decide) (fun c_1 => ?_) (fun c_1 => ?_)
  · refine lv_bipush (v := (-4)) hx hb dX1_limit_9 (by decide) ?_
    exact W.iret (v := (-4)) hx hb hr (fun T9 hT9 hW9 => ⟨⟨(-4), (li, kn), rfl, ⟨(by unfold limR; (repeat' split) <;> first | rfl | contradiction | omega), (by unfold limU limK; (repeat' split) <;> first | rfl | contradiction | omega)⟩, by rw [hT9]; exact hP, va_K.moved hW9.alike hK, hD⟩, hS.F hT9⟩) hS.2.2 dX1_limit_11
  · refine lv_iload_n hx hb dX1_limit_4 rfl (lv_at hl 1 rfl) ?_
    refine lv_iconst (v := nI 3) hx hb dX1_limit_5 (by decide) ?_
    refine lv_icmp_le (tgt := 12) hx hb dX1_limit_6 (by decide) (fun c_6 => ?_) (fun c_6 => ?_)
    · refine lv_aload_n hx hb dX1_limit_12 rfl (lv_at hl 0 rfl) ?_
      refine va_get (D := (dC, dI)) (ci := 1) (v := .int li) (C := RX1) (T := TX1) (N := 7) hx hb hts in_X1 hown hK hP 0 rfl rfl 1 (by decide) (hts _ q176) (fun _ h9 => h9) rfl dX1_limit_13 ?_
      refine lv_istore_n (lv' := [(2, .int li), (0, .ref h), (1, .int x)]) hx hb dX1_limit_16 rfl hl (by decide) rfl (fun ls hl => ?_)
      refine lv_aload_n hx hb dX1_limit_17 rfl (lv_at hl 1 rfl) ?_
      refine lv_iload_n hx hb dX1_limit_18 rfl (lv_at hl 2 rfl) ?_
      refine va_put (D := (dC, dI)) (ci := 1) (v := .int x) (ty := .int) (C := RX1) (T := TX1) (N := 7) hx hb hts in_X1 tyX1 tyX1_ok nmX1 hown hK hP hD hS 0 rfl rfl 1 (by decide) (hts _ q176) (fun _ h9 => h9) rfl (by decide +kernel) rfl rfl (Nat.le_of_ble_eq_true rfl) dX1_limit_19 (fun H locs hP hD hS => ?_)
      have hP : va_P (dC, dI) vwCl (wX1 h cI cB g x kn mo fi sc sa nc) H := hP
      have hD : va_D A (wX1 h cI cB g x kn mo fi sc sa nc) := hD
      refine lv_aload_n hx hb dX1_limit_22 rfl (lv_at hl 1 rfl) ?_
      refine lv_iconst (v := nI 0) hx hb dX1_limit_23 (by decide) ?_
      refine va_put (D := (dC, dI)) (ci := 1) (v := .int (nI 0)) (ty := .boolean) (C := RX1) (T := TX1) (N := 7) hx hb hts in_X1 tyX1 tyX1_ok nmX1 hown hK hP hD hS 0 rfl rfl 4 (by decide) (hts _ q179) (fun _ h9 => h9) rfl (by decide +kernel) rfl rfl (Nat.le_of_ble_eq_true rfl) dX1_limit_24 (fun H locs hP hD hS => ?_)
      have hP : va_P (dC, dI) vwCl (wX1 h cI cB g x (nI 0) mo fi sc sa nc) H := hP
      have hD : va_D A (wX1 h cI cB g x (nI 0) mo fi sc sa nc) := hD
      refine lv_iload_n hx hb dX1_limit_27 rfl (lv_at hl 0 rfl) ?_
      exact W.iret (v := li) hx hb hr (fun T9 hT9 hW9 => ⟨⟨li, (x, nI 0), rfl, ⟨(by unfold limR; (repeat' split) <;> first | rfl | contradiction | omega), (by unfold limU limK; (repeat' split) <;> first | rfl | contradiction | omega)⟩, by rw [hT9]; exact hP, va_K.moved hW9.alike hK, hD⟩, hS.F hT9⟩) hS.2.2 dX1_limit_28
    · refine lv_bipush (v := (-4)) hx hb dX1_limit_9 (by decide) ?_
      exact W.iret (v := (-4)) hx hb hr (fun T9 hT9 hW9 => ⟨⟨(-4), (li, kn), rfl, ⟨(by unfold limR; (repeat' split) <;> first | rfl | contradiction | omega), (by unfold limU limK; (repeat' split) <;> first | rfl | contradiction | omega)⟩, by rw [hT9]; exact hP, va_K.moved hW9.alike hK, hD⟩, hS.F hT9⟩) hS.2.2 dX1_limit_11
set_option maxHeartbeats 4000000 in
set_option maxRecDepth 100000 in
theorem metX1_edge (l : Launch) (dC : Nat → ClassId) (dI : Nat → Nat → Nat) (h sz : Nat) (cI cB : ClassId) (g : Nat → Nat) (li kn mo fi : Int32) (sc sa nc : Nat → Int32) (x1 x2 x3 : Int32) : Met l yX1_edge (ws_ yX1_edge cX1_edge 5 (some .int)) ({ frames := 1, cells := 0, slots := 0, locals := 21 } : Room) (va_Pc [.ref h, .int x1, .int x2, .int x3] (fun U => U.heap.size = sz ∧ va_P (dC, dI) vwCl (wX1 h cI cB g li kn mo fi sc sa nc) U.heap ∧ va_K (dC, dI) vwCl [(cI, .int), (cB, .boolean)] U ∧ va_D (fun _ => True) (wX1 h cI cB g li kn mo fi sc sa nc))) (va_Qi (fun (r : Int32) (u : (Nat → Int32) × Int32) => (edB x1 x2 = 1 ∧ r = -1 ∧ u = (sa, kn)) ∨ (∃ a b : Nat, a < 4 ∧ b < 4 ∧ ¬ a = b ∧ x1 = nI a ∧ x2 = nI b ∧ r = sa (a * 4 + b) ∧ u = (upd sa (a * 4 + b) (if x3 &&& nI 3 = nI 3 then nI 0 else x3 &&& nI 3), nI 0))) (fun (u : (Nat → Int32) × Int32) (t : State) => va_P (dC, dI) vwCl (wX1 h cI cB g li u.2 mo fi sc u.1 nc) t.heap ∧ va_K (dC, dI) vwCl [(cI, .int), (cB, .boolean)] t ∧ va_D (va_A (wX1 h cI cB g li kn mo fi sc sa nc) sz) (wX1 h cI cB g li u.2 mo fi sc u.1 nc)) (va_A (wX1 h cI cB g li kn mo fi sc sa nc) sz)) 0 0 (va_A (wX1 h cI cB g li kn mo fi sc sa nc) sz) := by
  refine Met.ofW (cc := cX1_edge) (maxL := 5) (ret := (some .int)) (by decide) rfl ?_
  intro p e s m args below meth c s₁ B hml hpre
  obtain ⟨rfl, hsz, hP, hK, hD0⟩ := hpre
  have hx := B.exec
  have hb := B.bytes
  have hr := B.returns
  have hts := atoms_spec (ws := (ws_ yX1_edge cX1_edge 5 (some .int))) B.pre
  have hts : ∀ w ∈ lw_all, w.before _ s = true := fun w h => hts w (List.mem_cons_of_mem _ h)
  have hown : s.vm.findClass RX1 = some m.cls := findClass_of_methodNamed B.named
  have hlocks := B.notSynchronized
  subst hsz
  have hD := hD0.self (sz := s.heap.size)
  generalize hAe : va_A (wX1 h cI cB g li kn mo fi sc sa nc) s.heap.size = A at hD ⊢
  have hA : ∀ q : Nat, s.heap.size ≤ q → A q := fun q h => by rw [← hAe]; exact Or.inr h
  have hS : va_S A s.heap s.heap [] := va_S.rf
  have hl := lv_entry ([.ref h, .int x1, .int x2, .int x3]) (n := 5) (Nat.le_of_ble_eq_true rfl)
  rw [lg_entry_eq]
  generalize (lg_sl ([.ref h, .int x1, .int x2, .int x3]) ++ List.replicate (5 - (lg_sl ([.ref h, .int x1, .int x2, .int x3])).length) Slot.unset).toArray = ls at hl ⊢
  have hl : lv_has ls 5 [(0, .ref h), (1, .int x1), (2, .int x2), (3, .int x3)] := hl
  refine lv_aload_n hx hb dX1_edge_0 rfl (lv_at hl 0 rfl) ?_
  refine lv_iload_n hx hb dX1_edge_1 rfl (lv_at hl 1 rfl) ?_
  refine vp_callSi (W.runV (b := h) (As := [.int x1]) (rest := []) ⟨hx, hb, hml, hown, hts⟩ (metX1_bad l dC dI h 0 cI cB g li kn mo fi sc sa nc x1) (cwV 1 hts (lw_V q202 q204 qs10 q24 q205) rfl rfl rfl (by decide +kernel) ⟨Nat.le_of_ble_eq_true rfl, Nat.le_of_ble_eq_true rfl⟩) ⟨fun a U g mk q => ⟨q.1, q.2.1, va_K.moved (u := U) (U := U.calling g mk a) (Vm.Alike.refl U.vm) q.2.2⟩, va_recv hK hP (ci := 1) (q0 := 0) rfl rfl, fun U hU hW => ⟨rfl, by rw [hU]; exact hP, va_K.moved hW.alike hK⟩⟩ rfl rfl hl.1 rfl (lv_room (Nat.le_of_ble_eq_true rfl)) dX1_edge_2 ⟨Nat.le_of_ble_eq_true rfl, Nat.le_of_ble_eq_true rfl⟩) (fun r hr_2 => ?_)
  have hr_2 : r = nI (badV x1) := hr_2
  subst hr_2
  refine wk_if_ne (tgt := 21) hx hb dX1_edge_5 (by decide) (by have := badV_le x1; omega) (fun c_5 => ?_) (fun c_5 => ?_)
  · refine lv_iconst (v := (-1)) hx hb dX1_edge_21 (by decide) ?_
    exact W.iret (v := (-1)) hx hb hr (fun T9 hT9 hW9 => ⟨⟨(-1), (sa, kn), rfl, (Or.inl ⟨edB_a c_5, rfl, rfl⟩), by rw [hT9]; exact hP, va_K.moved hW9.alike hK, hD⟩, hS.F hT9⟩) hS.2.2 dX1_edge_22
  · obtain ⟨a, hlta, hxa⟩ := badV_0 c_5
    refine lv_aload_n hx hb dX1_edge_8 rfl (lv_at hl 0 rfl) ?_
    refine lv_iload_n hx hb dX1_edge_9 rfl (lv_at hl 2 rfl) ?_
    refine vp_callSi (W.runV (b := h) (As := [.int x2]) (rest := []) ⟨hx, hb, hml, hown, hts⟩ (metX1_bad l dC dI h 0 cI cB g li kn mo fi sc sa nc x2) (cwV 1 hts (lw_V q202 q204 qs10 q24 q205) rfl rfl rfl (by decide +kernel) ⟨Nat.le_of_ble_eq_true rfl, Nat.le_of_ble_eq_true rfl⟩) ⟨fun a U g mk q => ⟨q.1, q.2.1, va_K.moved (u := U) (U := U.calling g mk a) (Vm.Alike.refl U.vm) q.2.2⟩, va_recv hK hP (ci := 1) (q0 := 0) rfl rfl, fun U hU hW => ⟨rfl, by rw [hU]; exact hP, va_K.moved hW.alike hK⟩⟩ rfl rfl hl.1 rfl (lv_room (Nat.le_of_ble_eq_true rfl)) dX1_edge_10 ⟨Nat.le_of_ble_eq_true rfl, Nat.le_of_ble_eq_true rfl⟩) (fun r hr_10 => ?_)
    have hr_10 : r = nI (badV x2) := hr_10
    subst hr_10
    refine wk_if_ne (tgt := 21) hx hb dX1_edge_13 (by decide) (by have := badV_le x2; omega) (fun c_13 => ?_) (fun c_13 => ?_)
    · refine lv_iconst (v := (-1)) hx hb dX1_edge_21 (by decide) ?_
      exact W.iret (v := (-1)) hx hb hr (fun T9 hT9 hW9 => ⟨⟨(-1), (sa, kn), rfl, (Or.inl ⟨edB_b c_5 c_13, rfl, rfl⟩), by rw [hT9]; exact hP, va_K.moved hW9.alike hK, hD⟩, hS.F hT9⟩) hS.2.2 dX1_edge_22
    · obtain ⟨b, hltb, hxb⟩ := badV_0 c_13
      refine lv_iload_n hx hb dX1_edge_16 rfl (lv_at hl 1 rfl) ?_
      refine wk_top hxa ?_
      refine lv_iload_n hx hb dX1_edge_17 rfl (lv_at hl 2 rfl) ?_
      refine wk_top hxb ?_
      refine wk_icmp_ne (tgt := 23) hx hb dX1_edge_18 (by decide) (by omega) (by omega) (fun c_18 => ?_) (fun c_18 => ?_)
      · refine lv_aload_n hx hb dX1_edge_23 rfl (lv_at hl 0 rfl) ?_
        refine va_get (D := (dC, dI)) (ci := 1) (v := .ref (g 1)) (C := RX1) (T := TX1) (N := 7) hx hb hts in_X1 hown hK hP 0 rfl rfl 2 (by decide) (hts _ q177) (fun _ h9 => h9) rfl dX1_edge_24 ?_
        refine lv_iload_n hx hb dX1_edge_27 rfl (lv_at hl 1 rfl) ?_
        refine wk_top hxa ?_
        refine lv_iconst (v := nI 4) hx hb dX1_edge_28 (by decide) ?_
        refine wk_imul hx hb dX1_edge_29 ?_
        refine lv_iload_n hx hb dX1_edge_30 rfl (lv_at hl 2 rfl) ?_
        refine wk_top hxb ?_
        refine wk_iadd hx hb dX1_edge_31 ?_
        refine wk_iald hx hb hK hP 2 0 rfl rfl (ix := ((a * 4) + b)) (by omega) (by decide) dX1_edge_32 ?_
        refine lv_istore (lv' := [(4, .int (sa ((a * 4) + b))), (0, .ref h), (1, .int x1), (2, .int x2), (3, .int x3)]) hx hb dX1_edge_33 hl (by decide) rfl (fun ls hl => ?_)
        refine lv_aload_n hx hb dX1_edge_35 rfl (lv_at hl 1 rfl) ?_
        refine va_get (D := (dC, dI)) (ci := 1) (v := .ref (g 1)) (C := RX1) (T := TX1) (N := 7) hx hb hts in_X1 hown hK hP 0 rfl rfl 2 (by decide) (hts _ q177) (fun _ h9 => h9) rfl dX1_edge_36 ?_
        refine lv_iload_n hx hb dX1_edge_39 rfl (lv_at hl 2 rfl) ?_
        refine wk_top hxa ?_
        refine lv_iconst (v := nI 4) hx hb dX1_edge_40 (by decide) ?_
        refine wk_imul hx hb dX1_edge_41 ?_
        refine lv_iload_n hx hb dX1_edge_42 rfl (lv_at hl 3 rfl) ?_
        refine wk_top hxb ?_
        refine wk_iadd hx hb dX1_edge_43 ?_
        refine lv_iload_n hx hb dX1_edge_44 rfl (lv_at hl 4 rfl) ?_
        refine lv_iconst (v := nI 3) hx hb dX1_edge_45 (by decide) ?_
        refine lv_iand hx hb dX1_edge_46 ?_
        refine lv_iconst (v := nI 3) hx hb dX1_edge_47 (by decide) ?_
        refine lv_icmp_ne (tgt := 55) hx hb dX1_edge_48 (by decide) (fun c_48 => ?_) (fun c_48 => ?_)
        · refine lv_iload_n hx hb dX1_edge_55 rfl (lv_at hl 4 rfl) ?_
          refine lv_iconst (v := nI 3) hx hb dX1_edge_56 (by decide) ?_
          refine lv_iand hx hb dX1_edge_57 ?_
          refine wk_iast hx hb hK hP hD hS 2 0 rfl rfl (ix := ((a * 4) + b)) (by omega) (by decide) dX1_edge_58 (fun H locs hP hD hS => ?_)
          have hP : va_P (dC, dI) vwCl (wX1 h cI cB g li kn mo fi sc (upd sa ((a * 4) + b) (x3 &&& nI 3)) nc) H := hP
          have hD : va_D A (wX1 h cI cB g li kn mo fi sc (upd sa ((a * 4) + b) (x3 &&& nI 3)) nc) := hD
          refine lv_aload_n hx hb dX1_edge_59 rfl (lv_at hl 1 rfl) ?_
          refine lv_iconst (v := nI 0) hx hb dX1_edge_60 (by decide) ?_
          refine va_put (D := (dC, dI)) (ci := 1) (v := .int (nI 0)) (ty := .boolean) (C := RX1) (T := TX1) (N := 7) hx hb hts in_X1 tyX1 tyX1_ok nmX1 hown hK hP hD hS 0 rfl rfl 4 (by decide) (hts _ q179) (fun _ h9 => h9) rfl (by decide +kernel) rfl rfl (Nat.le_of_ble_eq_true rfl) dX1_edge_61 (fun H locs hP hD hS => ?_)
          have hP : va_P (dC, dI) vwCl (wX1 h cI cB g li (nI 0) mo fi sc (upd sa ((a * 4) + b) (x3 &&& nI 3)) nc) H := hP
          have hD : va_D A (wX1 h cI cB g li (nI 0) mo fi sc (upd sa ((a * 4) + b) (x3 &&& nI 3)) nc) := hD
          refine lv_iload hx hb dX1_edge_64 (lv_at hl 0 rfl) ?_
          exact W.iret (v := (sa ((a * 4) + b))) hx hb hr (fun T9 hT9 hW9 => ⟨⟨(sa ((a * 4) + b)), ((upd sa ((a * 4) + b) (x3 &&& nI 3)), nI 0), rfl, (Or.inr ⟨a, b, hlta, hltb, c_18, hxa, hxb, rfl, by rw [if_neg c_48]⟩), by rw [hT9]; exact hP, va_K.moved hW9.alike hK, hD⟩, hS.F hT9⟩) hS.2.2 dX1_edge_66
        · refine lv_iconst (v := nI 0) hx hb dX1_edge_51 (by decide) ?_
          refine lv_goto (tgt := 58) hx hb dX1_edge_52 (by decide) ?_
          refine wk_iast hx hb hK hP hD hS 2 0 rfl rfl (ix := ((a * 4) + b)) (by omega) (by decide) dX1_edge_58 (fun H locs hP hD hS => ?_)
          have hP : va_P (dC, dI) vwCl (wX1 h cI cB g li kn mo fi sc (upd sa ((a * 4) + b) (nI 0)) nc) H := hP
          have hD : va_D A (wX1 h cI cB g li kn mo fi sc (upd sa ((a * 4) + b) (nI 0)) nc) := hD
          refine lv_aload_n hx hb dX1_edge_59 rfl (lv_at hl 1 rfl) ?_
          refine lv_iconst (v := nI 0) hx hb dX1_edge_60 (by decide) ?_
          refine va_put (D := (dC, dI)) (ci := 1) (v := .int (nI 0)) (ty := .boolean) (C := RX1) (T := TX1) (N := 7) hx hb hts in_X1 tyX1 tyX1_ok nmX1 hown hK hP hD hS 0 rfl rfl 4 (by decide) (hts _ q179) (fun _ h9 => h9) rfl (by decide +kernel) rfl rfl (Nat.le_of_ble_eq_true rfl) dX1_edge_61 (fun H locs hP hD hS => ?_)
          have hP : va_P (dC, dI) vwCl (wX1 h cI cB g li (nI 0) mo fi sc (upd sa ((a * 4) + b) (nI 0)) nc) H := hP
          have hD : va_D A (wX1 h cI cB g li (nI 0) mo fi sc (upd sa ((a * 4) + b) (nI 0)) nc) := hD
          refine lv_iload hx hb dX1_edge_64 (lv_at hl 0 rfl) ?_
          exact W.iret (v := (sa ((a * 4) + b))) hx hb hr (fun T9 hT9 hW9 => ⟨⟨(sa ((a * 4) + b)), ((upd sa ((a * 4) + b) (nI 0)), nI 0), rfl, (Or.inr ⟨a, b, hlta, hltb, c_18, hxa, hxb, rfl, by rw [if_pos c_48]⟩), by rw [hT9]; exact hP, va_K.moved hW9.alike hK, hD⟩, hS.F hT9⟩) hS.2.2 dX1_edge_66
      · refine lv_iconst (v := (-1)) hx hb dX1_edge_21 (by decide) ?_
        exact W.iret (v := (-1)) hx hb hr (fun T9 hT9 hW9 => ⟨⟨(-1), (sa, kn), rfl, (Or.inl ⟨edB_c c_5 c_13 hxa hxb c_18, rfl, rfl⟩), by rw [hT9]; exact hP, va_K.moved hW9.alike hK, hD⟩, hS.F hT9⟩) hS.2.2 dX1_edge_22
set_option maxHeartbeats 4000000 in
set_option maxRecDepth 100000 in
theorem metX1_greater (l : Launch) (dC : Nat → ClassId) (dI : Nat → Nat → Nat) (h sz : Nat) (cI cB : ClassId) (g : Nat → Nat) (li kn mo fi : Int32) (sc sa nc : Nat → Int32) (cs : Int64) (v p0 t : Nat) (hv : v < 4) (hp : p0 < 16) (ht : t < 16) : Met l yX1_greater (ws_ yX1_greater cX1_greater 10 (some .int)) ({ frames := 0, cells := 0, slots := 0, locals := 0 } : Room) (va_Pc [.ref h, .long cs, .int (nI v), .int (nI p0), .int (nI t)] (fun U => va_P (dC, dI) vwCl (wX1 h cI cB g li kn mo fi sc sa nc) U.heap ∧ va_K (dC, dI) vwCl [(cI, .int), (cB, .boolean)] U)) (vp_Si (fun r : Int32 => r = nI (hitF cs v p0 t))) 0 0 (fun _ => False) := by
  refine Met.ofW (cc := cX1_greater) (maxL := 10) (ret := (some .int)) (by decide) rfl ?_
  intro p e s m args below meth c s₁ B hml hpre
  obtain ⟨rfl, hP, hK⟩ := hpre
  have hx := B.exec
  have hb := B.bytes
  have hr := B.returns
  have hts := atoms_spec (ws := (ws_ yX1_greater cX1_greater 10 (some .int))) B.pre
  have hts : ∀ w ∈ lw_all, w.before _ s = true := fun w h => hts w (List.mem_cons_of_mem _ h)
  have hown : s.vm.findClass RX1 = some m.cls := findClass_of_methodNamed B.named
  have hlocks := B.notSynchronized
  have hl := lv_entry ([.ref h, .long cs, .int (nI v), .int (nI p0), .int (nI t)]) (n := 10) (Nat.le_of_ble_eq_true rfl)
  rw [lg_entry_eq]
  generalize (lg_sl ([.ref h, .long cs, .int (nI v), .int (nI p0), .int (nI t)]) ++ List.replicate (10 - (lg_sl ([.ref h, .long cs, .int (nI v), .int (nI p0), .int (nI t)])).length) Slot.unset).toArray = ls at hl ⊢
  have hl : lv_has ls 10 [(0, .ref h), (1, .long cs), (3, .int (nI v)), (4, .int (nI p0)), (5, .int (nI t))] := hl
  refine lv_iconst (v := nI 0) hx hb dX1_greater_0 (by decide) ?_
  refine lv_istore (lv' := [(6, .int (nI 0)), (0, .ref h), (1, .long cs), (3, .int (nI v)), (4, .int (nI p0)), (5, .int (nI t))]) hx hb dX1_greater_1 hl (by decide) rfl (fun ls hl => ?_)
  refine lv_iconst (v := nI 0) hx hb dX1_greater_3 (by decide) ?_
  refine lv_istore (lv' := [(7, .int (nI 0)), (6, .int (nI 0)), (0, .ref h), (1, .long cs), (3, .int (nI v)), (4, .int (nI p0)), (5, .int (nI t))]) hx hb dX1_greater_4 hl (by decide) rfl (fun ls hl => ?_)
  refine lv_iconst (v := nI 0) hx hb dX1_greater_6 (by decide) ?_
  refine lv_istore (lv' := [(8, .int (nI 0)), (7, .int (nI 0)), (6, .int (nI 0)), (0, .ref h), (1, .long cs), (3, .int (nI v)), (4, .int (nI p0)), (5, .int (nI t))]) hx hb dX1_greater_7 hl (by decide) rfl (fun ls hl => ?_)
  have loop_9 : ∀ (k_9 j : Nat) (z : Nat) (o : Nat), j ≤ 16 → 16 + 1 ≤ j + k_9 → ((z, o) = lit (hitS cs v p0 t) (0, 0) j ∧ z + o ≤ j) → ∀ (ls : Array Slot), lv_has ls 10 [(0, .ref h), (1, .long cs), (3, .int (nI v)), (4, .int (nI p0)), (5, .int (nI t)), (6, .int (nI z)), (7, .int (nI o)), (8, .int (nI j))] → W p l e (headSpec (ws_ yX1_greater cX1_greater 10 (some .int)) ({ frames := 0, cells := 0, slots := 0, locals := 0 } : Room)).room s m ([.ref h, .long cs, .int (nI v), .int (nI p0), .int (nI t)] : List Value).toArray below meth c s.heap [] 0 0 (MQ below (vp_Si (fun r : Int32 => r = nI (hitF cs v p0 t))) ([.ref h, .long cs, .int (nI v), .int (nI p0), .int (nI t)] : List Value).toArray s 0 0 (fun _ => False)) (F0 m 9 ls []) := by
    intro k_9
    induction k_9 with
    | zero =>
      intro j z o h1 h2
      exact absurd h2 (by omega)
    | succ k_9 ih_9 =>
      intro j z o hi_9 hk_9 hinv_9 ls hl
      have hb_9 := hinv_9.2
      refine lv_iload hx hb dX1_greater_9 (lv_at hl 7 rfl) ?_
      refine lv_bipush (v := nI 16) hx hb dX1_greater_11 (by decide) ?_
      refine wk_icmp_ge (tgt := 69) hx hb dX1_greater_13 (by decide) (by omega) (by decide) (fun c_13 => ?_) (fun c_13 => ?_)
      · have he_j : j = 16 := by omega
        subst he_j
        refine lv_iload hx hb dX1_greater_69 (lv_at hl 5 rfl) ?_
        refine lv_iload hx hb dX1_greater_71 (lv_at hl 6 rfl) ?_
        refine wk_icmp_le (tgt := 81) hx hb dX1_greater_73 (by decide) (by omega) (by omega) (fun c_73 => ?_) (fun c_73 => ?_)
        · refine lv_iload hx hb dX1_greater_81 (lv_at hl 6 rfl) ?_
          exact W.iret (v := nI o) hx hb hr (fun T9 hT9 hW9 => ⟨nI o, rfl, (by unfold hitF; rw [← hinv_9.1]; rw [if_pos c_73]), hT9⟩) (fun q h => absurd h List.not_mem_nil) dX1_greater_83
        · refine lv_iload hx hb dX1_greater_76 (lv_at hl 5 rfl) ?_
          refine lv_goto (tgt := 83) hx hb dX1_greater_78 (by decide) ?_
          exact W.iret (v := nI z) hx hb hr (fun T9 hT9 hW9 => ⟨nI z, rfl, (by unfold hitF; rw [← hinv_9.1]; rw [if_neg (Nat.not_le.mpr c_73)]), hT9⟩) (fun q h => absurd h List.not_mem_nil) dX1_greater_83
      · refine lv_lload_n hx hb dX1_greater_16 rfl (lv_at hl 1 rfl) ?_
        refine lv_iconst (v := nI 4) hx hb dX1_greater_17 (by decide) ?_
        refine lv_iload hx hb dX1_greater_18 (lv_at hl 7 rfl) ?_
        refine wk_imul hx hb dX1_greater_20 ?_
        refine lv_lshr hx hb dX1_greater_21 rfl ?_
        refine lv_ldc2 hx hb hown (hts _ q238) dX1_greater_22 ?_
        refine lv_land hx hb dX1_greater_25 ?_
        refine lv_l2i hx hb dX1_greater_26 rfl ?_
        refine wk_top (y := nI (nib cs j)) (nib_s cs (by omega)) ?_
        have hn_26 := nib_lt cs j
        refine lv_istore (lv' := [(9, .int (nI (nib cs j))), (0, .ref h), (1, .long cs), (3, .int (nI v)), (4, .int (nI p0)), (5, .int (nI t)), (6, .int (nI z)), (7, .int (nI o)), (8, .int (nI j))]) hx hb dX1_greater_27 hl (by decide) rfl (fun ls hl => ?_)
        refine lv_iload hx hb dX1_greater_29 (lv_at hl 0 rfl) ?_
        refine lv_iload hx hb dX1_greater_31 (lv_at hl 4 rfl) ?_
        refine wk_iand hx hb dX1_greater_33 ?_
        refine lv_iload hx hb dX1_greater_34 (lv_at hl 5 rfl) ?_
        refine wk_icmp_ne (tgt := 63) hx hb dX1_greater_36 (by decide) (Nat.lt_of_le_of_lt Nat.and_le_left (by omega)) (by omega) (fun c_36 => ?_) (fun c_36 => ?_)
        · refine wk_iinc (lv' := [(8, .int (nI (j + 1))), (9, .int (nI (nib cs j))), (0, .ref h), (1, .long cs), (3, .int (nI v)), (4, .int (nI p0)), (5, .int (nI t)), (6, .int (nI z)), (7, .int (nI o))]) hx hb dX1_greater_63 hl (k := 8) rfl (by decide) rfl (fun ls hl => ?_)
          refine lv_goto (tgt := 9) hx hb dX1_greater_66 (by decide) ?_
          exact ih_9 (j + 1) z o (by omega) (by omega) ⟨by rw [lit_succ, ← hinv_9.1]; unfold hitS; rw [if_neg c_36], by omega⟩ ls (lv_sub hl [2, 3, 4, 5, 6, 7, 8, 0] rfl)
        · refine lv_iload hx hb dX1_greater_39 (lv_at hl 7 rfl) ?_
          refine lv_iload hx hb dX1_greater_41 (lv_at hl 0 rfl) ?_
          refine lv_iload_n hx hb dX1_greater_43 rfl (lv_at hl 3 rfl) ?_
          refine wk_ishr hx hb dX1_greater_44 (by omega) (by omega) ?_
          refine lv_iconst (v := nI 1) hx hb dX1_greater_45 (by decide) ?_
          refine wk_iand hx hb dX1_greater_46 ?_
          have hf_46 : (((nib cs j) >>> v) &&& 1) ≤ 1 := Nat.and_le_right
          refine wk_iadd hx hb dX1_greater_47 ?_
          refine lv_istore (lv' := [(7, .int (nI (o + (((nib cs j) >>> v) &&& 1)))), (9, .int (nI (nib cs j))), (0, .ref h), (1, .long cs), (3, .int (nI v)), (4, .int (nI p0)), (5, .int (nI t)), (6, .int (nI z)), (8, .int (nI j))]) hx hb dX1_greater_48 hl (by decide) rfl (fun ls hl => ?_)
          refine lv_iload hx hb dX1_greater_50 (lv_at hl 7 rfl) ?_
          refine lv_iconst (v := nI 1) hx hb dX1_greater_52 (by decide) ?_
          refine wk_iadd hx hb dX1_greater_53 ?_
          refine lv_iload hx hb dX1_greater_54 (lv_at hl 1 rfl) ?_
          refine lv_iload_n hx hb dX1_greater_56 rfl (lv_at hl 4 rfl) ?_
          refine wk_ishr hx hb dX1_greater_57 (by omega) (by omega) ?_
          refine lv_iconst (v := nI 1) hx hb dX1_greater_58 (by decide) ?_
          refine wk_iand hx hb dX1_greater_59 ?_
          have hf_59 : (((nib cs j) >>> v) &&& 1) ≤ 1 := Nat.and_le_right
          refine lv_isub hx hb dX1_greater_60 ?_
          refine wk_top (y := nI (z + 1 - ((nib cs j >>> v) &&& 1))) (pk_sub (by omega)) ?_
          refine lv_istore (lv' := [(6, .int (nI (z + 1 - ((nib cs j >>> v) &&& 1)))), (7, .int (nI (o + (((nib cs j) >>> v) &&& 1)))), (9, .int (nI (nib cs j))), (0, .ref h), (1, .long cs), (3, .int (nI v)), (4, .int (nI p0)), (5, .int (nI t)), (8, .int (nI j))]) hx hb dX1_greater_61 hl (by decide) rfl (fun ls hl => ?_)
          refine wk_iinc (lv' := [(8, .int (nI (j + 1))), (6, .int (nI (z + 1 - ((nib cs j >>> v) &&& 1)))), (7, .int (nI (o + (((nib cs j) >>> v) &&& 1)))), (9, .int (nI (nib cs j))), (0, .ref h), (1, .long cs), (3, .int (nI v)), (4, .int (nI p0)), (5, .int (nI t))]) hx hb dX1_greater_63 hl (k := 8) rfl (by decide) rfl (fun ls hl => ?_)
          refine lv_goto (tgt := 9) hx hb dX1_greater_66 (by decide) ?_
          exact ih_9 (j + 1) (z + 1 - ((nib cs j >>> v) &&& 1)) (o + (((nib cs j) >>> v) &&& 1)) (by omega) (by omega) ⟨by rw [lit_succ, ← hinv_9.1, hitS_gr c_36], by omega⟩ ls (lv_sub hl [4, 5, 6, 7, 8, 1, 2, 0] rfl)
  exact loop_9 (16 + 1) 0 0 0 (by omega) (by omega) ⟨rfl, by omega⟩ ls (lv_sub hl [3, 4, 5, 6, 7, 2, 1, 0] rfl)
set_option maxHeartbeats 4000000 in
set_option maxRecDepth 100000 in
theorem metX1_hits (l : Launch) (dC : Nat → ClassId) (dI : Nat → Nat → Nat) (h sz : Nat) (cI cB : ClassId) (g : Nat → Nat) (li kn mo fi : Int32) (sc sa nc : Nat → Int32) (cs : Int64) (v p0 : Nat) (hv : v < 4) (hp : p0 < 16) : Met l yX1_hits (ws_ yX1_hits cX1_hits 8 (some .int)) ({ frames := 1, cells := 0, slots := 0, locals := 29 } : Room) (va_Pc [.ref h, .long cs, .int (nI v), .int (nI p0)] (fun U => va_P (dC, dI) vwCl (wX1 h cI cB g li kn mo fi sc sa nc) U.heap ∧ va_K (dC, dI) vwCl [(cI, .int), (cB, .boolean)] U)) (vp_Si (fun r : Int32 => r = nI (lit (sumS cs v p0) 0 16))) 0 0 (fun _ => False) := by
  refine Met.ofW (cc := cX1_hits) (maxL := 8) (ret := (some .int)) (by decide) rfl ?_
  intro p e s m args below meth c s₁ B hml hpre
  obtain ⟨rfl, hP, hK⟩ := hpre
  have hx := B.exec
  have hb := B.bytes
  have hr := B.returns
  have hts := atoms_spec (ws := (ws_ yX1_hits cX1_hits 8 (some .int))) B.pre
  have hts : ∀ w ∈ lw_all, w.before _ s = true := fun w h => hts w (List.mem_cons_of_mem _ h)
  have hown : s.vm.findClass RX1 = some m.cls := findClass_of_methodNamed B.named
  have hlocks := B.notSynchronized
  have hl := lv_entry ([.ref h, .long cs, .int (nI v), .int (nI p0)]) (n := 8) (Nat.le_of_ble_eq_true rfl)
  rw [lg_entry_eq]
  generalize (lg_sl ([.ref h, .long cs, .int (nI v), .int (nI p0)]) ++ List.replicate (8 - (lg_sl ([.ref h, .long cs, .int (nI v), .int (nI p0)])).length) Slot.unset).toArray = ls at hl ⊢
  have hl : lv_has ls 8 [(0, .ref h), (1, .long cs), (3, .int (nI v)), (4, .int (nI p0))] := hl
  refine lv_iconst (v := nI 0) hx hb dX1_hits_0 (by decide) ?_
  refine lv_istore (lv' := [(5, .int (nI 0)), (0, .ref h), (1, .long cs), (3, .int (nI v)), (4, .int (nI p0))]) hx hb dX1_hits_1 hl (by decide) rfl (fun ls hl => ?_)
  refine lv_iconst (v := nI 0) hx hb dX1_hits_3 (by decide) ?_
  refine lv_istore (lv' := [(6, .int (nI 0)), (5, .int (nI 0)), (0, .ref h), (1, .long cs), (3, .int (nI v)), (4, .int (nI p0))]) hx hb dX1_hits_4 hl (by decide) rfl (fun ls hl => ?_)
  have loop_6 : ∀ (k_6 t : Nat) (n : Nat), t ≤ 16 → 16 + 1 ≤ t + k_6 → (n = lit (sumS cs v p0) 0 t) → ∀ (ls : Array Slot), lv_has ls 8 [(0, .ref h), (1, .long cs), (3, .int (nI v)), (4, .int (nI p0)), (5, .int (nI n)), (6, .int (nI t))] → W p l e (headSpec (ws_ yX1_hits cX1_hits 8 (some .int)) ({ frames := 1, cells := 0, slots := 0, locals := 29 } : Room)).room s m ([.ref h, .long cs, .int (nI v), .int (nI p0)] : List Value).toArray below meth c s.heap [] 0 0 (MQ below (vp_Si (fun r : Int32 => r = nI (lit (sumS cs v p0) 0 16))) ([.ref h, .long cs, .int (nI v), .int (nI p0)] : List Value).toArray s 0 0 (fun _ => False)) (F0 m 6 ls []) := by
    intro k_6
    induction k_6 with
    | zero =>
      intro t n h1 h2
      exact absurd h2 (by omega)
    | succ k_6 ih_6 =>
      intro t n hi_6 hk_6 hinv_6 ls hl
      refine lv_iload hx hb dX1_hits_6 (lv_at hl 5 rfl) ?_
      refine lv_bipush (v := nI 16) hx hb dX1_hits_8 (by decide) ?_
      refine wk_icmp_ge (tgt := 48) hx hb dX1_hits_10 (by decide) (by omega) (by decide) (fun c_10 => ?_) (fun c_10 => ?_)
      · have he_t : t = 16 := by omega
        subst he_t
        refine lv_iload hx hb dX1_hits_48 (lv_at hl 4 rfl) ?_
        exact W.iret (v := nI n) hx hb hr (fun T9 hT9 hW9 => ⟨nI n, rfl, (congrArg nI hinv_6), hT9⟩) (fun q h => absurd h List.not_mem_nil) dX1_hits_50
      · refine lv_iload hx hb dX1_hits_13 (lv_at hl 5 rfl) ?_
        refine lv_iload hx hb dX1_hits_15 (lv_at hl 3 rfl) ?_
        refine lv_iconst (v := (-1)) hx hb dX1_hits_17 (by decide) ?_
        refine lv_ixor hx hb dX1_hits_18 ?_
        refine wk_iandn hx hb dX1_hits_19 ?_
        have hf_19 : (andn t p0) ≤ t := andn_le _ _
        refine wk_if_ne (tgt := 42) hx hb dX1_hits_20 (by decide) (Nat.lt_of_le_of_lt (andn_le _ _) (by omega)) (fun c_20 => ?_) (fun c_20 => ?_)
        · refine wk_iinc (lv' := [(6, .int (nI (t + 1))), (0, .ref h), (1, .long cs), (3, .int (nI v)), (4, .int (nI p0)), (5, .int (nI n))]) hx hb dX1_hits_42 hl (k := 5) rfl (by decide) rfl (fun ls hl => ?_)
          refine lv_goto (tgt := 6) hx hb dX1_hits_45 (by decide) ?_
          exact ih_6 (t + 1) n (by omega) (by omega) (by rw [lit_succ, ← hinv_6]; unfold sumS; rw [if_neg c_20]) ls (lv_sub hl [1, 2, 3, 4, 5, 0] rfl)
        · refine lv_aload_n hx hb dX1_hits_23 rfl (lv_at hl 0 rfl) ?_
          refine lv_lload_n hx hb dX1_hits_24 rfl (lv_at hl 1 rfl) ?_
          refine lv_iload_n hx hb dX1_hits_25 rfl (lv_at hl 2 rfl) ?_
          refine lv_iload hx hb dX1_hits_26 (lv_at hl 3 rfl) ?_
          refine lv_iload hx hb dX1_hits_28 (lv_at hl 5 rfl) ?_
          refine vp_callSi (W.runV (b := h) (As := [.long cs, .int (nI v), .int (nI p0), .int (nI t)]) (rest := []) ⟨hx, hb, hml, hown, hts⟩ (metX1_greater l dC dI h 0 cI cB g li kn mo fi sc sa nc cs v p0 t hv hp (by omega)) (cwV 4 hts (lw_V q234 q236 qs15 q24 q237) rfl rfl rfl (by decide +kernel) ⟨Nat.le_of_ble_eq_true rfl, Nat.le_of_ble_eq_true rfl⟩) ⟨fun a U g mk q => ⟨q.1, q.2.1, va_K.moved (u := U) (U := U.calling g mk a) (Vm.Alike.refl U.vm) q.2.2⟩, va_recv hK hP (ci := 1) (q0 := 0) rfl rfl, fun U hU hW => ⟨rfl, by rw [hU]; exact hP, va_K.moved hW.alike hK⟩⟩ rfl rfl hl.1 rfl (lv_room (Nat.le_of_ble_eq_true rfl)) dX1_hits_30 ⟨Nat.le_of_ble_eq_true rfl, Nat.le_of_ble_eq_true rfl⟩) (fun r hr_30 => ?_)
          have hr_30 : r = nI (hitF cs v p0 t) := hr_30
          subst hr_30
          refine lv_istore (lv' := [(7, .int (nI (hitF cs v p0 t))), (0, .ref h), (1, .long cs), (3, .int (nI v)), (4, .int (nI p0)), (5, .int (nI n)), (6, .int (nI t))]) hx hb dX1_hits_33 hl (by decide) rfl (fun ls hl => ?_)
          refine lv_iload hx hb dX1_hits_35 (lv_at hl 5 rfl) ?_
          refine lv_iload hx hb dX1_hits_37 (lv_at hl 0 rfl) ?_
          refine wk_iadd hx hb dX1_hits_39 ?_
          refine lv_istore (lv' := [(5, .int (nI (n + (hitF cs v p0 t)))), (7, .int (nI (hitF cs v p0 t))), (0, .ref h), (1, .long cs), (3, .int (nI v)), (4, .int (nI p0)), (6, .int (nI t))]) hx hb dX1_hits_40 hl (by decide) rfl (fun ls hl => ?_)
          refine wk_iinc (lv' := [(6, .int (nI (t + 1))), (5, .int (nI (n + (hitF cs v p0 t)))), (7, .int (nI (hitF cs v p0 t))), (0, .ref h), (1, .long cs), (3, .int (nI v)), (4, .int (nI p0))]) hx hb dX1_hits_42 hl (k := 6) rfl (by decide) rfl (fun ls hl => ?_)
          refine lv_goto (tgt := 6) hx hb dX1_hits_45 (by decide) ?_
          exact ih_6 (t + 1) (n + (hitF cs v p0 t)) (by omega) (by omega) (by rw [lit_succ, ← hinv_6]; unfold sumS; rw [if_pos c_20]) ls (lv_sub hl [3, 4, 5, 6, 1, 0] rfl)
  exact loop_6 (16 + 1) 0 0 (by omega) (by omega) rfl ls (lv_sub hl [2, 3, 4, 5, 1, 0] rfl)
set_option maxHeartbeats 4000000 in
set_option maxRecDepth 100000 in
theorem metX1_learn (l : Launch) (dC : Nat → ClassId) (dI : Nat → Nat → Nat) (h sz : Nat) (cI cB : ClassId) (g : Nat → Nat) (li kn mo fi : Int32) (sc sa nc : Nat → Int32) (cs : Int64) : Met l yX1_learn (ws_ yX1_learn cX1_learn 7 (some .int)) ({ frames := 2, cells := 0, slots := 0, locals := 56 } : Room) (va_Pc [.ref h, .long cs] (fun U => U.heap.size = sz ∧ va_P (dC, dI) vwCl (wX1 h cI cB g li kn mo fi sc sa nc) U.heap ∧ va_K (dC, dI) vwCl [(cI, .int), (cB, .boolean)] U ∧ va_D (fun _ => True) (wX1 h cI cB g li kn mo fi sc sa nc))) (va_Qi (fun (r : Int32) (u : (Nat → Int32) × Int32) => r = nI 0 ∧ u = (lit (ln1O cs) sc 4, nI 0)) (fun (u : (Nat → Int32) × Int32) (t : State) => va_P (dC, dI) vwCl (wX1 h cI cB g li u.2 mo fi u.1 sa nc) t.heap ∧ va_K (dC, dI) vwCl [(cI, .int), (cB, .boolean)] t ∧ va_D (va_A (wX1 h cI cB g li kn mo fi sc sa nc) sz) (wX1 h cI cB g li u.2 mo fi u.1 sa nc)) (va_A (wX1 h cI cB g li kn mo fi sc sa nc) sz)) 0 0 (va_A (wX1 h cI cB g li kn mo fi sc sa nc) sz) := by
  refine Met.ofW (cc := cX1_learn) (maxL := 7) (ret := (some .int)) (by decide) rfl ?_
  intro p e s m args below meth c s₁ B hml hpre
  obtain ⟨rfl, hsz, hP, hK, hD0⟩ := hpre
  have hx := B.exec
  have hb := B.bytes
  have hr := B.returns
  have hts := atoms_spec (ws := (ws_ yX1_learn cX1_learn 7 (some .int))) B.pre
  have hts : ∀ w ∈ lw_all, w.before _ s = true := fun w h => hts w (List.mem_cons_of_mem _ h)
  have hown : s.vm.findClass RX1 = some m.cls := findClass_of_methodNamed B.named
  have hlocks := B.notSynchronized
  subst hsz
  have hD := hD0.self (sz := s.heap.size)
  generalize hAe : va_A (wX1 h cI cB g li kn mo fi sc sa nc) s.heap.size = A at hD ⊢
  have hA : ∀ q : Nat, s.heap.size ≤ q → A q := fun q h => by rw [← hAe]; exact Or.inr h
  have hS : va_S A s.heap s.heap [] := va_S.rf
  have hl := lv_entry ([.ref h, .long cs]) (n := 7) (Nat.le_of_ble_eq_true rfl)
  rw [lg_entry_eq]
  generalize (lg_sl ([.ref h, .long cs]) ++ List.replicate (7 - (lg_sl ([.ref h, .long cs])).length) Slot.unset).toArray = ls at hl ⊢
  have hl : lv_has ls 7 [(0, .ref h), (1, .long cs)] := hl
  refine lv_iconst (v := nI 0) hx hb dX1_learn_0 (by decide) ?_
  refine lv_istore_n (lv' := [(3, .int (nI 0)), (0, .ref h), (1, .long cs)]) hx hb dX1_learn_1 rfl hl (by decide) rfl (fun ls hl => ?_)
  have loop_2 : ∀ (k_2 v : Nat) (s1 : Nat → Int32), v ≤ 4 → 4 + 1 ≤ v + k_2 → (s1 = lit (ln1O cs) sc v) → ∀ (H : Heap) (locs : List Loc), va_P (dC, dI) vwCl (wX1 h cI cB g li kn mo fi s1 sa nc) H → va_D A (wX1 h cI cB g li kn mo fi s1 sa nc) → va_S A s.heap H locs → ∀ (ls : Array Slot), lv_has ls 7 [(0, .ref h), (1, .long cs), (3, .int (nI v))] → W p l e (headSpec (ws_ yX1_learn cX1_learn 7 (some .int)) ({ frames := 2, cells := 0, slots := 0, locals := 56 } : Room)).room s m ([.ref h, .long cs] : List Value).toArray below meth c H locs 0 0 (MQ below (va_Qi (fun (r : Int32) (u : (Nat → Int32) × Int32) => r = nI 0 ∧ u = (lit (ln1O cs) sc 4, nI 0)) (fun (u : (Nat → Int32) × Int32) (t : State) => va_P (dC, dI) vwCl (wX1 h cI cB g li u.2 mo fi u.1 sa nc) t.heap ∧ va_K (dC, dI) vwCl [(cI, .int), (cB, .boolean)] t ∧ va_D A (wX1 h cI cB g li u.2 mo fi u.1 sa nc)) A) ([.ref h, .long cs] : List Value).toArray s 0 0 A) (F0 m 2 ls []) := by
    intro k_2
    induction k_2 with
    | zero =>
      intro v s1 h1 h2
      exact absurd h2 (by omega)
    | succ k_2 ih_2 =>
      intro v s1 hi_2 hk_2 hinv_2 H locs hP hD hS ls hl
      refine lv_iload_n hx hb dX1_learn_2 rfl (lv_at hl 2 rfl) ?_
      refine lv_iconst (v := nI 4) hx hb dX1_learn_3 (by decide) ?_
      refine wk_icmp_ge (tgt := 73) hx hb dX1_learn_4 (by decide) (by omega) (by decide) (fun c_4 => ?_) (fun c_4 => ?_)
      · have he_v : v = 4 := by omega
        subst he_v
        refine lv_aload_n hx hb dX1_learn_73 rfl (lv_at hl 0 rfl) ?_
        refine lv_iconst (v := nI 0) hx hb dX1_learn_74 (by decide) ?_
        refine va_put (D := (dC, dI)) (ci := 1) (v := .int (nI 0)) (ty := .boolean) (C := RX1) (T := TX1) (N := 7) hx hb hts in_X1 tyX1 tyX1_ok nmX1 hown hK hP hD hS 0 rfl rfl 4 (by decide) (hts _ q179) (fun _ h9 => h9) rfl (by decide +kernel) rfl rfl (Nat.le_of_ble_eq_true rfl) dX1_learn_75 (fun H locs hP hD hS => ?_)
        have hP : va_P (dC, dI) vwCl (wX1 h cI cB g li (nI 0) mo fi s1 sa nc) H := hP
        have hD : va_D A (wX1 h cI cB g li (nI 0) mo fi s1 sa nc) := hD
        refine lv_iconst (v := nI 0) hx hb dX1_learn_78 (by decide) ?_
        exact W.iret (v := nI 0) hx hb hr (fun T9 hT9 hW9 => ⟨⟨nI 0, (s1, nI 0), rfl, ⟨rfl, by rw [← hinv_2]⟩, by rw [hT9]; exact hP, va_K.moved hW9.alike hK, hD⟩, hS.F hT9⟩) hS.2.2 dX1_learn_79
      · refine lv_iconst (v := nI 0) hx hb dX1_learn_7 (by decide) ?_
        refine lv_istore (lv' := [(4, .int (nI 0)), (0, .ref h), (1, .long cs), (3, .int (nI v))]) hx hb dX1_learn_8 hl (by decide) rfl (fun ls hl => ?_)
        have loop_10 : ∀ (k_10 d : Nat) (s2 : Nat → Int32), d ≤ 8 → 8 + 1 ≤ d + k_10 → (s2 = lit (ln1I cs v) s1 d) → ∀ (H : Heap) (locs : List Loc), va_P (dC, dI) vwCl (wX1 h cI cB g li kn mo fi s2 sa nc) H → va_D A (wX1 h cI cB g li kn mo fi s2 sa nc) → va_S A s.heap H locs → ∀ (ls : Array Slot), lv_has ls 7 [(0, .ref h), (1, .long cs), (3, .int (nI v)), (4, .int (nI d))] → W p l e (headSpec (ws_ yX1_learn cX1_learn 7 (some .int)) ({ frames := 2, cells := 0, slots := 0, locals := 56 } : Room)).room s m ([.ref h, .long cs] : List Value).toArray below meth c H locs 0 0 (MQ below (va_Qi (fun (r : Int32) (u : (Nat → Int32) × Int32) => r = nI 0 ∧ u = (lit (ln1O cs) sc 4, nI 0)) (fun (u : (Nat → Int32) × Int32) (t : State) => va_P (dC, dI) vwCl (wX1 h cI cB g li u.2 mo fi u.1 sa nc) t.heap ∧ va_K (dC, dI) vwCl [(cI, .int), (cB, .boolean)] t ∧ va_D A (wX1 h cI cB g li u.2 mo fi u.1 sa nc)) A) ([.ref h, .long cs] : List Value).toArray s 0 0 A) (F0 m 10 ls []) := by
          intro k_10
          induction k_10 with
          | zero =>
            intro d s2 h1 h2
            exact absurd h2 (by omega)
          | succ k_10 ih_10 =>
            intro d s2 hi_10 hk_10 hinv_10 H locs hP hD hS ls hl
            refine lv_iload hx hb dX1_learn_10 (lv_at hl 3 rfl) ?_
            refine lv_bipush (v := nI 8) hx hb dX1_learn_12 (by decide) ?_
            refine wk_icmp_ge (tgt := 67) hx hb dX1_learn_14 (by decide) (by omega) (by decide) (fun c_14 => ?_) (fun c_14 => ?_)
            · have he_d : d = 8 := by omega
              subst he_d
              refine wk_iinc (lv' := [(3, .int (nI (v + 1))), (0, .ref h), (1, .long cs), (4, .int (nI 8))]) hx hb dX1_learn_67 hl (k := 2) rfl (by decide) rfl (fun ls hl => ?_)
              refine lv_goto (tgt := 2) hx hb dX1_learn_70 (by decide) ?_
              exact ih_2 (v + 1) s2 (by omega) (by omega) (by rw [lit_succ, ← hinv_2]; exact hinv_10) _ _ hP hD hS ls (lv_sub hl [1, 2, 0] rfl)
            · refine lv_aload_n hx hb dX1_learn_17 rfl (lv_at hl 0 rfl) ?_
              refine lv_iload_n hx hb dX1_learn_18 rfl (lv_at hl 2 rfl) ?_
              refine lv_iload hx hb dX1_learn_19 (lv_at hl 3 rfl) ?_
              refine vp_callSi (W.runV (b := h) (As := [.int (nI v), .int (nI d)]) (rest := []) ⟨hx, hb, hml, hown, hts⟩ (metX1_mask l dC dI h 0 cI cB g li kn mo fi s2 sa nc v d (by omega) (by omega)) (cwV 2 hts (lw_V q171 q173 qs9 q24 q174) rfl rfl rfl (by decide +kernel) ⟨Nat.le_of_ble_eq_true rfl, Nat.le_of_ble_eq_true rfl⟩) ⟨fun a U g mk q => ⟨q.1, q.2.1, va_K.moved (u := U) (U := U.calling g mk a) (Vm.Alike.refl U.vm) q.2.2⟩, va_recv hK hP (ci := 1) (q0 := 0) rfl rfl, fun U hU hW => ⟨rfl, by rw [hU]; exact hP, va_K.moved hW.alike hK⟩⟩ rfl rfl hl.1 rfl (lv_room (Nat.le_of_ble_eq_true rfl)) dX1_learn_21 ⟨Nat.le_of_ble_eq_true rfl, Nat.le_of_ble_eq_true rfl⟩) (fun r hr_21 => ?_)
              have hr_21 : r = nI (maskN v d) := hr_21
              subst hr_21
              have hm_21 := maskN_lt v (by omega) d (by omega)
              refine lv_istore (lv' := [(5, .int (nI (maskN v d))), (0, .ref h), (1, .long cs), (3, .int (nI v)), (4, .int (nI d))]) hx hb dX1_learn_24 hl (by decide) rfl (fun ls hl => ?_)
              refine lv_aload_n hx hb dX1_learn_26 rfl (lv_at hl 1 rfl) ?_
              refine lv_iload hx hb dX1_learn_27 (lv_at hl 0 rfl) ?_
              refine vp_callSi (W.runV (b := h) (As := [.int (nI (maskN v d))]) (rest := []) ⟨hx, hb, hml, hown, hts⟩ (metX1_bits l dC dI h 0 cI cB g li kn mo fi s2 sa nc (maskN v d) hm_21) (cwV 1 hts (lw_V q226 q228 qs13 q24 q229) rfl rfl rfl (by decide +kernel) ⟨Nat.le_of_ble_eq_true rfl, Nat.le_of_ble_eq_true rfl⟩) ⟨fun a U g mk q => ⟨q.1, q.2.1, va_K.moved (u := U) (U := U.calling g mk a) (Vm.Alike.refl U.vm) q.2.2⟩, va_recv hK hP (ci := 1) (q0 := 0) rfl rfl, fun U hU hW => ⟨rfl, by rw [hU]; exact hP, va_K.moved hW.alike hK⟩⟩ rfl rfl hl.1 rfl (lv_room (Nat.le_of_ble_eq_true rfl)) dX1_learn_29 ⟨Nat.le_of_ble_eq_true rfl, Nat.le_of_ble_eq_true rfl⟩) (fun r hr_29 => ?_)
              have hr_29 : r = nI (szN (maskN v d)) := hr_29
              subst hr_29
              have hs_29 := szN_le (maskN v d) hm_21
              refine lv_istore (lv' := [(6, .int (nI (szN (maskN v d)))), (5, .int (nI (maskN v d))), (0, .ref h), (1, .long cs), (3, .int (nI v)), (4, .int (nI d))]) hx hb dX1_learn_32 hl (by decide) rfl (fun ls hl => ?_)
              refine lv_aload_n hx hb dX1_learn_34 rfl (lv_at hl 2 rfl) ?_
              refine va_get (D := (dC, dI)) (ci := 1) (v := .ref (g 0)) (C := RX1) (T := TX1) (N := 7) hx hb hts in_X1 hown hK hP 0 rfl rfl 0 (by decide) (hts _ q175) (fun _ h9 => h9) rfl dX1_learn_35 ?_
              refine lv_iload_n hx hb dX1_learn_38 rfl (lv_at hl 4 rfl) ?_
              refine lv_bipush (v := nI 8) hx hb dX1_learn_39 (by decide) ?_
              refine wk_imul hx hb dX1_learn_41 ?_
              refine lv_iload hx hb dX1_learn_42 (lv_at hl 5 rfl) ?_
              refine wk_iadd hx hb dX1_learn_44 ?_
              refine lv_aload_n hx hb dX1_learn_45 rfl (lv_at hl 2 rfl) ?_
              refine lv_lload_n hx hb dX1_learn_46 rfl (lv_at hl 3 rfl) ?_
              refine lv_iload_n hx hb dX1_learn_47 rfl (lv_at hl 4 rfl) ?_
              refine lv_iload hx hb dX1_learn_48 (lv_at hl 1 rfl) ?_
              refine vp_callSi (W.runV (b := h) (As := [.long cs, .int (nI v), .int (nI (maskN v d))]) (rest := [.int (nI ((v * 8) + d)), .ref (g 0)]) ⟨hx, hb, hml, hown, hts⟩ (metX1_hits l dC dI h 0 cI cB g li kn mo fi s2 sa nc cs v (maskN v d) (by omega) hm_21) (cwV 3 hts (lw_V q230 q232 qs14 q24 q233) rfl rfl rfl (by decide +kernel) ⟨Nat.le_of_ble_eq_true rfl, Nat.le_of_ble_eq_true rfl⟩) ⟨fun a U g mk q => ⟨q.1, q.2.1, va_K.moved (u := U) (U := U.calling g mk a) (Vm.Alike.refl U.vm) q.2.2⟩, va_recv hK hP (ci := 1) (q0 := 0) rfl rfl, fun U hU hW => ⟨rfl, by rw [hU]; exact hP, va_K.moved hW.alike hK⟩⟩ rfl rfl hl.1 rfl (lv_room (Nat.le_of_ble_eq_true rfl)) dX1_learn_50 ⟨Nat.le_of_ble_eq_true rfl, Nat.le_of_ble_eq_true rfl⟩) (fun r hr_50 => ?_)
              have hr_50 : r = nI (lit (sumS cs v (maskN v d)) 0 16) := hr_50
              subst hr_50
              refine lv_iconst (v := nI 3) hx hb dX1_learn_53 (by decide) ?_
              refine lv_iconst (v := nI 1) hx hb dX1_learn_54 (by decide) ?_
              refine lv_iload hx hb dX1_learn_55 (lv_at hl 0 rfl) ?_
              refine wk_ishl1 hx hb dX1_learn_57 (by omega) ?_
              refine wk_imul hx hb dX1_learn_58 ?_
              refine lv_isub hx hb dX1_learn_59 ?_
              refine wk_iast hx hb hK hP hD hS 1 0 rfl rfl (ix := ((v * 8) + d)) (by omega) (by decide) dX1_learn_60 (fun H locs hP hD hS => ?_)
              have hP : va_P (dC, dI) vwCl (wX1 h cI cB g li kn mo fi (upd s2 ((v * 8) + d) (nI (lit (sumS cs v (maskN v d)) 0 16) - nI (3 * (1 <<< (szN (maskN v d)))))) sa nc) H := hP
              have hD : va_D A (wX1 h cI cB g li kn mo fi (upd s2 ((v * 8) + d) (nI (lit (sumS cs v (maskN v d)) 0 16) - nI (3 * (1 <<< (szN (maskN v d)))))) sa nc) := hD
              refine wk_iinc (lv' := [(4, .int (nI (d + 1))), (6, .int (nI (szN (maskN v d)))), (5, .int (nI (maskN v d))), (0, .ref h), (1, .long cs), (3, .int (nI v))]) hx hb dX1_learn_61 hl (k := 5) rfl (by decide) rfl (fun ls hl => ?_)
              refine lv_goto (tgt := 10) hx hb dX1_learn_64 (by decide) ?_
              exact ih_10 (d + 1) (upd s2 ((v * 8) + d) (nI (lit (sumS cs v (maskN v d)) 0 16) - nI (3 * (1 <<< (szN (maskN v d)))))) (by omega) (by omega) (by rw [lit_succ (ln1I cs v), ← hinv_10]; rfl) _ _ hP hD hS ls (lv_sub hl [3, 4, 5, 0] rfl)
        exact loop_10 (8 + 1) 0 s1 (by omega) (by omega) rfl _ _ hP hD hS ls (lv_sub hl [1, 2, 3, 0] rfl)
  exact loop_2 (4 + 1) 0 sc (by omega) (by omega) rfl _ _ hP hD hS ls (lv_sub hl [1, 2, 0] rfl)
set_option maxHeartbeats 4000000 in
set_option maxRecDepth 100000 in
theorem metX1_scoreOf (l : Launch) (dC : Nat → ClassId) (dI : Nat → Nat → Nat) (h sz : Nat) (cI cB : ClassId) (g : Nat → Nat) (li kn mo fi : Int32) (sc sa nc : Nat → Int32) (x1 x2 : Int32) : Met l yX1_scoreOf (ws_ yX1_scoreOf cX1_scoreOf 4 (some .int)) ({ frames := 1, cells := 0, slots := 0, locals := 23 } : Room) (va_Pc [.ref h, .int x1, .int x2] (fun U => va_P (dC, dI) vwCl (wX1 h cI cB g li kn mo fi sc sa nc) U.heap ∧ va_K (dC, dI) vwCl [(cI, .int), (cB, .boolean)] U)) (vp_Si (fun r : Int32 => r = so1R sc x1 x2)) 0 0 (fun _ => False) := by
  refine Met.ofW (cc := cX1_scoreOf) (maxL := 4) (ret := (some .int)) (by decide) rfl ?_
  intro p e s m args below meth c s₁ B hml hpre
  obtain ⟨rfl, hP, hK⟩ := hpre
  have hx := B.exec
  have hb := B.bytes
  have hr := B.returns
  have hts := atoms_spec (ws := (ws_ yX1_scoreOf cX1_scoreOf 4 (some .int))) B.pre
  have hts : ∀ w ∈ lw_all, w.before _ s = true := fun w h => hts w (List.mem_cons_of_mem _ h)
  have hown : s.vm.findClass RX1 = some m.cls := findClass_of_methodNamed B.named
  have hlocks := B.notSynchronized
  have hl := lv_entry ([.ref h, .int x1, .int x2]) (n := 4) (Nat.le_of_ble_eq_true rfl)
  rw [lg_entry_eq]
  generalize (lg_sl ([.ref h, .int x1, .int x2]) ++ List.replicate (4 - (lg_sl ([.ref h, .int x1, .int x2])).length) Slot.unset).toArray = ls at hl ⊢
  have hl : lv_has ls 4 [(0, .ref h), (1, .int x1), (2, .int x2)] := hl
  refine lv_aload_n hx hb dX1_scoreOf_0 rfl (lv_at hl 0 rfl) ?_
  refine lv_iload_n hx hb dX1_scoreOf_1 rfl (lv_at hl 1 rfl) ?_
  refine vp_callSi (W.runV (b := h) (As := [.int x1]) (rest := []) ⟨hx, hb, hml, hown, hts⟩ (metX1_bad l dC dI h 0 cI cB g li kn mo fi sc sa nc x1) (cwV 1 hts (lw_V q202 q204 qs10 q24 q205) rfl rfl rfl (by decide +kernel) ⟨Nat.le_of_ble_eq_true rfl, Nat.le_of_ble_eq_true rfl⟩) ⟨fun a U g mk q => ⟨q.1, q.2.1, va_K.moved (u := U) (U := U.calling g mk a) (Vm.Alike.refl U.vm) q.2.2⟩, va_recv hK hP (ci := 1) (q0 := 0) rfl rfl, fun U hU hW => ⟨rfl, by rw [hU]; exact hP, va_K.moved hW.alike hK⟩⟩ rfl rfl hl.1 rfl (lv_room (Nat.le_of_ble_eq_true rfl)) dX1_scoreOf_2 ⟨Nat.le_of_ble_eq_true rfl, Nat.le_of_ble_eq_true rfl⟩) (fun r hr_2 => ?_)
  have hr_2 : r = nI (badV x1) := hr_2
  subst hr_2
  refine wk_if_ne (tgt := 17) hx hb dX1_scoreOf_5 (by decide) (by have := badV_le x1; omega) (fun c_5 => ?_) (fun c_5 => ?_)
  · refine lv_iconst (v := nI 0) hx hb dX1_scoreOf_17 (by decide) ?_
    exact W.iret (v := nI 0) hx hb hr (fun T9 hT9 hW9 => ⟨nI 0, rfl, (by unfold so1R; rw [if_neg c_5]), hT9⟩) (fun q h => absurd h List.not_mem_nil) dX1_scoreOf_18
  · obtain ⟨a, hlta, hxa⟩ := badV_0 c_5
    refine lv_aload_n hx hb dX1_scoreOf_8 rfl (lv_at hl 0 rfl) ?_
    refine lv_iload_n hx hb dX1_scoreOf_9 rfl (lv_at hl 1 rfl) ?_
    refine wk_top hxa ?_
    refine lv_iload_n hx hb dX1_scoreOf_10 rfl (lv_at hl 2 rfl) ?_
    refine vp_callSi (W.runV (b := h) (As := [.int (nI a), .int x2]) (rest := []) ⟨hx, hb, hml, hown, hts⟩ (metX1_badMask l dC dI h 0 cI cB g li kn mo fi sc sa nc a x2 hlta) (cwV 2 hts (lw_V q206 q208 qs11 q24 q209) rfl rfl rfl (by decide +kernel) ⟨Nat.le_of_ble_eq_true rfl, Nat.le_of_ble_eq_true rfl⟩) ⟨fun a U g mk q => ⟨q.1, q.2.1, va_K.moved (u := U) (U := U.calling g mk a) (Vm.Alike.refl U.vm) q.2.2⟩, va_recv hK hP (ci := 1) (q0 := 0) rfl rfl, fun U hU hW => ⟨rfl, by rw [hU]; exact hP, va_K.moved hW.alike hK⟩⟩ rfl rfl hl.1 rfl (lv_room (Nat.le_of_ble_eq_true rfl)) dX1_scoreOf_11 ⟨Nat.le_of_ble_eq_true rfl, Nat.le_of_ble_eq_true rfl⟩) (fun r hr_11 => ?_)
    have hr_11 : r = nI (badP a x2) := hr_11
    subst hr_11
    refine wk_if_eq (tgt := 19) hx hb dX1_scoreOf_14 (by decide) (by have := badP_le a x2; omega) (fun c_14 => ?_) (fun c_14 => ?_)
    · obtain ⟨q, hltq, hxq, hbit_14⟩ := badP_0 hlta c_14
      refine lv_aload_n hx hb dX1_scoreOf_19 rfl (lv_at hl 0 rfl) ?_
      refine lv_iload_n hx hb dX1_scoreOf_20 rfl (lv_at hl 1 rfl) ?_
      refine wk_top hxa ?_
      refine lv_iload_n hx hb dX1_scoreOf_21 rfl (lv_at hl 2 rfl) ?_
      refine wk_top hxq ?_
      refine vp_callSi (W.runV (b := h) (As := [.int (nI a), .int (nI q)]) (rest := []) ⟨hx, hb, hml, hown, hts⟩ (metX1_digit l dC dI h 0 cI cB g li kn mo fi sc sa nc a q hlta hltq) (cwV 2 hts (lw_V q210 q212 qs12 q24 q213) rfl rfl rfl (by decide +kernel) ⟨Nat.le_of_ble_eq_true rfl, Nat.le_of_ble_eq_true rfl⟩) ⟨fun a U g mk q => ⟨q.1, q.2.1, va_K.moved (u := U) (U := U.calling g mk a) (Vm.Alike.refl U.vm) q.2.2⟩, va_recv hK hP (ci := 1) (q0 := 0) rfl rfl, fun U hU hW => ⟨rfl, by rw [hU]; exact hP, va_K.moved hW.alike hK⟩⟩ rfl rfl hl.1 rfl (lv_room (Nat.le_of_ble_eq_true rfl)) dX1_scoreOf_22 ⟨Nat.le_of_ble_eq_true rfl, Nat.le_of_ble_eq_true rfl⟩) (fun r hr_22 => ?_)
      have hr_22 : r = nI (digM a q) := hr_22
      subst hr_22
      have hd_22 := digM_lt a hlta q hltq
      refine lv_istore_n (lv' := [(3, .int (nI (digM a q))), (0, .ref h), (1, .int x1), (2, .int x2)]) hx hb dX1_scoreOf_25 rfl hl (by decide) rfl (fun ls hl => ?_)
      refine lv_aload_n hx hb dX1_scoreOf_26 rfl (lv_at hl 1 rfl) ?_
      refine va_get (D := (dC, dI)) (ci := 1) (v := .ref (g 0)) (C := RX1) (T := TX1) (N := 7) hx hb hts in_X1 hown hK hP 0 rfl rfl 0 (by decide) (hts _ q175) (fun _ h9 => h9) rfl dX1_scoreOf_27 ?_
      refine lv_iload_n hx hb dX1_scoreOf_30 rfl (lv_at hl 2 rfl) ?_
      refine wk_top hxa ?_
      refine lv_bipush (v := nI 8) hx hb dX1_scoreOf_31 (by decide) ?_
      refine wk_imul hx hb dX1_scoreOf_33 ?_
      refine lv_iload_n hx hb dX1_scoreOf_34 rfl (lv_at hl 0 rfl) ?_
      refine wk_iadd hx hb dX1_scoreOf_35 ?_
      refine wk_iald hx hb hK hP 1 0 rfl rfl (ix := ((a * 8) + (digM a q))) (by omega) (by decide) dX1_scoreOf_36 ?_
      exact W.iret (v := (sc ((a * 8) + (digM a q)))) hx hb hr (fun T9 hT9 hW9 => ⟨(sc ((a * 8) + (digM a q))), rfl, (by unfold so1R; rw [if_pos c_5, if_pos (by rw [hxa, nI_clamp (by omega)]; exact c_14), hxa, hxq, nI_clamp (by omega), nI_clamp (by omega)]), hT9⟩) (fun q h => absurd h List.not_mem_nil) dX1_scoreOf_37
    · refine lv_iconst (v := nI 0) hx hb dX1_scoreOf_17 (by decide) ?_
      exact W.iret (v := nI 0) hx hb hr (fun T9 hT9 hW9 => ⟨nI 0, rfl, (by unfold so1R; rw [if_pos c_5, if_neg (by rw [hxa, nI_clamp (by omega)]; exact c_14)]), hT9⟩) (fun q h => absurd h List.not_mem_nil) dX1_scoreOf_18
end
section
set_option maxHeartbeats 4000000 in
set_option maxRecDepth 100000 in
theorem metX1_allowed (l : Launch) (dC : Nat → ClassId) (dI : Nat → Nat → Nat) (h sz : Nat) (cI cB : ClassId) (g : Nat → Nat) (li kn mo fi : Int32) (sc sa nc : Nat → Int32) (z : Nat) (hz : z < 4096) : Met l yX1_allowed (ws_ yX1_allowed cX1_allowed 6 (some .boolean)) ({ frames := 2, cells := 0, slots := 0, locals := 46 } : Room) (va_Pc [.ref h, .int (nI z)] (fun U => va_P (dC, dI) vwCl (wX1 h cI cB g li kn mo fi sc sa nc) U.heap ∧ va_K (dC, dI) vwCl [(cI, .int), (cB, .boolean)] U)) (vp_Si (fun r : Int32 => r = nI (alwN li sa nc z))) 0 0 (fun _ => False) := by
  refine Met.ofW (cc := cX1_allowed) (maxL := 6) (ret := (some .boolean)) (by decide) rfl ?_
  intro p e s m args below meth c s₁ B hml hpre
  obtain ⟨rfl, hP, hK⟩ := hpre
  have hx := B.exec
  have hb := B.bytes
  have hr := B.returns
  have hts := atoms_spec (ws := (ws_ yX1_allowed cX1_allowed 6 (some .boolean))) B.pre
  have hts : ∀ w ∈ lw_all, w.before _ s = true := fun w h => hts w (List.mem_cons_of_mem _ h)
  have hown : s.vm.findClass RX1 = some m.cls := findClass_of_methodNamed B.named
  have hlocks := B.notSynchronized
  have hl := lv_entry ([.ref h, .int (nI z)]) (n := 6) (Nat.le_of_ble_eq_true rfl)
  rw [lg_entry_eq]
  generalize (lg_sl ([.ref h, .int (nI z)]) ++ List.replicate (6 - (lg_sl ([.ref h, .int (nI z)])).length) Slot.unset).toArray = ls at hl ⊢
  have hl : lv_has ls 6 [(0, .ref h), (1, .int (nI z))] := hl
  refine lv_aload_n hx hb dX1_allowed_0 rfl (lv_at hl 0 rfl) ?_
  refine va_get (D := (dC, dI)) (ci := 1) (v := .ref (g 2)) (C := RX1) (T := TX1) (N := 7) hx hb hts in_X1 hown hK hP 0 rfl rfl 3 (by decide) (hts _ q178) (fun _ h9 => h9) rfl dX1_allowed_1 ?_
  refine lv_iload_n hx hb dX1_allowed_4 rfl (lv_at hl 1 rfl) ?_
  refine wk_zald hx hb hK hP 3 1 rfl rfl (ix := z) (by omega) (by decide) dX1_allowed_5 ?_
  refine lv_if_ne (tgt := 11) hx hb dX1_allowed_6 (by decide) (fun c_6 => ?_) (fun c_6 => ?_)
  · refine lv_iconst (v := nI 0) hx hb dX1_allowed_11 (by decide) ?_
    refine lv_istore_n (lv' := [(2, .int (nI 0)), (0, .ref h), (1, .int (nI z))]) hx hb dX1_allowed_12 rfl hl (by decide) rfl (fun ls hl => ?_)
    have loop_13 : ∀ (k_13 v : Nat), v ≤ 4 → 4 + 1 ≤ v + k_13 → (∀ k, k < v → okV li sa k (parN z k)) → ∀ (ls : Array Slot), lv_has ls 6 [(0, .ref h), (1, .int (nI z)), (2, .int (nI v))] → W p l e (headSpec (ws_ yX1_allowed cX1_allowed 6 (some .boolean)) ({ frames := 2, cells := 0, slots := 0, locals := 46 } : Room)).room s m ([.ref h, .int (nI z)] : List Value).toArray below meth c s.heap [] 0 0 (MQ below (vp_Si (fun r : Int32 => r = nI (alwN li sa nc z))) ([.ref h, .int (nI z)] : List Value).toArray s 0 0 (fun _ => False)) (F0 m 13 ls []) := by
      intro k_13
      induction k_13 with
      | zero =>
        intro v h1 h2
        exact absurd h2 (by omega)
      | succ k_13 ih_13 =>
        intro v hi_13 hk_13 hinv_13 ls hl
        refine lv_iload_n hx hb dX1_allowed_13 rfl (lv_at hl 2 rfl) ?_
        refine lv_iconst (v := nI 4) hx hb dX1_allowed_14 (by decide) ?_
        refine wk_icmp_ge (tgt := 111) hx hb dX1_allowed_15 (by decide) (by omega) (by decide) (fun c_15 => ?_) (fun c_15 => ?_)
        · have he_v : v = 4 := by omega
          subst he_v
          refine lv_iconst (v := nI 1) hx hb dX1_allowed_111 (by decide) ?_
          exact W.zret (v := nI 1) hx hb hr rfl (fun T9 hT9 hW9 => ⟨nI 1, rfl, (by unfold alwN; rw [if_neg c_6, if_pos hinv_13]), hT9⟩) (fun q h => absurd h List.not_mem_nil) dX1_allowed_112
        · refine lv_aload_n hx hb dX1_allowed_18 rfl (lv_at hl 0 rfl) ?_
          refine lv_iload_n hx hb dX1_allowed_19 rfl (lv_at hl 1 rfl) ?_
          refine lv_iload_n hx hb dX1_allowed_20 rfl (lv_at hl 2 rfl) ?_
          refine vp_callSi (W.runV (b := h) (As := [.int (nI z), .int (nI v)]) (rest := []) ⟨hx, hb, hml, hown, hts⟩ (metX1_parentsOf l dC dI h 0 cI cB g li kn mo fi sc sa nc z v hz (by omega)) (cwV 2 hts (lw_V q163 q165 qs7 q24 q166) rfl rfl rfl (by decide +kernel) ⟨Nat.le_of_ble_eq_true rfl, Nat.le_of_ble_eq_true rfl⟩) ⟨fun a U g mk q => ⟨q.1, q.2.1, va_K.moved (u := U) (U := U.calling g mk a) (Vm.Alike.refl U.vm) q.2.2⟩, va_recv hK hP (ci := 1) (q0 := 0) rfl rfl, fun U hU hW => ⟨rfl, by rw [hU]; exact hP, va_K.moved hW.alike hK⟩⟩ rfl rfl hl.1 rfl (lv_room (Nat.le_of_ble_eq_true rfl)) dX1_allowed_21 ⟨Nat.le_of_ble_eq_true rfl, Nat.le_of_ble_eq_true rfl⟩) (fun r hr_21 => ?_)
          have hr_21 : r = nI (parN z v) := hr_21
          subst hr_21
          have hp_21 := parN_lt z (v := v) (by omega)
          refine lv_istore_n (lv' := [(3, .int (nI (parN z v))), (0, .ref h), (1, .int (nI z)), (2, .int (nI v))]) hx hb dX1_allowed_24 rfl hl (by decide) rfl (fun ls hl => ?_)
          refine lv_aload_n hx hb dX1_allowed_25 rfl (lv_at hl 1 rfl) ?_
          refine lv_iload_n hx hb dX1_allowed_26 rfl (lv_at hl 0 rfl) ?_
          refine vp_callSi (W.runV (b := h) (As := [.int (nI (parN z v))]) (rest := []) ⟨hx, hb, hml, hown, hts⟩ (metX1_bits l dC dI h 0 cI cB g li kn mo fi sc sa nc (parN z v) hp_21) (cwV 1 hts (lw_V q226 q228 qs13 q24 q229) rfl rfl rfl (by decide +kernel) ⟨Nat.le_of_ble_eq_true rfl, Nat.le_of_ble_eq_true rfl⟩) ⟨fun a U g mk q => ⟨q.1, q.2.1, va_K.moved (u := U) (U := U.calling g mk a) (Vm.Alike.refl U.vm) q.2.2⟩, va_recv hK hP (ci := 1) (q0 := 0) rfl rfl, fun U hU hW => ⟨rfl, by rw [hU]; exact hP, va_K.moved hW.alike hK⟩⟩ rfl rfl hl.1 rfl (lv_room (Nat.le_of_ble_eq_true rfl)) dX1_allowed_27 ⟨Nat.le_of_ble_eq_true rfl, Nat.le_of_ble_eq_true rfl⟩) (fun r hr_27 => ?_)
          have hr_27 : r = nI (szN (parN z v)) := hr_27
          subst hr_27
          have hs_27 := szN_le _ hp_21
          refine lv_aload_n hx hb dX1_allowed_30 rfl (lv_at hl 1 rfl) ?_
          refine va_get (D := (dC, dI)) (ci := 1) (v := .int li) (C := RX1) (T := TX1) (N := 7) hx hb hts in_X1 hown hK hP 0 rfl rfl 1 (by decide) (hts _ q176) (fun _ h9 => h9) rfl dX1_allowed_31 ?_
          refine lv_icmp_le (tgt := 39) hx hb dX1_allowed_34 (by decide) (fun c_34 => ?_) (fun c_34 => ?_)
          · refine lv_iconst (v := nI 0) hx hb dX1_allowed_39 (by decide) ?_
            refine lv_istore (lv' := [(4, .int (nI 0)), (3, .int (nI (parN z v))), (0, .ref h), (1, .int (nI z)), (2, .int (nI v))]) hx hb dX1_allowed_40 hl (by decide) rfl (fun ls hl => ?_)
            have loop_42 : ∀ (k_42 u : Nat), u ≤ 4 → 4 + 1 ≤ u + k_42 → (∀ k, k < u → okU sa v (parN z v) k) → ∀ (ls : Array Slot), lv_has ls 6 [(0, .ref h), (1, .int (nI z)), (2, .int (nI v)), (3, .int (nI (parN z v))), (4, .int (nI u))] → W p l e (headSpec (ws_ yX1_allowed cX1_allowed 6 (some .boolean)) ({ frames := 2, cells := 0, slots := 0, locals := 46 } : Room)).room s m ([.ref h, .int (nI z)] : List Value).toArray below meth c s.heap [] 0 0 (MQ below (vp_Si (fun r : Int32 => r = nI (alwN li sa nc z))) ([.ref h, .int (nI z)] : List Value).toArray s 0 0 (fun _ => False)) (F0 m 42 ls []) := by
              intro k_42
              induction k_42 with
              | zero =>
                intro u h1 h2
                exact absurd h2 (by omega)
              | succ k_42 ih_42 =>
                intro u hi_42 hk_42 hinv_42 ls hl
                refine lv_iload hx hb dX1_allowed_42 (lv_at hl 4 rfl) ?_
                refine lv_iconst (v := nI 4) hx hb dX1_allowed_44 (by decide) ?_
                refine wk_icmp_ge (tgt := 105) hx hb dX1_allowed_45 (by decide) (by omega) (by decide) (fun c_45 => ?_) (fun c_45 => ?_)
                · have he_u : u = 4 := by omega
                  subst he_u
                  refine wk_iinc (lv' := [(2, .int (nI (v + 1))), (0, .ref h), (1, .int (nI z)), (3, .int (nI (parN z v))), (4, .int (nI 4))]) hx hb dX1_allowed_105 hl (k := 2) rfl (by decide) rfl (fun ls hl => ?_)
                  refine lv_goto (tgt := 13) hx hb dX1_allowed_108 (by decide) ?_
                  exact ih_13 (v + 1) (by omega) (by omega) (lt_s (p := fun k => okV li sa k (parN z k)) hinv_13 ⟨c_34, hinv_42⟩) ls (lv_sub hl [1, 2, 0] rfl)
                · refine lv_iload_n hx hb dX1_allowed_48 rfl (lv_at hl 3 rfl) ?_
                  refine lv_iload hx hb dX1_allowed_49 (lv_at hl 4 rfl) ?_
                  refine wk_ishr hx hb dX1_allowed_51 (by omega) (by omega) ?_
                  refine lv_iconst (v := nI 1) hx hb dX1_allowed_52 (by decide) ?_
                  refine wk_iand hx hb dX1_allowed_53 ?_
                  have hf_53 : (((parN z v) >>> u) &&& 1) ≤ 1 := Nat.and_le_right
                  refine lv_istore (lv' := [(5, .int (nI (((parN z v) >>> u) &&& 1))), (0, .ref h), (1, .int (nI z)), (2, .int (nI v)), (3, .int (nI (parN z v))), (4, .int (nI u))]) hx hb dX1_allowed_54 hl (by decide) rfl (fun ls hl => ?_)
                  refine lv_aload_n hx hb dX1_allowed_56 rfl (lv_at hl 1 rfl) ?_
                  refine va_get (D := (dC, dI)) (ci := 1) (v := .ref (g 1)) (C := RX1) (T := TX1) (N := 7) hx hb hts in_X1 hown hK hP 0 rfl rfl 2 (by decide) (hts _ q177) (fun _ h9 => h9) rfl dX1_allowed_57 ?_
                  refine lv_iload hx hb dX1_allowed_60 (lv_at hl 5 rfl) ?_
                  refine lv_iconst (v := nI 4) hx hb dX1_allowed_62 (by decide) ?_
                  refine wk_imul hx hb dX1_allowed_63 ?_
                  refine lv_iload_n hx hb dX1_allowed_64 rfl (lv_at hl 3 rfl) ?_
                  refine wk_iadd hx hb dX1_allowed_65 ?_
                  refine wk_iald hx hb hK hP 2 0 rfl rfl (ix := ((u * 4) + v)) (by omega) (by decide) dX1_allowed_66 ?_
                  refine lv_iconst (v := nI 1) hx hb dX1_allowed_67 (by decide) ?_
                  refine lv_icmp_ne (tgt := 77) hx hb dX1_allowed_68 (by decide) (fun c_68 => ?_) (fun c_68 => ?_)
                  · refine lv_aload_n hx hb dX1_allowed_77 rfl (lv_at hl 1 rfl) ?_
                    refine va_get (D := (dC, dI)) (ci := 1) (v := .ref (g 1)) (C := RX1) (T := TX1) (N := 7) hx hb hts in_X1 hown hK hP 0 rfl rfl 2 (by decide) (hts _ q177) (fun _ h9 => h9) rfl dX1_allowed_78 ?_
                    refine lv_iload hx hb dX1_allowed_81 (lv_at hl 5 rfl) ?_
                    refine lv_iconst (v := nI 4) hx hb dX1_allowed_83 (by decide) ?_
                    refine wk_imul hx hb dX1_allowed_84 ?_
                    refine lv_iload_n hx hb dX1_allowed_85 rfl (lv_at hl 3 rfl) ?_
                    refine wk_iadd hx hb dX1_allowed_86 ?_
                    refine wk_iald hx hb hK hP 2 0 rfl rfl (ix := ((u * 4) + v)) (by omega) (by decide) dX1_allowed_87 ?_
                    refine lv_iconst (v := nI 2) hx hb dX1_allowed_88 (by decide) ?_
                    refine lv_icmp_ne (tgt := 99) hx hb dX1_allowed_89 (by decide) (fun c_89 => ?_) (fun c_89 => ?_)
                    · refine wk_iinc (lv' := [(4, .int (nI (u + 1))), (5, .int (nI (((parN z v) >>> u) &&& 1))), (0, .ref h), (1, .int (nI z)), (2, .int (nI v)), (3, .int (nI (parN z v)))]) hx hb dX1_allowed_99 hl (k := 5) rfl (by decide) rfl (fun ls hl => ?_)
                      refine lv_goto (tgt := 42) hx hb dX1_allowed_102 (by decide) ?_
                      exact ih_42 (u + 1) (by omega) (by omega) (lt_s (p := fun k => okU sa v (parN z v) k) hinv_42 ⟨fun q => c_68 q.1, fun q => c_89 q.1⟩) ls (lv_sub hl [2, 3, 4, 5, 0] rfl)
                    · refine lv_iload hx hb dX1_allowed_92 (lv_at hl 0 rfl) ?_
                      refine wk_if_ne (tgt := 99) hx hb dX1_allowed_94 (by decide) (Nat.lt_of_le_of_lt Nat.and_le_right (by decide)) (fun c_94 => ?_) (fun c_94 => ?_)
                      · refine wk_iinc (lv' := [(4, .int (nI (u + 1))), (5, .int (nI (((parN z v) >>> u) &&& 1))), (0, .ref h), (1, .int (nI z)), (2, .int (nI v)), (3, .int (nI (parN z v)))]) hx hb dX1_allowed_99 hl (k := 5) rfl (by decide) rfl (fun ls hl => ?_)
                        refine lv_goto (tgt := 42) hx hb dX1_allowed_102 (by decide) ?_
                        exact ih_42 (u + 1) (by omega) (by omega) (lt_s (p := fun k => okU sa v (parN z v) k) hinv_42 ⟨fun q => c_68 q.1, fun q => c_94 q.2⟩) ls (lv_sub hl [2, 3, 4, 5, 0] rfl)
                      · refine lv_iconst (v := nI 0) hx hb dX1_allowed_97 (by decide) ?_
                        exact W.zret (v := nI 0) hx hb hr rfl (fun T9 hT9 hW9 => ⟨nI 0, rfl, (by unfold alwN; rw [if_neg c_6, if_neg (fun h => ((h v (by omega)).2 u (by omega)).2 ⟨c_89, c_94⟩)]), hT9⟩) (fun q h => absurd h List.not_mem_nil) dX1_allowed_98
                  · refine lv_iload hx hb dX1_allowed_71 (lv_at hl 0 rfl) ?_
                    refine lv_iconst (v := nI 1) hx hb dX1_allowed_73 (by decide) ?_
                    refine wk_icmp_eq (tgt := 97) hx hb dX1_allowed_74 (by decide) (Nat.lt_of_le_of_lt Nat.and_le_right (by decide)) (by decide) (fun c_74 => ?_) (fun c_74 => ?_)
                    · refine lv_iconst (v := nI 0) hx hb dX1_allowed_97 (by decide) ?_
                      exact W.zret (v := nI 0) hx hb hr rfl (fun T9 hT9 hW9 => ⟨nI 0, rfl, (by unfold alwN; rw [if_neg c_6, if_neg (fun h => ((h v (by omega)).2 u (by omega)).1 ⟨c_68, c_74⟩)]), hT9⟩) (fun q h => absurd h List.not_mem_nil) dX1_allowed_98
                    · refine lv_aload_n hx hb dX1_allowed_77 rfl (lv_at hl 1 rfl) ?_
                      refine va_get (D := (dC, dI)) (ci := 1) (v := .ref (g 1)) (C := RX1) (T := TX1) (N := 7) hx hb hts in_X1 hown hK hP 0 rfl rfl 2 (by decide) (hts _ q177) (fun _ h9 => h9) rfl dX1_allowed_78 ?_
                      refine lv_iload hx hb dX1_allowed_81 (lv_at hl 5 rfl) ?_
                      refine lv_iconst (v := nI 4) hx hb dX1_allowed_83 (by decide) ?_
                      refine wk_imul hx hb dX1_allowed_84 ?_
                      refine lv_iload_n hx hb dX1_allowed_85 rfl (lv_at hl 3 rfl) ?_
                      refine wk_iadd hx hb dX1_allowed_86 ?_
                      refine wk_iald hx hb hK hP 2 0 rfl rfl (ix := ((u * 4) + v)) (by omega) (by decide) dX1_allowed_87 ?_
                      refine lv_iconst (v := nI 2) hx hb dX1_allowed_88 (by decide) ?_
                      refine lv_icmp_ne (tgt := 99) hx hb dX1_allowed_89 (by decide) (fun c_89 => ?_) (fun c_89 => ?_)
                      · refine wk_iinc (lv' := [(4, .int (nI (u + 1))), (5, .int (nI (((parN z v) >>> u) &&& 1))), (0, .ref h), (1, .int (nI z)), (2, .int (nI v)), (3, .int (nI (parN z v)))]) hx hb dX1_allowed_99 hl (k := 5) rfl (by decide) rfl (fun ls hl => ?_)
                        refine lv_goto (tgt := 42) hx hb dX1_allowed_102 (by decide) ?_
                        exact ih_42 (u + 1) (by omega) (by omega) (lt_s (p := fun k => okU sa v (parN z v) k) hinv_42 ⟨fun q => c_74 q.2, fun q => c_89 q.1⟩) ls (lv_sub hl [2, 3, 4, 5, 0] rfl)
                      · refine lv_iload hx hb dX1_allowed_92 (lv_at hl 0 rfl) ?_
                        refine wk_if_ne (tgt := 99) hx hb dX1_allowed_94 (by decide) (Nat.lt_of_le_of_lt Nat.and_le_right (by decide)) (fun c_94 => ?_) (fun c_94 => ?_)
                        · refine wk_iinc (lv' := [(4, .int (nI (u + 1))), (5, .int (nI (((parN z v) >>> u) &&& 1))), (0, .ref h), (1, .int (nI z)), (2, .int (nI v)), (3, .int (nI (parN z v)))]) hx hb dX1_allowed_99 hl (k := 5) rfl (by decide) rfl (fun ls hl => ?_)
                          refine lv_goto (tgt := 42) hx hb dX1_allowed_102 (by decide) ?_
                          exact ih_42 (u + 1) (by omega) (by omega) (lt_s (p := fun k => okU sa v (parN z v) k) hinv_42 ⟨fun q => c_74 q.2, fun q => c_94 q.2⟩) ls (lv_sub hl [2, 3, 4, 5, 0] rfl)
                        · refine lv_iconst (v := nI 0) hx hb dX1_allowed_97 (by decide) ?_
                          exact W.zret (v := nI 0) hx hb hr rfl (fun T9 hT9 hW9 => ⟨nI 0, rfl, (by unfold alwN; rw [if_neg c_6, if_neg (fun h => ((h v (by omega)).2 u (by omega)).2 ⟨c_89, c_94⟩)]), hT9⟩) (fun q h => absurd h List.not_mem_nil) dX1_allowed_98
            exact loop_42 (4 + 1) 0 (by omega) (by omega) (fun k hk => absurd hk (Nat.not_lt_zero k)) ls (lv_sub hl [2, 3, 4, 1, 0] rfl)
          · refine lv_iconst (v := nI 0) hx hb dX1_allowed_37 (by decide) ?_
            exact W.zret (v := nI 0) hx hb hr rfl (fun T9 hT9 hW9 => ⟨nI 0, rfl, (by unfold alwN; rw [if_neg c_6, if_neg (fun h => c_34 (h v (by omega)).1)]), hT9⟩) (fun q h => absurd h List.not_mem_nil) dX1_allowed_38
    exact loop_13 (4 + 1) 0 (by omega) (by omega) (fun k hk => absurd hk (Nat.not_lt_zero k)) ls (lv_sub hl [1, 2, 0] rfl)
  · refine lv_iconst (v := nI 0) hx hb dX1_allowed_9 (by decide) ?_
    exact W.zret (v := nI 0) hx hb hr rfl (fun T9 hT9 hW9 => ⟨nI 0, rfl, (by unfold alwN; rw [if_pos c_6]), hT9⟩) (fun q h => absurd h List.not_mem_nil) dX1_allowed_10
set_option maxHeartbeats 4000000 in
set_option maxRecDepth 100000 in
theorem metX1_worth (l : Launch) (dC : Nat → ClassId) (dI : Nat → Nat → Nat) (h sz : Nat) (cI cB : ClassId) (g : Nat → Nat) (li kn mo fi : Int32) (sc sa nc : Nat → Int32) (z : Nat) (hz : z < 4096) : Met l yX1_worth (ws_ yX1_worth cX1_worth 5 (some .int)) ({ frames := 1, cells := 0, slots := 0, locals := 22 } : Room) (va_Pc [.ref h, .int (nI z)] (fun U => va_P (dC, dI) vwCl (wX1 h cI cB g li kn mo fi sc sa nc) U.heap ∧ va_K (dC, dI) vwCl [(cI, .int), (cB, .boolean)] U)) (vp_Si (fun r : Int32 => r = worF sc z)) 0 0 (fun _ => False) := by
  refine Met.ofW (cc := cX1_worth) (maxL := 5) (ret := (some .int)) (by decide) rfl ?_
  intro p e s m args below meth c s₁ B hml hpre
  obtain ⟨rfl, hP, hK⟩ := hpre
  have hx := B.exec
  have hb := B.bytes
  have hr := B.returns
  have hts := atoms_spec (ws := (ws_ yX1_worth cX1_worth 5 (some .int))) B.pre
  have hts : ∀ w ∈ lw_all, w.before _ s = true := fun w h => hts w (List.mem_cons_of_mem _ h)
  have hown : s.vm.findClass RX1 = some m.cls := findClass_of_methodNamed B.named
  have hlocks := B.notSynchronized
  have hl := lv_entry ([.ref h, .int (nI z)]) (n := 5) (Nat.le_of_ble_eq_true rfl)
  rw [lg_entry_eq]
  generalize (lg_sl ([.ref h, .int (nI z)]) ++ List.replicate (5 - (lg_sl ([.ref h, .int (nI z)])).length) Slot.unset).toArray = ls at hl ⊢
  have hl : lv_has ls 5 [(0, .ref h), (1, .int (nI z))] := hl
  refine lv_iconst (v := nI 0) hx hb dX1_worth_0 (by decide) ?_
  refine lv_istore_n (lv' := [(2, .int (nI 0)), (0, .ref h), (1, .int (nI z))]) hx hb dX1_worth_1 rfl hl (by decide) rfl (fun ls hl => ?_)
  refine lv_iconst (v := nI 0) hx hb dX1_worth_2 (by decide) ?_
  refine lv_istore_n (lv' := [(3, .int (nI 0)), (2, .int (nI 0)), (0, .ref h), (1, .int (nI z))]) hx hb dX1_worth_3 rfl hl (by decide) rfl (fun ls hl => ?_)
  have loop_4 : ∀ (k_4 v : Nat) (w : Int32), v ≤ 4 → 4 + 1 ≤ v + k_4 → (w = lit (fun v w => w + sc (v * 8 + dgt z v)) (nI 0) v) → ∀ (ls : Array Slot), lv_has ls 5 [(0, .ref h), (1, .int (nI z)), (2, .int w), (3, .int (nI v))] → W p l e (headSpec (ws_ yX1_worth cX1_worth 5 (some .int)) ({ frames := 1, cells := 0, slots := 0, locals := 22 } : Room)).room s m ([.ref h, .int (nI z)] : List Value).toArray below meth c s.heap [] 0 0 (MQ below (vp_Si (fun r : Int32 => r = worF sc z)) ([.ref h, .int (nI z)] : List Value).toArray s 0 0 (fun _ => False)) (F0 m 4 ls []) := by
    intro k_4
    induction k_4 with
    | zero =>
      intro v w h1 h2
      exact absurd h2 (by omega)
    | succ k_4 ih_4 =>
      intro v w hi_4 hk_4 hinv_4 ls hl
      refine lv_iload_n hx hb dX1_worth_4 rfl (lv_at hl 3 rfl) ?_
      refine lv_iconst (v := nI 4) hx hb dX1_worth_5 (by decide) ?_
      refine wk_icmp_ge (tgt := 38) hx hb dX1_worth_6 (by decide) (by omega) (by decide) (fun c_6 => ?_) (fun c_6 => ?_)
      · have he_v : v = 4 := by omega
        subst he_v
        refine lv_iload_n hx hb dX1_worth_38 rfl (lv_at hl 2 rfl) ?_
        exact W.iret (v := w) hx hb hr (fun T9 hT9 hW9 => ⟨w, rfl, hinv_4, hT9⟩) (fun q h => absurd h List.not_mem_nil) dX1_worth_39
      · refine lv_aload_n hx hb dX1_worth_9 rfl (lv_at hl 0 rfl) ?_
        refine lv_iload_n hx hb dX1_worth_10 rfl (lv_at hl 1 rfl) ?_
        refine lv_iload_n hx hb dX1_worth_11 rfl (lv_at hl 3 rfl) ?_
        refine vp_callSi (W.runV (b := h) (As := [.int (nI z), .int (nI v)]) (rest := []) ⟨hx, hb, hml, hown, hts⟩ (metX1_digitOf l dC dI h 0 cI cB g li kn mo fi sc sa nc z v hz (by omega)) (cwV 2 hts (lw_V q167 q169 qs8 q24 q170) rfl rfl rfl (by decide +kernel) ⟨Nat.le_of_ble_eq_true rfl, Nat.le_of_ble_eq_true rfl⟩) ⟨fun a U g mk q => ⟨q.1, q.2.1, va_K.moved (u := U) (U := U.calling g mk a) (Vm.Alike.refl U.vm) q.2.2⟩, va_recv hK hP (ci := 1) (q0 := 0) rfl rfl, fun U hU hW => ⟨rfl, by rw [hU]; exact hP, va_K.moved hW.alike hK⟩⟩ rfl rfl hl.1 rfl (lv_room (Nat.le_of_ble_eq_true rfl)) dX1_worth_12 ⟨Nat.le_of_ble_eq_true rfl, Nat.le_of_ble_eq_true rfl⟩) (fun r hr_12 => ?_)
        have hr_12 : r = nI (dgt z v) := hr_12
        subst hr_12
        have hd_12 := dgt_lt z v
        refine lv_istore (lv' := [(4, .int (nI (dgt z v))), (0, .ref h), (1, .int (nI z)), (2, .int w), (3, .int (nI v))]) hx hb dX1_worth_15 hl (by decide) rfl (fun ls hl => ?_)
        refine lv_iload_n hx hb dX1_worth_17 rfl (lv_at hl 3 rfl) ?_
        refine lv_aload_n hx hb dX1_worth_18 rfl (lv_at hl 1 rfl) ?_
        refine va_get (D := (dC, dI)) (ci := 1) (v := .ref (g 0)) (C := RX1) (T := TX1) (N := 7) hx hb hts in_X1 hown hK hP 0 rfl rfl 0 (by decide) (hts _ q175) (fun _ h9 => h9) rfl dX1_worth_19 ?_
        refine lv_iload_n hx hb dX1_worth_22 rfl (lv_at hl 4 rfl) ?_
        refine lv_bipush (v := nI 8) hx hb dX1_worth_23 (by decide) ?_
        refine wk_imul hx hb dX1_worth_25 ?_
        refine lv_iload hx hb dX1_worth_26 (lv_at hl 0 rfl) ?_
        refine wk_iadd hx hb dX1_worth_28 ?_
        refine wk_iald hx hb hK hP 1 0 rfl rfl (ix := ((v * 8) + (dgt z v))) (by omega) (by decide) dX1_worth_29 ?_
        refine lv_iadd hx hb dX1_worth_30 ?_
        refine lv_istore_n (lv' := [(2, .int (w + (sc ((v * 8) + (dgt z v))))), (4, .int (nI (dgt z v))), (0, .ref h), (1, .int (nI z)), (3, .int (nI v))]) hx hb dX1_worth_31 rfl hl (by decide) rfl (fun ls hl => ?_)
        refine wk_iinc (lv' := [(3, .int (nI (v + 1))), (2, .int (w + (sc ((v * 8) + (dgt z v))))), (4, .int (nI (dgt z v))), (0, .ref h), (1, .int (nI z))]) hx hb dX1_worth_32 hl (k := 4) rfl (by decide) rfl (fun ls hl => ?_)
        refine lv_goto (tgt := 4) hx hb dX1_worth_35 (by decide) ?_
        exact ih_4 (v + 1) (w + (sc ((v * 8) + (dgt z v)))) (by omega) (by omega) (by rw [lit_succ, ← hinv_4]) ls (lv_sub hl [3, 4, 1, 0] rfl)
  exact loop_4 (4 + 1) 0 (nI 0) (by omega) (by omega) rfl ls (lv_sub hl [2, 3, 1, 0] rfl)
set_option maxHeartbeats 4000000 in
set_option maxRecDepth 100000 in
theorem metX1_workOut (l : Launch) (dC : Nat → ClassId) (dI : Nat → Nat → Nat) (h sz : Nat) (cI cB : ClassId) (g : Nat → Nat) (li kn mo fi : Int32) (sc sa nc : Nat → Int32) : Met l yX1_workOut (ws_ yX1_workOut cX1_workOut 3 none) ({ frames := 3, cells := 0, slots := 0, locals := 71 } : Room) (va_Pc [.ref h] (fun U => U.heap.size = sz ∧ va_P (dC, dI) vwCl (wX1 h cI cB g li kn mo fi sc sa nc) U.heap ∧ va_K (dC, dI) vwCl [(cI, .int), (cB, .boolean)] U ∧ va_D (fun _ => True) (wX1 h cI cB g li kn mo fi sc sa nc))) (va_Qv (fun (u : Int32 × Int32 × Int32) => WO li sa nc sc kn mo fi u) (fun (u : Int32 × Int32 × Int32) (t : State) => va_P (dC, dI) vwCl (wX1 h cI cB g li u.1 u.2.1 u.2.2 sc sa nc) t.heap ∧ va_K (dC, dI) vwCl [(cI, .int), (cB, .boolean)] t ∧ va_D (va_A (wX1 h cI cB g li kn mo fi sc sa nc) sz) (wX1 h cI cB g li u.1 u.2.1 u.2.2 sc sa nc)) (va_A (wX1 h cI cB g li kn mo fi sc sa nc) sz)) 0 0 (va_A (wX1 h cI cB g li kn mo fi sc sa nc) sz) := by
  refine Met.ofW (cc := cX1_workOut) (maxL := 3) (ret := none) (by decide) rfl ?_
  intro p e s m args below meth c s₁ B hml hpre
  obtain ⟨rfl, hsz, hP, hK, hD0⟩ := hpre
  have hx := B.exec
  have hb := B.bytes
  have hr := B.returns
  have hts := atoms_spec (ws := (ws_ yX1_workOut cX1_workOut 3 none)) B.pre
  have hts : ∀ w ∈ lw_all, w.before _ s = true := fun w h => hts w (List.mem_cons_of_mem _ h)
  have hown : s.vm.findClass RX1 = some m.cls := findClass_of_methodNamed B.named
  have hlocks := B.notSynchronized
  subst hsz
  have hD := hD0.self (sz := s.heap.size)
  generalize hAe : va_A (wX1 h cI cB g li kn mo fi sc sa nc) s.heap.size = A at hD ⊢
  have hA : ∀ q : Nat, s.heap.size ≤ q → A q := fun q h => by rw [← hAe]; exact Or.inr h
  have hS : va_S A s.heap s.heap [] := va_S.rf
  have hl := lv_entry ([.ref h]) (n := 3) (Nat.le_of_ble_eq_true rfl)
  rw [lg_entry_eq]
  generalize (lg_sl ([.ref h]) ++ List.replicate (3 - (lg_sl ([.ref h])).length) Slot.unset).toArray = ls at hl ⊢
  have hl : lv_has ls 3 [(0, .ref h)] := hl
  refine lv_aload_n hx hb dX1_workOut_0 rfl (lv_at hl 0 rfl) ?_
  refine va_get (D := (dC, dI)) (ci := 1) (v := .int kn) (C := RX1) (T := TX1) (N := 7) hx hb hts in_X1 hown hK hP 0 rfl rfl 4 (by decide) (hts _ q179) (fun _ h9 => h9) rfl dX1_workOut_1 ?_
  refine lv_if_eq (tgt := 8) hx hb dX1_workOut_4 (by decide) (fun c_4 => ?_) (fun c_4 => ?_)
  · refine lv_aload_n hx hb dX1_workOut_8 rfl (lv_at hl 0 rfl) ?_
    refine lv_iconst (v := nI 1) hx hb dX1_workOut_9 (by decide) ?_
    refine va_put (D := (dC, dI)) (ci := 1) (v := .int (nI 1)) (ty := .boolean) (C := RX1) (T := TX1) (N := 7) hx hb hts in_X1 tyX1 tyX1_ok nmX1 hown hK hP hD hS 0 rfl rfl 4 (by decide) (hts _ q179) (fun _ h9 => h9) rfl (by decide +kernel) rfl rfl (Nat.le_of_ble_eq_true rfl) dX1_workOut_10 (fun H locs hP hD hS => ?_)
    have hP : va_P (dC, dI) vwCl (wX1 h cI cB g li (nI 1) mo fi sc sa nc) H := hP
    have hD : va_D A (wX1 h cI cB g li (nI 1) mo fi sc sa nc) := hD
    refine lv_aload_n hx hb dX1_workOut_13 rfl (lv_at hl 0 rfl) ?_
    refine lv_ldc hx hb hown (hts _ q247) dX1_workOut_14 ?_
    refine va_put (D := (dC, dI)) (ci := 1) (v := .int (-100000)) (ty := .int) (C := RX1) (T := TX1) (N := 7) hx hb hts in_X1 tyX1 tyX1_ok nmX1 hown hK hP hD hS 0 rfl rfl 5 (by decide) (hts _ q180) (fun _ h9 => h9) rfl (by decide +kernel) rfl rfl (Nat.le_of_ble_eq_true rfl) dX1_workOut_16 (fun H locs hP hD hS => ?_)
    have hP : va_P (dC, dI) vwCl (wX1 h cI cB g li (nI 1) (-100000) fi sc sa nc) H := hP
    have hD : va_D A (wX1 h cI cB g li (nI 1) (-100000) fi sc sa nc) := hD
    refine lv_aload_n hx hb dX1_workOut_19 rfl (lv_at hl 0 rfl) ?_
    refine lv_iconst (v := nI 0) hx hb dX1_workOut_20 (by decide) ?_
    refine va_put (D := (dC, dI)) (ci := 1) (v := .int (nI 0)) (ty := .int) (C := RX1) (T := TX1) (N := 7) hx hb hts in_X1 tyX1 tyX1_ok nmX1 hown hK hP hD hS 0 rfl rfl 6 (by decide) (hts _ q181) (fun _ h9 => h9) rfl (by decide +kernel) rfl rfl (Nat.le_of_ble_eq_true rfl) dX1_workOut_21 (fun H locs hP hD hS => ?_)
    have hP : va_P (dC, dI) vwCl (wX1 h cI cB g li (nI 1) (-100000) (nI 0) sc sa nc) H := hP
    have hD : va_D A (wX1 h cI cB g li (nI 1) (-100000) (nI 0) sc sa nc) := hD
    refine lv_iconst (v := nI 0) hx hb dX1_workOut_24 (by decide) ?_
    refine lv_istore_n (lv' := [(1, .int (nI 0)), (0, .ref h)]) hx hb dX1_workOut_25 rfl hl (by decide) rfl (fun ls hl => ?_)
    have loop_26 : ∀ (k_26 z : Nat) (m1 : Int32) (i1 : Int32), z ≤ 4096 → 4096 + 1 ≤ z + k_26 → ((m1, i1) = lit (woS li sa nc sc) (-100000, nI 0) z) → ∀ (H : Heap) (locs : List Loc), va_P (dC, dI) vwCl (wX1 h cI cB g li (nI 1) m1 i1 sc sa nc) H → va_D A (wX1 h cI cB g li (nI 1) m1 i1 sc sa nc) → va_S A s.heap H locs → ∀ (ls : Array Slot), lv_has ls 3 [(0, .ref h), (1, .int (nI z))] → W p l e (headSpec (ws_ yX1_workOut cX1_workOut 3 none) ({ frames := 3, cells := 0, slots := 0, locals := 71 } : Room)).room s m ([.ref h] : List Value).toArray below meth c H locs 0 0 (MQ below (va_Qv (fun (u : Int32 × Int32 × Int32) => WO li sa nc sc kn mo fi u) (fun (u : Int32 × Int32 × Int32) (t : State) => va_P (dC, dI) vwCl (wX1 h cI cB g li u.1 u.2.1 u.2.2 sc sa nc) t.heap ∧ va_K (dC, dI) vwCl [(cI, .int), (cB, .boolean)] t ∧ va_D A (wX1 h cI cB g li u.1 u.2.1 u.2.2 sc sa nc)) A) ([.ref h] : List Value).toArray s 0 0 A) (F0 m 26 ls []) := by
      intro k_26
      induction k_26 with
      | zero =>
        intro z m1 i1 h1 h2
        exact absurd h2 (by omega)
      | succ k_26 ih_26 =>
        intro z m1 i1 hi_26 hk_26 hinv_26 H locs hP hD hS ls hl
        refine lv_iload_n hx hb dX1_workOut_26 rfl (lv_at hl 1 rfl) ?_
        refine lv_sipush (v := nI 4096) hx hb dX1_workOut_27 (by decide) ?_
        refine wk_icmp_ge (tgt := 71) hx hb dX1_workOut_30 (by decide) (by omega) (by decide) (fun c_30 => ?_) (fun c_30 => ?_)
        · have he_z : z = 4096 := by omega
          subst he_z
          exact W.vret hx hb hr (fun T9 hT9 hW9 => ⟨⟨(nI 1, m1, i1), rfl, (Or.inr ⟨c_4, rfl, hinv_26⟩), by rw [hT9]; exact hP, va_K.moved hW9.alike hK, hD⟩, hS.F hT9⟩) hS.2.2 dX1_workOut_71
        · refine lv_aload_n hx hb dX1_workOut_33 rfl (lv_at hl 0 rfl) ?_
          refine lv_iload_n hx hb dX1_workOut_34 rfl (lv_at hl 1 rfl) ?_
          refine vp_callSi (W.runV (b := h) (As := [.int (nI z)]) (rest := []) ⟨hx, hb, hml, hown, hts⟩ (metX1_allowed l dC dI h 0 cI cB g li (nI 1) m1 i1 sc sa nc z (by omega)) (cwV 1 hts (lw_V q248 q250 qs17 q24 q251) rfl rfl rfl (by decide +kernel) ⟨Nat.le_of_ble_eq_true rfl, Nat.le_of_ble_eq_true rfl⟩) ⟨fun a U g mk q => ⟨q.1, q.2.1, va_K.moved (u := U) (U := U.calling g mk a) (Vm.Alike.refl U.vm) q.2.2⟩, va_recv hK hP (ci := 1) (q0 := 0) rfl rfl, fun U hU hW => ⟨rfl, by rw [hU]; exact hP, va_K.moved hW.alike hK⟩⟩ rfl rfl hl.1 rfl (lv_room (Nat.le_of_ble_eq_true rfl)) dX1_workOut_35 ⟨Nat.le_of_ble_eq_true rfl, Nat.le_of_ble_eq_true rfl⟩) (fun r hr_35 => ?_)
          have hr_35 : r = nI (alwN li sa nc z) := hr_35
          subst hr_35
          refine wk_if_eq (tgt := 65) hx hb dX1_workOut_38 (by decide) (by have := alwN_le li sa nc z; omega) (fun c_38 => ?_) (fun c_38 => ?_)
          · refine wk_iinc (lv' := [(1, .int (nI (z + 1))), (0, .ref h)]) hx hb dX1_workOut_65 hl (k := 1) rfl (by decide) rfl (fun ls hl => ?_)
            refine lv_goto (tgt := 26) hx hb dX1_workOut_68 (by decide) ?_
            exact ih_26 (z + 1) m1 i1 (by omega) (by omega) (by rw [lit_succ, ← hinv_26]; unfold woS; rw [if_pos c_38]) _ _ hP hD hS ls (lv_sub hl [1, 0] rfl)
          · refine lv_aload_n hx hb dX1_workOut_41 rfl (lv_at hl 0 rfl) ?_
            refine lv_iload_n hx hb dX1_workOut_42 rfl (lv_at hl 1 rfl) ?_
            refine vp_callSi (W.runV (b := h) (As := [.int (nI z)]) (rest := []) ⟨hx, hb, hml, hown, hts⟩ (metX1_worth l dC dI h 0 cI cB g li (nI 1) m1 i1 sc sa nc z (by omega)) (cwV 1 hts (lw_V q252 q254 qs18 q24 q255) rfl rfl rfl (by decide +kernel) ⟨Nat.le_of_ble_eq_true rfl, Nat.le_of_ble_eq_true rfl⟩) ⟨fun a U g mk q => ⟨q.1, q.2.1, va_K.moved (u := U) (U := U.calling g mk a) (Vm.Alike.refl U.vm) q.2.2⟩, va_recv hK hP (ci := 1) (q0 := 0) rfl rfl, fun U hU hW => ⟨rfl, by rw [hU]; exact hP, va_K.moved hW.alike hK⟩⟩ rfl rfl hl.1 rfl (lv_room (Nat.le_of_ble_eq_true rfl)) dX1_workOut_43 ⟨Nat.le_of_ble_eq_true rfl, Nat.le_of_ble_eq_true rfl⟩) (fun r hr_43 => ?_)
            have hr_43 : r = (worF sc z) := hr_43
            subst hr_43
            refine lv_istore_n (lv' := [(2, .int (worF sc z)), (0, .ref h), (1, .int (nI z))]) hx hb dX1_workOut_46 rfl hl (by decide) rfl (fun ls hl => ?_)
            refine lv_iload_n hx hb dX1_workOut_47 rfl (lv_at hl 0 rfl) ?_
            refine lv_aload_n hx hb dX1_workOut_48 rfl (lv_at hl 1 rfl) ?_
            refine va_get (D := (dC, dI)) (ci := 1) (v := .int m1) (C := RX1) (T := TX1) (N := 7) hx hb hts in_X1 hown hK hP 0 rfl rfl 5 (by decide) (hts _ q180) (fun _ h9 => h9) rfl dX1_workOut_49 ?_
            refine lv_icmp_le (tgt := 65) hx hb dX1_workOut_52 (by decide) (fun c_52 => ?_) (fun c_52 => ?_)
            · refine wk_iinc (lv' := [(1, .int (nI (z + 1))), (2, .int (worF sc z)), (0, .ref h)]) hx hb dX1_workOut_65 hl (k := 2) rfl (by decide) rfl (fun ls hl => ?_)
              refine lv_goto (tgt := 26) hx hb dX1_workOut_68 (by decide) ?_
              exact ih_26 (z + 1) m1 i1 (by omega) (by omega) (by rw [lit_succ, ← hinv_26]; unfold woS; rw [if_neg c_38, if_pos c_52]) _ _ hP hD hS ls (lv_sub hl [2, 0] rfl)
            · refine lv_aload_n hx hb dX1_workOut_55 rfl (lv_at hl 1 rfl) ?_
              refine lv_iload_n hx hb dX1_workOut_56 rfl (lv_at hl 0 rfl) ?_
              refine va_put (D := (dC, dI)) (ci := 1) (v := .int (worF sc z)) (ty := .int) (C := RX1) (T := TX1) (N := 7) hx hb hts in_X1 tyX1 tyX1_ok nmX1 hown hK hP hD hS 0 rfl rfl 5 (by decide) (hts _ q180) (fun _ h9 => h9) rfl (by decide +kernel) rfl rfl (Nat.le_of_ble_eq_true rfl) dX1_workOut_57 (fun H locs hP hD hS => ?_)
              have hP : va_P (dC, dI) vwCl (wX1 h cI cB g li (nI 1) (worF sc z) i1 sc sa nc) H := hP
              have hD : va_D A (wX1 h cI cB g li (nI 1) (worF sc z) i1 sc sa nc) := hD
              refine lv_aload_n hx hb dX1_workOut_60 rfl (lv_at hl 1 rfl) ?_
              refine lv_iload_n hx hb dX1_workOut_61 rfl (lv_at hl 2 rfl) ?_
              refine va_put (D := (dC, dI)) (ci := 1) (v := .int (nI z)) (ty := .int) (C := RX1) (T := TX1) (N := 7) hx hb hts in_X1 tyX1 tyX1_ok nmX1 hown hK hP hD hS 0 rfl rfl 6 (by decide) (hts _ q181) (fun _ h9 => h9) rfl (by decide +kernel) rfl rfl (Nat.le_of_ble_eq_true rfl) dX1_workOut_62 (fun H locs hP hD hS => ?_)
              have hP : va_P (dC, dI) vwCl (wX1 h cI cB g li (nI 1) (worF sc z) (nI z) sc sa nc) H := hP
              have hD : va_D A (wX1 h cI cB g li (nI 1) (worF sc z) (nI z) sc sa nc) := hD
              refine wk_iinc (lv' := [(1, .int (nI (z + 1))), (2, .int (worF sc z)), (0, .ref h)]) hx hb dX1_workOut_65 hl (k := 2) rfl (by decide) rfl (fun ls hl => ?_)
              refine lv_goto (tgt := 26) hx hb dX1_workOut_68 (by decide) ?_
              exact ih_26 (z + 1) (worF sc z) (nI z) (by omega) (by omega) (by rw [lit_succ, ← hinv_26]; unfold woS; rw [if_neg c_38, if_neg c_52]) _ _ hP hD hS ls (lv_sub hl [2, 0] rfl)
    exact loop_26 (4096 + 1) 0 (-100000) (nI 0) (by omega) (by omega) rfl _ _ hP hD hS ls (lv_sub hl [1, 0] rfl)
  · exact W.vret hx hb hr (fun T9 hT9 hW9 => ⟨⟨(kn, mo, fi), rfl, (Or.inl ⟨c_4, rfl⟩), by rw [hT9]; exact hP, va_K.moved hW9.alike hK, hD⟩, hS.F hT9⟩) hS.2.2 dX1_workOut_7
set_option maxHeartbeats 4000000 in
set_option maxRecDepth 100000 in
theorem metX1_best (l : Launch) (dC : Nat → ClassId) (dI : Nat → Nat → Nat) (h sz : Nat) (cI cB : ClassId) (g : Nat → Nat) (li kn mo fi : Int32) (sc sa nc : Nat → Int32) : Met l yX1_best (ws_ yX1_best cX1_best 1 (some .int)) ({ frames := 4, cells := 0, slots := 0, locals := 93 } : Room) (va_Pc [.ref h] (fun U => U.heap.size = sz ∧ va_P (dC, dI) vwCl (wX1 h cI cB g li kn mo fi sc sa nc) U.heap ∧ va_K (dC, dI) vwCl [(cI, .int), (cB, .boolean)] U ∧ va_D (fun _ => True) (wX1 h cI cB g li kn mo fi sc sa nc))) (va_Qi (fun (r : Int32) (u : Int32 × Int32 × Int32) => WO li sa nc sc kn mo fi u ∧ r = u.2.1) (fun (u : Int32 × Int32 × Int32) (t : State) => va_P (dC, dI) vwCl (wX1 h cI cB g li u.1 u.2.1 u.2.2 sc sa nc) t.heap ∧ va_K (dC, dI) vwCl [(cI, .int), (cB, .boolean)] t ∧ va_D (va_A (wX1 h cI cB g li kn mo fi sc sa nc) sz) (wX1 h cI cB g li u.1 u.2.1 u.2.2 sc sa nc)) (va_A (wX1 h cI cB g li kn mo fi sc sa nc) sz)) 0 0 (va_A (wX1 h cI cB g li kn mo fi sc sa nc) sz) := by
  refine Met.ofW (cc := cX1_best) (maxL := 1) (ret := (some .int)) (by decide) rfl ?_
  intro p e s m args below meth c s₁ B hml hpre
  obtain ⟨rfl, hsz, hP, hK, hD0⟩ := hpre
  have hx := B.exec
  have hb := B.bytes
  have hr := B.returns
  have hts := atoms_spec (ws := (ws_ yX1_best cX1_best 1 (some .int))) B.pre
  have hts : ∀ w ∈ lw_all, w.before _ s = true := fun w h => hts w (List.mem_cons_of_mem _ h)
  have hown : s.vm.findClass RX1 = some m.cls := findClass_of_methodNamed B.named
  have hlocks := B.notSynchronized
  subst hsz
  have hD := hD0.self (sz := s.heap.size)
  generalize hAe : va_A (wX1 h cI cB g li kn mo fi sc sa nc) s.heap.size = A at hD ⊢
  have hA : ∀ q : Nat, s.heap.size ≤ q → A q := fun q h => by rw [← hAe]; exact Or.inr h
  have hS : va_S A s.heap s.heap [] := va_S.rf
  have hl := lv_entry ([.ref h]) (n := 1) (Nat.le_of_ble_eq_true rfl)
  rw [lg_entry_eq]
  generalize (lg_sl ([.ref h]) ++ List.replicate (1 - (lg_sl ([.ref h])).length) Slot.unset).toArray = ls at hl ⊢
  have hl : lv_has ls 1 [(0, .ref h)] := hl
  refine lv_aload_n hx hb dX1_best_0 rfl (lv_at hl 0 rfl) ?_
  have hFc := va_free (wc := (wX1 h cI cB g li kn mo fi sc sa nc)) hD hS hA [0, 1, 2, 3] rfl
  refine va_callv (va_runV (b := h) (As := []) (rest := []) ⟨hx, hb, hml, hown, hts⟩ (metX1_workOut l dC dI h s.heap.size cI cB g li kn mo fi sc sa nc ) (cwV 0 hts (lw_V q243 q245 qs16 q24 q246) rfl rfl rfl (by decide +kernel) ⟨Nat.le_of_ble_eq_true rfl, Nat.le_of_ble_eq_true rfl⟩) ⟨fun a U g mk q => by obtain ⟨q0, q1, qP, qK, qD⟩ := q; exact ⟨q0, q1, qP, va_K.moved (u := U) (U := U.calling g mk a) (Vm.Alike.refl U.vm) qK, qD⟩, va_recv hK hP (ci := 1) (q0 := 0) rfl rfl, fun U hU hW => ⟨rfl, by rw [hU], by rw [hU]; exact hP, va_K.moved hW.alike hK, hD.weaken (fun _ _ _ _ => trivial)⟩⟩ rfl rfl hl.1 rfl (lv_room (Nat.le_of_ble_eq_true rfl)) dX1_best_1 ⟨Nat.le_of_ble_eq_true rfl, Nat.le_of_ble_eq_true rfl⟩) hS (fun q _ h => hFc q h) hFc (fun u t H1 locs ht hvm hw_1 hB hz1 hk1 hS => ?_)
  obtain ⟨kn_1, mo_1, fi_1⟩ := u
  obtain ⟨hP1, hK1, hD1⟩ := hB
  rw [ht] at hP1
  try dsimp only at hw_1
  have hP : va_P (dC, dI) vwCl (wX1 h cI cB g li kn_1 mo_1 fi_1 sc sa nc) H1 := hP1
  have hD : va_D A (wX1 h cI cB g li kn_1 mo_1 fi_1 sc sa nc) := hD1.weaken (fun _ q _ h => hFc q.1 h)
  generalize H1 = H at hP hS ⊢
  refine lv_aload_n hx hb dX1_best_4 rfl (lv_at hl 0 rfl) ?_
  refine va_get (D := (dC, dI)) (ci := 1) (v := .int mo_1) (C := RX1) (T := TX1) (N := 7) hx hb hts in_X1 hown hK hP 0 rfl rfl 5 (by decide) (hts _ q180) (fun _ h9 => h9) rfl dX1_best_5 ?_
  exact W.iret (v := mo_1) hx hb hr (fun T9 hT9 hW9 => ⟨⟨mo_1, (kn_1, mo_1, fi_1), rfl, ⟨hw_1, rfl⟩, by rw [hT9]; exact hP, va_K.moved hW9.alike hK, hD⟩, hS.F hT9⟩) hS.2.2 dX1_best_8
set_option maxHeartbeats 4000000 in
set_option maxRecDepth 100000 in
theorem metX1_parents (l : Launch) (dC : Nat → ClassId) (dI : Nat → Nat → Nat) (h sz : Nat) (cI cB : ClassId) (g : Nat → Nat) (li kn mo fi : Int32) (sc sa nc : Nat → Int32) (x : Int32) (hfi : ∃ f : Nat, f < 4096 ∧ fi = nI f) : Met l yX1_parents (ws_ yX1_parents cX1_parents 2 (some .int)) ({ frames := 4, cells := 0, slots := 0, locals := 93 } : Room) (va_Pc [.ref h, .int x] (fun U => U.heap.size = sz ∧ va_P (dC, dI) vwCl (wX1 h cI cB g li kn mo fi sc sa nc) U.heap ∧ va_K (dC, dI) vwCl [(cI, .int), (cB, .boolean)] U ∧ va_D (fun _ => True) (wX1 h cI cB g li kn mo fi sc sa nc))) (va_Qi (fun (r : Int32) (u : Int32 × Int32 × Int32) => (¬ badV x = 0 ∧ r = -1 ∧ u = (kn, mo, fi)) ∨ (badV x = 0 ∧ WO li sa nc sc kn mo fi u ∧ r = if u.2.1 = -100000 then -100000 else nI (parN u.2.2.toNatClampNeg x.toNatClampNeg))) (fun (u : Int32 × Int32 × Int32) (t : State) => va_P (dC, dI) vwCl (wX1 h cI cB g li u.1 u.2.1 u.2.2 sc sa nc) t.heap ∧ va_K (dC, dI) vwCl [(cI, .int), (cB, .boolean)] t ∧ va_D (va_A (wX1 h cI cB g li kn mo fi sc sa nc) sz) (wX1 h cI cB g li u.1 u.2.1 u.2.2 sc sa nc)) (va_A (wX1 h cI cB g li kn mo fi sc sa nc) sz)) 0 0 (va_A (wX1 h cI cB g li kn mo fi sc sa nc) sz) := by
  refine Met.ofW (cc := cX1_parents) (maxL := 2) (ret := (some .int)) (by decide) rfl ?_
  intro p e s m args below meth c s₁ B hml hpre
  obtain ⟨rfl, hsz, hP, hK, hD0⟩ := hpre
  have hx := B.exec
  have hb := B.bytes
  have hr := B.returns
  have hts := atoms_spec (ws := (ws_ yX1_parents cX1_parents 2 (some .int))) B.pre
  have hts : ∀ w ∈ lw_all, w.before _ s = true := fun w h => hts w (List.mem_cons_of_mem _ h)
  have hown : s.vm.findClass RX1 = some m.cls := findClass_of_methodNamed B.named
  have hlocks := B.notSynchronized
  subst hsz
  have hD := hD0.self (sz := s.heap.size)
  generalize hAe : va_A (wX1 h cI cB g li kn mo fi sc sa nc) s.heap.size = A at hD ⊢
  have hA : ∀ q : Nat, s.heap.size ≤ q → A q := fun q h => by rw [← hAe]; exact Or.inr h
  have hS : va_S A s.heap s.heap [] := va_S.rf
  have hl := lv_entry ([.ref h, .int x]) (n := 2) (Nat.le_of_ble_eq_true rfl)
  rw [lg_entry_eq]
  generalize (lg_sl ([.ref h, .int x]) ++ List.replicate (2 - (lg_sl ([.ref h, .int x])).length) Slot.unset).toArray = ls at hl ⊢
  have hl : lv_has ls 2 [(0, .ref h), (1, .int x)] := hl
  refine lv_aload_n hx hb dX1_parents_0 rfl (lv_at hl 0 rfl) ?_
  refine lv_iload_n hx hb dX1_parents_1 rfl (lv_at hl 1 rfl) ?_
  refine vp_callSi (W.runV (b := h) (As := [.int x]) (rest := []) ⟨hx, hb, hml, hown, hts⟩ (metX1_bad l dC dI h 0 cI cB g li kn mo fi sc sa nc x) (cwV 1 hts (lw_V q202 q204 qs10 q24 q205) rfl rfl rfl (by decide +kernel) ⟨Nat.le_of_ble_eq_true rfl, Nat.le_of_ble_eq_true rfl⟩) ⟨fun a U g mk q => ⟨q.1, q.2.1, va_K.moved (u := U) (U := U.calling g mk a) (Vm.Alike.refl U.vm) q.2.2⟩, va_recv hK hP (ci := 1) (q0 := 0) rfl rfl, fun U hU hW => ⟨rfl, by rw [hU]; exact hP, va_K.moved hW.alike hK⟩⟩ rfl rfl hl.1 rfl (lv_room (Nat.le_of_ble_eq_true rfl)) dX1_parents_2 ⟨Nat.le_of_ble_eq_true rfl, Nat.le_of_ble_eq_true rfl⟩) (fun r hr_2 => ?_)
  have hr_2 : r = nI (badV x) := hr_2
  subst hr_2
  refine wk_if_eq (tgt := 10) hx hb dX1_parents_5 (by decide) (by have := badV_le x; omega) (fun c_5 => ?_) (fun c_5 => ?_)
  · obtain ⟨a, hlta, hxa⟩ := badV_0 c_5
    refine lv_aload_n hx hb dX1_parents_10 rfl (lv_at hl 0 rfl) ?_
    have hFc := va_free (wc := (wX1 h cI cB g li kn mo fi sc sa nc)) hD hS hA [0, 1, 2, 3] rfl
    refine va_callv (va_runV (b := h) (As := []) (rest := []) ⟨hx, hb, hml, hown, hts⟩ (metX1_workOut l dC dI h s.heap.size cI cB g li kn mo fi sc sa nc ) (cwV 0 hts (lw_V q243 q245 qs16 q24 q246) rfl rfl rfl (by decide +kernel) ⟨Nat.le_of_ble_eq_true rfl, Nat.le_of_ble_eq_true rfl⟩) ⟨fun a U g mk q => by obtain ⟨q0, q1, qP, qK, qD⟩ := q; exact ⟨q0, q1, qP, va_K.moved (u := U) (U := U.calling g mk a) (Vm.Alike.refl U.vm) qK, qD⟩, va_recv hK hP (ci := 1) (q0 := 0) rfl rfl, fun U hU hW => ⟨rfl, by rw [hU], by rw [hU]; exact hP, va_K.moved hW.alike hK, hD.weaken (fun _ _ _ _ => trivial)⟩⟩ rfl rfl hl.1 rfl (lv_room (Nat.le_of_ble_eq_true rfl)) dX1_parents_11 ⟨Nat.le_of_ble_eq_true rfl, Nat.le_of_ble_eq_true rfl⟩) hS (fun q _ h => hFc q h) hFc (fun u t H1 locs ht hvm hw_11 hB hz1 hk1 hS => ?_)
    obtain ⟨kn_11, mo_11, fi_11⟩ := u
    obtain ⟨hP1, hK1, hD1⟩ := hB
    rw [ht] at hP1
    try dsimp only at hw_11
    have hP : va_P (dC, dI) vwCl (wX1 h cI cB g li kn_11 mo_11 fi_11 sc sa nc) H1 := hP1
    have hD : va_D A (wX1 h cI cB g li kn_11 mo_11 fi_11 sc sa nc) := hD1.weaken (fun _ q _ h => hFc q.1 h)
    generalize H1 = H at hP hS ⊢
    obtain ⟨f, hltf, hfe⟩ := WO_fi hw_11 hfi
    refine lv_aload_n hx hb dX1_parents_14 rfl (lv_at hl 0 rfl) ?_
    refine va_get (D := (dC, dI)) (ci := 1) (v := .int mo_11) (C := RX1) (T := TX1) (N := 7) hx hb hts in_X1 hown hK hP 0 rfl rfl 5 (by decide) (hts _ q180) (fun _ h9 => h9) rfl dX1_parents_15 ?_
    refine lv_ldc hx hb hown (hts _ q247) dX1_parents_18 ?_
    refine lv_icmp_ne (tgt := 28) hx hb dX1_parents_20 (by decide) (fun c_20 => ?_) (fun c_20 => ?_)
    · refine lv_aload_n hx hb dX1_parents_28 rfl (lv_at hl 0 rfl) ?_
      refine lv_aload_n hx hb dX1_parents_29 rfl (lv_at hl 0 rfl) ?_
      refine va_get (D := (dC, dI)) (ci := 1) (v := .int fi_11) (C := RX1) (T := TX1) (N := 7) hx hb hts in_X1 hown hK hP 0 rfl rfl 6 (by decide) (hts _ q181) (fun _ h9 => h9) rfl dX1_parents_30 ?_
      refine wk_top (show fi_11 = nI f from hfe) ?_
      refine lv_iload_n hx hb dX1_parents_33 rfl (lv_at hl 1 rfl) ?_
      refine wk_top hxa ?_
      refine vp_callSi (W.runV (b := h) (As := [.int (nI f), .int (nI a)]) (rest := []) ⟨hx, hb, hml, hown, hts⟩ (metX1_parentsOf l dC dI h 0 cI cB g li kn_11 mo_11 fi_11 sc sa nc f a hltf hlta) (cwV 2 hts (lw_V q163 q165 qs7 q24 q166) rfl rfl rfl (by decide +kernel) ⟨Nat.le_of_ble_eq_true rfl, Nat.le_of_ble_eq_true rfl⟩) ⟨fun a U g mk q => ⟨q.1, q.2.1, va_K.moved (u := U) (U := U.calling g mk a) (Vm.Alike.refl U.vm) q.2.2⟩, va_recv hK hP (ci := 1) (q0 := 0) rfl rfl, fun U hU hW => ⟨rfl, by rw [hU]; exact hP, va_K.moved hW.alike hK⟩⟩ rfl rfl hl.1 rfl (lv_room (Nat.le_of_ble_eq_true rfl)) dX1_parents_34 ⟨Nat.le_of_ble_eq_true rfl, Nat.le_of_ble_eq_true rfl⟩) (fun r hr_34 => ?_)
      have hr_34 : r = nI (parN f a) := hr_34
      subst hr_34
      exact W.iret (v := nI (parN f a)) hx hb hr (fun T9 hT9 hW9 => ⟨⟨nI (parN f a), (kn_11, mo_11, fi_11), rfl, (Or.inr ⟨c_5, hw_11, by rw [if_neg c_20, hxa, nI_clamp (by omega)]; show _ = nI (parN (fi_11).toNatClampNeg a); rw [show fi_11 = nI f from hfe, nI_clamp (by omega)]⟩), by rw [hT9]; exact hP, va_K.moved hW9.alike hK, hD⟩, hS.F hT9⟩) hS.2.2 dX1_parents_37
    · refine lv_ldc hx hb hown (hts _ q247) dX1_parents_23 ?_
      refine lv_goto (tgt := 37) hx hb dX1_parents_25 (by decide) ?_
      exact W.iret (v := (-100000)) hx hb hr (fun T9 hT9 hW9 => ⟨⟨(-100000), (kn_11, mo_11, fi_11), rfl, (Or.inr ⟨c_5, hw_11, by rw [if_pos c_20]⟩), by rw [hT9]; exact hP, va_K.moved hW9.alike hK, hD⟩, hS.F hT9⟩) hS.2.2 dX1_parents_37
  · refine lv_iconst (v := (-1)) hx hb dX1_parents_8 (by decide) ?_
    exact W.iret (v := (-1)) hx hb hr (fun T9 hT9 hW9 => ⟨⟨(-1), (kn, mo, fi), rfl, (Or.inl ⟨c_5, rfl, rfl⟩), by rw [hT9]; exact hP, va_K.moved hW9.alike hK, hD⟩, hS.F hT9⟩) hS.2.2 dX1_parents_9
set_option maxHeartbeats 4000000 in
set_option maxRecDepth 100000 in
theorem metX1_bestBy (l : Launch) (dC : Nat → ClassId) (dI : Nat → Nat → Nat) (h sz : Nat) (cI cB : ClassId) (g : Nat → Nat) (li kn mo fi : Int32) (sc sa nc : Nat → Int32) (a b t : Nat) (hlta : a < 4) (hltb : b < 4) (ht : t < 2) : Met l yX1_bestBy (ws_ yX1_bestBy cX1_bestBy 8 (some .int)) ({ frames := 3, cells := 0, slots := 0, locals := 71 } : Room) (va_Pc [.ref h, .int (nI a), .int (nI b), .int (nI t)] (fun U => va_P (dC, dI) vwCl (wX1 h cI cB g li kn mo fi sc sa nc) U.heap ∧ va_K (dC, dI) vwCl [(cI, .int), (cB, .boolean)] U)) (vp_Si (fun r : Int32 => r = bbF li sa nc sc a b t)) 0 0 (fun _ => False) := by
  refine Met.ofW (cc := cX1_bestBy) (maxL := 8) (ret := (some .int)) (by decide) rfl ?_
  intro p e s m args below meth c s₁ B hml hpre
  obtain ⟨rfl, hP, hK⟩ := hpre
  have hx := B.exec
  have hb := B.bytes
  have hr := B.returns
  have hts := atoms_spec (ws := (ws_ yX1_bestBy cX1_bestBy 8 (some .int))) B.pre
  have hts : ∀ w ∈ lw_all, w.before _ s = true := fun w h => hts w (List.mem_cons_of_mem _ h)
  have hown : s.vm.findClass RX1 = some m.cls := findClass_of_methodNamed B.named
  have hlocks := B.notSynchronized
  have hl := lv_entry ([.ref h, .int (nI a), .int (nI b), .int (nI t)]) (n := 8) (Nat.le_of_ble_eq_true rfl)
  rw [lg_entry_eq]
  generalize (lg_sl ([.ref h, .int (nI a), .int (nI b), .int (nI t)]) ++ List.replicate (8 - (lg_sl ([.ref h, .int (nI a), .int (nI b), .int (nI t)])).length) Slot.unset).toArray = ls at hl ⊢
  have hl : lv_has ls 8 [(0, .ref h), (1, .int (nI a)), (2, .int (nI b)), (3, .int (nI t))] := hl
  refine lv_ldc hx hb hown (hts _ q247) dX1_bestBy_0 ?_
  refine lv_istore (lv' := [(4, .int (-100000)), (0, .ref h), (1, .int (nI a)), (2, .int (nI b)), (3, .int (nI t))]) hx hb dX1_bestBy_2 hl (by decide) rfl (fun ls hl => ?_)
  refine lv_iconst (v := nI 0) hx hb dX1_bestBy_4 (by decide) ?_
  refine lv_istore (lv' := [(5, .int (nI 0)), (4, .int (-100000)), (0, .ref h), (1, .int (nI a)), (2, .int (nI b)), (3, .int (nI t))]) hx hb dX1_bestBy_5 hl (by decide) rfl (fun ls hl => ?_)
  have loop_7 : ∀ (k_7 z : Nat) (top : Int32), z ≤ 4096 → 4096 + 1 ≤ z + k_7 → (top = lit (bbS li sa nc sc a b t) (-100000) z) → ∀ (ls : Array Slot), lv_has ls 8 [(0, .ref h), (1, .int (nI a)), (2, .int (nI b)), (3, .int (nI t)), (4, .int top), (5, .int (nI z))] → W p l e (headSpec (ws_ yX1_bestBy cX1_bestBy 8 (some .int)) ({ frames := 3, cells := 0, slots := 0, locals := 71 } : Room)).room s m ([.ref h, .int (nI a), .int (nI b), .int (nI t)] : List Value).toArray below meth c s.heap [] 0 0 (MQ below (vp_Si (fun r : Int32 => r = bbF li sa nc sc a b t)) ([.ref h, .int (nI a), .int (nI b), .int (nI t)] : List Value).toArray s 0 0 (fun _ => False)) (F0 m 7 ls []) := by
    intro k_7
    induction k_7 with
    | zero =>
      intro z top h1 h2
      exact absurd h2 (by omega)
    | succ k_7 ih_7 =>
      intro z top hi_7 hk_7 hinv_7 ls hl
      refine lv_iload hx hb dX1_bestBy_7 (lv_at hl 5 rfl) ?_
      refine lv_sipush (v := nI 4096) hx hb dX1_bestBy_9 (by decide) ?_
      refine wk_icmp_ge (tgt := 73) hx hb dX1_bestBy_12 (by decide) (by omega) (by decide) (fun c_12 => ?_) (fun c_12 => ?_)
      · have he_z : z = 4096 := by omega
        subst he_z
        refine lv_iload hx hb dX1_bestBy_73 (lv_at hl 4 rfl) ?_
        exact W.iret (v := top) hx hb hr (fun T9 hT9 hW9 => ⟨top, rfl, hinv_7, hT9⟩) (fun q h => absurd h List.not_mem_nil) dX1_bestBy_75
      · refine lv_aload_n hx hb dX1_bestBy_15 rfl (lv_at hl 0 rfl) ?_
        refine lv_iload hx hb dX1_bestBy_16 (lv_at hl 5 rfl) ?_
        refine lv_iload_n hx hb dX1_bestBy_18 rfl (lv_at hl 2 rfl) ?_
        refine vp_callSi (W.runV (b := h) (As := [.int (nI z), .int (nI b)]) (rest := []) ⟨hx, hb, hml, hown, hts⟩ (metX1_parentsOf l dC dI h 0 cI cB g li kn mo fi sc sa nc z b (by omega) hltb) (cwV 2 hts (lw_V q163 q165 qs7 q24 q166) rfl rfl rfl (by decide +kernel) ⟨Nat.le_of_ble_eq_true rfl, Nat.le_of_ble_eq_true rfl⟩) ⟨fun a U g mk q => ⟨q.1, q.2.1, va_K.moved (u := U) (U := U.calling g mk a) (Vm.Alike.refl U.vm) q.2.2⟩, va_recv hK hP (ci := 1) (q0 := 0) rfl rfl, fun U hU hW => ⟨rfl, by rw [hU]; exact hP, va_K.moved hW.alike hK⟩⟩ rfl rfl hl.1 rfl (lv_room (Nat.le_of_ble_eq_true rfl)) dX1_bestBy_19 ⟨Nat.le_of_ble_eq_true rfl, Nat.le_of_ble_eq_true rfl⟩) (fun r hr_19 => ?_)
        have hr_19 : r = nI (parN z b) := hr_19
        subst hr_19
        have hp_19 := parN_lt z hltb
        refine lv_istore (lv' := [(6, .int (nI (parN z b))), (0, .ref h), (1, .int (nI a)), (2, .int (nI b)), (3, .int (nI t)), (4, .int top), (5, .int (nI z))]) hx hb dX1_bestBy_22 hl (by decide) rfl (fun ls hl => ?_)
        refine lv_iload hx hb dX1_bestBy_24 (lv_at hl 0 rfl) ?_
        refine lv_iload_n hx hb dX1_bestBy_26 rfl (lv_at hl 2 rfl) ?_
        refine wk_ishr hx hb dX1_bestBy_27 (by omega) (by omega) ?_
        refine lv_iconst (v := nI 1) hx hb dX1_bestBy_28 (by decide) ?_
        refine wk_iand hx hb dX1_bestBy_29 ?_
        have hf_29 : (((parN z b) >>> a) &&& 1) ≤ 1 := Nat.and_le_right
        refine lv_iload_n hx hb dX1_bestBy_30 rfl (lv_at hl 4 rfl) ?_
        refine wk_icmp_ne (tgt := 67) hx hb dX1_bestBy_31 (by decide) (Nat.lt_of_le_of_lt Nat.and_le_right (by decide)) (by omega) (fun c_31 => ?_) (fun c_31 => ?_)
        · refine wk_iinc (lv' := [(5, .int (nI (z + 1))), (6, .int (nI (parN z b))), (0, .ref h), (1, .int (nI a)), (2, .int (nI b)), (3, .int (nI t)), (4, .int top)]) hx hb dX1_bestBy_67 hl (k := 6) rfl (by decide) rfl (fun ls hl => ?_)
          refine lv_goto (tgt := 7) hx hb dX1_bestBy_70 (by decide) ?_
          exact ih_7 (z + 1) top (by omega) (by omega) (by rw [lit_succ, ← hinv_7]; unfold bbS; rw [if_neg c_31]) ls (lv_sub hl [2, 3, 4, 5, 6, 0] rfl)
        · refine lv_aload_n hx hb dX1_bestBy_34 rfl (lv_at hl 1 rfl) ?_
          refine lv_iload hx hb dX1_bestBy_35 (lv_at hl 6 rfl) ?_
          refine vp_callSi (W.runV (b := h) (As := [.int (nI z)]) (rest := []) ⟨hx, hb, hml, hown, hts⟩ (metX1_allowed l dC dI h 0 cI cB g li kn mo fi sc sa nc z (by omega)) (cwV 1 hts (lw_V q248 q250 qs17 q24 q251) rfl rfl rfl (by decide +kernel) ⟨Nat.le_of_ble_eq_true rfl, Nat.le_of_ble_eq_true rfl⟩) ⟨fun a U g mk q => ⟨q.1, q.2.1, va_K.moved (u := U) (U := U.calling g mk a) (Vm.Alike.refl U.vm) q.2.2⟩, va_recv hK hP (ci := 1) (q0 := 0) rfl rfl, fun U hU hW => ⟨rfl, by rw [hU]; exact hP, va_K.moved hW.alike hK⟩⟩ rfl rfl hl.1 rfl (lv_room (Nat.le_of_ble_eq_true rfl)) dX1_bestBy_37 ⟨Nat.le_of_ble_eq_true rfl, Nat.le_of_ble_eq_true rfl⟩) (fun r hr_37 => ?_)
          have hr_37 : r = nI (alwN li sa nc z) := hr_37
          subst hr_37
          refine wk_if_eq (tgt := 67) hx hb dX1_bestBy_40 (by decide) (by have := alwN_le li sa nc z; omega) (fun c_40 => ?_) (fun c_40 => ?_)
          · refine wk_iinc (lv' := [(5, .int (nI (z + 1))), (6, .int (nI (parN z b))), (0, .ref h), (1, .int (nI a)), (2, .int (nI b)), (3, .int (nI t)), (4, .int top)]) hx hb dX1_bestBy_67 hl (k := 6) rfl (by decide) rfl (fun ls hl => ?_)
            refine lv_goto (tgt := 7) hx hb dX1_bestBy_70 (by decide) ?_
            exact ih_7 (z + 1) top (by omega) (by omega) (by rw [lit_succ, ← hinv_7]; unfold bbS; rw [if_pos c_31, if_pos c_40]) ls (lv_sub hl [2, 3, 4, 5, 6, 0] rfl)
          · refine lv_aload_n hx hb dX1_bestBy_43 rfl (lv_at hl 1 rfl) ?_
            refine lv_iload hx hb dX1_bestBy_44 (lv_at hl 6 rfl) ?_
            refine vp_callSi (W.runV (b := h) (As := [.int (nI z)]) (rest := []) ⟨hx, hb, hml, hown, hts⟩ (metX1_worth l dC dI h 0 cI cB g li kn mo fi sc sa nc z (by omega)) (cwV 1 hts (lw_V q252 q254 qs18 q24 q255) rfl rfl rfl (by decide +kernel) ⟨Nat.le_of_ble_eq_true rfl, Nat.le_of_ble_eq_true rfl⟩) ⟨fun a U g mk q => ⟨q.1, q.2.1, va_K.moved (u := U) (U := U.calling g mk a) (Vm.Alike.refl U.vm) q.2.2⟩, va_recv hK hP (ci := 1) (q0 := 0) rfl rfl, fun U hU hW => ⟨rfl, by rw [hU]; exact hP, va_K.moved hW.alike hK⟩⟩ rfl rfl hl.1 rfl (lv_room (Nat.le_of_ble_eq_true rfl)) dX1_bestBy_46 ⟨Nat.le_of_ble_eq_true rfl, Nat.le_of_ble_eq_true rfl⟩) (fun r hr_46 => ?_)
            have hr_46 : r = (worF sc z) := hr_46
            subst hr_46
            refine lv_istore (lv' := [(7, .int (worF sc z)), (6, .int (nI (parN z b))), (0, .ref h), (1, .int (nI a)), (2, .int (nI b)), (3, .int (nI t)), (4, .int top), (5, .int (nI z))]) hx hb dX1_bestBy_49 hl (by decide) rfl (fun ls hl => ?_)
            refine lv_iload hx hb dX1_bestBy_51 (lv_at hl 0 rfl) ?_
            refine lv_iload hx hb dX1_bestBy_53 (lv_at hl 6 rfl) ?_
            refine lv_icmp_le (tgt := 63) hx hb dX1_bestBy_55 (by decide) (fun c_55 => ?_) (fun c_55 => ?_)
            · refine lv_iload hx hb dX1_bestBy_63 (lv_at hl 6 rfl) ?_
              refine lv_istore (lv' := [(4, .int top), (7, .int (worF sc z)), (6, .int (nI (parN z b))), (0, .ref h), (1, .int (nI a)), (2, .int (nI b)), (3, .int (nI t)), (5, .int (nI z))]) hx hb dX1_bestBy_65 hl (by decide) rfl (fun ls hl => ?_)
              refine wk_iinc (lv' := [(5, .int (nI (z + 1))), (4, .int top), (7, .int (worF sc z)), (6, .int (nI (parN z b))), (0, .ref h), (1, .int (nI a)), (2, .int (nI b)), (3, .int (nI t))]) hx hb dX1_bestBy_67 hl (k := 7) rfl (by decide) rfl (fun ls hl => ?_)
              refine lv_goto (tgt := 7) hx hb dX1_bestBy_70 (by decide) ?_
              exact ih_7 (z + 1) top (by omega) (by omega) (by rw [lit_succ, ← hinv_7]; unfold bbS; rw [if_pos c_31, if_neg c_40, if_pos c_55]) ls (lv_sub hl [4, 5, 6, 7, 1, 0] rfl)
            · refine lv_iload hx hb dX1_bestBy_58 (lv_at hl 0 rfl) ?_
              refine lv_goto (tgt := 65) hx hb dX1_bestBy_60 (by decide) ?_
              refine lv_istore (lv' := [(4, .int (worF sc z)), (7, .int (worF sc z)), (6, .int (nI (parN z b))), (0, .ref h), (1, .int (nI a)), (2, .int (nI b)), (3, .int (nI t)), (5, .int (nI z))]) hx hb dX1_bestBy_65 hl (by decide) rfl (fun ls hl => ?_)
              refine wk_iinc (lv' := [(5, .int (nI (z + 1))), (4, .int (worF sc z)), (7, .int (worF sc z)), (6, .int (nI (parN z b))), (0, .ref h), (1, .int (nI a)), (2, .int (nI b)), (3, .int (nI t))]) hx hb dX1_bestBy_67 hl (k := 7) rfl (by decide) rfl (fun ls hl => ?_)
              refine lv_goto (tgt := 7) hx hb dX1_bestBy_70 (by decide) ?_
              exact ih_7 (z + 1) (worF sc z) (by omega) (by omega) (by rw [lit_succ, ← hinv_7]; unfold bbS; rw [if_pos c_31, if_neg c_40, if_neg c_55]) ls (lv_sub hl [4, 5, 6, 7, 1, 0] rfl)
  exact loop_7 (4096 + 1) 0 (-100000) (by omega) (by omega) rfl ls (lv_sub hl [2, 3, 4, 5, 1, 0] rfl)
set_option maxHeartbeats 4000000 in
set_option maxRecDepth 100000 in
theorem metX1_bestWith (l : Launch) (dC : Nat → ClassId) (dI : Nat → Nat → Nat) (h sz : Nat) (cI cB : ClassId) (g : Nat → Nat) (li kn mo fi : Int32) (sc sa nc : Nat → Int32) (x1 x2 : Int32) : Met l yX1_bestWith (ws_ yX1_bestWith cX1_bestWith 3 (some .int)) ({ frames := 4, cells := 0, slots := 0, locals := 98 } : Room) (va_Pc [.ref h, .int x1, .int x2] (fun U => va_P (dC, dI) vwCl (wX1 h cI cB g li kn mo fi sc sa nc) U.heap ∧ va_K (dC, dI) vwCl [(cI, .int), (cB, .boolean)] U)) (vp_Si (fun r : Int32 => (edB x1 x2 = 1 ∧ r = -1) ∨ (edB x1 x2 = 0 ∧ r = bbF li sa nc sc x1.toNatClampNeg x2.toNatClampNeg 1))) 0 0 (fun _ => False) := by
  refine Met.ofW (cc := cX1_bestWith) (maxL := 3) (ret := (some .int)) (by decide) rfl ?_
  intro p e s m args below meth c s₁ B hml hpre
  obtain ⟨rfl, hP, hK⟩ := hpre
  have hx := B.exec
  have hb := B.bytes
  have hr := B.returns
  have hts := atoms_spec (ws := (ws_ yX1_bestWith cX1_bestWith 3 (some .int))) B.pre
  have hts : ∀ w ∈ lw_all, w.before _ s = true := fun w h => hts w (List.mem_cons_of_mem _ h)
  have hown : s.vm.findClass RX1 = some m.cls := findClass_of_methodNamed B.named
  have hlocks := B.notSynchronized
  have hl := lv_entry ([.ref h, .int x1, .int x2]) (n := 3) (Nat.le_of_ble_eq_true rfl)
  rw [lg_entry_eq]
  generalize (lg_sl ([.ref h, .int x1, .int x2]) ++ List.replicate (3 - (lg_sl ([.ref h, .int x1, .int x2])).length) Slot.unset).toArray = ls at hl ⊢
  have hl : lv_has ls 3 [(0, .ref h), (1, .int x1), (2, .int x2)] := hl
  refine lv_aload_n hx hb dX1_bestWith_0 rfl (lv_at hl 0 rfl) ?_
  refine lv_iload_n hx hb dX1_bestWith_1 rfl (lv_at hl 1 rfl) ?_
  refine vp_callSi (W.runV (b := h) (As := [.int x1]) (rest := []) ⟨hx, hb, hml, hown, hts⟩ (metX1_bad l dC dI h 0 cI cB g li kn mo fi sc sa nc x1) (cwV 1 hts (lw_V q202 q204 qs10 q24 q205) rfl rfl rfl (by decide +kernel) ⟨Nat.le_of_ble_eq_true rfl, Nat.le_of_ble_eq_true rfl⟩) ⟨fun a U g mk q => ⟨q.1, q.2.1, va_K.moved (u := U) (U := U.calling g mk a) (Vm.Alike.refl U.vm) q.2.2⟩, va_recv hK hP (ci := 1) (q0 := 0) rfl rfl, fun U hU hW => ⟨rfl, by rw [hU]; exact hP, va_K.moved hW.alike hK⟩⟩ rfl rfl hl.1 rfl (lv_room (Nat.le_of_ble_eq_true rfl)) dX1_bestWith_2 ⟨Nat.le_of_ble_eq_true rfl, Nat.le_of_ble_eq_true rfl⟩) (fun r hr_2 => ?_)
  have hr_2 : r = nI (badV x1) := hr_2
  subst hr_2
  refine wk_if_ne (tgt := 21) hx hb dX1_bestWith_5 (by decide) (by have := badV_le x1; omega) (fun c_5 => ?_) (fun c_5 => ?_)
  · refine lv_iconst (v := (-1)) hx hb dX1_bestWith_21 (by decide) ?_
    refine lv_goto (tgt := 32) hx hb dX1_bestWith_22 (by decide) ?_
    exact W.iret (v := (-1)) hx hb hr (fun T9 hT9 hW9 => ⟨(-1), rfl, (Or.inl ⟨edB_a c_5, rfl⟩), hT9⟩) (fun q h => absurd h List.not_mem_nil) dX1_bestWith_32
  · obtain ⟨a, hlta, hxa⟩ := badV_0 c_5
    refine lv_aload_n hx hb dX1_bestWith_8 rfl (lv_at hl 0 rfl) ?_
    refine lv_iload_n hx hb dX1_bestWith_9 rfl (lv_at hl 2 rfl) ?_
    refine vp_callSi (W.runV (b := h) (As := [.int x2]) (rest := []) ⟨hx, hb, hml, hown, hts⟩ (metX1_bad l dC dI h 0 cI cB g li kn mo fi sc sa nc x2) (cwV 1 hts (lw_V q202 q204 qs10 q24 q205) rfl rfl rfl (by decide +kernel) ⟨Nat.le_of_ble_eq_true rfl, Nat.le_of_ble_eq_true rfl⟩) ⟨fun a U g mk q => ⟨q.1, q.2.1, va_K.moved (u := U) (U := U.calling g mk a) (Vm.Alike.refl U.vm) q.2.2⟩, va_recv hK hP (ci := 1) (q0 := 0) rfl rfl, fun U hU hW => ⟨rfl, by rw [hU]; exact hP, va_K.moved hW.alike hK⟩⟩ rfl rfl hl.1 rfl (lv_room (Nat.le_of_ble_eq_true rfl)) dX1_bestWith_10 ⟨Nat.le_of_ble_eq_true rfl, Nat.le_of_ble_eq_true rfl⟩) (fun r hr_10 => ?_)
    have hr_10 : r = nI (badV x2) := hr_10
    subst hr_10
    refine wk_if_ne (tgt := 21) hx hb dX1_bestWith_13 (by decide) (by have := badV_le x2; omega) (fun c_13 => ?_) (fun c_13 => ?_)
    · refine lv_iconst (v := (-1)) hx hb dX1_bestWith_21 (by decide) ?_
      refine lv_goto (tgt := 32) hx hb dX1_bestWith_22 (by decide) ?_
      exact W.iret (v := (-1)) hx hb hr (fun T9 hT9 hW9 => ⟨(-1), rfl, (Or.inl ⟨edB_b c_5 c_13, rfl⟩), hT9⟩) (fun q h => absurd h List.not_mem_nil) dX1_bestWith_32
    · obtain ⟨b, hltb, hxb⟩ := badV_0 c_13
      refine lv_iload_n hx hb dX1_bestWith_16 rfl (lv_at hl 1 rfl) ?_
      refine wk_top hxa ?_
      refine lv_iload_n hx hb dX1_bestWith_17 rfl (lv_at hl 2 rfl) ?_
      refine wk_top hxb ?_
      refine wk_icmp_ne (tgt := 25) hx hb dX1_bestWith_18 (by decide) (by omega) (by omega) (fun c_18 => ?_) (fun c_18 => ?_)
      · refine lv_aload_n hx hb dX1_bestWith_25 rfl (lv_at hl 0 rfl) ?_
        refine lv_iload_n hx hb dX1_bestWith_26 rfl (lv_at hl 1 rfl) ?_
        refine wk_top hxa ?_
        refine lv_iload_n hx hb dX1_bestWith_27 rfl (lv_at hl 2 rfl) ?_
        refine wk_top hxb ?_
        refine lv_iconst (v := nI 1) hx hb dX1_bestWith_28 (by decide) ?_
        refine vp_callSi (W.runV (b := h) (As := [.int (nI a), .int (nI b), .int (nI 1)]) (rest := []) ⟨hx, hb, hml, hown, hts⟩ (metX1_bestBy l dC dI h 0 cI cB g li kn mo fi sc sa nc a b 1 hlta hltb (by omega)) (cwV 3 hts (lw_V q264 q266 qs19 q24 q267) rfl rfl rfl (by decide +kernel) ⟨Nat.le_of_ble_eq_true rfl, Nat.le_of_ble_eq_true rfl⟩) ⟨fun a U g mk q => ⟨q.1, q.2.1, va_K.moved (u := U) (U := U.calling g mk a) (Vm.Alike.refl U.vm) q.2.2⟩, va_recv hK hP (ci := 1) (q0 := 0) rfl rfl, fun U hU hW => ⟨rfl, by rw [hU]; exact hP, va_K.moved hW.alike hK⟩⟩ rfl rfl hl.1 rfl (lv_room (Nat.le_of_ble_eq_true rfl)) dX1_bestWith_29 ⟨Nat.le_of_ble_eq_true rfl, Nat.le_of_ble_eq_true rfl⟩) (fun r hr_29 => ?_)
        have hr_29 : r = (bbF li sa nc sc a b 1) := hr_29
        subst hr_29
        exact W.iret (v := (bbF li sa nc sc a b 1)) hx hb hr (fun T9 hT9 hW9 => ⟨(bbF li sa nc sc a b 1), rfl, (Or.inr ⟨edB_d c_5 c_13 hlta hltb hxa hxb c_18, by rw [hxa, hxb, nI_clamp (by omega), nI_clamp (by omega)]⟩), hT9⟩) (fun q h => absurd h List.not_mem_nil) dX1_bestWith_32
      · refine lv_iconst (v := (-1)) hx hb dX1_bestWith_21 (by decide) ?_
        refine lv_goto (tgt := 32) hx hb dX1_bestWith_22 (by decide) ?_
        exact W.iret (v := (-1)) hx hb hr (fun T9 hT9 hW9 => ⟨(-1), rfl, (Or.inl ⟨edB_c c_5 c_13 hxa hxb c_18, rfl⟩), hT9⟩) (fun q h => absurd h List.not_mem_nil) dX1_bestWith_32
set_option maxHeartbeats 4000000 in
set_option maxRecDepth 100000 in
theorem metX1_bestWithout (l : Launch) (dC : Nat → ClassId) (dI : Nat → Nat → Nat) (h sz : Nat) (cI cB : ClassId) (g : Nat → Nat) (li kn mo fi : Int32) (sc sa nc : Nat → Int32) (x1 x2 : Int32) : Met l yX1_bestWithout (ws_ yX1_bestWithout cX1_bestWithout 3 (some .int)) ({ frames := 4, cells := 0, slots := 0, locals := 98 } : Room) (va_Pc [.ref h, .int x1, .int x2] (fun U => va_P (dC, dI) vwCl (wX1 h cI cB g li kn mo fi sc sa nc) U.heap ∧ va_K (dC, dI) vwCl [(cI, .int), (cB, .boolean)] U)) (vp_Si (fun r : Int32 => (edB x1 x2 = 1 ∧ r = -1) ∨ (edB x1 x2 = 0 ∧ r = bbF li sa nc sc x1.toNatClampNeg x2.toNatClampNeg 0))) 0 0 (fun _ => False) := by
  refine Met.ofW (cc := cX1_bestWithout) (maxL := 3) (ret := (some .int)) (by decide) rfl ?_
  intro p e s m args below meth c s₁ B hml hpre
  obtain ⟨rfl, hP, hK⟩ := hpre
  have hx := B.exec
  have hb := B.bytes
  have hr := B.returns
  have hts := atoms_spec (ws := (ws_ yX1_bestWithout cX1_bestWithout 3 (some .int))) B.pre
  have hts : ∀ w ∈ lw_all, w.before _ s = true := fun w h => hts w (List.mem_cons_of_mem _ h)
  have hown : s.vm.findClass RX1 = some m.cls := findClass_of_methodNamed B.named
  have hlocks := B.notSynchronized
  have hl := lv_entry ([.ref h, .int x1, .int x2]) (n := 3) (Nat.le_of_ble_eq_true rfl)
  rw [lg_entry_eq]
  generalize (lg_sl ([.ref h, .int x1, .int x2]) ++ List.replicate (3 - (lg_sl ([.ref h, .int x1, .int x2])).length) Slot.unset).toArray = ls at hl ⊢
  have hl : lv_has ls 3 [(0, .ref h), (1, .int x1), (2, .int x2)] := hl
  refine lv_aload_n hx hb dX1_bestWithout_0 rfl (lv_at hl 0 rfl) ?_
  refine lv_iload_n hx hb dX1_bestWithout_1 rfl (lv_at hl 1 rfl) ?_
  refine vp_callSi (W.runV (b := h) (As := [.int x1]) (rest := []) ⟨hx, hb, hml, hown, hts⟩ (metX1_bad l dC dI h 0 cI cB g li kn mo fi sc sa nc x1) (cwV 1 hts (lw_V q202 q204 qs10 q24 q205) rfl rfl rfl (by decide +kernel) ⟨Nat.le_of_ble_eq_true rfl, Nat.le_of_ble_eq_true rfl⟩) ⟨fun a U g mk q => ⟨q.1, q.2.1, va_K.moved (u := U) (U := U.calling g mk a) (Vm.Alike.refl U.vm) q.2.2⟩, va_recv hK hP (ci := 1) (q0 := 0) rfl rfl, fun U hU hW => ⟨rfl, by rw [hU]; exact hP, va_K.moved hW.alike hK⟩⟩ rfl rfl hl.1 rfl (lv_room (Nat.le_of_ble_eq_true rfl)) dX1_bestWithout_2 ⟨Nat.le_of_ble_eq_true rfl, Nat.le_of_ble_eq_true rfl⟩) (fun r hr_2 => ?_)
  have hr_2 : r = nI (badV x1) := hr_2
  subst hr_2
  refine wk_if_ne (tgt := 21) hx hb dX1_bestWithout_5 (by decide) (by have := badV_le x1; omega) (fun c_5 => ?_) (fun c_5 => ?_)
  · refine lv_iconst (v := (-1)) hx hb dX1_bestWithout_21 (by decide) ?_
    refine lv_goto (tgt := 32) hx hb dX1_bestWithout_22 (by decide) ?_
    exact W.iret (v := (-1)) hx hb hr (fun T9 hT9 hW9 => ⟨(-1), rfl, (Or.inl ⟨edB_a c_5, rfl⟩), hT9⟩) (fun q h => absurd h List.not_mem_nil) dX1_bestWithout_32
  · obtain ⟨a, hlta, hxa⟩ := badV_0 c_5
    refine lv_aload_n hx hb dX1_bestWithout_8 rfl (lv_at hl 0 rfl) ?_
    refine lv_iload_n hx hb dX1_bestWithout_9 rfl (lv_at hl 2 rfl) ?_
    refine vp_callSi (W.runV (b := h) (As := [.int x2]) (rest := []) ⟨hx, hb, hml, hown, hts⟩ (metX1_bad l dC dI h 0 cI cB g li kn mo fi sc sa nc x2) (cwV 1 hts (lw_V q202 q204 qs10 q24 q205) rfl rfl rfl (by decide +kernel) ⟨Nat.le_of_ble_eq_true rfl, Nat.le_of_ble_eq_true rfl⟩) ⟨fun a U g mk q => ⟨q.1, q.2.1, va_K.moved (u := U) (U := U.calling g mk a) (Vm.Alike.refl U.vm) q.2.2⟩, va_recv hK hP (ci := 1) (q0 := 0) rfl rfl, fun U hU hW => ⟨rfl, by rw [hU]; exact hP, va_K.moved hW.alike hK⟩⟩ rfl rfl hl.1 rfl (lv_room (Nat.le_of_ble_eq_true rfl)) dX1_bestWithout_10 ⟨Nat.le_of_ble_eq_true rfl, Nat.le_of_ble_eq_true rfl⟩) (fun r hr_10 => ?_)
    have hr_10 : r = nI (badV x2) := hr_10
    subst hr_10
    refine wk_if_ne (tgt := 21) hx hb dX1_bestWithout_13 (by decide) (by have := badV_le x2; omega) (fun c_13 => ?_) (fun c_13 => ?_)
    · refine lv_iconst (v := (-1)) hx hb dX1_bestWithout_21 (by decide) ?_
      refine lv_goto (tgt := 32) hx hb dX1_bestWithout_22 (by decide) ?_
      exact W.iret (v := (-1)) hx hb hr (fun T9 hT9 hW9 => ⟨(-1), rfl, (Or.inl ⟨edB_b c_5 c_13, rfl⟩), hT9⟩) (fun q h => absurd h List.not_mem_nil) dX1_bestWithout_32
    · obtain ⟨b, hltb, hxb⟩ := badV_0 c_13
      refine lv_iload_n hx hb dX1_bestWithout_16 rfl (lv_at hl 1 rfl) ?_
      refine wk_top hxa ?_
      refine lv_iload_n hx hb dX1_bestWithout_17 rfl (lv_at hl 2 rfl) ?_
      refine wk_top hxb ?_
      refine wk_icmp_ne (tgt := 25) hx hb dX1_bestWithout_18 (by decide) (by omega) (by omega) (fun c_18 => ?_) (fun c_18 => ?_)
      · refine lv_aload_n hx hb dX1_bestWithout_25 rfl (lv_at hl 0 rfl) ?_
        refine lv_iload_n hx hb dX1_bestWithout_26 rfl (lv_at hl 1 rfl) ?_
        refine wk_top hxa ?_
        refine lv_iload_n hx hb dX1_bestWithout_27 rfl (lv_at hl 2 rfl) ?_
        refine wk_top hxb ?_
        refine lv_iconst (v := nI 0) hx hb dX1_bestWithout_28 (by decide) ?_
        refine vp_callSi (W.runV (b := h) (As := [.int (nI a), .int (nI b), .int (nI 0)]) (rest := []) ⟨hx, hb, hml, hown, hts⟩ (metX1_bestBy l dC dI h 0 cI cB g li kn mo fi sc sa nc a b 0 hlta hltb (by omega)) (cwV 3 hts (lw_V q264 q266 qs19 q24 q267) rfl rfl rfl (by decide +kernel) ⟨Nat.le_of_ble_eq_true rfl, Nat.le_of_ble_eq_true rfl⟩) ⟨fun a U g mk q => ⟨q.1, q.2.1, va_K.moved (u := U) (U := U.calling g mk a) (Vm.Alike.refl U.vm) q.2.2⟩, va_recv hK hP (ci := 1) (q0 := 0) rfl rfl, fun U hU hW => ⟨rfl, by rw [hU]; exact hP, va_K.moved hW.alike hK⟩⟩ rfl rfl hl.1 rfl (lv_room (Nat.le_of_ble_eq_true rfl)) dX1_bestWithout_29 ⟨Nat.le_of_ble_eq_true rfl, Nat.le_of_ble_eq_true rfl⟩) (fun r hr_29 => ?_)
        have hr_29 : r = (bbF li sa nc sc a b 0) := hr_29
        subst hr_29
        exact W.iret (v := (bbF li sa nc sc a b 0)) hx hb hr (fun T9 hT9 hW9 => ⟨(bbF li sa nc sc a b 0), rfl, (Or.inr ⟨edB_d c_5 c_13 hlta hltb hxa hxb c_18, by rw [hxa, hxb, nI_clamp (by omega), nI_clamp (by omega)]⟩), hT9⟩) (fun q h => absurd h List.not_mem_nil) dX1_bestWithout_32
      · refine lv_iconst (v := (-1)) hx hb dX1_bestWithout_21 (by decide) ?_
        refine lv_goto (tgt := 32) hx hb dX1_bestWithout_22 (by decide) ?_
        exact W.iret (v := (-1)) hx hb hr (fun T9 hT9 hW9 => ⟨(-1), rfl, (Or.inl ⟨edB_c c_5 c_13 hxa hxb c_18, rfl⟩), hT9⟩) (fun q h => absurd h List.not_mem_nil) dX1_bestWithout_32
set_option maxHeartbeats 4000000 in
set_option maxRecDepth 100000 in
theorem metX1_edges (l : Launch) (dC : Nat → ClassId) (dI : Nat → Nat → Nat) (h sz : Nat) (cI cB : ClassId) (g : Nat → Nat) (li kn mo fi : Int32) (sc sa nc : Nat → Int32) (hfi : ∃ f : Nat, f < 4096 ∧ fi = nI f) : Met l yX1_edges (ws_ yX1_edges cX1_edges 5 (some .int)) ({ frames := 4, cells := 0, slots := 0, locals := 93 } : Room) (va_Pc [.ref h] (fun U => U.heap.size = sz ∧ va_P (dC, dI) vwCl (wX1 h cI cB g li kn mo fi sc sa nc) U.heap ∧ va_K (dC, dI) vwCl [(cI, .int), (cB, .boolean)] U ∧ va_D (fun _ => True) (wX1 h cI cB g li kn mo fi sc sa nc))) (va_Qi (fun (r : Int32) (u : Int32 × Int32 × Int32) => WO li sa nc sc kn mo fi u ∧ r = if u.2.1 = -100000 then -100000 else nI (eg1N u.2.2.toNatClampNeg)) (fun (u : Int32 × Int32 × Int32) (t : State) => va_P (dC, dI) vwCl (wX1 h cI cB g li u.1 u.2.1 u.2.2 sc sa nc) t.heap ∧ va_K (dC, dI) vwCl [(cI, .int), (cB, .boolean)] t ∧ va_D (va_A (wX1 h cI cB g li kn mo fi sc sa nc) sz) (wX1 h cI cB g li u.1 u.2.1 u.2.2 sc sa nc)) (va_A (wX1 h cI cB g li kn mo fi sc sa nc) sz)) 0 0 (va_A (wX1 h cI cB g li kn mo fi sc sa nc) sz) := by
  refine Met.ofW (cc := cX1_edges) (maxL := 5) (ret := (some .int)) (by decide) rfl ?_
  intro p e s m args below meth c s₁ B hml hpre
  obtain ⟨rfl, hsz, hP, hK, hD0⟩ := hpre
  have hx := B.exec
  have hb := B.bytes
  have hr := B.returns
  have hts := atoms_spec (ws := (ws_ yX1_edges cX1_edges 5 (some .int))) B.pre
  have hts : ∀ w ∈ lw_all, w.before _ s = true := fun w h => hts w (List.mem_cons_of_mem _ h)
  have hown : s.vm.findClass RX1 = some m.cls := findClass_of_methodNamed B.named
  have hlocks := B.notSynchronized
  subst hsz
  have hD := hD0.self (sz := s.heap.size)
  generalize hAe : va_A (wX1 h cI cB g li kn mo fi sc sa nc) s.heap.size = A at hD ⊢
  have hA : ∀ q : Nat, s.heap.size ≤ q → A q := fun q h => by rw [← hAe]; exact Or.inr h
  have hS : va_S A s.heap s.heap [] := va_S.rf
  have hl := lv_entry ([.ref h]) (n := 5) (Nat.le_of_ble_eq_true rfl)
  rw [lg_entry_eq]
  generalize (lg_sl ([.ref h]) ++ List.replicate (5 - (lg_sl ([.ref h])).length) Slot.unset).toArray = ls at hl ⊢
  have hl : lv_has ls 5 [(0, .ref h)] := hl
  refine lv_aload_n hx hb dX1_edges_0 rfl (lv_at hl 0 rfl) ?_
  have hFc := va_free (wc := (wX1 h cI cB g li kn mo fi sc sa nc)) hD hS hA [0, 1, 2, 3] rfl
  refine va_callv (va_runV (b := h) (As := []) (rest := []) ⟨hx, hb, hml, hown, hts⟩ (metX1_workOut l dC dI h s.heap.size cI cB g li kn mo fi sc sa nc ) (cwV 0 hts (lw_V q243 q245 qs16 q24 q246) rfl rfl rfl (by decide +kernel) ⟨Nat.le_of_ble_eq_true rfl, Nat.le_of_ble_eq_true rfl⟩) ⟨fun a U g mk q => by obtain ⟨q0, q1, qP, qK, qD⟩ := q; exact ⟨q0, q1, qP, va_K.moved (u := U) (U := U.calling g mk a) (Vm.Alike.refl U.vm) qK, qD⟩, va_recv hK hP (ci := 1) (q0 := 0) rfl rfl, fun U hU hW => ⟨rfl, by rw [hU], by rw [hU]; exact hP, va_K.moved hW.alike hK, hD.weaken (fun _ _ _ _ => trivial)⟩⟩ rfl rfl hl.1 rfl (lv_room (Nat.le_of_ble_eq_true rfl)) dX1_edges_1 ⟨Nat.le_of_ble_eq_true rfl, Nat.le_of_ble_eq_true rfl⟩) hS (fun q _ h => hFc q h) hFc (fun u t H1 locs ht hvm hw_1 hB hz1 hk1 hS => ?_)
  obtain ⟨kn_1, mo_1, fi_1⟩ := u
  obtain ⟨hP1, hK1, hD1⟩ := hB
  rw [ht] at hP1
  try dsimp only at hw_1
  have hP : va_P (dC, dI) vwCl (wX1 h cI cB g li kn_1 mo_1 fi_1 sc sa nc) H1 := hP1
  have hD : va_D A (wX1 h cI cB g li kn_1 mo_1 fi_1 sc sa nc) := hD1.weaken (fun _ q _ h => hFc q.1 h)
  generalize H1 = H at hP hS ⊢
  obtain ⟨f, hltf, hfe⟩ := WO_fi hw_1 hfi
  refine lv_aload_n hx hb dX1_edges_4 rfl (lv_at hl 0 rfl) ?_
  refine va_get (D := (dC, dI)) (ci := 1) (v := .int mo_1) (C := RX1) (T := TX1) (N := 7) hx hb hts in_X1 hown hK hP 0 rfl rfl 5 (by decide) (hts _ q180) (fun _ h9 => h9) rfl dX1_edges_5 ?_
  refine lv_ldc hx hb hown (hts _ q247) dX1_edges_8 ?_
  refine lv_icmp_ne (tgt := 16) hx hb dX1_edges_10 (by decide) (fun c_10 => ?_) (fun c_10 => ?_)
  · refine lv_iconst (v := nI 0) hx hb dX1_edges_16 (by decide) ?_
    refine lv_istore_n (lv' := [(1, .int (nI 0)), (0, .ref h)]) hx hb dX1_edges_17 rfl hl (by decide) rfl (fun ls hl => ?_)
    refine lv_iconst (v := nI 0) hx hb dX1_edges_18 (by decide) ?_
    refine lv_istore_n (lv' := [(2, .int (nI 0)), (1, .int (nI 0)), (0, .ref h)]) hx hb dX1_edges_19 rfl hl (by decide) rfl (fun ls hl => ?_)
    have loop_20 : ∀ (k_20 v : Nat) (n : Nat), v ≤ 4 → 4 + 1 ≤ v + k_20 → (n = lit (fun v n => n + szN (parN f v)) 0 v) → ∀ (H : Heap) (locs : List Loc), va_P (dC, dI) vwCl (wX1 h cI cB g li kn_1 mo_1 fi_1 sc sa nc) H → va_D A (wX1 h cI cB g li kn_1 mo_1 fi_1 sc sa nc) → va_S A s.heap H locs → ∀ (ls : Array Slot), lv_has ls 5 [(0, .ref h), (1, .int (nI n)), (2, .int (nI v))] → W p l e (headSpec (ws_ yX1_edges cX1_edges 5 (some .int)) ({ frames := 4, cells := 0, slots := 0, locals := 93 } : Room)).room s m ([.ref h] : List Value).toArray below meth c H locs 0 0 (MQ below (va_Qi (fun (r : Int32) (u : Int32 × Int32 × Int32) => WO li sa nc sc kn mo fi u ∧ r = if u.2.1 = -100000 then -100000 else nI (eg1N u.2.2.toNatClampNeg)) (fun (u : Int32 × Int32 × Int32) (t : State) => va_P (dC, dI) vwCl (wX1 h cI cB g li u.1 u.2.1 u.2.2 sc sa nc) t.heap ∧ va_K (dC, dI) vwCl [(cI, .int), (cB, .boolean)] t ∧ va_D A (wX1 h cI cB g li u.1 u.2.1 u.2.2 sc sa nc)) A) ([.ref h] : List Value).toArray s 0 0 A) (F0 m 20 ls []) := by
      intro k_20
      induction k_20 with
      | zero =>
        intro v n h1 h2
        exact absurd h2 (by omega)
      | succ k_20 ih_20 =>
        intro v n hi_20 hk_20 hinv_20 H locs hP hD hS ls hl
        refine lv_iload_n hx hb dX1_edges_20 rfl (lv_at hl 2 rfl) ?_
        refine lv_iconst (v := nI 4) hx hb dX1_edges_21 (by decide) ?_
        refine wk_icmp_ge (tgt := 53) hx hb dX1_edges_22 (by decide) (by omega) (by decide) (fun c_22 => ?_) (fun c_22 => ?_)
        · have he_v : v = 4 := by omega
          subst he_v
          refine lv_iload_n hx hb dX1_edges_53 rfl (lv_at hl 1 rfl) ?_
          exact W.iret (v := nI n) hx hb hr (fun T9 hT9 hW9 => ⟨⟨nI n, (kn_1, mo_1, fi_1), rfl, ⟨hw_1, by rw [if_neg c_10]; show _ = nI (eg1N (fi_1).toNatClampNeg); rw [show fi_1 = nI f from hfe, nI_clamp (by omega)]; unfold eg1N; rw [hinv_20]⟩, by rw [hT9]; exact hP, va_K.moved hW9.alike hK, hD⟩, hS.F hT9⟩) hS.2.2 dX1_edges_54
        · refine lv_aload_n hx hb dX1_edges_25 rfl (lv_at hl 0 rfl) ?_
          refine lv_aload_n hx hb dX1_edges_26 rfl (lv_at hl 0 rfl) ?_
          refine va_get (D := (dC, dI)) (ci := 1) (v := .int fi_1) (C := RX1) (T := TX1) (N := 7) hx hb hts in_X1 hown hK hP 0 rfl rfl 6 (by decide) (hts _ q181) (fun _ h9 => h9) rfl dX1_edges_27 ?_
          refine wk_top (show fi_1 = nI f from hfe) ?_
          refine lv_iload_n hx hb dX1_edges_30 rfl (lv_at hl 2 rfl) ?_
          refine vp_callSi (W.runV (b := h) (As := [.int (nI f), .int (nI v)]) (rest := []) ⟨hx, hb, hml, hown, hts⟩ (metX1_parentsOf l dC dI h 0 cI cB g li kn_1 mo_1 fi_1 sc sa nc f v hltf (by omega)) (cwV 2 hts (lw_V q163 q165 qs7 q24 q166) rfl rfl rfl (by decide +kernel) ⟨Nat.le_of_ble_eq_true rfl, Nat.le_of_ble_eq_true rfl⟩) ⟨fun a U g mk q => ⟨q.1, q.2.1, va_K.moved (u := U) (U := U.calling g mk a) (Vm.Alike.refl U.vm) q.2.2⟩, va_recv hK hP (ci := 1) (q0 := 0) rfl rfl, fun U hU hW => ⟨rfl, by rw [hU]; exact hP, va_K.moved hW.alike hK⟩⟩ rfl rfl hl.1 rfl (lv_room (Nat.le_of_ble_eq_true rfl)) dX1_edges_31 ⟨Nat.le_of_ble_eq_true rfl, Nat.le_of_ble_eq_true rfl⟩) (fun r hr_31 => ?_)
          have hr_31 : r = nI (parN f v) := hr_31
          subst hr_31
          have hp_31 := parN_lt f (v := v) (by omega)
          refine lv_istore_n (lv' := [(3, .int (nI (parN f v))), (0, .ref h), (1, .int (nI n)), (2, .int (nI v))]) hx hb dX1_edges_34 rfl hl (by decide) rfl (fun ls hl => ?_)
          refine lv_aload_n hx hb dX1_edges_35 rfl (lv_at hl 1 rfl) ?_
          refine lv_iload_n hx hb dX1_edges_36 rfl (lv_at hl 0 rfl) ?_
          refine vp_callSi (W.runV (b := h) (As := [.int (nI (parN f v))]) (rest := []) ⟨hx, hb, hml, hown, hts⟩ (metX1_bits l dC dI h 0 cI cB g li kn_1 mo_1 fi_1 sc sa nc (parN f v) hp_31) (cwV 1 hts (lw_V q226 q228 qs13 q24 q229) rfl rfl rfl (by decide +kernel) ⟨Nat.le_of_ble_eq_true rfl, Nat.le_of_ble_eq_true rfl⟩) ⟨fun a U g mk q => ⟨q.1, q.2.1, va_K.moved (u := U) (U := U.calling g mk a) (Vm.Alike.refl U.vm) q.2.2⟩, va_recv hK hP (ci := 1) (q0 := 0) rfl rfl, fun U hU hW => ⟨rfl, by rw [hU]; exact hP, va_K.moved hW.alike hK⟩⟩ rfl rfl hl.1 rfl (lv_room (Nat.le_of_ble_eq_true rfl)) dX1_edges_37 ⟨Nat.le_of_ble_eq_true rfl, Nat.le_of_ble_eq_true rfl⟩) (fun r hr_37 => ?_)
          have hr_37 : r = nI (szN (parN f v)) := hr_37
          subst hr_37
          refine lv_istore (lv' := [(4, .int (nI (szN (parN f v)))), (3, .int (nI (parN f v))), (0, .ref h), (1, .int (nI n)), (2, .int (nI v))]) hx hb dX1_edges_40 hl (by decide) rfl (fun ls hl => ?_)
          refine lv_iload_n hx hb dX1_edges_42 rfl (lv_at hl 3 rfl) ?_
          refine lv_iload hx hb dX1_edges_43 (lv_at hl 0 rfl) ?_
          refine wk_iadd hx hb dX1_edges_45 ?_
          refine lv_istore_n (lv' := [(1, .int (nI (n + (szN (parN f v))))), (4, .int (nI (szN (parN f v)))), (3, .int (nI (parN f v))), (0, .ref h), (2, .int (nI v))]) hx hb dX1_edges_46 rfl hl (by decide) rfl (fun ls hl => ?_)
          refine wk_iinc (lv' := [(2, .int (nI (v + 1))), (1, .int (nI (n + (szN (parN f v))))), (4, .int (nI (szN (parN f v)))), (3, .int (nI (parN f v))), (0, .ref h)]) hx hb dX1_edges_47 hl (k := 4) rfl (by decide) rfl (fun ls hl => ?_)
          refine lv_goto (tgt := 20) hx hb dX1_edges_50 (by decide) ?_
          exact ih_20 (v + 1) (n + (szN (parN f v))) (by omega) (by omega) (by rw [lit_succ, ← hinv_20]) _ _ hP hD hS ls (lv_sub hl [4, 1, 0] rfl)
    exact loop_20 (4 + 1) 0 0 (by omega) (by omega) rfl _ _ hP hD hS ls (lv_sub hl [2, 1, 0] rfl)
  · refine lv_ldc hx hb hown (hts _ q247) dX1_edges_13 ?_
    exact W.iret (v := (-100000)) hx hb hr (fun T9 hT9 hW9 => ⟨⟨(-100000), (kn_1, mo_1, fi_1), rfl, ⟨hw_1, by rw [if_pos c_10]⟩, by rw [hT9]; exact hP, va_K.moved hW9.alike hK, hD⟩, hS.F hT9⟩) hS.2.2 dX1_edges_15
end
section
set_option maxHeartbeats 4000000 in
set_option maxRecDepth 100000 in
theorem metX1_follows (l : Launch) (dC : Nat → ClassId) (dI : Nat → Nat → Nat) (h sz : Nat) (cI cB : ClassId) (g : Nat → Nat) (li kn mo fi : Int32) (sc sa nc : Nat → Int32) (z a1 a2 a3 a4 : Nat) (hz : z < 4096) (h1 : a1 < 4) (h2 : a2 < 4) (h3 : a3 < 4) (h4 : a4 < 4) : Met l yX1_follows (ws_ yX1_follows cX1_follows 9 (some .boolean)) ({ frames := 2, cells := 0, slots := 0, locals := 46 } : Room) (va_Pc [.ref h, .int (nI z), .int (nI a1), .int (nI a2), .int (nI a3), .int (nI a4)] (fun U => va_P (dC, dI) vwCl (wX1 h cI cB g li kn mo fi sc sa nc) U.heap ∧ va_K (dC, dI) vwCl [(cI, .int), (cB, .boolean)] U)) (vp_Si (fun r : Int32 => r = nI (folN z a1 a2 a3 a4))) 0 0 (fun _ => False) := by
  refine Met.ofW (cc := cX1_follows) (maxL := 9) (ret := (some .boolean)) (by decide) rfl ?_
  intro p e s m args below meth c s₁ B hml hpre
  obtain ⟨rfl, hP, hK⟩ := hpre
  have hx := B.exec
  have hb := B.bytes
  have hr := B.returns
  have hts := atoms_spec (ws := (ws_ yX1_follows cX1_follows 9 (some .boolean))) B.pre
  have hts : ∀ w ∈ lw_all, w.before _ s = true := fun w h => hts w (List.mem_cons_of_mem _ h)
  have hown : s.vm.findClass RX1 = some m.cls := findClass_of_methodNamed B.named
  have hlocks := B.notSynchronized
  have hl := lv_entry ([.ref h, .int (nI z), .int (nI a1), .int (nI a2), .int (nI a3), .int (nI a4)]) (n := 9) (Nat.le_of_ble_eq_true rfl)
  rw [lg_entry_eq]
  generalize (lg_sl ([.ref h, .int (nI z), .int (nI a1), .int (nI a2), .int (nI a3), .int (nI a4)]) ++ List.replicate (9 - (lg_sl ([.ref h, .int (nI z), .int (nI a1), .int (nI a2), .int (nI a3), .int (nI a4)])).length) Slot.unset).toArray = ls at hl ⊢
  have hl : lv_has ls 9 [(0, .ref h), (1, .int (nI z)), (2, .int (nI a1)), (3, .int (nI a2)), (4, .int (nI a3)), (5, .int (nI a4))] := hl
  refine lv_aload_n hx hb dX1_follows_0 rfl (lv_at hl 0 rfl) ?_
  refine lv_iload_n hx hb dX1_follows_1 rfl (lv_at hl 1 rfl) ?_
  refine lv_iload_n hx hb dX1_follows_2 rfl (lv_at hl 2 rfl) ?_
  refine vp_callSi (W.runV (b := h) (As := [.int (nI z), .int (nI a1)]) (rest := []) ⟨hx, hb, hml, hown, hts⟩ (metX1_parentsOf l dC dI h 0 cI cB g li kn mo fi sc sa nc z a1 hz h1) (cwV 2 hts (lw_V q163 q165 qs7 q24 q166) rfl rfl rfl (by decide +kernel) ⟨Nat.le_of_ble_eq_true rfl, Nat.le_of_ble_eq_true rfl⟩) ⟨fun a U g mk q => ⟨q.1, q.2.1, va_K.moved (u := U) (U := U.calling g mk a) (Vm.Alike.refl U.vm) q.2.2⟩, va_recv hK hP (ci := 1) (q0 := 0) rfl rfl, fun U hU hW => ⟨rfl, by rw [hU]; exact hP, va_K.moved hW.alike hK⟩⟩ rfl rfl hl.1 rfl (lv_room (Nat.le_of_ble_eq_true rfl)) dX1_follows_3 ⟨Nat.le_of_ble_eq_true rfl, Nat.le_of_ble_eq_true rfl⟩) (fun r hr_3 => ?_)
  have hr_3 : r = nI (parN z a1) := hr_3
  subst hr_3
  have hp_3 := parN_lt z h1
  refine lv_istore (lv' := [(6, .int (nI (parN z a1))), (0, .ref h), (1, .int (nI z)), (2, .int (nI a1)), (3, .int (nI a2)), (4, .int (nI a3)), (5, .int (nI a4))]) hx hb dX1_follows_6 hl (by decide) rfl (fun ls hl => ?_)
  refine lv_aload_n hx hb dX1_follows_8 rfl (lv_at hl 1 rfl) ?_
  refine lv_iload_n hx hb dX1_follows_9 rfl (lv_at hl 2 rfl) ?_
  refine lv_iload_n hx hb dX1_follows_10 rfl (lv_at hl 4 rfl) ?_
  refine vp_callSi (W.runV (b := h) (As := [.int (nI z), .int (nI a2)]) (rest := []) ⟨hx, hb, hml, hown, hts⟩ (metX1_parentsOf l dC dI h 0 cI cB g li kn mo fi sc sa nc z a2 hz h2) (cwV 2 hts (lw_V q163 q165 qs7 q24 q166) rfl rfl rfl (by decide +kernel) ⟨Nat.le_of_ble_eq_true rfl, Nat.le_of_ble_eq_true rfl⟩) ⟨fun a U g mk q => ⟨q.1, q.2.1, va_K.moved (u := U) (U := U.calling g mk a) (Vm.Alike.refl U.vm) q.2.2⟩, va_recv hK hP (ci := 1) (q0 := 0) rfl rfl, fun U hU hW => ⟨rfl, by rw [hU]; exact hP, va_K.moved hW.alike hK⟩⟩ rfl rfl hl.1 rfl (lv_room (Nat.le_of_ble_eq_true rfl)) dX1_follows_11 ⟨Nat.le_of_ble_eq_true rfl, Nat.le_of_ble_eq_true rfl⟩) (fun r hr_11 => ?_)
  have hr_11 : r = nI (parN z a2) := hr_11
  subst hr_11
  have hp_11 := parN_lt z h2
  refine lv_istore (lv' := [(7, .int (nI (parN z a2))), (6, .int (nI (parN z a1))), (0, .ref h), (1, .int (nI z)), (2, .int (nI a1)), (3, .int (nI a2)), (4, .int (nI a3)), (5, .int (nI a4))]) hx hb dX1_follows_14 hl (by decide) rfl (fun ls hl => ?_)
  refine lv_aload_n hx hb dX1_follows_16 rfl (lv_at hl 2 rfl) ?_
  refine lv_iload_n hx hb dX1_follows_17 rfl (lv_at hl 3 rfl) ?_
  refine lv_iload hx hb dX1_follows_18 (lv_at hl 6 rfl) ?_
  refine vp_callSi (W.runV (b := h) (As := [.int (nI z), .int (nI a3)]) (rest := []) ⟨hx, hb, hml, hown, hts⟩ (metX1_parentsOf l dC dI h 0 cI cB g li kn mo fi sc sa nc z a3 hz h3) (cwV 2 hts (lw_V q163 q165 qs7 q24 q166) rfl rfl rfl (by decide +kernel) ⟨Nat.le_of_ble_eq_true rfl, Nat.le_of_ble_eq_true rfl⟩) ⟨fun a U g mk q => ⟨q.1, q.2.1, va_K.moved (u := U) (U := U.calling g mk a) (Vm.Alike.refl U.vm) q.2.2⟩, va_recv hK hP (ci := 1) (q0 := 0) rfl rfl, fun U hU hW => ⟨rfl, by rw [hU]; exact hP, va_K.moved hW.alike hK⟩⟩ rfl rfl hl.1 rfl (lv_room (Nat.le_of_ble_eq_true rfl)) dX1_follows_20 ⟨Nat.le_of_ble_eq_true rfl, Nat.le_of_ble_eq_true rfl⟩) (fun r hr_20 => ?_)
  have hr_20 : r = nI (parN z a3) := hr_20
  subst hr_20
  have hp_20 := parN_lt z h3
  refine lv_istore (lv' := [(8, .int (nI (parN z a3))), (7, .int (nI (parN z a2))), (6, .int (nI (parN z a1))), (0, .ref h), (1, .int (nI z)), (2, .int (nI a1)), (3, .int (nI a2)), (4, .int (nI a3)), (5, .int (nI a4))]) hx hb dX1_follows_23 hl (by decide) rfl (fun ls hl => ?_)
  refine lv_iload hx hb dX1_follows_25 (lv_at hl 2 rfl) ?_
  refine wk_if_ne (tgt := 66) hx hb dX1_follows_27 (by decide) (by omega) (fun c_27 => ?_) (fun c_27 => ?_)
  · refine lv_iconst (v := nI 0) hx hb dX1_follows_66 (by decide) ?_
    exact W.zret (v := nI 0) hx hb hr rfl (fun T9 hT9 hW9 => ⟨nI 0, rfl, (by unfold folN; (repeat' split) <;> first | rfl | contradiction | omega), hT9⟩) (fun q h => absurd h List.not_mem_nil) dX1_follows_67
  · refine lv_iload hx hb dX1_follows_30 (lv_at hl 1 rfl) ?_
    refine lv_iconst (v := nI 1) hx hb dX1_follows_32 (by decide) ?_
    refine lv_iload_n hx hb dX1_follows_33 rfl (lv_at hl 5 rfl) ?_
    refine wk_ishl1 hx hb dX1_follows_34 (by omega) ?_
    refine lv_iconst (v := (-1)) hx hb dX1_follows_35 (by decide) ?_
    refine lv_ixor hx hb dX1_follows_36 ?_
    refine wk_iandn hx hb dX1_follows_37 ?_
    have hf_37 : (andn (parN z a2) (1 <<< a1)) ≤ (parN z a2) := andn_le _ _
    refine wk_if_ne (tgt := 66) hx hb dX1_follows_38 (by decide) (Nat.lt_of_le_of_lt (andn_le _ _) (by omega)) (fun c_38 => ?_) (fun c_38 => ?_)
    · refine lv_iconst (v := nI 0) hx hb dX1_follows_66 (by decide) ?_
      exact W.zret (v := nI 0) hx hb hr rfl (fun T9 hT9 hW9 => ⟨nI 0, rfl, (by unfold folN; (repeat' split) <;> first | rfl | contradiction | omega), hT9⟩) (fun q h => absurd h List.not_mem_nil) dX1_follows_67
    · refine lv_iload hx hb dX1_follows_41 (lv_at hl 0 rfl) ?_
      refine lv_iconst (v := nI 1) hx hb dX1_follows_43 (by decide) ?_
      refine lv_iload_n hx hb dX1_follows_44 rfl (lv_at hl 5 rfl) ?_
      refine wk_ishl1 hx hb dX1_follows_45 (by omega) ?_
      refine lv_iconst (v := nI 1) hx hb dX1_follows_46 (by decide) ?_
      refine lv_iload_n hx hb dX1_follows_47 rfl (lv_at hl 6 rfl) ?_
      refine wk_ishl1 hx hb dX1_follows_48 (by omega) ?_
      refine wk_ior hx hb dX1_follows_49 ?_
      refine lv_iconst (v := (-1)) hx hb dX1_follows_50 (by decide) ?_
      refine lv_ixor hx hb dX1_follows_51 ?_
      refine wk_iandn hx hb dX1_follows_52 ?_
      have hf_52 : (andn (parN z a3) ((1 <<< a1) ||| (1 <<< a2))) ≤ (parN z a3) := andn_le _ _
      refine wk_if_ne (tgt := 66) hx hb dX1_follows_53 (by decide) (Nat.lt_of_le_of_lt (andn_le _ _) (by omega)) (fun c_53 => ?_) (fun c_53 => ?_)
      · refine lv_iconst (v := nI 0) hx hb dX1_follows_66 (by decide) ?_
        exact W.zret (v := nI 0) hx hb hr rfl (fun T9 hT9 hW9 => ⟨nI 0, rfl, (by unfold folN; (repeat' split) <;> first | rfl | contradiction | omega), hT9⟩) (fun q h => absurd h List.not_mem_nil) dX1_follows_67
      · refine lv_iload hx hb dX1_follows_56 (lv_at hl 8 rfl) ?_
        refine lv_iload_n hx hb dX1_follows_58 rfl (lv_at hl 5 rfl) ?_
        refine wk_icmp_eq (tgt := 66) hx hb dX1_follows_59 (by decide) (by omega) (by omega) (fun c_59 => ?_) (fun c_59 => ?_)
        · refine lv_iconst (v := nI 0) hx hb dX1_follows_66 (by decide) ?_
          exact W.zret (v := nI 0) hx hb hr rfl (fun T9 hT9 hW9 => ⟨nI 0, rfl, (by unfold folN; (repeat' split) <;> first | rfl | contradiction | omega), hT9⟩) (fun q h => absurd h List.not_mem_nil) dX1_follows_67
        · refine lv_iconst (v := nI 1) hx hb dX1_follows_62 (by decide) ?_
          refine lv_goto (tgt := 67) hx hb dX1_follows_63 (by decide) ?_
          exact W.zret (v := nI 1) hx hb hr rfl (fun T9 hT9 hW9 => ⟨nI 1, rfl, (by unfold folN; (repeat' split) <;> first | rfl | contradiction | omega), hT9⟩) (fun q h => absurd h List.not_mem_nil) dX1_follows_67
set_option maxHeartbeats 4000000 in
set_option maxRecDepth 100000 in
theorem metX1_someFollows (l : Launch) (dC : Nat → ClassId) (dI : Nat → Nat → Nat) (h sz : Nat) (cI cB : ClassId) (g : Nat → Nat) (li kn mo fi : Int32) (sc sa nc : Nat → Int32) (a1 a2 a3 a4 : Nat) (h1 : a1 < 4) (h2 : a2 < 4) (h3 : a3 < 4) (h4 : a4 < 4) : Met l yX1_someFollows (ws_ yX1_someFollows cX1_someFollows 6 (some .boolean)) ({ frames := 3, cells := 0, slots := 0, locals := 74 } : Room) (va_Pc [.ref h, .int (nI a1), .int (nI a2), .int (nI a3), .int (nI a4)] (fun U => va_P (dC, dI) vwCl (wX1 h cI cB g li kn mo fi sc sa nc) U.heap ∧ va_K (dC, dI) vwCl [(cI, .int), (cB, .boolean)] U)) (vp_Si (fun r : Int32 => r = nI (sofN li mo sa nc sc a1 a2 a3 a4))) 0 0 (fun _ => False) := by
  refine Met.ofW (cc := cX1_someFollows) (maxL := 6) (ret := (some .boolean)) (by decide) rfl ?_
  intro p e s m args below meth c s₁ B hml hpre
  obtain ⟨rfl, hP, hK⟩ := hpre
  have hx := B.exec
  have hb := B.bytes
  have hr := B.returns
  have hts := atoms_spec (ws := (ws_ yX1_someFollows cX1_someFollows 6 (some .boolean))) B.pre
  have hts : ∀ w ∈ lw_all, w.before _ s = true := fun w h => hts w (List.mem_cons_of_mem _ h)
  have hown : s.vm.findClass RX1 = some m.cls := findClass_of_methodNamed B.named
  have hlocks := B.notSynchronized
  have hl := lv_entry ([.ref h, .int (nI a1), .int (nI a2), .int (nI a3), .int (nI a4)]) (n := 6) (Nat.le_of_ble_eq_true rfl)
  rw [lg_entry_eq]
  generalize (lg_sl ([.ref h, .int (nI a1), .int (nI a2), .int (nI a3), .int (nI a4)]) ++ List.replicate (6 - (lg_sl ([.ref h, .int (nI a1), .int (nI a2), .int (nI a3), .int (nI a4)])).length) Slot.unset).toArray = ls at hl ⊢
  have hl : lv_has ls 6 [(0, .ref h), (1, .int (nI a1)), (2, .int (nI a2)), (3, .int (nI a3)), (4, .int (nI a4))] := hl
  refine lv_iconst (v := nI 0) hx hb dX1_someFollows_0 (by decide) ?_
  refine lv_istore (lv' := [(5, .int (nI 0)), (0, .ref h), (1, .int (nI a1)), (2, .int (nI a2)), (3, .int (nI a3)), (4, .int (nI a4))]) hx hb dX1_someFollows_1 hl (by decide) rfl (fun ls hl => ?_)
  have loop_3 : ∀ (k_3 z : Nat), z ≤ 4096 → 4096 + 1 ≤ z + k_3 → (∀ k, k < z → ¬ sofP li mo sa nc sc a1 a2 a3 a4 k) → ∀ (ls : Array Slot), lv_has ls 6 [(0, .ref h), (1, .int (nI a1)), (2, .int (nI a2)), (3, .int (nI a3)), (4, .int (nI a4)), (5, .int (nI z))] → W p l e (headSpec (ws_ yX1_someFollows cX1_someFollows 6 (some .boolean)) ({ frames := 3, cells := 0, slots := 0, locals := 74 } : Room)).room s m ([.ref h, .int (nI a1), .int (nI a2), .int (nI a3), .int (nI a4)] : List Value).toArray below meth c s.heap [] 0 0 (MQ below (vp_Si (fun r : Int32 => r = nI (sofN li mo sa nc sc a1 a2 a3 a4))) ([.ref h, .int (nI a1), .int (nI a2), .int (nI a3), .int (nI a4)] : List Value).toArray s 0 0 (fun _ => False)) (F0 m 3 ls []) := by
    intro k_3
    induction k_3 with
    | zero =>
      intro z h1 h2
      exact absurd h2 (by omega)
    | succ k_3 ih_3 =>
      intro z hi_3 hk_3 hinv_3 ls hl
      refine lv_iload hx hb dX1_someFollows_3 (lv_at hl 5 rfl) ?_
      refine lv_sipush (v := nI 4096) hx hb dX1_someFollows_5 (by decide) ?_
      refine wk_icmp_ge (tgt := 55) hx hb dX1_someFollows_8 (by decide) (by omega) (by decide) (fun c_8 => ?_) (fun c_8 => ?_)
      · have he_z : z = 4096 := by omega
        subst he_z
        refine lv_iconst (v := nI 0) hx hb dX1_someFollows_55 (by decide) ?_
        exact W.zret (v := nI 0) hx hb hr rfl (fun T9 hT9 hW9 => ⟨nI 0, rfl, (by unfold sofN; rw [if_pos hinv_3]), hT9⟩) (fun q h => absurd h List.not_mem_nil) dX1_someFollows_56
      · refine lv_aload_n hx hb dX1_someFollows_11 rfl (lv_at hl 0 rfl) ?_
        refine lv_iload hx hb dX1_someFollows_12 (lv_at hl 5 rfl) ?_
        refine lv_iload_n hx hb dX1_someFollows_14 rfl (lv_at hl 1 rfl) ?_
        refine lv_iload_n hx hb dX1_someFollows_15 rfl (lv_at hl 2 rfl) ?_
        refine lv_iload_n hx hb dX1_someFollows_16 rfl (lv_at hl 3 rfl) ?_
        refine lv_iload hx hb dX1_someFollows_17 (lv_at hl 4 rfl) ?_
        refine vp_callSi (W.runV (b := h) (As := [.int (nI z), .int (nI a1), .int (nI a2), .int (nI a3), .int (nI a4)]) (rest := []) ⟨hx, hb, hml, hown, hts⟩ (metX1_follows l dC dI h 0 cI cB g li kn mo fi sc sa nc z a1 a2 a3 a4 (by omega) h1 h2 h3 h4) (cwV 5 hts (lw_V q284 q286 qs21 q24 q287) rfl rfl rfl (by decide +kernel) ⟨Nat.le_of_ble_eq_true rfl, Nat.le_of_ble_eq_true rfl⟩) ⟨fun a U g mk q => ⟨q.1, q.2.1, va_K.moved (u := U) (U := U.calling g mk a) (Vm.Alike.refl U.vm) q.2.2⟩, va_recv hK hP (ci := 1) (q0 := 0) rfl rfl, fun U hU hW => ⟨rfl, by rw [hU]; exact hP, va_K.moved hW.alike hK⟩⟩ rfl rfl hl.1 rfl (lv_room (Nat.le_of_ble_eq_true rfl)) dX1_someFollows_19 ⟨Nat.le_of_ble_eq_true rfl, Nat.le_of_ble_eq_true rfl⟩) (fun r hr_19 => ?_)
        have hr_19 : r = nI (folN z a1 a2 a3 a4) := hr_19
        subst hr_19
        refine wk_if_eq (tgt := 49) hx hb dX1_someFollows_22 (by decide) (by have := folN_le z a1 a2 a3 a4; omega) (fun c_22 => ?_) (fun c_22 => ?_)
        · refine wk_iinc (lv' := [(5, .int (nI (z + 1))), (0, .ref h), (1, .int (nI a1)), (2, .int (nI a2)), (3, .int (nI a3)), (4, .int (nI a4))]) hx hb dX1_someFollows_49 hl (k := 5) rfl (by decide) rfl (fun ls hl => ?_)
          refine lv_goto (tgt := 3) hx hb dX1_someFollows_52 (by decide) ?_
          exact ih_3 (z + 1) (by omega) (by omega) (lt_s (p := fun k => ¬ sofP li mo sa nc sc a1 a2 a3 a4 k) hinv_3 (fun q => q.1 c_22)) ls (lv_sub hl [1, 2, 3, 4, 5, 0] rfl)
        · refine lv_aload_n hx hb dX1_someFollows_25 rfl (lv_at hl 0 rfl) ?_
          refine lv_iload hx hb dX1_someFollows_26 (lv_at hl 5 rfl) ?_
          refine vp_callSi (W.runV (b := h) (As := [.int (nI z)]) (rest := []) ⟨hx, hb, hml, hown, hts⟩ (metX1_worth l dC dI h 0 cI cB g li kn mo fi sc sa nc z (by omega)) (cwV 1 hts (lw_V q252 q254 qs18 q24 q255) rfl rfl rfl (by decide +kernel) ⟨Nat.le_of_ble_eq_true rfl, Nat.le_of_ble_eq_true rfl⟩) ⟨fun a U g mk q => ⟨q.1, q.2.1, va_K.moved (u := U) (U := U.calling g mk a) (Vm.Alike.refl U.vm) q.2.2⟩, va_recv hK hP (ci := 1) (q0 := 0) rfl rfl, fun U hU hW => ⟨rfl, by rw [hU]; exact hP, va_K.moved hW.alike hK⟩⟩ rfl rfl hl.1 rfl (lv_room (Nat.le_of_ble_eq_true rfl)) dX1_someFollows_28 ⟨Nat.le_of_ble_eq_true rfl, Nat.le_of_ble_eq_true rfl⟩) (fun r hr_28 => ?_)
          have hr_28 : r = (worF sc z) := hr_28
          subst hr_28
          refine lv_aload_n hx hb dX1_someFollows_31 rfl (lv_at hl 0 rfl) ?_
          refine va_get (D := (dC, dI)) (ci := 1) (v := .int mo) (C := RX1) (T := TX1) (N := 7) hx hb hts in_X1 hown hK hP 0 rfl rfl 5 (by decide) (hts _ q180) (fun _ h9 => h9) rfl dX1_someFollows_32 ?_
          refine lv_icmp_ne (tgt := 49) hx hb dX1_someFollows_35 (by decide) (fun c_35 => ?_) (fun c_35 => ?_)
          · refine wk_iinc (lv' := [(5, .int (nI (z + 1))), (0, .ref h), (1, .int (nI a1)), (2, .int (nI a2)), (3, .int (nI a3)), (4, .int (nI a4))]) hx hb dX1_someFollows_49 hl (k := 5) rfl (by decide) rfl (fun ls hl => ?_)
            refine lv_goto (tgt := 3) hx hb dX1_someFollows_52 (by decide) ?_
            exact ih_3 (z + 1) (by omega) (by omega) (lt_s (p := fun k => ¬ sofP li mo sa nc sc a1 a2 a3 a4 k) hinv_3 (fun q => c_35 q.2.1)) ls (lv_sub hl [1, 2, 3, 4, 5, 0] rfl)
          · refine lv_aload_n hx hb dX1_someFollows_38 rfl (lv_at hl 0 rfl) ?_
            refine lv_iload hx hb dX1_someFollows_39 (lv_at hl 5 rfl) ?_
            refine vp_callSi (W.runV (b := h) (As := [.int (nI z)]) (rest := []) ⟨hx, hb, hml, hown, hts⟩ (metX1_allowed l dC dI h 0 cI cB g li kn mo fi sc sa nc z (by omega)) (cwV 1 hts (lw_V q248 q250 qs17 q24 q251) rfl rfl rfl (by decide +kernel) ⟨Nat.le_of_ble_eq_true rfl, Nat.le_of_ble_eq_true rfl⟩) ⟨fun a U g mk q => ⟨q.1, q.2.1, va_K.moved (u := U) (U := U.calling g mk a) (Vm.Alike.refl U.vm) q.2.2⟩, va_recv hK hP (ci := 1) (q0 := 0) rfl rfl, fun U hU hW => ⟨rfl, by rw [hU]; exact hP, va_K.moved hW.alike hK⟩⟩ rfl rfl hl.1 rfl (lv_room (Nat.le_of_ble_eq_true rfl)) dX1_someFollows_41 ⟨Nat.le_of_ble_eq_true rfl, Nat.le_of_ble_eq_true rfl⟩) (fun r hr_41 => ?_)
            have hr_41 : r = nI (alwN li sa nc z) := hr_41
            subst hr_41
            refine wk_if_eq (tgt := 49) hx hb dX1_someFollows_44 (by decide) (by have := alwN_le li sa nc z; omega) (fun c_44 => ?_) (fun c_44 => ?_)
            · refine wk_iinc (lv' := [(5, .int (nI (z + 1))), (0, .ref h), (1, .int (nI a1)), (2, .int (nI a2)), (3, .int (nI a3)), (4, .int (nI a4))]) hx hb dX1_someFollows_49 hl (k := 5) rfl (by decide) rfl (fun ls hl => ?_)
              refine lv_goto (tgt := 3) hx hb dX1_someFollows_52 (by decide) ?_
              exact ih_3 (z + 1) (by omega) (by omega) (lt_s (p := fun k => ¬ sofP li mo sa nc sc a1 a2 a3 a4 k) hinv_3 (fun q => q.2.2 c_44)) ls (lv_sub hl [1, 2, 3, 4, 5, 0] rfl)
            · refine lv_iconst (v := nI 1) hx hb dX1_someFollows_47 (by decide) ?_
              exact W.zret (v := nI 1) hx hb hr rfl (fun T9 hT9 hW9 => ⟨nI 1, rfl, (by unfold sofN; rw [if_neg (fun h => h z (by omega) ⟨c_22, c_35, c_44⟩)]), hT9⟩) (fun q h => absurd h List.not_mem_nil) dX1_someFollows_48
  exact loop_3 (4096 + 1) 0 (by omega) (by omega) (fun k hk => absurd hk (Nat.not_lt_zero k)) ls (lv_sub hl [1, 2, 3, 4, 5, 0] rfl)
set_option maxHeartbeats 4000000 in
set_option maxRecDepth 100000 in
theorem metX1_orders (l : Launch) (dC : Nat → ClassId) (dI : Nat → Nat → Nat) (h sz : Nat) (cI cB : ClassId) (g : Nat → Nat) (li kn mo fi : Int32) (sc sa nc : Nat → Int32) : Met l yX1_orders (ws_ yX1_orders cX1_orders 8 (some .int)) ({ frames := 4, cells := 0, slots := 0, locals := 99 } : Room) (va_Pc [.ref h] (fun U => U.heap.size = sz ∧ va_P (dC, dI) vwCl (wX1 h cI cB g li kn mo fi sc sa nc) U.heap ∧ va_K (dC, dI) vwCl [(cI, .int), (cB, .boolean)] U ∧ va_D (fun _ => True) (wX1 h cI cB g li kn mo fi sc sa nc))) (va_Qi (fun (r : Int32) (u : Int32 × Int32 × Int32) => WO li sa nc sc kn mo fi u ∧ r = if u.2.1 = -100000 then nI 0 else nI (ordN li u.2.1 sa nc sc)) (fun (u : Int32 × Int32 × Int32) (t : State) => va_P (dC, dI) vwCl (wX1 h cI cB g li u.1 u.2.1 u.2.2 sc sa nc) t.heap ∧ va_K (dC, dI) vwCl [(cI, .int), (cB, .boolean)] t ∧ va_D (va_A (wX1 h cI cB g li kn mo fi sc sa nc) sz) (wX1 h cI cB g li u.1 u.2.1 u.2.2 sc sa nc)) (va_A (wX1 h cI cB g li kn mo fi sc sa nc) sz)) 0 0 (va_A (wX1 h cI cB g li kn mo fi sc sa nc) sz) := by
  refine Met.ofW (cc := cX1_orders) (maxL := 8) (ret := (some .int)) (by decide) rfl ?_
  intro p e s m args below meth c s₁ B hml hpre
  obtain ⟨rfl, hsz, hP, hK, hD0⟩ := hpre
  have hx := B.exec
  have hb := B.bytes
  have hr := B.returns
  have hts := atoms_spec (ws := (ws_ yX1_orders cX1_orders 8 (some .int))) B.pre
  have hts : ∀ w ∈ lw_all, w.before _ s = true := fun w h => hts w (List.mem_cons_of_mem _ h)
  have hown : s.vm.findClass RX1 = some m.cls := findClass_of_methodNamed B.named
  have hlocks := B.notSynchronized
  subst hsz
  have hD := hD0.self (sz := s.heap.size)
  generalize hAe : va_A (wX1 h cI cB g li kn mo fi sc sa nc) s.heap.size = A at hD ⊢
  have hA : ∀ q : Nat, s.heap.size ≤ q → A q := fun q h => by rw [← hAe]; exact Or.inr h
  have hS : va_S A s.heap s.heap [] := va_S.rf
  have hl := lv_entry ([.ref h]) (n := 8) (Nat.le_of_ble_eq_true rfl)
  rw [lg_entry_eq]
  generalize (lg_sl ([.ref h]) ++ List.replicate (8 - (lg_sl ([.ref h])).length) Slot.unset).toArray = ls at hl ⊢
  have hl : lv_has ls 8 [(0, .ref h)] := hl
  refine lv_aload_n hx hb dX1_orders_0 rfl (lv_at hl 0 rfl) ?_
  have hFc := va_free (wc := (wX1 h cI cB g li kn mo fi sc sa nc)) hD hS hA [0, 1, 2, 3] rfl
  refine va_callv (va_runV (b := h) (As := []) (rest := []) ⟨hx, hb, hml, hown, hts⟩ (metX1_workOut l dC dI h s.heap.size cI cB g li kn mo fi sc sa nc ) (cwV 0 hts (lw_V q243 q245 qs16 q24 q246) rfl rfl rfl (by decide +kernel) ⟨Nat.le_of_ble_eq_true rfl, Nat.le_of_ble_eq_true rfl⟩) ⟨fun a U g mk q => by obtain ⟨q0, q1, qP, qK, qD⟩ := q; exact ⟨q0, q1, qP, va_K.moved (u := U) (U := U.calling g mk a) (Vm.Alike.refl U.vm) qK, qD⟩, va_recv hK hP (ci := 1) (q0 := 0) rfl rfl, fun U hU hW => ⟨rfl, by rw [hU], by rw [hU]; exact hP, va_K.moved hW.alike hK, hD.weaken (fun _ _ _ _ => trivial)⟩⟩ rfl rfl hl.1 rfl (lv_room (Nat.le_of_ble_eq_true rfl)) dX1_orders_1 ⟨Nat.le_of_ble_eq_true rfl, Nat.le_of_ble_eq_true rfl⟩) hS (fun q _ h => hFc q h) hFc (fun u t H1 locs ht hvm hw_1 hB hz1 hk1 hS => ?_)
  obtain ⟨kn_1, mo_1, fi_1⟩ := u
  obtain ⟨hP1, hK1, hD1⟩ := hB
  rw [ht] at hP1
  try dsimp only at hw_1
  have hP : va_P (dC, dI) vwCl (wX1 h cI cB g li kn_1 mo_1 fi_1 sc sa nc) H1 := hP1
  have hD : va_D A (wX1 h cI cB g li kn_1 mo_1 fi_1 sc sa nc) := hD1.weaken (fun _ q _ h => hFc q.1 h)
  generalize H1 = H at hP hS ⊢
  refine lv_aload_n hx hb dX1_orders_4 rfl (lv_at hl 0 rfl) ?_
  refine va_get (D := (dC, dI)) (ci := 1) (v := .int mo_1) (C := RX1) (T := TX1) (N := 7) hx hb hts in_X1 hown hK hP 0 rfl rfl 5 (by decide) (hts _ q180) (fun _ h9 => h9) rfl dX1_orders_5 ?_
  refine lv_ldc hx hb hown (hts _ q247) dX1_orders_8 ?_
  refine lv_icmp_ne (tgt := 15) hx hb dX1_orders_10 (by decide) (fun c_10 => ?_) (fun c_10 => ?_)
  · refine lv_iconst (v := nI 0) hx hb dX1_orders_15 (by decide) ?_
    refine lv_istore_n (lv' := [(1, .int (nI 0)), (0, .ref h)]) hx hb dX1_orders_16 rfl hl (by decide) rfl (fun ls hl => ?_)
    refine lv_iconst (v := nI 0) hx hb dX1_orders_17 (by decide) ?_
    refine lv_istore_n (lv' := [(2, .int (nI 0)), (1, .int (nI 0)), (0, .ref h)]) hx hb dX1_orders_18 rfl hl (by decide) rfl (fun ls hl => ?_)
    have loop_19 : ∀ (k_19 co : Nat) (n : Nat), co ≤ 256 → 256 + 1 ≤ co + k_19 → (n = lit (ordS li mo_1 sa nc sc) 0 co) → ∀ (H : Heap) (locs : List Loc), va_P (dC, dI) vwCl (wX1 h cI cB g li kn_1 mo_1 fi_1 sc sa nc) H → va_D A (wX1 h cI cB g li kn_1 mo_1 fi_1 sc sa nc) → va_S A s.heap H locs → ∀ (ls : Array Slot), lv_has ls 8 [(0, .ref h), (1, .int (nI n)), (2, .int (nI co))] → W p l e (headSpec (ws_ yX1_orders cX1_orders 8 (some .int)) ({ frames := 4, cells := 0, slots := 0, locals := 99 } : Room)).room s m ([.ref h] : List Value).toArray below meth c H locs 0 0 (MQ below (va_Qi (fun (r : Int32) (u : Int32 × Int32 × Int32) => WO li sa nc sc kn mo fi u ∧ r = if u.2.1 = -100000 then nI 0 else nI (ordN li u.2.1 sa nc sc)) (fun (u : Int32 × Int32 × Int32) (t : State) => va_P (dC, dI) vwCl (wX1 h cI cB g li u.1 u.2.1 u.2.2 sc sa nc) t.heap ∧ va_K (dC, dI) vwCl [(cI, .int), (cB, .boolean)] t ∧ va_D A (wX1 h cI cB g li u.1 u.2.1 u.2.2 sc sa nc)) A) ([.ref h] : List Value).toArray s 0 0 A) (F0 m 19 ls []) := by
      intro k_19
      induction k_19 with
      | zero =>
        intro co n h1 h2
        exact absurd h2 (by omega)
      | succ k_19 ih_19 =>
        intro co n hi_19 hk_19 hinv_19 H locs hP hD hS ls hl
        refine lv_iload_n hx hb dX1_orders_19 rfl (lv_at hl 2 rfl) ?_
        refine lv_sipush (v := nI 256) hx hb dX1_orders_20 (by decide) ?_
        refine wk_icmp_ge (tgt := 110) hx hb dX1_orders_23 (by decide) (by omega) (by decide) (fun c_23 => ?_) (fun c_23 => ?_)
        · have he_co : co = 256 := by omega
          subst he_co
          refine lv_iload_n hx hb dX1_orders_110 rfl (lv_at hl 1 rfl) ?_
          exact W.iret (v := nI n) hx hb hr (fun T9 hT9 hW9 => ⟨⟨nI n, (kn_1, mo_1, fi_1), rfl, ⟨hw_1, by rw [if_neg c_10]; unfold ordN; rw [hinv_19]⟩, by rw [hT9]; exact hP, va_K.moved hW9.alike hK, hD⟩, hS.F hT9⟩) hS.2.2 dX1_orders_111
        · refine lv_iload_n hx hb dX1_orders_26 rfl (lv_at hl 2 rfl) ?_
          refine lv_iconst (v := nI 3) hx hb dX1_orders_27 (by decide) ?_
          refine wk_iand hx hb dX1_orders_28 ?_
          have hf_28 : (co &&& 3) ≤ 3 := Nat.and_le_right
          refine lv_istore_n (lv' := [(3, .int (nI (co &&& 3))), (0, .ref h), (1, .int (nI n)), (2, .int (nI co))]) hx hb dX1_orders_29 rfl hl (by decide) rfl (fun ls hl => ?_)
          refine lv_iload_n hx hb dX1_orders_30 rfl (lv_at hl 3 rfl) ?_
          refine lv_iconst (v := nI 2) hx hb dX1_orders_31 (by decide) ?_
          refine wk_ishr hx hb dX1_orders_32 (by omega) (by omega) ?_
          refine lv_iconst (v := nI 3) hx hb dX1_orders_33 (by decide) ?_
          refine wk_iand hx hb dX1_orders_34 ?_
          have hf_34 : ((co >>> 2) &&& 3) ≤ 3 := Nat.and_le_right
          refine lv_istore (lv' := [(4, .int (nI ((co >>> 2) &&& 3))), (3, .int (nI (co &&& 3))), (0, .ref h), (1, .int (nI n)), (2, .int (nI co))]) hx hb dX1_orders_35 hl (by decide) rfl (fun ls hl => ?_)
          refine lv_iload_n hx hb dX1_orders_37 rfl (lv_at hl 4 rfl) ?_
          refine lv_iconst (v := nI 4) hx hb dX1_orders_38 (by decide) ?_
          refine wk_ishr hx hb dX1_orders_39 (by omega) (by omega) ?_
          refine lv_iconst (v := nI 3) hx hb dX1_orders_40 (by decide) ?_
          refine wk_iand hx hb dX1_orders_41 ?_
          have hf_41 : ((co >>> 4) &&& 3) ≤ 3 := Nat.and_le_right
          refine lv_istore (lv' := [(5, .int (nI ((co >>> 4) &&& 3))), (4, .int (nI ((co >>> 2) &&& 3))), (3, .int (nI (co &&& 3))), (0, .ref h), (1, .int (nI n)), (2, .int (nI co))]) hx hb dX1_orders_42 hl (by decide) rfl (fun ls hl => ?_)
          refine lv_iload_n hx hb dX1_orders_44 rfl (lv_at hl 5 rfl) ?_
          refine lv_bipush (v := nI 6) hx hb dX1_orders_45 (by decide) ?_
          refine wk_ishr hx hb dX1_orders_47 (by omega) (by omega) ?_
          refine lv_iconst (v := nI 3) hx hb dX1_orders_48 (by decide) ?_
          refine wk_iand hx hb dX1_orders_49 ?_
          have hf_49 : ((co >>> 6) &&& 3) ≤ 3 := Nat.and_le_right
          refine lv_istore (lv' := [(6, .int (nI ((co >>> 6) &&& 3))), (5, .int (nI ((co >>> 4) &&& 3))), (4, .int (nI ((co >>> 2) &&& 3))), (3, .int (nI (co &&& 3))), (0, .ref h), (1, .int (nI n)), (2, .int (nI co))]) hx hb dX1_orders_50 hl (by decide) rfl (fun ls hl => ?_)
          refine lv_iconst (v := nI 1) hx hb dX1_orders_52 (by decide) ?_
          refine lv_iload_n hx hb dX1_orders_53 rfl (lv_at hl 3 rfl) ?_
          refine wk_ishl1 hx hb dX1_orders_54 (by omega) ?_
          refine lv_iconst (v := nI 1) hx hb dX1_orders_55 (by decide) ?_
          refine lv_iload hx hb dX1_orders_56 (lv_at hl 2 rfl) ?_
          refine wk_ishl1 hx hb dX1_orders_58 (by omega) ?_
          refine wk_ior hx hb dX1_orders_59 ?_
          refine lv_iconst (v := nI 1) hx hb dX1_orders_60 (by decide) ?_
          refine lv_iload hx hb dX1_orders_61 (lv_at hl 1 rfl) ?_
          refine wk_ishl1 hx hb dX1_orders_63 (by omega) ?_
          refine wk_ior hx hb dX1_orders_64 ?_
          refine lv_iconst (v := nI 1) hx hb dX1_orders_65 (by decide) ?_
          refine lv_iload hx hb dX1_orders_66 (lv_at hl 0 rfl) ?_
          refine wk_ishl1 hx hb dX1_orders_68 (by omega) ?_
          refine wk_ior hx hb dX1_orders_69 ?_
          refine lv_bipush (v := nI 15) hx hb dX1_orders_70 (by decide) ?_
          refine wk_icmp_ne (tgt := 79) hx hb dX1_orders_72 (by decide) (Nat.or_lt_two_pow (n := 31) (Nat.or_lt_two_pow (n := 31) (Nat.or_lt_two_pow (n := 31) (wk_sh1 (by omega)) (wk_sh1 (by omega))) (wk_sh1 (by omega))) (wk_sh1 (by omega))) (by decide) (fun c_72 => ?_) (fun c_72 => ?_)
          · refine lv_iconst (v := nI 0) hx hb dX1_orders_79 (by decide) ?_
            refine lv_istore (lv' := [(7, .int (nI 0)), (6, .int (nI ((co >>> 6) &&& 3))), (5, .int (nI ((co >>> 4) &&& 3))), (4, .int (nI ((co >>> 2) &&& 3))), (3, .int (nI (co &&& 3))), (0, .ref h), (1, .int (nI n)), (2, .int (nI co))]) hx hb dX1_orders_80 hl (by decide) rfl (fun ls hl => ?_)
            refine lv_iload hx hb dX1_orders_82 (lv_at hl 0 rfl) ?_
            refine wk_if_eq (tgt := 104) hx hb dX1_orders_84 (by decide) (by decide) (fun c_84 => ?_) (fun c_84 => ?_)
            · refine wk_iinc (lv' := [(2, .int (nI (co + 1))), (7, .int (nI 0)), (6, .int (nI ((co >>> 6) &&& 3))), (5, .int (nI ((co >>> 4) &&& 3))), (4, .int (nI ((co >>> 2) &&& 3))), (3, .int (nI (co &&& 3))), (0, .ref h), (1, .int (nI n))]) hx hb dX1_orders_104 hl (k := 7) rfl (by decide) rfl (fun ls hl => ?_)
              refine lv_goto (tgt := 19) hx hb dX1_orders_107 (by decide) ?_
              exact ih_19 (co + 1) n (by omega) (by omega) (by rw [lit_succ, ← hinv_19]; unfold ordS; rw [if_neg c_72]) _ _ hP hD hS ls (lv_sub hl [6, 7, 0] rfl)
            · exact absurd c_84 (by decide)
          · refine lv_iconst (v := nI 1) hx hb dX1_orders_75 (by decide) ?_
            refine lv_goto (tgt := 80) hx hb dX1_orders_76 (by decide) ?_
            refine lv_istore (lv' := [(7, .int (nI 1)), (6, .int (nI ((co >>> 6) &&& 3))), (5, .int (nI ((co >>> 4) &&& 3))), (4, .int (nI ((co >>> 2) &&& 3))), (3, .int (nI (co &&& 3))), (0, .ref h), (1, .int (nI n)), (2, .int (nI co))]) hx hb dX1_orders_80 hl (by decide) rfl (fun ls hl => ?_)
            refine lv_iload hx hb dX1_orders_82 (lv_at hl 0 rfl) ?_
            refine wk_if_eq (tgt := 104) hx hb dX1_orders_84 (by decide) (by decide) (fun c_84 => ?_) (fun c_84 => ?_)
            · exact absurd c_84 (by decide)
            · refine lv_aload_n hx hb dX1_orders_87 rfl (lv_at hl 5 rfl) ?_
              refine lv_iload_n hx hb dX1_orders_88 rfl (lv_at hl 4 rfl) ?_
              refine lv_iload hx hb dX1_orders_89 (lv_at hl 3 rfl) ?_
              refine lv_iload hx hb dX1_orders_91 (lv_at hl 2 rfl) ?_
              refine lv_iload hx hb dX1_orders_93 (lv_at hl 1 rfl) ?_
              refine vp_callSi (W.runV (b := h) (As := [.int (nI (co &&& 3)), .int (nI ((co >>> 2) &&& 3)), .int (nI ((co >>> 4) &&& 3)), .int (nI ((co >>> 6) &&& 3))]) (rest := []) ⟨hx, hb, hml, hown, hts⟩ (metX1_someFollows l dC dI h 0 cI cB g li kn_1 mo_1 fi_1 sc sa nc (co &&& 3) ((co >>> 2) &&& 3) ((co >>> 4) &&& 3) ((co >>> 6) &&& 3) (by omega) (by omega) (by omega) (by omega)) (cwV 4 hts (lw_V q280 q282 qs20 q24 q283) rfl rfl rfl (by decide +kernel) ⟨Nat.le_of_ble_eq_true rfl, Nat.le_of_ble_eq_true rfl⟩) ⟨fun a U g mk q => ⟨q.1, q.2.1, va_K.moved (u := U) (U := U.calling g mk a) (Vm.Alike.refl U.vm) q.2.2⟩, va_recv hK hP (ci := 1) (q0 := 0) rfl rfl, fun U hU hW => ⟨rfl, by rw [hU]; exact hP, va_K.moved hW.alike hK⟩⟩ rfl rfl hl.1 rfl (lv_room (Nat.le_of_ble_eq_true rfl)) dX1_orders_95 ⟨Nat.le_of_ble_eq_true rfl, Nat.le_of_ble_eq_true rfl⟩) (fun r hr_95 => ?_)
              have hr_95 : r = nI (sofN li mo_1 sa nc sc (co &&& 3) ((co >>> 2) &&& 3) ((co >>> 4) &&& 3) ((co >>> 6) &&& 3)) := hr_95
              subst hr_95
              refine wk_if_eq (tgt := 104) hx hb dX1_orders_98 (by decide) (by have := sofN_le li mo_1 sa nc sc (co &&& 3) ((co >>> 2) &&& 3) ((co >>> 4) &&& 3) ((co >>> 6) &&& 3); omega) (fun c_98 => ?_) (fun c_98 => ?_)
              · refine wk_iinc (lv' := [(2, .int (nI (co + 1))), (7, .int (nI 1)), (6, .int (nI ((co >>> 6) &&& 3))), (5, .int (nI ((co >>> 4) &&& 3))), (4, .int (nI ((co >>> 2) &&& 3))), (3, .int (nI (co &&& 3))), (0, .ref h), (1, .int (nI n))]) hx hb dX1_orders_104 hl (k := 7) rfl (by decide) rfl (fun ls hl => ?_)
                refine lv_goto (tgt := 19) hx hb dX1_orders_107 (by decide) ?_
                exact ih_19 (co + 1) n (by omega) (by omega) (by rw [lit_succ, ← hinv_19]; unfold ordS; rw [if_pos c_72, if_pos c_98]) _ _ hP hD hS ls (lv_sub hl [6, 7, 0] rfl)
              · refine wk_iinc (lv' := [(1, .int (nI (n + 1))), (7, .int (nI 1)), (6, .int (nI ((co >>> 6) &&& 3))), (5, .int (nI ((co >>> 4) &&& 3))), (4, .int (nI ((co >>> 2) &&& 3))), (3, .int (nI (co &&& 3))), (0, .ref h), (2, .int (nI co))]) hx hb dX1_orders_101 hl (k := 6) rfl (by decide) rfl (fun ls hl => ?_)
                refine wk_iinc (lv' := [(2, .int (nI (co + 1))), (1, .int (nI (n + 1))), (7, .int (nI 1)), (6, .int (nI ((co >>> 6) &&& 3))), (5, .int (nI ((co >>> 4) &&& 3))), (4, .int (nI ((co >>> 2) &&& 3))), (3, .int (nI (co &&& 3))), (0, .ref h)]) hx hb dX1_orders_104 hl (k := 7) rfl (by decide) rfl (fun ls hl => ?_)
                refine lv_goto (tgt := 19) hx hb dX1_orders_107 (by decide) ?_
                exact ih_19 (co + 1) (n + 1) (by omega) (by omega) (by rw [lit_succ, ← hinv_19]; unfold ordS; rw [if_pos c_72, if_neg c_98]) _ _ hP hD hS ls (lv_sub hl [7, 1, 0] rfl)
    exact loop_19 (256 + 1) 0 0 (by omega) (by omega) rfl _ _ hP hD hS ls (lv_sub hl [2, 1, 0] rfl)
  · refine lv_iconst (v := nI 0) hx hb dX1_orders_13 (by decide) ?_
    exact W.iret (v := nI 0) hx hb hr (fun T9 hT9 hW9 => ⟨⟨nI 0, (kn_1, mo_1, fi_1), rfl, ⟨hw_1, by rw [if_pos c_10]⟩, by rw [hT9]; exact hP, va_K.moved hW9.alike hK, hD⟩, hS.F hT9⟩) hS.2.2 dX1_orders_14
end
section
/-- which structures have no circle -/
def ncF : Nat → Int32 := fun z => nI (1 - circ z)
theorem circ_1 {z : Nat} (h : ¬ circ z = 0) : circ z = 1 := by
  unfold circ at h ⊢
  split at h
  · exact absurd rfl h
  · rename_i h2; rw [if_neg h2]
theorem nc_step {z : Nat} {n1 : Nat → Int32} {x : Int32} (h : ∀ k, k < z → n1 k = ncF k) (hx : x = ncF z) : ∀ k, k < z + 1 → upd n1 z x k = ncF k := by
  intro k hk
  by_cases e : k = z
  · subst e; rw [upd_s]; exact hx
  · rw [upd_n e]; exact h k (by omega)
set_option maxHeartbeats 4000000 in
set_option maxRecDepth 100000 in
theorem metX0_init (l : Launch) (dC : Nat → ClassId) (dI : Nat → Nat → Nat) (h sz : Nat) : Met l yX0_init (ws_ yX0_init cX0_init 1 none) ({ frames := 1, cells := 9, slots := 180, locals := 21 } : Room) (va_Pc [.ref h] (fun U => U.heap.size = sz ∧ va_P (dC, dI) vwCl [(h, .inr (0, [.null, .int 0, .null, .null, .null, .null, .null, .null, .null, .null]))] U.heap ∧ va_K (dC, dI) vwCl [] U ∧ va_D (fun _ => True) [(h, .inr (0, [.null, .int 0, .null, .null, .null, .null, .null, .null, .null, .null]))])) (va_Qv (fun (_ : ClassId × (Nat → Nat)) => True) (fun (u : ClassId × (Nat → Nat)) (t : State) => va_P (dC, dI) vwCl (wX0 h u.1 u.2 (nI 3) c0 c0 c0 cM c0 c0 c0 c0 c0) t.heap ∧ va_K (dC, dI) vwCl [(u.1, .int)] t ∧ va_D (va_A [(h, .inr (0, [.null, .int 0, .null, .null, .null, .null, .null, .null, .null, .null]))] sz) (wX0 h u.1 u.2 (nI 3) c0 c0 c0 cM c0 c0 c0 c0 c0)) (va_A [(h, .inr (0, [.null, .int 0, .null, .null, .null, .null, .null, .null, .null, .null]))] sz)) 9 180 (va_A [(h, .inr (0, [.null, .int 0, .null, .null, .null, .null, .null, .null, .null, .null]))] sz) := by
  refine Met.ofW (cc := cX0_init) (maxL := 1) (ret := none) (by decide) rfl ?_
  intro p e s m args below meth c s₁ B hml hpre
  obtain ⟨rfl, hsz, hP, hK, hD0⟩ := hpre
  have hx := B.exec
  have hb := B.bytes
  have hr := B.returns
  have hts := atoms_spec (ws := (ws_ yX0_init cX0_init 1 none)) B.pre
  have hts : ∀ w ∈ lw_all, w.before _ s = true := fun w h => hts w (List.mem_cons_of_mem _ h)
  have hown : s.vm.findClass RX0 = some m.cls := findClass_of_methodNamed B.named
  have hlocks := B.notSynchronized
  have hin : meth.name = "<init>" := (name_of_methodNamed B.named B.method).1
  subst hsz
  have hD := hD0.self (sz := s.heap.size)
  generalize hAe : va_A [(h, .inr (0, [.null, .int 0, .null, .null, .null, .null, .null, .null, .null, .null]))] s.heap.size = A at hD ⊢
  have hA : ∀ q : Nat, s.heap.size ≤ q → A q := fun q h => by rw [← hAe]; exact Or.inr h
  have hS : va_S A s.heap s.heap [] := va_S.rf
  have hl := lv_entry ([.ref h]) (n := 1) (Nat.le_of_ble_eq_true rfl)
  rw [lg_entry_eq]
  generalize (lg_sl ([.ref h]) ++ List.replicate (1 - (lg_sl ([.ref h])).length) Slot.unset).toArray = ls at hl ⊢
  have hl : lv_has ls 1 [(0, .ref h)] := hl
  refine lv_aload_n hx hb dX0_init_0 rfl (lv_at hl 0 rfl) ?_
  refine W.objInit hx hb hown (hts _ q30) (hts _ q31) (hts _ q32) rfl (by rw [hml]; exact hl.1) rfl dX0_init_1 (Nat.le_of_ble_eq_true rfl) (Nat.le_of_ble_eq_true rfl) ?_
  refine W.eq (g2 := F0 m 4 ls []) rfl ?_
  refine lv_aload_n hx hb dX0_init_4 rfl (lv_at hl 0 rfl) ?_
  refine lv_bipush (v := nI 64) hx hb dX0_init_5 (by decide) ?_
  refine va_newa (a0 := (64, .inl c0)) (N' := 64) (ty := .int) (atype := .int) hx hb (hts _ q68) rfl hK hP hD hS hA (fun cA => rfl) (by decide) (by decide) (by decide) (Nat.le_of_ble_eq_true rfl) (Nat.le_of_ble_eq_true rfl) dX0_init_7 (fun q1 cA1 H hK hP hD hS => ?_)
  obtain ⟨cI, eA1⟩ : ∃ z : ClassId, z = cA1 := ⟨_, rfl⟩
  subst eA1
  have hK := hK.sub (tys' := [(cI, .int)]) [0] rfl
  have hP : va_P (dC, dI) vwCl [(h, .inr (0, [.null, .int 0, .null, .null, .null, .null, .null, .null, .null, .null])), (q1, .inl (cI, 64, .inl c0))] H := hP
  have hD : va_D A [(h, .inr (0, [.null, .int 0, .null, .null, .null, .null, .null, .null, .null, .null])), (q1, .inl (cI, 64, .inl c0))] := hD
  refine va_putF (D := (dC, dI)) (ci := 0) (v := .ref q1) (ty := .array .int) (C := RX0) (T := TX0) (N := 10) hx hb hts in_X0 tyX0 tyX0_ok nmX0 hown hK hP hD hS 0 rfl rfl 0 (by decide) (hts _ q37) (fun _ h9 => h9) rfl hin rfl (by decide +kernel) rfl rfl (Nat.le_of_ble_eq_true rfl) dX0_init_9 (fun H locs hP hD hS => ?_)
  have hP : va_P (dC, dI) vwCl [(h, .inr (0, [.ref q1, .int 0, .null, .null, .null, .null, .null, .null, .null, .null])), (q1, .inl (cI, 64, .inl c0))] H := hP
  have hD : va_D A [(h, .inr (0, [.ref q1, .int 0, .null, .null, .null, .null, .null, .null, .null, .null])), (q1, .inl (cI, 64, .inl c0))] := hD
  refine lv_aload_n hx hb dX0_init_12 rfl (lv_at hl 0 rfl) ?_
  refine lv_iconst (v := nI 4) hx hb dX0_init_13 (by decide) ?_
  refine va_newa (a0 := (4, .inl c0)) (N' := 4) (ty := .int) (atype := .int) hx hb (hts _ q68) rfl hK hP hD hS hA (fun cA => rfl) (by decide) (by decide) (by decide) (Nat.le_of_ble_eq_true rfl) (Nat.le_of_ble_eq_true rfl) dX0_init_14 (fun q2 cA2 H hK hP hD hS => ?_)
  have eA2 : cI = cA2 := Option.some.inj ((va_nm_int (hK.2 0 _ rfl).2).symm.trans (va_nm_int (hK.2 1 _ rfl).2))
  subst eA2
  have hK := hK.sub (tys' := [(cI, .int)]) [0] rfl
  have hP : va_P (dC, dI) vwCl [(h, .inr (0, [.ref q1, .int 0, .null, .null, .null, .null, .null, .null, .null, .null])), (q1, .inl (cI, 64, .inl c0)), (q2, .inl (cI, 4, .inl c0))] H := hP
  have hD : va_D A [(h, .inr (0, [.ref q1, .int 0, .null, .null, .null, .null, .null, .null, .null, .null])), (q1, .inl (cI, 64, .inl c0)), (q2, .inl (cI, 4, .inl c0))] := hD
  refine va_putF (D := (dC, dI)) (ci := 0) (v := .ref q2) (ty := .array .int) (C := RX0) (T := TX0) (N := 10) hx hb hts in_X0 tyX0 tyX0_ok nmX0 hown hK hP hD hS 0 rfl rfl 2 (by decide) (hts _ q39) (fun _ h9 => h9) rfl hin rfl (by decide +kernel) rfl rfl (Nat.le_of_ble_eq_true rfl) dX0_init_16 (fun H locs hP hD hS => ?_)
  have hP : va_P (dC, dI) vwCl [(h, .inr (0, [.ref q1, .int 0, .ref q2, .null, .null, .null, .null, .null, .null, .null])), (q1, .inl (cI, 64, .inl c0)), (q2, .inl (cI, 4, .inl c0))] H := hP
  have hD : va_D A [(h, .inr (0, [.ref q1, .int 0, .ref q2, .null, .null, .null, .null, .null, .null, .null])), (q1, .inl (cI, 64, .inl c0)), (q2, .inl (cI, 4, .inl c0))] := hD
  refine lv_aload_n hx hb dX0_init_19 rfl (lv_at hl 0 rfl) ?_
  refine lv_iconst (v := nI 4) hx hb dX0_init_20 (by decide) ?_
  refine va_newa (a0 := (4, .inl c0)) (N' := 4) (ty := .int) (atype := .int) hx hb (hts _ q68) rfl hK hP hD hS hA (fun cA => rfl) (by decide) (by decide) (by decide) (Nat.le_of_ble_eq_true rfl) (Nat.le_of_ble_eq_true rfl) dX0_init_21 (fun q3 cA3 H hK hP hD hS => ?_)
  have eA3 : cI = cA3 := Option.some.inj ((va_nm_int (hK.2 0 _ rfl).2).symm.trans (va_nm_int (hK.2 1 _ rfl).2))
  subst eA3
  have hK := hK.sub (tys' := [(cI, .int)]) [0] rfl
  have hP : va_P (dC, dI) vwCl [(h, .inr (0, [.ref q1, .int 0, .ref q2, .null, .null, .null, .null, .null, .null, .null])), (q1, .inl (cI, 64, .inl c0)), (q2, .inl (cI, 4, .inl c0)), (q3, .inl (cI, 4, .inl c0))] H := hP
  have hD : va_D A [(h, .inr (0, [.ref q1, .int 0, .ref q2, .null, .null, .null, .null, .null, .null, .null])), (q1, .inl (cI, 64, .inl c0)), (q2, .inl (cI, 4, .inl c0)), (q3, .inl (cI, 4, .inl c0))] := hD
  refine va_putF (D := (dC, dI)) (ci := 0) (v := .ref q3) (ty := .array .int) (C := RX0) (T := TX0) (N := 10) hx hb hts in_X0 tyX0 tyX0_ok nmX0 hown hK hP hD hS 0 rfl rfl 3 (by decide) (hts _ q40) (fun _ h9 => h9) rfl hin rfl (by decide +kernel) rfl rfl (Nat.le_of_ble_eq_true rfl) dX0_init_23 (fun H locs hP hD hS => ?_)
  have hP : va_P (dC, dI) vwCl [(h, .inr (0, [.ref q1, .int 0, .ref q2, .ref q3, .null, .null, .null, .null, .null, .null])), (q1, .inl (cI, 64, .inl c0)), (q2, .inl (cI, 4, .inl c0)), (q3, .inl (cI, 4, .inl c0))] H := hP
  have hD : va_D A [(h, .inr (0, [.ref q1, .int 0, .ref q2, .ref q3, .null, .null, .null, .null, .null, .null])), (q1, .inl (cI, 64, .inl c0)), (q2, .inl (cI, 4, .inl c0)), (q3, .inl (cI, 4, .inl c0))] := hD
  refine lv_aload_n hx hb dX0_init_26 rfl (lv_at hl 0 rfl) ?_
  refine lv_iconst (v := nI 4) hx hb dX0_init_27 (by decide) ?_
  refine va_newa (a0 := (4, .inl c0)) (N' := 4) (ty := .int) (atype := .int) hx hb (hts _ q68) rfl hK hP hD hS hA (fun cA => rfl) (by decide) (by decide) (by decide) (Nat.le_of_ble_eq_true rfl) (Nat.le_of_ble_eq_true rfl) dX0_init_28 (fun q4 cA4 H hK hP hD hS => ?_)
  have eA4 : cI = cA4 := Option.some.inj ((va_nm_int (hK.2 0 _ rfl).2).symm.trans (va_nm_int (hK.2 1 _ rfl).2))
  subst eA4
  have hK := hK.sub (tys' := [(cI, .int)]) [0] rfl
  have hP : va_P (dC, dI) vwCl [(h, .inr (0, [.ref q1, .int 0, .ref q2, .ref q3, .null, .null, .null, .null, .null, .null])), (q1, .inl (cI, 64, .inl c0)), (q2, .inl (cI, 4, .inl c0)), (q3, .inl (cI, 4, .inl c0)), (q4, .inl (cI, 4, .inl c0))] H := hP
  have hD : va_D A [(h, .inr (0, [.ref q1, .int 0, .ref q2, .ref q3, .null, .null, .null, .null, .null, .null])), (q1, .inl (cI, 64, .inl c0)), (q2, .inl (cI, 4, .inl c0)), (q3, .inl (cI, 4, .inl c0)), (q4, .inl (cI, 4, .inl c0))] := hD
  refine va_putF (D := (dC, dI)) (ci := 0) (v := .ref q4) (ty := .array .int) (C := RX0) (T := TX0) (N := 10) hx hb hts in_X0 tyX0 tyX0_ok nmX0 hown hK hP hD hS 0 rfl rfl 4 (by decide) (hts _ q41) (fun _ h9 => h9) rfl hin rfl (by decide +kernel) rfl rfl (Nat.le_of_ble_eq_true rfl) dX0_init_30 (fun H locs hP hD hS => ?_)
  have hP : va_P (dC, dI) vwCl [(h, .inr (0, [.ref q1, .int 0, .ref q2, .ref q3, .ref q4, .null, .null, .null, .null, .null])), (q1, .inl (cI, 64, .inl c0)), (q2, .inl (cI, 4, .inl c0)), (q3, .inl (cI, 4, .inl c0)), (q4, .inl (cI, 4, .inl c0))] H := hP
  have hD : va_D A [(h, .inr (0, [.ref q1, .int 0, .ref q2, .ref q3, .ref q4, .null, .null, .null, .null, .null])), (q1, .inl (cI, 64, .inl c0)), (q2, .inl (cI, 4, .inl c0)), (q3, .inl (cI, 4, .inl c0)), (q4, .inl (cI, 4, .inl c0))] := hD
  refine lv_aload_n hx hb dX0_init_33 rfl (lv_at hl 0 rfl) ?_
  refine lv_iconst (v := nI 4) hx hb dX0_init_34 (by decide) ?_
  refine va_newa (a0 := (4, .inl c0)) (N' := 4) (ty := .int) (atype := .int) hx hb (hts _ q68) rfl hK hP hD hS hA (fun cA => rfl) (by decide) (by decide) (by decide) (Nat.le_of_ble_eq_true rfl) (Nat.le_of_ble_eq_true rfl) dX0_init_35 (fun q5 cA5 H hK hP hD hS => ?_)
  have eA5 : cI = cA5 := Option.some.inj ((va_nm_int (hK.2 0 _ rfl).2).symm.trans (va_nm_int (hK.2 1 _ rfl).2))
  subst eA5
  have hK := hK.sub (tys' := [(cI, .int)]) [0] rfl
  have hP : va_P (dC, dI) vwCl [(h, .inr (0, [.ref q1, .int 0, .ref q2, .ref q3, .ref q4, .null, .null, .null, .null, .null])), (q1, .inl (cI, 64, .inl c0)), (q2, .inl (cI, 4, .inl c0)), (q3, .inl (cI, 4, .inl c0)), (q4, .inl (cI, 4, .inl c0)), (q5, .inl (cI, 4, .inl c0))] H := hP
  have hD : va_D A [(h, .inr (0, [.ref q1, .int 0, .ref q2, .ref q3, .ref q4, .null, .null, .null, .null, .null])), (q1, .inl (cI, 64, .inl c0)), (q2, .inl (cI, 4, .inl c0)), (q3, .inl (cI, 4, .inl c0)), (q4, .inl (cI, 4, .inl c0)), (q5, .inl (cI, 4, .inl c0))] := hD
  refine va_putF (D := (dC, dI)) (ci := 0) (v := .ref q5) (ty := .array .int) (C := RX0) (T := TX0) (N := 10) hx hb hts in_X0 tyX0 tyX0_ok nmX0 hown hK hP hD hS 0 rfl rfl 5 (by decide) (hts _ q42) (fun _ h9 => h9) rfl hin rfl (by decide +kernel) rfl rfl (Nat.le_of_ble_eq_true rfl) dX0_init_37 (fun H locs hP hD hS => ?_)
  have hP : va_P (dC, dI) vwCl [(h, .inr (0, [.ref q1, .int 0, .ref q2, .ref q3, .ref q4, .ref q5, .null, .null, .null, .null])), (q1, .inl (cI, 64, .inl c0)), (q2, .inl (cI, 4, .inl c0)), (q3, .inl (cI, 4, .inl c0)), (q4, .inl (cI, 4, .inl c0)), (q5, .inl (cI, 4, .inl c0))] H := hP
  have hD : va_D A [(h, .inr (0, [.ref q1, .int 0, .ref q2, .ref q3, .ref q4, .ref q5, .null, .null, .null, .null])), (q1, .inl (cI, 64, .inl c0)), (q2, .inl (cI, 4, .inl c0)), (q3, .inl (cI, 4, .inl c0)), (q4, .inl (cI, 4, .inl c0)), (q5, .inl (cI, 4, .inl c0))] := hD
  refine lv_aload_n hx hb dX0_init_40 rfl (lv_at hl 0 rfl) ?_
  refine lv_iconst (v := nI 4) hx hb dX0_init_41 (by decide) ?_
  refine va_newa (a0 := (4, .inl c0)) (N' := 4) (ty := .int) (atype := .int) hx hb (hts _ q68) rfl hK hP hD hS hA (fun cA => rfl) (by decide) (by decide) (by decide) (Nat.le_of_ble_eq_true rfl) (Nat.le_of_ble_eq_true rfl) dX0_init_42 (fun q6 cA6 H hK hP hD hS => ?_)
  have eA6 : cI = cA6 := Option.some.inj ((va_nm_int (hK.2 0 _ rfl).2).symm.trans (va_nm_int (hK.2 1 _ rfl).2))
  subst eA6
  have hK := hK.sub (tys' := [(cI, .int)]) [0] rfl
  have hP : va_P (dC, dI) vwCl [(h, .inr (0, [.ref q1, .int 0, .ref q2, .ref q3, .ref q4, .ref q5, .null, .null, .null, .null])), (q1, .inl (cI, 64, .inl c0)), (q2, .inl (cI, 4, .inl c0)), (q3, .inl (cI, 4, .inl c0)), (q4, .inl (cI, 4, .inl c0)), (q5, .inl (cI, 4, .inl c0)), (q6, .inl (cI, 4, .inl c0))] H := hP
  have hD : va_D A [(h, .inr (0, [.ref q1, .int 0, .ref q2, .ref q3, .ref q4, .ref q5, .null, .null, .null, .null])), (q1, .inl (cI, 64, .inl c0)), (q2, .inl (cI, 4, .inl c0)), (q3, .inl (cI, 4, .inl c0)), (q4, .inl (cI, 4, .inl c0)), (q5, .inl (cI, 4, .inl c0)), (q6, .inl (cI, 4, .inl c0))] := hD
  refine va_putF (D := (dC, dI)) (ci := 0) (v := .ref q6) (ty := .array .int) (C := RX0) (T := TX0) (N := 10) hx hb hts in_X0 tyX0 tyX0_ok nmX0 hown hK hP hD hS 0 rfl rfl 6 (by decide) (hts _ q43) (fun _ h9 => h9) rfl hin rfl (by decide +kernel) rfl rfl (Nat.le_of_ble_eq_true rfl) dX0_init_44 (fun H locs hP hD hS => ?_)
  have hP : va_P (dC, dI) vwCl [(h, .inr (0, [.ref q1, .int 0, .ref q2, .ref q3, .ref q4, .ref q5, .ref q6, .null, .null, .null])), (q1, .inl (cI, 64, .inl c0)), (q2, .inl (cI, 4, .inl c0)), (q3, .inl (cI, 4, .inl c0)), (q4, .inl (cI, 4, .inl c0)), (q5, .inl (cI, 4, .inl c0)), (q6, .inl (cI, 4, .inl c0))] H := hP
  have hD : va_D A [(h, .inr (0, [.ref q1, .int 0, .ref q2, .ref q3, .ref q4, .ref q5, .ref q6, .null, .null, .null])), (q1, .inl (cI, 64, .inl c0)), (q2, .inl (cI, 4, .inl c0)), (q3, .inl (cI, 4, .inl c0)), (q4, .inl (cI, 4, .inl c0)), (q5, .inl (cI, 4, .inl c0)), (q6, .inl (cI, 4, .inl c0))] := hD
  refine lv_aload_n hx hb dX0_init_47 rfl (lv_at hl 0 rfl) ?_
  refine lv_bipush (v := nI 64) hx hb dX0_init_48 (by decide) ?_
  refine va_newa (a0 := (64, .inl c0)) (N' := 64) (ty := .int) (atype := .int) hx hb (hts _ q68) rfl hK hP hD hS hA (fun cA => rfl) (by decide) (by decide) (by decide) (Nat.le_of_ble_eq_true rfl) (Nat.le_of_ble_eq_true rfl) dX0_init_50 (fun q7 cA7 H hK hP hD hS => ?_)
  have eA7 : cI = cA7 := Option.some.inj ((va_nm_int (hK.2 0 _ rfl).2).symm.trans (va_nm_int (hK.2 1 _ rfl).2))
  subst eA7
  have hK := hK.sub (tys' := [(cI, .int)]) [0] rfl
  have hP : va_P (dC, dI) vwCl [(h, .inr (0, [.ref q1, .int 0, .ref q2, .ref q3, .ref q4, .ref q5, .ref q6, .null, .null, .null])), (q1, .inl (cI, 64, .inl c0)), (q2, .inl (cI, 4, .inl c0)), (q3, .inl (cI, 4, .inl c0)), (q4, .inl (cI, 4, .inl c0)), (q5, .inl (cI, 4, .inl c0)), (q6, .inl (cI, 4, .inl c0)), (q7, .inl (cI, 64, .inl c0))] H := hP
  have hD : va_D A [(h, .inr (0, [.ref q1, .int 0, .ref q2, .ref q3, .ref q4, .ref q5, .ref q6, .null, .null, .null])), (q1, .inl (cI, 64, .inl c0)), (q2, .inl (cI, 4, .inl c0)), (q3, .inl (cI, 4, .inl c0)), (q4, .inl (cI, 4, .inl c0)), (q5, .inl (cI, 4, .inl c0)), (q6, .inl (cI, 4, .inl c0)), (q7, .inl (cI, 64, .inl c0))] := hD
  refine va_putF (D := (dC, dI)) (ci := 0) (v := .ref q7) (ty := .array .int) (C := RX0) (T := TX0) (N := 10) hx hb hts in_X0 tyX0 tyX0_ok nmX0 hown hK hP hD hS 0 rfl rfl 7 (by decide) (hts _ q44) (fun _ h9 => h9) rfl hin rfl (by decide +kernel) rfl rfl (Nat.le_of_ble_eq_true rfl) dX0_init_52 (fun H locs hP hD hS => ?_)
  have hP : va_P (dC, dI) vwCl [(h, .inr (0, [.ref q1, .int 0, .ref q2, .ref q3, .ref q4, .ref q5, .ref q6, .ref q7, .null, .null])), (q1, .inl (cI, 64, .inl c0)), (q2, .inl (cI, 4, .inl c0)), (q3, .inl (cI, 4, .inl c0)), (q4, .inl (cI, 4, .inl c0)), (q5, .inl (cI, 4, .inl c0)), (q6, .inl (cI, 4, .inl c0)), (q7, .inl (cI, 64, .inl c0))] H := hP
  have hD : va_D A [(h, .inr (0, [.ref q1, .int 0, .ref q2, .ref q3, .ref q4, .ref q5, .ref q6, .ref q7, .null, .null])), (q1, .inl (cI, 64, .inl c0)), (q2, .inl (cI, 4, .inl c0)), (q3, .inl (cI, 4, .inl c0)), (q4, .inl (cI, 4, .inl c0)), (q5, .inl (cI, 4, .inl c0)), (q6, .inl (cI, 4, .inl c0)), (q7, .inl (cI, 64, .inl c0))] := hD
  refine lv_aload_n hx hb dX0_init_55 rfl (lv_at hl 0 rfl) ?_
  refine lv_bipush (v := nI 16) hx hb dX0_init_56 (by decide) ?_
  refine va_newa (a0 := (16, .inl c0)) (N' := 16) (ty := .int) (atype := .int) hx hb (hts _ q68) rfl hK hP hD hS hA (fun cA => rfl) (by decide) (by decide) (by decide) (Nat.le_of_ble_eq_true rfl) (Nat.le_of_ble_eq_true rfl) dX0_init_58 (fun q8 cA8 H hK hP hD hS => ?_)
  have eA8 : cI = cA8 := Option.some.inj ((va_nm_int (hK.2 0 _ rfl).2).symm.trans (va_nm_int (hK.2 1 _ rfl).2))
  subst eA8
  have hK := hK.sub (tys' := [(cI, .int)]) [0] rfl
  have hP : va_P (dC, dI) vwCl [(h, .inr (0, [.ref q1, .int 0, .ref q2, .ref q3, .ref q4, .ref q5, .ref q6, .ref q7, .null, .null])), (q1, .inl (cI, 64, .inl c0)), (q2, .inl (cI, 4, .inl c0)), (q3, .inl (cI, 4, .inl c0)), (q4, .inl (cI, 4, .inl c0)), (q5, .inl (cI, 4, .inl c0)), (q6, .inl (cI, 4, .inl c0)), (q7, .inl (cI, 64, .inl c0)), (q8, .inl (cI, 16, .inl c0))] H := hP
  have hD : va_D A [(h, .inr (0, [.ref q1, .int 0, .ref q2, .ref q3, .ref q4, .ref q5, .ref q6, .ref q7, .null, .null])), (q1, .inl (cI, 64, .inl c0)), (q2, .inl (cI, 4, .inl c0)), (q3, .inl (cI, 4, .inl c0)), (q4, .inl (cI, 4, .inl c0)), (q5, .inl (cI, 4, .inl c0)), (q6, .inl (cI, 4, .inl c0)), (q7, .inl (cI, 64, .inl c0)), (q8, .inl (cI, 16, .inl c0))] := hD
  refine va_putF (D := (dC, dI)) (ci := 0) (v := .ref q8) (ty := .array .int) (C := RX0) (T := TX0) (N := 10) hx hb hts in_X0 tyX0 tyX0_ok nmX0 hown hK hP hD hS 0 rfl rfl 8 (by decide) (hts _ q45) (fun _ h9 => h9) rfl hin rfl (by decide +kernel) rfl rfl (Nat.le_of_ble_eq_true rfl) dX0_init_60 (fun H locs hP hD hS => ?_)
  have hP : va_P (dC, dI) vwCl [(h, .inr (0, [.ref q1, .int 0, .ref q2, .ref q3, .ref q4, .ref q5, .ref q6, .ref q7, .ref q8, .null])), (q1, .inl (cI, 64, .inl c0)), (q2, .inl (cI, 4, .inl c0)), (q3, .inl (cI, 4, .inl c0)), (q4, .inl (cI, 4, .inl c0)), (q5, .inl (cI, 4, .inl c0)), (q6, .inl (cI, 4, .inl c0)), (q7, .inl (cI, 64, .inl c0)), (q8, .inl (cI, 16, .inl c0))] H := hP
  have hD : va_D A [(h, .inr (0, [.ref q1, .int 0, .ref q2, .ref q3, .ref q4, .ref q5, .ref q6, .ref q7, .ref q8, .null])), (q1, .inl (cI, 64, .inl c0)), (q2, .inl (cI, 4, .inl c0)), (q3, .inl (cI, 4, .inl c0)), (q4, .inl (cI, 4, .inl c0)), (q5, .inl (cI, 4, .inl c0)), (q6, .inl (cI, 4, .inl c0)), (q7, .inl (cI, 64, .inl c0)), (q8, .inl (cI, 16, .inl c0))] := hD
  refine lv_aload_n hx hb dX0_init_63 rfl (lv_at hl 0 rfl) ?_
  refine lv_bipush (v := nI 16) hx hb dX0_init_64 (by decide) ?_
  refine va_newa (a0 := (16, .inl c0)) (N' := 16) (ty := .int) (atype := .int) hx hb (hts _ q68) rfl hK hP hD hS hA (fun cA => rfl) (by decide) (by decide) (by decide) (Nat.le_of_ble_eq_true rfl) (Nat.le_of_ble_eq_true rfl) dX0_init_66 (fun q9 cA9 H hK hP hD hS => ?_)
  have eA9 : cI = cA9 := Option.some.inj ((va_nm_int (hK.2 0 _ rfl).2).symm.trans (va_nm_int (hK.2 1 _ rfl).2))
  subst eA9
  have hK := hK.sub (tys' := [(cI, .int)]) [0] rfl
  have hP : va_P (dC, dI) vwCl [(h, .inr (0, [.ref q1, .int 0, .ref q2, .ref q3, .ref q4, .ref q5, .ref q6, .ref q7, .ref q8, .null])), (q1, .inl (cI, 64, .inl c0)), (q2, .inl (cI, 4, .inl c0)), (q3, .inl (cI, 4, .inl c0)), (q4, .inl (cI, 4, .inl c0)), (q5, .inl (cI, 4, .inl c0)), (q6, .inl (cI, 4, .inl c0)), (q7, .inl (cI, 64, .inl c0)), (q8, .inl (cI, 16, .inl c0)), (q9, .inl (cI, 16, .inl c0))] H := hP
  have hD : va_D A [(h, .inr (0, [.ref q1, .int 0, .ref q2, .ref q3, .ref q4, .ref q5, .ref q6, .ref q7, .ref q8, .null])), (q1, .inl (cI, 64, .inl c0)), (q2, .inl (cI, 4, .inl c0)), (q3, .inl (cI, 4, .inl c0)), (q4, .inl (cI, 4, .inl c0)), (q5, .inl (cI, 4, .inl c0)), (q6, .inl (cI, 4, .inl c0)), (q7, .inl (cI, 64, .inl c0)), (q8, .inl (cI, 16, .inl c0)), (q9, .inl (cI, 16, .inl c0))] := hD
  refine va_putF (D := (dC, dI)) (ci := 0) (v := .ref q9) (ty := .array .int) (C := RX0) (T := TX0) (N := 10) hx hb hts in_X0 tyX0 tyX0_ok nmX0 hown hK hP hD hS 0 rfl rfl 9 (by decide) (hts _ q46) (fun _ h9 => h9) rfl hin rfl (by decide +kernel) rfl rfl (Nat.le_of_ble_eq_true rfl) dX0_init_68 (fun H locs hP hD hS => ?_)
  have hP : va_P (dC, dI) vwCl [(h, .inr (0, [.ref q1, .int 0, .ref q2, .ref q3, .ref q4, .ref q5, .ref q6, .ref q7, .ref q8, .ref q9])), (q1, .inl (cI, 64, .inl c0)), (q2, .inl (cI, 4, .inl c0)), (q3, .inl (cI, 4, .inl c0)), (q4, .inl (cI, 4, .inl c0)), (q5, .inl (cI, 4, .inl c0)), (q6, .inl (cI, 4, .inl c0)), (q7, .inl (cI, 64, .inl c0)), (q8, .inl (cI, 16, .inl c0)), (q9, .inl (cI, 16, .inl c0))] H := hP
  have hD : va_D A [(h, .inr (0, [.ref q1, .int 0, .ref q2, .ref q3, .ref q4, .ref q5, .ref q6, .ref q7, .ref q8, .ref q9])), (q1, .inl (cI, 64, .inl c0)), (q2, .inl (cI, 4, .inl c0)), (q3, .inl (cI, 4, .inl c0)), (q4, .inl (cI, 4, .inl c0)), (q5, .inl (cI, 4, .inl c0)), (q6, .inl (cI, 4, .inl c0)), (q7, .inl (cI, 64, .inl c0)), (q8, .inl (cI, 16, .inl c0)), (q9, .inl (cI, 16, .inl c0))] := hD
  refine lv_aload_n hx hb dX0_init_71 rfl (lv_at hl 0 rfl) ?_
  refine lv_iconst (v := nI 3) hx hb dX0_init_72 (by decide) ?_
  refine va_put (D := (dC, dI)) (ci := 0) (v := .int (nI 3)) (ty := .int) (C := RX0) (T := TX0) (N := 10) hx hb hts in_X0 tyX0 tyX0_ok nmX0 hown hK hP hD hS 0 rfl rfl 1 (by decide) (hts _ q38) (fun _ h9 => h9) rfl (by decide +kernel) rfl rfl (Nat.le_of_ble_eq_true rfl) dX0_init_73 (fun H locs hP hD hS => ?_)
  have hP : va_P (dC, dI) vwCl [(h, .inr (0, [.ref q1, .int (nI 3), .ref q2, .ref q3, .ref q4, .ref q5, .ref q6, .ref q7, .ref q8, .ref q9])), (q1, .inl (cI, 64, .inl c0)), (q2, .inl (cI, 4, .inl c0)), (q3, .inl (cI, 4, .inl c0)), (q4, .inl (cI, 4, .inl c0)), (q5, .inl (cI, 4, .inl c0)), (q6, .inl (cI, 4, .inl c0)), (q7, .inl (cI, 64, .inl c0)), (q8, .inl (cI, 16, .inl c0)), (q9, .inl (cI, 16, .inl c0))] H := hP
  have hD : va_D A [(h, .inr (0, [.ref q1, .int (nI 3), .ref q2, .ref q3, .ref q4, .ref q5, .ref q6, .ref q7, .ref q8, .ref q9])), (q1, .inl (cI, 64, .inl c0)), (q2, .inl (cI, 4, .inl c0)), (q3, .inl (cI, 4, .inl c0)), (q4, .inl (cI, 4, .inl c0)), (q5, .inl (cI, 4, .inl c0)), (q6, .inl (cI, 4, .inl c0)), (q7, .inl (cI, 64, .inl c0)), (q8, .inl (cI, 16, .inl c0)), (q9, .inl (cI, 16, .inl c0))] := hD
  obtain ⟨g, hg⟩ : ∃ g : Nat → Nat, g = fun k => [q1, q2, q3, q4, q5, q6, q7, q8, q9].getD k 0 := ⟨_, rfl⟩
  have hP : va_P (dC, dI) vwCl (wX0 h cI g (nI 3) c0 c0 c0 c0 c0 c0 c0 c0 c0) H := by rw [hg]; exact hP
  have hD : va_D A (wX0 h cI g (nI 3) c0 c0 c0 c0 c0 c0 c0 c0 c0) := by rw [hg]; exact hD
  refine W.widen (k := 9) (n := 180) (by decide) (by decide) ?_
  refine W.eq (g2 := F0 m 76 ls []) rfl ?_
  refine lv_aload_n hx hb dX0_init_76 rfl (lv_at hl 0 rfl) ?_
  have hFc := va_free (wc := (wX0 h cI g (nI 3) c0 c0 c0 c0 c0 c0 c0 c0 c0)) hD hS hA [0, 1, 2, 3, 4, 5, 6, 7, 8, 9] rfl
  refine va_callv (va_runV (b := h) (As := []) (rest := []) ⟨hx, hb, hml, hown, hts⟩ (metX0_noDemands l dC dI h H.size cI g (nI 3) c0 c0 c0 c0 c0 c0 c0 c0 c0 ) (cwV 0 hts (lw_V q33 q35 qs0 q23 q36) rfl rfl rfl (by decide +kernel) ⟨Nat.le_of_ble_eq_true rfl, Nat.le_of_ble_eq_true rfl⟩) ⟨fun a U g mk q => by obtain ⟨q0, q1, qP, qK, qD⟩ := q; exact ⟨q0, q1, qP, va_K.moved (u := U) (U := U.calling g mk a) (Vm.Alike.refl U.vm) qK, qD⟩, va_recv hK hP (ci := 0) (q0 := 0) rfl rfl, fun U hU hW => ⟨rfl, by rw [hU], by rw [hU]; exact hP, va_K.moved hW.alike hK, hD.weaken (fun _ _ _ _ => trivial)⟩⟩ rfl rfl hl.1 rfl (lv_room (Nat.le_of_ble_eq_true rfl)) dX0_init_77 ⟨Nat.le_of_ble_eq_true rfl, Nat.le_of_ble_eq_true rfl⟩) hS (fun q _ h => hFc q h) hFc (fun u t H1 locs ht hvm hw_77 hB hz1 hk1 hS => ?_)
  obtain ⟨hP1, hK1, hD1⟩ := hB
  rw [ht] at hP1
  try dsimp only at hw_77
  have hP : va_P (dC, dI) vwCl (wX0 h cI g (nI 3) c0 c0 c0 cM c0 c0 c0 c0 c0) H1 := hP1
  have hD : va_D A (wX0 h cI g (nI 3) c0 c0 c0 cM c0 c0 c0 c0 c0) := hD1.weaken (fun _ q _ h => hFc q.1 h)
  generalize H1 = H at hP hS ⊢
  exact W.vret hx hb hr (fun T9 hT9 hW9 => ⟨⟨(cI, g), rfl, trivial, by rw [hT9]; exact hP, va_K.moved hW9.alike hK, hD⟩, hS.F hT9⟩) hS.2.2 dX0_init_80
set_option maxHeartbeats 4000000 in
set_option maxRecDepth 100000 in
theorem metX1_init (l : Launch) (dC : Nat → ClassId) (dI : Nat → Nat → Nat) (h sz : Nat) : Met l yX1_init (ws_ yX1_init cX1_init 2 none) ({ frames := 3, cells := 3, slots := 4144, locals := 71 } : Room) (va_Pc [.ref h] (fun U => U.heap.size = sz ∧ va_P (dC, dI) vwCl [(h, .inr (1, [.null, .int 0, .null, .null, .int 0, .int 0, .int 0]))] U.heap ∧ va_K (dC, dI) vwCl [] U ∧ va_D (fun _ => True) [(h, .inr (1, [.null, .int 0, .null, .null, .int 0, .int 0, .int 0]))])) (va_Qv (fun (_ : ClassId × ClassId × (Nat → Nat)) => True) (fun (u : ClassId × ClassId × (Nat → Nat)) (t : State) => va_P (dC, dI) vwCl (wX1 h u.1 u.2.1 u.2.2 (nI 3) 0 0 0 c0 c0 ncF) t.heap ∧ va_K (dC, dI) vwCl [(u.1, .int), (u.2.1, .boolean)] t ∧ va_D (va_A [(h, .inr (1, [.null, .int 0, .null, .null, .int 0, .int 0, .int 0]))] sz) (wX1 h u.1 u.2.1 u.2.2 (nI 3) 0 0 0 c0 c0 ncF)) (va_A [(h, .inr (1, [.null, .int 0, .null, .null, .int 0, .int 0, .int 0]))] sz)) 3 4144 (va_A [(h, .inr (1, [.null, .int 0, .null, .null, .int 0, .int 0, .int 0]))] sz) := by
  refine Met.ofW (cc := cX1_init) (maxL := 2) (ret := none) (by decide) rfl ?_
  intro p e s m args below meth c s₁ B hml hpre
  obtain ⟨rfl, hsz, hP, hK, hD0⟩ := hpre
  have hx := B.exec
  have hb := B.bytes
  have hr := B.returns
  have hts := atoms_spec (ws := (ws_ yX1_init cX1_init 2 none)) B.pre
  have hts : ∀ w ∈ lw_all, w.before _ s = true := fun w h => hts w (List.mem_cons_of_mem _ h)
  have hown : s.vm.findClass RX1 = some m.cls := findClass_of_methodNamed B.named
  have hlocks := B.notSynchronized
  have hin : meth.name = "<init>" := (name_of_methodNamed B.named B.method).1
  subst hsz
  have hD := hD0.self (sz := s.heap.size)
  generalize hAe : va_A [(h, .inr (1, [.null, .int 0, .null, .null, .int 0, .int 0, .int 0]))] s.heap.size = A at hD ⊢
  have hA : ∀ q : Nat, s.heap.size ≤ q → A q := fun q h => by rw [← hAe]; exact Or.inr h
  have hS : va_S A s.heap s.heap [] := va_S.rf
  have hl := lv_entry ([.ref h]) (n := 2) (Nat.le_of_ble_eq_true rfl)
  rw [lg_entry_eq]
  generalize (lg_sl ([.ref h]) ++ List.replicate (2 - (lg_sl ([.ref h])).length) Slot.unset).toArray = ls at hl ⊢
  have hl : lv_has ls 2 [(0, .ref h)] := hl
  refine lv_aload_n hx hb dX1_init_0 rfl (lv_at hl 0 rfl) ?_
  refine W.objInit hx hb hown (hts _ q158) (hts _ q31) (hts _ q32) rfl (by rw [hml]; exact hl.1) rfl dX1_init_1 (Nat.le_of_ble_eq_true rfl) (Nat.le_of_ble_eq_true rfl) ?_
  refine W.eq (g2 := F0 m 4 ls []) rfl ?_
  refine lv_aload_n hx hb dX1_init_4 rfl (lv_at hl 0 rfl) ?_
  refine lv_bipush (v := nI 32) hx hb dX1_init_5 (by decide) ?_
  refine va_newa (a0 := (32, .inl c0)) (N' := 32) (ty := .int) (atype := .int) hx hb (hts _ q68) rfl hK hP hD hS hA (fun cA => rfl) (by decide) (by decide) (by decide) (Nat.le_of_ble_eq_true rfl) (Nat.le_of_ble_eq_true rfl) dX1_init_7 (fun q1 cA1 H hK hP hD hS => ?_)
  obtain ⟨cI, eA1⟩ : ∃ z : ClassId, z = cA1 := ⟨_, rfl⟩
  subst eA1
  have hK := hK.sub (tys' := [(cI, .int)]) [0] rfl
  have hP : va_P (dC, dI) vwCl [(h, .inr (1, [.null, .int 0, .null, .null, .int 0, .int 0, .int 0])), (q1, .inl (cI, 32, .inl c0))] H := hP
  have hD : va_D A [(h, .inr (1, [.null, .int 0, .null, .null, .int 0, .int 0, .int 0])), (q1, .inl (cI, 32, .inl c0))] := hD
  refine va_putF (D := (dC, dI)) (ci := 1) (v := .ref q1) (ty := .array .int) (C := RX1) (T := TX1) (N := 7) hx hb hts in_X1 tyX1 tyX1_ok nmX1 hown hK hP hD hS 0 rfl rfl 0 (by decide) (hts _ q175) (fun _ h9 => h9) rfl hin rfl (by decide +kernel) rfl rfl (Nat.le_of_ble_eq_true rfl) dX1_init_9 (fun H locs hP hD hS => ?_)
  have hP : va_P (dC, dI) vwCl [(h, .inr (1, [.ref q1, .int 0, .null, .null, .int 0, .int 0, .int 0])), (q1, .inl (cI, 32, .inl c0))] H := hP
  have hD : va_D A [(h, .inr (1, [.ref q1, .int 0, .null, .null, .int 0, .int 0, .int 0])), (q1, .inl (cI, 32, .inl c0))] := hD
  refine lv_aload_n hx hb dX1_init_12 rfl (lv_at hl 0 rfl) ?_
  refine lv_bipush (v := nI 16) hx hb dX1_init_13 (by decide) ?_
  refine va_newa (a0 := (16, .inl c0)) (N' := 16) (ty := .int) (atype := .int) hx hb (hts _ q68) rfl hK hP hD hS hA (fun cA => rfl) (by decide) (by decide) (by decide) (Nat.le_of_ble_eq_true rfl) (Nat.le_of_ble_eq_true rfl) dX1_init_15 (fun q2 cA2 H hK hP hD hS => ?_)
  have eA2 : cI = cA2 := Option.some.inj ((va_nm_int (hK.2 0 _ rfl).2).symm.trans (va_nm_int (hK.2 1 _ rfl).2))
  subst eA2
  have hK := hK.sub (tys' := [(cI, .int)]) [0] rfl
  have hP : va_P (dC, dI) vwCl [(h, .inr (1, [.ref q1, .int 0, .null, .null, .int 0, .int 0, .int 0])), (q1, .inl (cI, 32, .inl c0)), (q2, .inl (cI, 16, .inl c0))] H := hP
  have hD : va_D A [(h, .inr (1, [.ref q1, .int 0, .null, .null, .int 0, .int 0, .int 0])), (q1, .inl (cI, 32, .inl c0)), (q2, .inl (cI, 16, .inl c0))] := hD
  refine va_putF (D := (dC, dI)) (ci := 1) (v := .ref q2) (ty := .array .int) (C := RX1) (T := TX1) (N := 7) hx hb hts in_X1 tyX1 tyX1_ok nmX1 hown hK hP hD hS 0 rfl rfl 2 (by decide) (hts _ q177) (fun _ h9 => h9) rfl hin rfl (by decide +kernel) rfl rfl (Nat.le_of_ble_eq_true rfl) dX1_init_17 (fun H locs hP hD hS => ?_)
  have hP : va_P (dC, dI) vwCl [(h, .inr (1, [.ref q1, .int 0, .ref q2, .null, .int 0, .int 0, .int 0])), (q1, .inl (cI, 32, .inl c0)), (q2, .inl (cI, 16, .inl c0))] H := hP
  have hD : va_D A [(h, .inr (1, [.ref q1, .int 0, .ref q2, .null, .int 0, .int 0, .int 0])), (q1, .inl (cI, 32, .inl c0)), (q2, .inl (cI, 16, .inl c0))] := hD
  refine lv_aload_n hx hb dX1_init_20 rfl (lv_at hl 0 rfl) ?_
  refine lv_sipush (v := nI 4096) hx hb dX1_init_21 (by decide) ?_
  refine va_newa (a0 := (4096, .inl c0)) (N' := 4096) (ty := .boolean) (atype := .boolean) hx hb (hts _ q197) rfl hK hP hD hS hA (fun cA => rfl) (by decide) (by decide) (by decide) (Nat.le_of_ble_eq_true rfl) (Nat.le_of_ble_eq_true rfl) dX1_init_24 (fun q3 cA3 H hK hP hD hS => ?_)
  obtain ⟨cB, eA3⟩ : ∃ z : ClassId, z = cA3 := ⟨_, rfl⟩
  subst eA3
  have hK := hK.sub (tys' := [(cI, .int), (cB, .boolean)]) [0, 1] rfl
  have hP : va_P (dC, dI) vwCl [(h, .inr (1, [.ref q1, .int 0, .ref q2, .null, .int 0, .int 0, .int 0])), (q1, .inl (cI, 32, .inl c0)), (q2, .inl (cI, 16, .inl c0)), (q3, .inl (cB, 4096, .inl c0))] H := hP
  have hD : va_D A [(h, .inr (1, [.ref q1, .int 0, .ref q2, .null, .int 0, .int 0, .int 0])), (q1, .inl (cI, 32, .inl c0)), (q2, .inl (cI, 16, .inl c0)), (q3, .inl (cB, 4096, .inl c0))] := hD
  refine va_putF (D := (dC, dI)) (ci := 1) (v := .ref q3) (ty := .array .boolean) (C := RX1) (T := TX1) (N := 7) hx hb hts in_X1 tyX1 tyX1_ok nmX1 hown hK hP hD hS 0 rfl rfl 3 (by decide) (hts _ q178) (fun _ h9 => h9) rfl hin rfl (by decide +kernel) rfl rfl (Nat.le_of_ble_eq_true rfl) dX1_init_26 (fun H locs hP hD hS => ?_)
  have hP : va_P (dC, dI) vwCl [(h, .inr (1, [.ref q1, .int 0, .ref q2, .ref q3, .int 0, .int 0, .int 0])), (q1, .inl (cI, 32, .inl c0)), (q2, .inl (cI, 16, .inl c0)), (q3, .inl (cB, 4096, .inl c0))] H := hP
  have hD : va_D A [(h, .inr (1, [.ref q1, .int 0, .ref q2, .ref q3, .int 0, .int 0, .int 0])), (q1, .inl (cI, 32, .inl c0)), (q2, .inl (cI, 16, .inl c0)), (q3, .inl (cB, 4096, .inl c0))] := hD
  refine lv_aload_n hx hb dX1_init_29 rfl (lv_at hl 0 rfl) ?_
  refine lv_iconst (v := nI 3) hx hb dX1_init_30 (by decide) ?_
  refine va_put (D := (dC, dI)) (ci := 1) (v := .int (nI 3)) (ty := .int) (C := RX1) (T := TX1) (N := 7) hx hb hts in_X1 tyX1 tyX1_ok nmX1 hown hK hP hD hS 0 rfl rfl 1 (by decide) (hts _ q176) (fun _ h9 => h9) rfl (by decide +kernel) rfl rfl (Nat.le_of_ble_eq_true rfl) dX1_init_31 (fun H locs hP hD hS => ?_)
  have hP : va_P (dC, dI) vwCl [(h, .inr (1, [.ref q1, .int (nI 3), .ref q2, .ref q3, .int 0, .int 0, .int 0])), (q1, .inl (cI, 32, .inl c0)), (q2, .inl (cI, 16, .inl c0)), (q3, .inl (cB, 4096, .inl c0))] H := hP
  have hD : va_D A [(h, .inr (1, [.ref q1, .int (nI 3), .ref q2, .ref q3, .int 0, .int 0, .int 0])), (q1, .inl (cI, 32, .inl c0)), (q2, .inl (cI, 16, .inl c0)), (q3, .inl (cB, 4096, .inl c0))] := hD
  obtain ⟨g, hg⟩ : ∃ g : Nat → Nat, g = fun k => [q1, q2, q3].getD k 0 := ⟨_, rfl⟩
  have hP : va_P (dC, dI) vwCl (wX1 h cI cB g (nI 3) 0 0 0 c0 c0 c0) H := by rw [hg]; exact hP
  have hD : va_D A (wX1 h cI cB g (nI 3) 0 0 0 c0 c0 c0) := by rw [hg]; exact hD
  refine W.widen (k := 3) (n := 4144) (by decide) (by decide) ?_
  refine W.eq (g2 := F0 m 34 ls []) rfl ?_
  refine lv_iconst (v := nI 0) hx hb dX1_init_34 (by decide) ?_
  refine lv_istore_n (lv' := [(1, .int (nI 0)), (0, .ref h)]) hx hb dX1_init_35 rfl hl (by decide) rfl (fun ls hl => ?_)
  have loop_36 : ∀ (k_36 z : Nat) (n1 : Nat → Int32), z ≤ 4096 → 4096 + 1 ≤ z + k_36 → (∀ k, k < z → n1 k = ncF k) → ∀ (H : Heap) (locs : List Loc), va_P (dC, dI) vwCl (wX1 h cI cB g (nI 3) 0 0 0 c0 c0 n1) H → va_D A (wX1 h cI cB g (nI 3) 0 0 0 c0 c0 n1) → va_S A s.heap H locs → ∀ (ls : Array Slot), lv_has ls 2 [(0, .ref h), (1, .int (nI z))] → W p l e (headSpec (ws_ yX1_init cX1_init 2 none) ({ frames := 3, cells := 3, slots := 4144, locals := 71 } : Room)).room s m ([.ref h] : List Value).toArray below meth c H locs 3 4144 (MQ below (va_Qv (fun (_ : ClassId × ClassId × (Nat → Nat)) => True) (fun (u : ClassId × ClassId × (Nat → Nat)) (t : State) => va_P (dC, dI) vwCl (wX1 h u.1 u.2.1 u.2.2 (nI 3) 0 0 0 c0 c0 ncF) t.heap ∧ va_K (dC, dI) vwCl [(u.1, .int), (u.2.1, .boolean)] t ∧ va_D A (wX1 h u.1 u.2.1 u.2.2 (nI 3) 0 0 0 c0 c0 ncF)) A) ([.ref h] : List Value).toArray s 3 4144 A) (F0 m 36 ls []) := by
    intro k_36
    induction k_36 with
    | zero =>
      intro z n1 h1 h2
      exact absurd h2 (by omega)
    | succ k_36 ih_36 =>
      intro z n1 hi_36 hk_36 hinv_36 H locs hP hD hS ls hl
      refine lv_iload_n hx hb dX1_init_36 rfl (lv_at hl 1 rfl) ?_
      refine lv_sipush (v := nI 4096) hx hb dX1_init_37 (by decide) ?_
      refine wk_icmp_ge (tgt := 68) hx hb dX1_init_40 (by decide) (by omega) (by decide) (fun c_40 => ?_) (fun c_40 => ?_)
      · have he_z : z = 4096 := by omega
        subst he_z
        have hP := wk_re hP 3 rfl (g := ncF) hinv_36
        have hD := hD.set (e := .inl (cB, 4096, .inl ncF)) (p := 3) rfl
        have hP : va_P (dC, dI) vwCl (wX1 h cI cB g (nI 3) 0 0 0 c0 c0 ncF) H := hP
        have hD : va_D A (wX1 h cI cB g (nI 3) 0 0 0 c0 c0 ncF) := hD
        exact W.vret hx hb hr (fun T9 hT9 hW9 => ⟨⟨(cI, cB, g), rfl, trivial, by rw [hT9]; exact hP, va_K.moved hW9.alike hK, hD⟩, hS.F hT9⟩) hS.2.2 dX1_init_68
      · refine lv_aload_n hx hb dX1_init_43 rfl (lv_at hl 0 rfl) ?_
        refine va_get (D := (dC, dI)) (ci := 1) (v := .ref (g 2)) (C := RX1) (T := TX1) (N := 7) hx hb hts in_X1 hown hK hP 0 rfl rfl 3 (by decide) (hts _ q178) (fun _ h9 => h9) rfl dX1_init_44 ?_
        refine lv_iload_n hx hb dX1_init_47 rfl (lv_at hl 1 rfl) ?_
        refine lv_aload_n hx hb dX1_init_48 rfl (lv_at hl 0 rfl) ?_
        refine lv_iload_n hx hb dX1_init_49 rfl (lv_at hl 1 rfl) ?_
        refine vp_callSi (W.runV (b := h) (As := [.int (nI z)]) (rest := [.int (nI z), .ref (g 2)]) ⟨hx, hb, hml, hown, hts⟩ (metX1_hasCircle l dC dI h 0 cI cB g (nI 3) 0 0 0 c0 c0 n1 z (by omega)) (cwV 1 hts (lw_V q159 q161 qs6 q24 q162) rfl rfl rfl (by decide +kernel) ⟨Nat.le_of_ble_eq_true rfl, Nat.le_of_ble_eq_true rfl⟩) ⟨fun a U g mk q => ⟨q.1, q.2.1, va_K.moved (u := U) (U := U.calling g mk a) (Vm.Alike.refl U.vm) q.2.2⟩, va_recv hK hP (ci := 1) (q0 := 0) rfl rfl, fun U hU hW => ⟨rfl, by rw [hU]; exact hP, va_K.moved hW.alike hK⟩⟩ rfl rfl hl.1 rfl (lv_room (Nat.le_of_ble_eq_true rfl)) dX1_init_50 ⟨Nat.le_of_ble_eq_true rfl, Nat.le_of_ble_eq_true rfl⟩) (fun r hr_50 => ?_)
        have hr_50 : r = nI (circ z) := hr_50
        subst hr_50
        refine wk_if_ne (tgt := 60) hx hb dX1_init_53 (by decide) (by unfold circ; split <;> omega) (fun c_53 => ?_) (fun c_53 => ?_)
        · refine lv_iconst (v := nI 0) hx hb dX1_init_60 (by decide) ?_
          refine wk_zast hx hb hK hP hD hS 3 1 rfl rfl (ix := z) (by omega) (by decide) (by decide) dX1_init_61 (fun H locs hP hD hS => ?_)
          have hP : va_P (dC, dI) vwCl (wX1 h cI cB g (nI 3) 0 0 0 c0 c0 (upd n1 z (nI 0))) H := hP
          have hD : va_D A (wX1 h cI cB g (nI 3) 0 0 0 c0 c0 (upd n1 z (nI 0))) := hD
          refine wk_iinc (lv' := [(1, .int (nI (z + 1))), (0, .ref h)]) hx hb dX1_init_62 hl (k := 1) rfl (by decide) rfl (fun ls hl => ?_)
          refine lv_goto (tgt := 36) hx hb dX1_init_65 (by decide) ?_
          exact ih_36 (z + 1) (upd n1 z (nI 0)) (by omega) (by omega) (nc_step hinv_36 (by unfold ncF; rw [circ_1 c_53])) _ _ hP hD hS ls (lv_sub hl [1, 0] rfl)
        · refine lv_iconst (v := nI 1) hx hb dX1_init_56 (by decide) ?_
          refine lv_goto (tgt := 61) hx hb dX1_init_57 (by decide) ?_
          refine wk_zast hx hb hK hP hD hS 3 1 rfl rfl (ix := z) (by omega) (by decide) (by decide) dX1_init_61 (fun H locs hP hD hS => ?_)
          have hP : va_P (dC, dI) vwCl (wX1 h cI cB g (nI 3) 0 0 0 c0 c0 (upd n1 z (nI 1))) H := hP
          have hD : va_D A (wX1 h cI cB g (nI 3) 0 0 0 c0 c0 (upd n1 z (nI 1))) := hD
          refine wk_iinc (lv' := [(1, .int (nI (z + 1))), (0, .ref h)]) hx hb dX1_init_62 hl (k := 1) rfl (by decide) rfl (fun ls hl => ?_)
          refine lv_goto (tgt := 36) hx hb dX1_init_65 (by decide) ?_
          exact ih_36 (z + 1) (upd n1 z (nI 1)) (by omega) (by omega) (nc_step hinv_36 (by unfold ncF; rw [c_53])) _ _ hP hD hS ls (lv_sub hl [1, 0] rfl)
  exact loop_36 (4096 + 1) 0 c0 (by omega) (by omega) (fun k hk => absurd hk (Nat.not_lt_zero k)) _ _ hP hD hS ls (lv_sub hl [1, 0] rfl)
end
section
/-! a structure has no circle just when it follows one of the 24 orders -/
def perms : List (Nat × Nat × Nat × Nat) := [(0,1,2,3),(0,1,3,2),(0,2,1,3),(0,2,3,1),(0,3,1,2),(0,3,2,1),(1,0,2,3),(1,0,3,2),(1,2,0,3),(1,2,3,0),(1,3,0,2),(1,3,2,0),(2,0,1,3),(2,0,3,1),(2,1,0,3),(2,1,3,0),(2,3,0,1),(2,3,1,0),(3,0,1,2),(3,0,2,1),(3,1,0,2),(3,1,2,0),(3,2,0,1),(3,2,1,0)]
def ordAny (z : Nat) : Bool := perms.any (fun o => Nat.beq (folN z o.1 o.2.1 o.2.2.1 o.2.2.2) 1)
set_option maxRecDepth 100000 in
theorem circ_all : (List.range 4096).all (fun z => Nat.beq (circ z) 0 == ordAny z) = true := by decide +kernel
end
section
/-! facts of small sets, by trying all -/
theorem fs1 : ∀ s, s < 16 → ∀ p, p < 16 → andn p s = 0 → p = s ∨ ∃ u, u < 4 ∧ andn s (1 <<< u) ≠ s ∧ andn p (andn s (1 <<< u)) = 0 := by decide +kernel
theorem fs2 : ∀ s, s < 16 → ∀ u, u < 4 → ∀ p, p < 16 → andn p (andn s (1 <<< u)) = 0 → andn p s = 0 := by decide +kernel
theorem fs3 : ∀ s, s < 16 → andn s s = 0 := by decide +kernel
theorem fs4 : ∀ s, s < 16 → ∀ v, v < 4 → (s >>> v) &&& 1 = 1 → andn s (1 <<< v) ≠ s := by decide +kernel
end
section
/-! the tables over sets, as numbers -/
theorem tI_none : (-100000 : Int32).toInt = -100000 := by decide
theorem tI_ext {x y : Int32} (h : x.toInt = y.toInt) : x = y := Int32.toInt_inj.mp h
theorem tI_add {x y : Int32} (h1 : -1000000 ≤ x.toInt + y.toInt) (h2 : x.toInt + y.toInt ≤ 1000000) : (x + y).toInt = x.toInt + y.toInt := by
  rw [Int32.toInt_add]
  unfold Int.bmod
  generalize x.toInt + y.toInt = z at h1 h2
  dsimp only
  split <;> omega
theorem row_lit (row : Nat → Int32) (s : Nat) (b : Int32) : ∀ n, b.toInt ≤ (lit (rowS row s) b n).toInt ∧ (∀ u, u < n → andn s (1 <<< u) ≠ s → (row (andn s (1 <<< u))).toInt ≤ (lit (rowS row s) b n).toInt) ∧ (lit (rowS row s) b n = b ∨ ∃ u, u < n ∧ andn s (1 <<< u) ≠ s ∧ lit (rowS row s) b n = row (andn s (1 <<< u))) := by
  intro n
  induction n with
  | zero => exact ⟨Int.le_refl _, fun u h => absurd h (Nat.not_lt_zero u), Or.inl rfl⟩
  | succ n ih =>
    obtain ⟨h1, h2, h3⟩ := ih
    rw [lit_succ]
    generalize lit (rowS row s) b n = x at h1 h2 h3
    by_cases e : andn s (1 <<< n) = s
    · rw [show rowS row s n x = x by unfold rowS; rw [if_pos e]]
      refine ⟨h1, fun u hu hne => ?_, ?_⟩
      · by_cases q : u = n
        · subst q; exact absurd e hne
        · exact h2 u (by omega) hne
      · rcases h3 with h3 | ⟨u, hu, q⟩
        · exact Or.inl h3
        · exact Or.inr ⟨u, by omega, q⟩
    · by_cases f : row (andn s (1 <<< n)) ≤ x
      · rw [show rowS row s n x = x by unfold rowS; rw [if_neg e, if_pos f]]
        have f' := Int32.le_iff_toInt_le.mp f
        refine ⟨h1, fun u hu hne => ?_, ?_⟩
        · by_cases q : u = n
          · subst q; exact f'
          · exact h2 u (by omega) hne
        · rcases h3 with h3 | ⟨u, hu, q⟩
          · exact Or.inl h3
          · exact Or.inr ⟨u, by omega, q⟩
      · rw [show rowS row s n x = row (andn s (1 <<< n)) by unfold rowS; rw [if_neg e, if_neg f]]
        have f' : x.toInt < (row (andn s (1 <<< n))).toInt := by
          rw [Int32.le_iff_toInt_le] at f
          omega
        refine ⟨by omega, fun u hu hne => ?_, Or.inr ⟨n, by omega, e, rfl⟩⟩
        by_cases q : u = n
        · subst q; exact Int.le_refl _
        · have := h2 u (by omega) hne
          omega
theorem fillS_o {al : Nat → Nat → Nat} {sc wi : Nat → Int32} {v set k : Nat} (h : k ≠ v * 16 + set) : fillS al sc v set wi k = wi k := upd_n h
theorem fillS_s {al : Nat → Nat → Nat} {sc wi : Nat → Int32} {v set : Nat} : fillS al sc v set wi (v * 16 + set) = lit (rowS (fun s => wi (v * 16 + s)) set) (fwB al sc v set) 4 := upd_s
theorem fill_keep {al : Nat → Nat → Nat} {sc wi : Nat → Int32} {v s : Nat} : ∀ i, s < i → lit (fillS al sc v) wi i (v * 16 + s) = lit (fillS al sc v) wi (s + 1) (v * 16 + s) := by
  intro i
  induction i with
  | zero => intro h; omega
  | succ i ih =>
    intro h
    by_cases e : i = s
    · subst e; rfl
    · rw [lit_succ, fillS_o (by omega)]
      exact ih (by omega)
theorem wv_fix (al : Nat → Nat → Nat) (sc : Nat → Int32) (v : Nat) {s : Nat} (hs : s < 16) : wv al sc v s = lit (rowS (fun z => wv al sc v z) s) (fwB al sc v s) 4 := by
  have e1 : wv al sc v s = lit (fillS al sc v) c0 (s + 1) (v * 16 + s) := fill_keep 16 hs
  rw [e1, lit_succ, fillS_s]
  refine lit_cong (fun u b => rowS_cong (fun z hz => ?_) u b) _ 4
  show lit (fillS al sc v) c0 s (v * 16 + z) = lit (fillS al sc v) c0 16 (v * 16 + z)
  rw [fill_keep s hz, fill_keep 16 (by omega)]
/-- scores of allowed parents are small -/
def Sm (al : Nat → Nat → Nat) (sc : Nat → Int32) : Prop := ∀ v, v < 4 → ∀ p, p < 16 → al v p ≠ 0 → -1000 ≤ (sc (v * 16 + p)).toInt ∧ (sc (v * 16 + p)).toInt ≤ 1000
theorem wv_char {al : Nat → Nat → Nat} {sc : Nat → Int32} (hS : Sm al sc) {v : Nat} (hv : v < 4) : ∀ s, s < 16 → (wv al sc v s = -100000 ∧ ∀ p, p < 16 → andn p s = 0 → al v p = 0) ∨ ((∃ p, p < 16 ∧ andn p s = 0 ∧ al v p ≠ 0 ∧ wv al sc v s = sc (v * 16 + p)) ∧ ∀ p, p < 16 → andn p s = 0 → al v p ≠ 0 → (sc (v * 16 + p)).toInt ≤ (wv al sc v s).toInt) := by
  intro s
  induction s using Nat.strongRecOn with
  | _ s ih =>
    intro hs
    obtain ⟨h1, h2, h3⟩ := row_lit (fun z => wv al sc v z) s (fwB al sc v s) 4
    rw [← wv_fix al sc v hs] at h1 h2 h3
    have up : ∀ p, p < 16 → andn p s = 0 → al v p ≠ 0 → (sc (v * 16 + p)).toInt ≤ (wv al sc v s).toInt := by
      intro p hp hps hal
      rcases fs1 s hs p hp hps with e | ⟨u, hu, hne, hpu⟩
      · subst e
        have e2 : fwB al sc v p = sc (v * 16 + p) := by unfold fwB; rw [if_neg hal]
        rw [e2] at h1
        exact h1
      · have hlt : andn s (1 <<< u) < s := Nat.lt_of_le_of_ne (andn_le _ _) hne
        have h4 := h2 u hu hne
        rcases ih _ hlt (by omega) with q | q
        · exact absurd (q.2 p hp hpu) hal
        · have := q.2 p hp hpu hal
          exact Int.le_trans this h4
    have none_ : wv al sc v s = -100000 → ∀ p, p < 16 → andn p s = 0 → al v p = 0 := by
      intro e p hp hps
      by_cases hal : al v p = 0
      · exact hal
      · have a := up p hp hps hal
        have b := hS v hv p hp hal
        rw [e, tI_none] at a
        omega
    rcases h3 with h3 | ⟨u, hu, hne, h3⟩
    · by_cases hal : al v s = 0
      · have e2 : fwB al sc v s = -100000 := by unfold fwB; rw [if_pos hal]
        rw [e2] at h3
        exact Or.inl ⟨h3, none_ h3⟩
      · have e2 : fwB al sc v s = sc (v * 16 + s) := by unfold fwB; rw [if_neg hal]
        rw [e2] at h3
        exact Or.inr ⟨⟨s, hs, fs3 s hs, hal, h3⟩, up⟩
    · have hlt : andn s (1 <<< u) < s := Nat.lt_of_le_of_ne (andn_le _ _) hne
      rcases ih _ hlt (by omega) with q | q
      · have e : wv al sc v s = -100000 := h3.trans q.1
        exact Or.inl ⟨e, none_ e⟩
      · obtain ⟨⟨p, hp, hps, hal, e⟩, -⟩ := q
        exact Or.inr ⟨⟨p, hp, fs2 s hs u hu p hp hps, hal, h3.trans e⟩, up⟩
theorem wv_bd {al : Nat → Nat → Nat} {sc : Nat → Int32} (hS : Sm al sc) {v s : Nat} (hv : v < 4) (hs : s < 16) : wv al sc v s = -100000 ∨ (-1000 ≤ (wv al sc v s).toInt ∧ (wv al sc v s).toInt ≤ 1000) := by
  rcases wv_char hS hv s hs with h | ⟨⟨p, hp, _, hal, e⟩, _⟩
  · exact Or.inl h.1
  · rw [e]; exact Or.inr (hS v hv p hp hal)
-- ---- one set's entry
def tb (w y : Int32) (x : Int32 × Int32) : Int32 × Int32 := if w ≤ x.1 then (if w = x.1 then (x.1, x.2 + y) else x) else (w, nI 0 + y)
def tv (wf : Nat → Nat → Int32) (dp wy : Nat → Int32) (s v : Nat) (x : Int32 × Int32) : Int32 × Int32 := if (s >>> v) &&& 1 = 1 then (if wf v (andn s (1 <<< v)) = -100000 then x else if dp (andn s (1 <<< v)) = -100000 then x else tb (dp (andn s (1 <<< v)) + wf v (andn s (1 <<< v))) (wy (andn s (1 <<< v))) x) else x
theorem solV_o {wi : Nat → Int32} {set v k : Nat} {st : (Nat → Int32) × (Nat → Int32)} (h : k ≠ set) : (solV wi set v st).1 k = st.1 k ∧ (solV wi set v st).2 k = st.2 k := by
  unfold solV tryF tryB tryA
  (repeat' split) <;> simp [upd, h]
theorem tryBA {set r : Nat} {w : Int32} {st : (Nat → Int32) × (Nat → Int32)} (hr : r ≠ set) : ((tryB set r w (tryA set w st)).1 set, (tryB set r w (tryA set w st)).2 set) = tb w (st.2 r) (st.1 set, st.2 set) := by
  unfold tryB tryA tb
  by_cases c1 : w ≤ st.1 set
  · rw [if_pos c1, if_pos c1]
    by_cases c2 : w = st.1 set
    · rw [if_pos c2, if_pos c2]
      simp [upd]
    · rw [if_neg c2, if_neg c2]
  · rw [if_neg c1, if_neg c1]
    simp [upd, hr]
theorem solV_s {wi : Nat → Int32} {set v : Nat} {st : (Nat → Int32) × (Nat → Int32)} (hs : set < 16) (hv : v < 4) : ((solV wi set v st).1 set, (solV wi set v st).2 set) = tv (fun v z => wi (v * 16 + z)) st.1 st.2 set v (st.1 set, st.2 set) := by
  unfold solV tv
  by_cases c : (set >>> v) &&& 1 = 1
  · rw [if_pos c, if_pos c]
    unfold tryF
    by_cases c1 : wi (v * 16 + andn set (1 <<< v)) = -100000
    · rw [if_pos c1, if_pos c1]
    · rw [if_neg c1, if_neg c1]
      by_cases c2 : st.1 (andn set (1 <<< v)) = -100000
      · rw [if_pos c2, if_pos c2]
      · rw [if_neg c2, if_neg c2]
        exact tryBA (fs4 set hs v hv c)
  · rw [if_neg c, if_neg c]
theorem tv_cong {wf wf' : Nat → Nat → Int32} {dp dp' wy wy' : Nat → Int32} {s v : Nat} (h : (s >>> v) &&& 1 = 1 → wf v (andn s (1 <<< v)) = wf' v (andn s (1 <<< v)) ∧ dp (andn s (1 <<< v)) = dp' (andn s (1 <<< v)) ∧ wy (andn s (1 <<< v)) = wy' (andn s (1 <<< v))) (x : Int32 × Int32) : tv wf dp wy s v x = tv wf' dp' wy' s v x := by
  unfold tv
  by_cases c : (s >>> v) &&& 1 = 1
  · rw [if_pos c, if_pos c, (h c).1, (h c).2.1, (h c).2.2]
  · rw [if_neg c, if_neg c]
theorem lit_congn {σ : Type} {f g : Nat → σ → σ} (n : Nat) (h : ∀ i s, i < n → f i s = g i s) (s : σ) : lit f s n = lit g s n := by
  induction n with
  | zero => rfl
  | succ n ih => rw [lit_succ, lit_succ, ih (fun i s hi => h i s (by omega)), h n _ (by omega)]
theorem solV_lit {wi : Nat → Int32} {set : Nat} {st : (Nat → Int32) × (Nat → Int32)} (hs : set < 16) : ∀ n, n ≤ 4 → (∀ k, k ≠ set → (lit (solV wi set) st n).1 k = st.1 k ∧ (lit (solV wi set) st n).2 k = st.2 k) ∧ ((lit (solV wi set) st n).1 set, (lit (solV wi set) st n).2 set) = lit (tv (fun v z => wi (v * 16 + z)) st.1 st.2 set) (st.1 set, st.2 set) n := by
  intro n
  induction n with
  | zero => intro _; exact ⟨fun k _ => ⟨rfl, rfl⟩, rfl⟩
  | succ n ih =>
    intro hn
    obtain ⟨h1, h2⟩ := ih (by omega)
    rw [lit_succ, lit_succ, ← h2]
    generalize lit (solV wi set) st n = st' at h1 h2
    refine ⟨fun k hk => ?_, ?_⟩
    · have a := solV_o (wi := wi) (v := n) (st := st') hk
      exact ⟨a.1.trans (h1 k hk).1, a.2.trans (h1 k hk).2⟩
    · rw [solV_s hs (by omega)]
      refine tv_cong (fun c => ?_) _
      have hne := fs4 set hs n (by omega) c
      exact ⟨rfl, (h1 _ hne).1, (h1 _ hne).2⟩
/-- the tables' entries -/
def dp (al : Nat → Nat → Nat) (sc : Nat → Int32) (s : Nat) : Int32 := (solveF al sc c0 c0 c0).1 s
def wy (al : Nat → Nat → Nat) (sc : Nat → Int32) (s : Nat) : Int32 := (solveF al sc c0 c0 c0).2 s
theorem solS_o {wi : Nat → Int32} {j k : Nat} {st : (Nat → Int32) × (Nat → Int32)} (hj : j < 15) (h : k ≠ j + 1) : (solS wi j st).1 k = st.1 k ∧ (solS wi j st).2 k = st.2 k := by
  unfold solS
  have a := (solV_lit (wi := wi) (set := j + 1) (st := (upd st.1 (j + 1) (-100000), upd st.2 (j + 1) (nI 0))) (by omega) 4 (Nat.le_refl _)).1 k h
  rw [a.1, a.2]
  exact ⟨upd_n h, upd_n h⟩
theorem sol_keep {wi : Nat → Int32} {st : (Nat → Int32) × (Nat → Int32)} {k : Nat} : ∀ j, k ≤ j → j ≤ 15 → (lit (solS wi) st j).1 k = (lit (solS wi) st k).1 k ∧ (lit (solS wi) st j).2 k = (lit (solS wi) st k).2 k := by
  intro j
  induction j with
  | zero => intro h _; rw [show k = 0 by omega]; exact ⟨rfl, rfl⟩
  | succ j ih =>
    intro h hj
    by_cases e : k = j + 1
    · rw [e]; exact ⟨rfl, rfl⟩
    · rw [lit_succ]
      have a := solS_o (wi := wi) (st := lit (solS wi) st j) (j := j) (k := k) (by omega) e
      have b := ih (by omega) (by omega)
      exact ⟨a.1.trans b.1, a.2.trans b.2⟩
theorem dp_0 (al : Nat → Nat → Nat) (sc : Nat → Int32) : dp al sc 0 = nI 0 ∧ wy al sc 0 = nI 1 := by
  have a := sol_keep (wi := fillA al sc c0) (st := (upd c0 0 (nI 0), upd c0 0 (nI 1))) (k := 0) 15 (by omega) (by omega)
  exact ⟨a.1.trans (show upd c0 0 (nI 0) 0 = nI 0 from upd_s), a.2.trans (show upd c0 0 (nI 1) 0 = nI 1 from upd_s)⟩
theorem dp_fix (al : Nat → Nat → Nat) (sc : Nat → Int32) {s : Nat} (h1 : 1 ≤ s) (hs : s < 16) : (dp al sc s, wy al sc s) = lit (tv (wv al sc) (dp al sc) (wy al sc) s) (-100000, nI 0) 4 := by
  obtain ⟨j, rfl⟩ : ∃ j, s = j + 1 := ⟨s - 1, by omega⟩
  have K : ∀ k, k ≤ 15 → dp al sc k = (lit (solS (fillA al sc c0)) (upd c0 0 (nI 0), upd c0 0 (nI 1)) k).1 k ∧ wy al sc k = (lit (solS (fillA al sc c0)) (upd c0 0 (nI 0), upd c0 0 (nI 1)) k).2 k := fun k hk => sol_keep 15 hk (Nat.le_refl _)
  rw [(K (j + 1) (by omega)).1, (K (j + 1) (by omega)).2, lit_succ]
  have L : ∀ k, k ≤ j → (lit (solS (fillA al sc c0)) (upd c0 0 (nI 0), upd c0 0 (nI 1)) j).1 k = dp al sc k ∧ (lit (solS (fillA al sc c0)) (upd c0 0 (nI 0), upd c0 0 (nI 1)) j).2 k = wy al sc k := by
    intro k hk
    have a := sol_keep (wi := fillA al sc c0) (st := (upd c0 0 (nI 0), upd c0 0 (nI 1))) (k := k) j hk (by omega)
    have b := K k (by omega)
    exact ⟨a.1.trans b.1.symm, a.2.trans b.2.symm⟩
  generalize lit (solS (fillA al sc c0)) (upd c0 0 (nI 0), upd c0 0 (nI 1)) j = st at L
  unfold solS
  have a := (solV_lit (wi := fillA al sc c0) (set := j + 1) (st := (upd st.1 (j + 1) (-100000), upd st.2 (j + 1) (nI 0))) (by omega) 4 (Nat.le_refl _)).2
  rw [a]
  have e : ((upd st.1 (j + 1) (-100000), upd st.2 (j + 1) (nI 0)).1 (j + 1), (upd st.1 (j + 1) (-100000), upd st.2 (j + 1) (nI 0)).2 (j + 1)) = ((-100000 : Int32), nI 0) := by
    show (upd st.1 (j + 1) (-100000) (j + 1), upd st.2 (j + 1) (nI 0) (j + 1)) = _
    rw [upd_s, upd_s]
  rw [e]
  refine lit_congn 4 (fun v x hv => tv_cong (fun c => ?_) x) _
  have hne := fs4 (j + 1) hs v hv c
  have hle := andn_le (j + 1) (1 <<< v)
  refine ⟨fillA_at 4 v _ hv (by omega), ?_, ?_⟩
  · show upd st.1 (j + 1) (-100000) _ = _
    rw [upd_n hne]
    exact (L _ (by omega)).1
  · show upd st.2 (j + 1) (nI 0) _ = _
    rw [upd_n hne]
    exact (L _ (by omega)).2
end
section
/-! what the tables' entries are: the greatest sum over orders, and how many orders reach it -/
def sumN (f : Nat → Nat) (n : Nat) : Nat := lit (fun v acc => acc + f v) 0 n
theorem sumN_succ (f : Nat → Nat) (n : Nat) : sumN f (n + 1) = sumN f n + f n := rfl
theorem sumN_0 {f : Nat → Nat} : ∀ n, (∀ v, v < n → f v = 0) → sumN f n = 0 := by
  intro n
  induction n with
  | zero => intro _; rfl
  | succ n ih =>
    intro h
    rw [sumN_succ, ih (fun v hv => h v (by omega)), h n (by omega)]
theorem sumN_cong {f g : Nat → Nat} : ∀ n, (∀ v, v < n → f v = g v) → sumN f n = sumN g n := by
  intro n
  induction n with
  | zero => intro _; rfl
  | succ n ih =>
    intro h
    rw [sumN_succ, sumN_succ, ih (fun v hv => h v (by omega)), h n (by omega)]
/-- v can come last in s -/
def Vl (al : Nat → Nat → Nat) (sc : Nat → Int32) (s v : Nat) : Prop := (s >>> v) &&& 1 = 1 ∧ wv al sc v (andn s (1 <<< v)) ≠ -100000 ∧ dp al sc (andn s (1 <<< v)) ≠ -100000
/-- the worth with v last -/
def Xv (al : Nat → Nat → Nat) (sc : Nat → Int32) (s v : Nat) : Int := (dp al sc (andn s (1 <<< v))).toInt + (wv al sc v (andn s (1 <<< v))).toInt
def Opt (al : Nat → Nat → Nat) (sc : Nat → Int32) (s v : Nat) : Prop := Vl al sc s v ∧ Xv al sc s v = (dp al sc s).toInt
noncomputable def iteN (p : Prop) (n : Nat) : Nat := @ite Nat p (Classical.propDecidable p) n 0
theorem iteN_t {p : Prop} {n : Nat} (h : p) : iteN p n = n := if_pos h
theorem iteN_f {p : Prop} {n : Nat} (h : ¬ p) : iteN p n = 0 := if_neg h
noncomputable def cntF (al : Nat → Nat → Nat) (sc : Nat → Int32) : Nat → Nat → Nat
  | 0, _ => 1
  | n + 1, s => sumN (fun v => iteN (Opt al sc s v) (cntF al sc n (andn s (1 <<< v)))) 4
def Bd (al : Nat → Nat → Nat) (sc : Nat → Int32) (s : Nat) : Prop := dp al sc s = -100000 ∨ (-(1000 * (szN s : Int)) ≤ (dp al sc s).toInt ∧ (dp al sc s).toInt ≤ 1000 * (szN s : Int))
theorem fs5 : ∀ s, s < 16 → ∀ v, v < 4 → (s >>> v) &&& 1 = 1 → szN (andn s (1 <<< v)) + 1 = szN s := by decide +kernel
theorem ne_tI {x : Int32} (h : x ≠ -100000) : x.toInt ≠ -100000 := fun e => h (tI_ext (e.trans tI_none.symm))
theorem tv_lit {al : Nat → Nat → Nat} {sc : Nat → Int32} (hS : Sm al sc) {s : Nat} (hs : s < 16) (hB : ∀ r, r < s → Bd al sc r) (cn : Nat → Nat) (hc : ∀ v, v < 4 → (s >>> v) &&& 1 = 1 → wy al sc (andn s (1 <<< v)) = nI (cn v)) :
    ∀ n, n ≤ 4 → ∀ x : Int32 × Int32, x = lit (tv (wv al sc) (dp al sc) (wy al sc) s) (-100000, nI 0) n →
      ((x.1 = -100000 ∧ ∀ v, v < n → ¬ Vl al sc s v) ∨ (x.1 ≠ -100000 ∧ ∃ v, v < n ∧ Vl al sc s v ∧ x.1.toInt = Xv al sc s v)) ∧ (∀ v, v < n → Vl al sc s v → Xv al sc s v ≤ x.1.toInt) ∧ x.2 = nI (sumN (fun v => iteN (Vl al sc s v ∧ Xv al sc s v = x.1.toInt) (cn v)) n) := by
  intro n
  induction n with
  | zero =>
    intro _ x hx
    subst hx
    exact ⟨Or.inl ⟨rfl, fun v h => absurd h (Nat.not_lt_zero v)⟩, fun v h => absurd h (Nat.not_lt_zero v), rfl⟩
  | succ n ih =>
    intro hn x hx
    obtain ⟨h1, h2, h3⟩ := ih (by omega) _ rfl
    rw [lit_succ] at hx
    generalize lit (tv (wv al sc) (dp al sc) (wy al sc) s) (-100000, nI 0) n = y at h1 h2 h3 hx
    by_cases hV : Vl al sc s n
    · obtain ⟨c, cw, cd⟩ := id hV
      have hne := fs4 s hs n (by omega) c
      have hle := andn_le s (1 <<< n)
      have hsz := fs5 s hs n (by omega) c
      have hz4 := szN_le s hs
      have bd := (hB _ (Nat.lt_of_le_of_ne hle hne)).resolve_left cd
      have bw := (wv_bd hS (v := n) (s := andn s (1 <<< n)) (by omega) (by omega)).resolve_left cw
      have eX : (dp al sc (andn s (1 <<< n)) + wv al sc n (andn s (1 <<< n))).toInt = Xv al sc s n := tI_add (by omega) (by omega)
      have lX : -100000 < Xv al sc s n := by unfold Xv; omega
      have ewy := hc n (by omega) c
      unfold tv at hx
      rw [if_pos c, if_neg cw, if_neg cd, ewy] at hx
      generalize dp al sc (andn s (1 <<< n)) + wv al sc n (andn s (1 <<< n)) = w at hx eX
      unfold tb at hx
      by_cases q1 : w ≤ y.1
      · rw [if_pos q1] at hx
        have q1' := Int32.le_iff_toInt_le.mp q1
        rw [eX] at q1'
        have hyn : y.1 ≠ -100000 := by
          intro e
          rw [e, tI_none] at q1'
          omega
        have h1' := h1.resolve_left (fun z => hyn z.1)
        by_cases q2 : w = y.1
        · rw [if_pos q2] at hx
          have e2 : Xv al sc s n = y.1.toInt := by rw [← eX, q2]
          subst hx
          refine ⟨Or.inr ⟨hyn, ?_⟩, fun v hv hVv => ?_, ?_⟩
          · obtain ⟨v, hv, r⟩ := h1'.2
            exact ⟨v, by omega, r⟩
          · by_cases e : v = n
            · subst e; exact q1'
            · exact h2 v (by omega) hVv
          · show y.2 + nI (cn n) = nI _
            rw [sumN_succ, iteN_t ⟨hV, e2⟩, h3, nI_add]
        · rw [if_neg q2] at hx
          have e2 : ¬ Xv al sc s n = y.1.toInt := fun z => q2 (tI_ext (eX.trans z))
          subst hx
          refine ⟨Or.inr ⟨hyn, ?_⟩, fun v hv hVv => ?_, ?_⟩
          · obtain ⟨v, hv, r⟩ := h1'.2
            exact ⟨v, by omega, r⟩
          · by_cases e : v = n
            · subst e; exact q1'
            · exact h2 v (by omega) hVv
          · rw [sumN_succ, iteN_f (fun z => e2 z.2), Nat.add_zero]
            exact h3
      · rw [if_neg q1] at hx
        have q1' : y.1.toInt < Xv al sc s n := by
          rw [Int32.le_iff_toInt_le, eX] at q1
          omega
        subst hx
        refine ⟨Or.inr ⟨fun e => ?_, ⟨n, by omega, hV, eX⟩⟩, fun v hv hVv => ?_, ?_⟩
        · have e : w = -100000 := e
          rw [e, tI_none] at eX
          omega
        · show _ ≤ w.toInt
          by_cases e : v = n
          · subst e; rw [eX]; exact Int.le_refl _
          · have := h2 v (by omega) hVv
            omega
        · show nI 0 + nI (cn n) = nI (sumN (fun v => iteN (Vl al sc s v ∧ Xv al sc s v = w.toInt) (cn v)) (n + 1))
          rw [sumN_succ, iteN_t ⟨hV, eX.symm⟩, sumN_0 n (fun v hv => iteN_f (fun z => by have := h2 v hv z.1; omega)), nI_add]
    · have ex : x = y := by
        rw [hx]
        unfold tv
        by_cases c : (s >>> n) &&& 1 = 1
        · rw [if_pos c]
          by_cases cw : wv al sc n (andn s (1 <<< n)) = -100000
          · rw [if_pos cw]
          · rw [if_neg cw]
            by_cases cd : dp al sc (andn s (1 <<< n)) = -100000
            · rw [if_pos cd]
            · exact absurd ⟨c, cw, cd⟩ hV
        · rw [if_neg c]
      rw [ex]
      refine ⟨?_, fun v hv hVv => ?_, ?_⟩
      · rcases h1 with h1 | ⟨a, v, hv, r⟩
        · refine Or.inl ⟨h1.1, fun v hv => ?_⟩
          by_cases e : v = n
          · subst e; exact hV
          · exact h1.2 v (by omega)
        · exact Or.inr ⟨a, v, by omega, r⟩
      · by_cases e : v = n
        · subst e; exact absurd hVv hV
        · exact h2 v (by omega) hVv
      · rw [sumN_succ, iteN_f (fun z => hV z.1), Nat.add_zero]
        exact h3
/-- all that is known of an entry -/
theorem dp_char {al : Nat → Nat → Nat} {sc : Nat → Int32} (hS : Sm al sc) : ∀ s, s < 16 → Bd al sc s ∧ wy al sc s = nI (cntF al sc (szN s) s) ∧ (1 ≤ s → ((dp al sc s = -100000 ∧ ∀ v, v < 4 → ¬ Vl al sc s v) ∨ (dp al sc s ≠ -100000 ∧ ∃ v, v < 4 ∧ Vl al sc s v ∧ (dp al sc s).toInt = Xv al sc s v)) ∧ ∀ v, v < 4 → Vl al sc s v → Xv al sc s v ≤ (dp al sc s).toInt) := by
  intro s
  induction s using Nat.strongRecOn with
  | _ s ih =>
    intro hs
    by_cases h0 : s = 0
    · subst h0
      refine ⟨Or.inr ?_, (dp_0 al sc).2, fun h => absurd h (by omega)⟩
      rw [(dp_0 al sc).1]
      decide
    · have hc : ∀ v, v < 4 → (s >>> v) &&& 1 = 1 → wy al sc (andn s (1 <<< v)) = nI ((fun v => cntF al sc (szN s - 1) (andn s (1 <<< v))) v) := by
        intro v hv c
        have hne := fs4 s hs v hv c
        have hle := andn_le s (1 <<< v)
        have hsz := fs5 s hs v hv c
        rw [(ih _ (Nat.lt_of_le_of_ne hle hne) (by omega)).2.1, show szN (andn s (1 <<< v)) = szN s - 1 by omega]
      have hB : ∀ r, r < s → Bd al sc r := fun r hr => (ih r hr (by omega)).1
      obtain ⟨a1, a2, a3⟩ := tv_lit hS hs hB _ hc 4 (Nat.le_refl _) (dp al sc s, wy al sc s) (dp_fix al sc (by omega) hs)
      dsimp only at a1 a2 a3
      refine ⟨?_, ?_, fun _ => ⟨a1, a2⟩⟩
      · rcases a1 with a1 | ⟨hn, v, hv, hV, e⟩
        · exact Or.inl a1.1
        · right
          obtain ⟨c, cw, cd⟩ := hV
          have hne := fs4 s hs v hv c
          have hle := andn_le s (1 <<< v)
          have hsz := fs5 s hs v hv c
          have bd := (hB _ (Nat.lt_of_le_of_ne hle hne)).resolve_left cd
          have bw := (wv_bd hS (v := v) (s := andn s (1 <<< v)) hv (by omega)).resolve_left cw
          rw [e]
          unfold Xv
          omega
      · have hz : ∃ n, szN s = n + 1 := by
          rcases a1 with a1 | ⟨hn, v, hv, hV, e⟩
          · have : ∀ s, s < 16 → s ≠ 0 → szN s ≠ 0 := by decide +kernel
            exact ⟨szN s - 1, by have := this s hs h0; omega⟩
          · exact ⟨_, (fs5 s hs v hv hV.1).symm⟩
        obtain ⟨n, hn⟩ := hz
        rw [a3, hn]
        rfl
end
section
/-! counting orders: the 24 of them, on both sides (printed by a program) -/
abbrev O2 (a b : Nat) : Nat := (1 <<< a) ||| (1 <<< b)
abbrev O3 (a b c : Nat) : Nat := ((1 <<< a) ||| (1 <<< b)) ||| (1 <<< c)
theorem cntF_4 (al : Nat → Nat → Nat) (sc : Nat → Int32) (n s : Nat) : cntF al sc (n + 1) s = iteN (Opt al sc s 0) (cntF al sc n (andn s (1 <<< 0))) + iteN (Opt al sc s 1) (cntF al sc n (andn s (1 <<< 1))) + iteN (Opt al sc s 2) (cntF al sc n (andn s (1 <<< 2))) + iteN (Opt al sc s 3) (cntF al sc n (andn s (1 <<< 3))) := by
  show 0 + _ + _ + _ + _ = _
  rw [Nat.zero_add]
theorem Opt_no {al : Nat → Nat → Nat} {sc : Nat → Int32} {s v : Nat} (h : ¬ (s >>> v) &&& 1 = 1) : ¬ Opt al sc s v := fun o => h o.1.1
theorem iteN_add (p : Prop) (x y : Nat) : iteN p (x + y) = iteN p x + iteN p y := by
  by_cases h : p
  · rw [iteN_t h, iteN_t h, iteN_t h]
  · rw [iteN_f h, iteN_f h, iteN_f h]
theorem iteN_and (p q : Prop) (x : Nat) : iteN p (iteN q x) = iteN (p ∧ q) x := by
  by_cases h : p
  · rw [iteN_t h]
    by_cases k : q
    · rw [iteN_t k, iteN_t ⟨h, k⟩]
    · rw [iteN_f k, iteN_f (fun z => k z.2)]
  · rw [iteN_f h, iteN_f (fun z => h z.1)]
theorem ct_1 (al : Nat → Nat → Nat) (sc : Nat → Int32) : cntF al sc (0 + 1) 1 = iteN (Opt al sc 1 0) (cntF al sc 0 0) := by
  rw [cntF_4, iteN_f (Opt_no (s := 1) (v := 1) (by decide)), iteN_f (Opt_no (s := 1) (v := 2) (by decide)), iteN_f (Opt_no (s := 1) (v := 3) (by decide))]
  simp only [Nat.zero_add, Nat.add_zero]
  rfl
theorem ct_2 (al : Nat → Nat → Nat) (sc : Nat → Int32) : cntF al sc (0 + 1) 2 = iteN (Opt al sc 2 1) (cntF al sc 0 0) := by
  rw [cntF_4, iteN_f (Opt_no (s := 2) (v := 0) (by decide)), iteN_f (Opt_no (s := 2) (v := 2) (by decide)), iteN_f (Opt_no (s := 2) (v := 3) (by decide))]
  simp only [Nat.zero_add, Nat.add_zero]
  rfl
theorem ct_3 (al : Nat → Nat → Nat) (sc : Nat → Int32) : cntF al sc (1 + 1) 3 = iteN (Opt al sc 3 0) (cntF al sc 1 2) + iteN (Opt al sc 3 1) (cntF al sc 1 1) := by
  rw [cntF_4, iteN_f (Opt_no (s := 3) (v := 2) (by decide)), iteN_f (Opt_no (s := 3) (v := 3) (by decide))]
  simp only [Nat.zero_add, Nat.add_zero]
  rfl
theorem ct_4 (al : Nat → Nat → Nat) (sc : Nat → Int32) : cntF al sc (0 + 1) 4 = iteN (Opt al sc 4 2) (cntF al sc 0 0) := by
  rw [cntF_4, iteN_f (Opt_no (s := 4) (v := 0) (by decide)), iteN_f (Opt_no (s := 4) (v := 1) (by decide)), iteN_f (Opt_no (s := 4) (v := 3) (by decide))]
  simp only [Nat.zero_add, Nat.add_zero]
  rfl
theorem ct_5 (al : Nat → Nat → Nat) (sc : Nat → Int32) : cntF al sc (1 + 1) 5 = iteN (Opt al sc 5 0) (cntF al sc 1 4) + iteN (Opt al sc 5 2) (cntF al sc 1 1) := by
  rw [cntF_4, iteN_f (Opt_no (s := 5) (v := 1) (by decide)), iteN_f (Opt_no (s := 5) (v := 3) (by decide))]
  simp only [Nat.zero_add, Nat.add_zero]
  rfl
theorem ct_6 (al : Nat → Nat → Nat) (sc : Nat → Int32) : cntF al sc (1 + 1) 6 = iteN (Opt al sc 6 1) (cntF al sc 1 4) + iteN (Opt al sc 6 2) (cntF al sc 1 2) := by
  rw [cntF_4, iteN_f (Opt_no (s := 6) (v := 0) (by decide)), iteN_f (Opt_no (s := 6) (v := 3) (by decide))]
  simp only [Nat.zero_add, Nat.add_zero]
  rfl
theorem ct_7 (al : Nat → Nat → Nat) (sc : Nat → Int32) : cntF al sc (2 + 1) 7 = iteN (Opt al sc 7 0) (cntF al sc 2 6) + iteN (Opt al sc 7 1) (cntF al sc 2 5) + iteN (Opt al sc 7 2) (cntF al sc 2 3) := by
  rw [cntF_4, iteN_f (Opt_no (s := 7) (v := 3) (by decide))]
  simp only [Nat.zero_add, Nat.add_zero]
  rfl
theorem ct_8 (al : Nat → Nat → Nat) (sc : Nat → Int32) : cntF al sc (0 + 1) 8 = iteN (Opt al sc 8 3) (cntF al sc 0 0) := by
  rw [cntF_4, iteN_f (Opt_no (s := 8) (v := 0) (by decide)), iteN_f (Opt_no (s := 8) (v := 1) (by decide)), iteN_f (Opt_no (s := 8) (v := 2) (by decide))]
  simp only [Nat.zero_add, Nat.add_zero]
  rfl
theorem ct_9 (al : Nat → Nat → Nat) (sc : Nat → Int32) : cntF al sc (1 + 1) 9 = iteN (Opt al sc 9 0) (cntF al sc 1 8) + iteN (Opt al sc 9 3) (cntF al sc 1 1) := by
  rw [cntF_4, iteN_f (Opt_no (s := 9) (v := 1) (by decide)), iteN_f (Opt_no (s := 9) (v := 2) (by decide))]
  simp only [Nat.zero_add, Nat.add_zero]
  rfl
theorem ct_10 (al : Nat → Nat → Nat) (sc : Nat → Int32) : cntF al sc (1 + 1) 10 = iteN (Opt al sc 10 1) (cntF al sc 1 8) + iteN (Opt al sc 10 3) (cntF al sc 1 2) := by
  rw [cntF_4, iteN_f (Opt_no (s := 10) (v := 0) (by decide)), iteN_f (Opt_no (s := 10) (v := 2) (by decide))]
  simp only [Nat.zero_add, Nat.add_zero]
  rfl
theorem ct_11 (al : Nat → Nat → Nat) (sc : Nat → Int32) : cntF al sc (2 + 1) 11 = iteN (Opt al sc 11 0) (cntF al sc 2 10) + iteN (Opt al sc 11 1) (cntF al sc 2 9) + iteN (Opt al sc 11 3) (cntF al sc 2 3) := by
  rw [cntF_4, iteN_f (Opt_no (s := 11) (v := 2) (by decide))]
  simp only [Nat.zero_add, Nat.add_zero]
  rfl
theorem ct_12 (al : Nat → Nat → Nat) (sc : Nat → Int32) : cntF al sc (1 + 1) 12 = iteN (Opt al sc 12 2) (cntF al sc 1 8) + iteN (Opt al sc 12 3) (cntF al sc 1 4) := by
  rw [cntF_4, iteN_f (Opt_no (s := 12) (v := 0) (by decide)), iteN_f (Opt_no (s := 12) (v := 1) (by decide))]
  simp only [Nat.zero_add, Nat.add_zero]
  rfl
theorem ct_13 (al : Nat → Nat → Nat) (sc : Nat → Int32) : cntF al sc (2 + 1) 13 = iteN (Opt al sc 13 0) (cntF al sc 2 12) + iteN (Opt al sc 13 2) (cntF al sc 2 9) + iteN (Opt al sc 13 3) (cntF al sc 2 5) := by
  rw [cntF_4, iteN_f (Opt_no (s := 13) (v := 1) (by decide))]
  simp only [Nat.zero_add, Nat.add_zero]
  rfl
theorem ct_14 (al : Nat → Nat → Nat) (sc : Nat → Int32) : cntF al sc (2 + 1) 14 = iteN (Opt al sc 14 1) (cntF al sc 2 12) + iteN (Opt al sc 14 2) (cntF al sc 2 10) + iteN (Opt al sc 14 3) (cntF al sc 2 6) := by
  rw [cntF_4, iteN_f (Opt_no (s := 14) (v := 0) (by decide))]
  simp only [Nat.zero_add, Nat.add_zero]
  rfl
theorem ct_15 (al : Nat → Nat → Nat) (sc : Nat → Int32) : cntF al sc (3 + 1) 15 = iteN (Opt al sc 15 0) (cntF al sc 3 14) + iteN (Opt al sc 15 1) (cntF al sc 3 13) + iteN (Opt al sc 15 2) (cntF al sc 3 11) + iteN (Opt al sc 15 3) (cntF al sc 3 7) := by
  rw [cntF_4]
  rfl
/-- the order a, b, c, d reaches the greatest worth in each of its beginnings -/
def Chain (al : Nat → Nat → Nat) (sc : Nat → Int32) (a b c d : Nat) : Prop := Opt al sc 15 d ∧ Opt al sc (O3 a b c) c ∧ Opt al sc (O2 a b) b ∧ Opt al sc (1 <<< a) a
noncomputable def gT (al : Nat → Nat → Nat) (sc : Nat → Int32) (a b c d : Nat) : Nat := iteN (Chain al sc a b c d) 1
set_option maxHeartbeats 4000000 in
theorem cnt15 (al : Nat → Nat → Nat) (sc : Nat → Int32) : cntF al sc (3 + 1) 15 = gT al sc 0 1 2 3 + gT al sc 0 1 3 2 + gT al sc 0 2 1 3 + gT al sc 0 2 3 1 + gT al sc 0 3 1 2 + gT al sc 0 3 2 1 + gT al sc 1 0 2 3 + gT al sc 1 0 3 2 + gT al sc 1 2 0 3 + gT al sc 1 2 3 0 + gT al sc 1 3 0 2 + gT al sc 1 3 2 0 + gT al sc 2 0 1 3 + gT al sc 2 0 3 1 + gT al sc 2 1 0 3 + gT al sc 2 1 3 0 + gT al sc 2 3 0 1 + gT al sc 2 3 1 0 + gT al sc 3 0 1 2 + gT al sc 3 0 2 1 + gT al sc 3 1 0 2 + gT al sc 3 1 2 0 + gT al sc 3 2 0 1 + gT al sc 3 2 1 0 := by
  have t0123 : iteN (Opt al sc 15 3 ∧ Opt al sc 7 2 ∧ Opt al sc 3 1 ∧ Opt al sc 1 0) 1 = gT al sc 0 1 2 3 := rfl
  have t0132 : iteN (Opt al sc 15 2 ∧ Opt al sc 11 3 ∧ Opt al sc 3 1 ∧ Opt al sc 1 0) 1 = gT al sc 0 1 3 2 := rfl
  have t0213 : iteN (Opt al sc 15 3 ∧ Opt al sc 7 1 ∧ Opt al sc 5 2 ∧ Opt al sc 1 0) 1 = gT al sc 0 2 1 3 := rfl
  have t0231 : iteN (Opt al sc 15 1 ∧ Opt al sc 13 3 ∧ Opt al sc 5 2 ∧ Opt al sc 1 0) 1 = gT al sc 0 2 3 1 := rfl
  have t0312 : iteN (Opt al sc 15 2 ∧ Opt al sc 11 1 ∧ Opt al sc 9 3 ∧ Opt al sc 1 0) 1 = gT al sc 0 3 1 2 := rfl
  have t0321 : iteN (Opt al sc 15 1 ∧ Opt al sc 13 2 ∧ Opt al sc 9 3 ∧ Opt al sc 1 0) 1 = gT al sc 0 3 2 1 := rfl
  have t1023 : iteN (Opt al sc 15 3 ∧ Opt al sc 7 2 ∧ Opt al sc 3 0 ∧ Opt al sc 2 1) 1 = gT al sc 1 0 2 3 := rfl
  have t1032 : iteN (Opt al sc 15 2 ∧ Opt al sc 11 3 ∧ Opt al sc 3 0 ∧ Opt al sc 2 1) 1 = gT al sc 1 0 3 2 := rfl
  have t1203 : iteN (Opt al sc 15 3 ∧ Opt al sc 7 0 ∧ Opt al sc 6 2 ∧ Opt al sc 2 1) 1 = gT al sc 1 2 0 3 := rfl
  have t1230 : iteN (Opt al sc 15 0 ∧ Opt al sc 14 3 ∧ Opt al sc 6 2 ∧ Opt al sc 2 1) 1 = gT al sc 1 2 3 0 := rfl
  have t1302 : iteN (Opt al sc 15 2 ∧ Opt al sc 11 0 ∧ Opt al sc 10 3 ∧ Opt al sc 2 1) 1 = gT al sc 1 3 0 2 := rfl
  have t1320 : iteN (Opt al sc 15 0 ∧ Opt al sc 14 2 ∧ Opt al sc 10 3 ∧ Opt al sc 2 1) 1 = gT al sc 1 3 2 0 := rfl
  have t2013 : iteN (Opt al sc 15 3 ∧ Opt al sc 7 1 ∧ Opt al sc 5 0 ∧ Opt al sc 4 2) 1 = gT al sc 2 0 1 3 := rfl
  have t2031 : iteN (Opt al sc 15 1 ∧ Opt al sc 13 3 ∧ Opt al sc 5 0 ∧ Opt al sc 4 2) 1 = gT al sc 2 0 3 1 := rfl
  have t2103 : iteN (Opt al sc 15 3 ∧ Opt al sc 7 0 ∧ Opt al sc 6 1 ∧ Opt al sc 4 2) 1 = gT al sc 2 1 0 3 := rfl
  have t2130 : iteN (Opt al sc 15 0 ∧ Opt al sc 14 3 ∧ Opt al sc 6 1 ∧ Opt al sc 4 2) 1 = gT al sc 2 1 3 0 := rfl
  have t2301 : iteN (Opt al sc 15 1 ∧ Opt al sc 13 0 ∧ Opt al sc 12 3 ∧ Opt al sc 4 2) 1 = gT al sc 2 3 0 1 := rfl
  have t2310 : iteN (Opt al sc 15 0 ∧ Opt al sc 14 1 ∧ Opt al sc 12 3 ∧ Opt al sc 4 2) 1 = gT al sc 2 3 1 0 := rfl
  have t3012 : iteN (Opt al sc 15 2 ∧ Opt al sc 11 1 ∧ Opt al sc 9 0 ∧ Opt al sc 8 3) 1 = gT al sc 3 0 1 2 := rfl
  have t3021 : iteN (Opt al sc 15 1 ∧ Opt al sc 13 2 ∧ Opt al sc 9 0 ∧ Opt al sc 8 3) 1 = gT al sc 3 0 2 1 := rfl
  have t3102 : iteN (Opt al sc 15 2 ∧ Opt al sc 11 0 ∧ Opt al sc 10 1 ∧ Opt al sc 8 3) 1 = gT al sc 3 1 0 2 := rfl
  have t3120 : iteN (Opt al sc 15 0 ∧ Opt al sc 14 2 ∧ Opt al sc 10 1 ∧ Opt al sc 8 3) 1 = gT al sc 3 1 2 0 := rfl
  have t3201 : iteN (Opt al sc 15 1 ∧ Opt al sc 13 0 ∧ Opt al sc 12 2 ∧ Opt al sc 8 3) 1 = gT al sc 3 2 0 1 := rfl
  have t3210 : iteN (Opt al sc 15 0 ∧ Opt al sc 14 1 ∧ Opt al sc 12 2 ∧ Opt al sc 8 3) 1 = gT al sc 3 2 1 0 := rfl
  have e1 : ∀ s, cntF al sc 0 s = 1 := fun _ => rfl
  have c1 := ct_1 al sc
  have c2 := ct_2 al sc
  have c4 := ct_4 al sc
  have c8 := ct_8 al sc
  have c3 := ct_3 al sc
  have c5 := ct_5 al sc
  have c6 := ct_6 al sc
  have c9 := ct_9 al sc
  have c10 := ct_10 al sc
  have c12 := ct_12 al sc
  have c7 := ct_7 al sc
  have c11 := ct_11 al sc
  have c13 := ct_13 al sc
  have c14 := ct_14 al sc
  simp only [e1, Nat.reduceAdd] at c1 c2 c4 c8 c3 c5 c6 c9 c10 c12 c7 c11 c13 c14
  rw [ct_15, c7, c11, c13, c14, c3, c5, c6, c9, c10, c12, c1, c2, c4, c8]
  simp only [iteN_add, iteN_and]
  simp only [t0123, t0132, t0213, t0231, t0312, t0321, t1023, t1032, t1203, t1230, t1302, t1320, t2013, t2031, t2103, t2130, t2301, t2310, t3012, t3021, t3102, t3120, t3201, t3210]
  omega
noncomputable def hT (li mo : Int32) (sa nc sc : Nat → Int32) (a b c d : Nat) : Nat := if sofN li mo sa nc sc a b c d = 0 then 0 else 1
abbrev pmC (co : Nat) : Prop := (((1 <<< (co &&& 3)) ||| (1 <<< ((co >>> 2) &&& 3))) ||| (1 <<< ((co >>> 4) &&& 3))) ||| (1 <<< ((co >>> 6) &&& 3)) = 15
theorem ord_skip {li mo : Int32} {sa nc sc : Nat → Int32} (m : Nat) : ∀ k, (∀ i, i < k → ¬ pmC (m + i)) → lit (ordS li mo sa nc sc) 0 (m + k) = lit (ordS li mo sa nc sc) 0 m := by
  intro k
  induction k with
  | zero => intro _; rfl
  | succ k ih =>
    intro h
    rw [show m + (k + 1) = (m + k) + 1 from rfl, lit_succ, ← ih (fun i hi => h i (by omega))]
    unfold ordS
    rw [if_neg (h k (by omega))]
theorem ord_take {li mo : Int32} {sa nc sc : Nat → Int32} (m : Nat) (h : pmC m) : lit (ordS li mo sa nc sc) 0 (m + 1) = lit (ordS li mo sa nc sc) 0 m + hT li mo sa nc sc (m &&& 3) ((m >>> 2) &&& 3) ((m >>> 4) &&& 3) ((m >>> 6) &&& 3) := by
  rw [lit_succ]
  generalize lit (ordS li mo sa nc sc) 0 m = n
  unfold ordS hT
  rw [if_pos h]
  split <;> rfl
set_option maxRecDepth 100000 in
set_option maxHeartbeats 4000000 in
theorem ord256 (li mo : Int32) (sa nc sc : Nat → Int32) : ordN li mo sa nc sc = hT li mo sa nc sc 0 1 2 3 + hT li mo sa nc sc 0 1 3 2 + hT li mo sa nc sc 0 2 1 3 + hT li mo sa nc sc 0 2 3 1 + hT li mo sa nc sc 0 3 1 2 + hT li mo sa nc sc 0 3 2 1 + hT li mo sa nc sc 1 0 2 3 + hT li mo sa nc sc 1 0 3 2 + hT li mo sa nc sc 1 2 0 3 + hT li mo sa nc sc 1 2 3 0 + hT li mo sa nc sc 1 3 0 2 + hT li mo sa nc sc 1 3 2 0 + hT li mo sa nc sc 2 0 1 3 + hT li mo sa nc sc 2 0 3 1 + hT li mo sa nc sc 2 1 0 3 + hT li mo sa nc sc 2 1 3 0 + hT li mo sa nc sc 2 3 0 1 + hT li mo sa nc sc 2 3 1 0 + hT li mo sa nc sc 3 0 1 2 + hT li mo sa nc sc 3 0 2 1 + hT li mo sa nc sc 3 1 0 2 + hT li mo sa nc sc 3 1 2 0 + hT li mo sa nc sc 3 2 0 1 + hT li mo sa nc sc 3 2 1 0 := by
  have s27 : lit (ordS li mo sa nc sc) 0 27 = lit (ordS li mo sa nc sc) 0 0 := ord_skip 0 27 (by decide +kernel)
  have u27 : lit (ordS li mo sa nc sc) 0 28 = lit (ordS li mo sa nc sc) 0 27 + hT li mo sa nc sc 3 2 1 0 := ord_take 27 (by decide +kernel)
  have s30 : lit (ordS li mo sa nc sc) 0 30 = lit (ordS li mo sa nc sc) 0 28 := ord_skip 28 2 (by decide +kernel)
  have u30 : lit (ordS li mo sa nc sc) 0 31 = lit (ordS li mo sa nc sc) 0 30 + hT li mo sa nc sc 2 3 1 0 := ord_take 30 (by decide +kernel)
  have s39 : lit (ordS li mo sa nc sc) 0 39 = lit (ordS li mo sa nc sc) 0 31 := ord_skip 31 8 (by decide +kernel)
  have u39 : lit (ordS li mo sa nc sc) 0 40 = lit (ordS li mo sa nc sc) 0 39 + hT li mo sa nc sc 3 1 2 0 := ord_take 39 (by decide +kernel)
  have s45 : lit (ordS li mo sa nc sc) 0 45 = lit (ordS li mo sa nc sc) 0 40 := ord_skip 40 5 (by decide +kernel)
  have u45 : lit (ordS li mo sa nc sc) 0 46 = lit (ordS li mo sa nc sc) 0 45 + hT li mo sa nc sc 1 3 2 0 := ord_take 45 (by decide +kernel)
  have s54 : lit (ordS li mo sa nc sc) 0 54 = lit (ordS li mo sa nc sc) 0 46 := ord_skip 46 8 (by decide +kernel)
  have u54 : lit (ordS li mo sa nc sc) 0 55 = lit (ordS li mo sa nc sc) 0 54 + hT li mo sa nc sc 2 1 3 0 := ord_take 54 (by decide +kernel)
  have s57 : lit (ordS li mo sa nc sc) 0 57 = lit (ordS li mo sa nc sc) 0 55 := ord_skip 55 2 (by decide +kernel)
  have u57 : lit (ordS li mo sa nc sc) 0 58 = lit (ordS li mo sa nc sc) 0 57 + hT li mo sa nc sc 1 2 3 0 := ord_take 57 (by decide +kernel)
  have s75 : lit (ordS li mo sa nc sc) 0 75 = lit (ordS li mo sa nc sc) 0 58 := ord_skip 58 17 (by decide +kernel)
  have u75 : lit (ordS li mo sa nc sc) 0 76 = lit (ordS li mo sa nc sc) 0 75 + hT li mo sa nc sc 3 2 0 1 := ord_take 75 (by decide +kernel)
  have s78 : lit (ordS li mo sa nc sc) 0 78 = lit (ordS li mo sa nc sc) 0 76 := ord_skip 76 2 (by decide +kernel)
  have u78 : lit (ordS li mo sa nc sc) 0 79 = lit (ordS li mo sa nc sc) 0 78 + hT li mo sa nc sc 2 3 0 1 := ord_take 78 (by decide +kernel)
  have s99 : lit (ordS li mo sa nc sc) 0 99 = lit (ordS li mo sa nc sc) 0 79 := ord_skip 79 20 (by decide +kernel)
  have u99 : lit (ordS li mo sa nc sc) 0 100 = lit (ordS li mo sa nc sc) 0 99 + hT li mo sa nc sc 3 0 2 1 := ord_take 99 (by decide +kernel)
  have s108 : lit (ordS li mo sa nc sc) 0 108 = lit (ordS li mo sa nc sc) 0 100 := ord_skip 100 8 (by decide +kernel)
  have u108 : lit (ordS li mo sa nc sc) 0 109 = lit (ordS li mo sa nc sc) 0 108 + hT li mo sa nc sc 0 3 2 1 := ord_take 108 (by decide +kernel)
  have s114 : lit (ordS li mo sa nc sc) 0 114 = lit (ordS li mo sa nc sc) 0 109 := ord_skip 109 5 (by decide +kernel)
  have u114 : lit (ordS li mo sa nc sc) 0 115 = lit (ordS li mo sa nc sc) 0 114 + hT li mo sa nc sc 2 0 3 1 := ord_take 114 (by decide +kernel)
  have s120 : lit (ordS li mo sa nc sc) 0 120 = lit (ordS li mo sa nc sc) 0 115 := ord_skip 115 5 (by decide +kernel)
  have u120 : lit (ordS li mo sa nc sc) 0 121 = lit (ordS li mo sa nc sc) 0 120 + hT li mo sa nc sc 0 2 3 1 := ord_take 120 (by decide +kernel)
  have s135 : lit (ordS li mo sa nc sc) 0 135 = lit (ordS li mo sa nc sc) 0 121 := ord_skip 121 14 (by decide +kernel)
  have u135 : lit (ordS li mo sa nc sc) 0 136 = lit (ordS li mo sa nc sc) 0 135 + hT li mo sa nc sc 3 1 0 2 := ord_take 135 (by decide +kernel)
  have s141 : lit (ordS li mo sa nc sc) 0 141 = lit (ordS li mo sa nc sc) 0 136 := ord_skip 136 5 (by decide +kernel)
  have u141 : lit (ordS li mo sa nc sc) 0 142 = lit (ordS li mo sa nc sc) 0 141 + hT li mo sa nc sc 1 3 0 2 := ord_take 141 (by decide +kernel)
  have s147 : lit (ordS li mo sa nc sc) 0 147 = lit (ordS li mo sa nc sc) 0 142 := ord_skip 142 5 (by decide +kernel)
  have u147 : lit (ordS li mo sa nc sc) 0 148 = lit (ordS li mo sa nc sc) 0 147 + hT li mo sa nc sc 3 0 1 2 := ord_take 147 (by decide +kernel)
  have s156 : lit (ordS li mo sa nc sc) 0 156 = lit (ordS li mo sa nc sc) 0 148 := ord_skip 148 8 (by decide +kernel)
  have u156 : lit (ordS li mo sa nc sc) 0 157 = lit (ordS li mo sa nc sc) 0 156 + hT li mo sa nc sc 0 3 1 2 := ord_take 156 (by decide +kernel)
  have s177 : lit (ordS li mo sa nc sc) 0 177 = lit (ordS li mo sa nc sc) 0 157 := ord_skip 157 20 (by decide +kernel)
  have u177 : lit (ordS li mo sa nc sc) 0 178 = lit (ordS li mo sa nc sc) 0 177 + hT li mo sa nc sc 1 0 3 2 := ord_take 177 (by decide +kernel)
  have s180 : lit (ordS li mo sa nc sc) 0 180 = lit (ordS li mo sa nc sc) 0 178 := ord_skip 178 2 (by decide +kernel)
  have u180 : lit (ordS li mo sa nc sc) 0 181 = lit (ordS li mo sa nc sc) 0 180 + hT li mo sa nc sc 0 1 3 2 := ord_take 180 (by decide +kernel)
  have s198 : lit (ordS li mo sa nc sc) 0 198 = lit (ordS li mo sa nc sc) 0 181 := ord_skip 181 17 (by decide +kernel)
  have u198 : lit (ordS li mo sa nc sc) 0 199 = lit (ordS li mo sa nc sc) 0 198 + hT li mo sa nc sc 2 1 0 3 := ord_take 198 (by decide +kernel)
  have s201 : lit (ordS li mo sa nc sc) 0 201 = lit (ordS li mo sa nc sc) 0 199 := ord_skip 199 2 (by decide +kernel)
  have u201 : lit (ordS li mo sa nc sc) 0 202 = lit (ordS li mo sa nc sc) 0 201 + hT li mo sa nc sc 1 2 0 3 := ord_take 201 (by decide +kernel)
  have s210 : lit (ordS li mo sa nc sc) 0 210 = lit (ordS li mo sa nc sc) 0 202 := ord_skip 202 8 (by decide +kernel)
  have u210 : lit (ordS li mo sa nc sc) 0 211 = lit (ordS li mo sa nc sc) 0 210 + hT li mo sa nc sc 2 0 1 3 := ord_take 210 (by decide +kernel)
  have s216 : lit (ordS li mo sa nc sc) 0 216 = lit (ordS li mo sa nc sc) 0 211 := ord_skip 211 5 (by decide +kernel)
  have u216 : lit (ordS li mo sa nc sc) 0 217 = lit (ordS li mo sa nc sc) 0 216 + hT li mo sa nc sc 0 2 1 3 := ord_take 216 (by decide +kernel)
  have s225 : lit (ordS li mo sa nc sc) 0 225 = lit (ordS li mo sa nc sc) 0 217 := ord_skip 217 8 (by decide +kernel)
  have u225 : lit (ordS li mo sa nc sc) 0 226 = lit (ordS li mo sa nc sc) 0 225 + hT li mo sa nc sc 1 0 2 3 := ord_take 225 (by decide +kernel)
  have s228 : lit (ordS li mo sa nc sc) 0 228 = lit (ordS li mo sa nc sc) 0 226 := ord_skip 226 2 (by decide +kernel)
  have u228 : lit (ordS li mo sa nc sc) 0 229 = lit (ordS li mo sa nc sc) 0 228 + hT li mo sa nc sc 0 1 2 3 := ord_take 228 (by decide +kernel)
  have s256 : lit (ordS li mo sa nc sc) 0 256 = lit (ordS li mo sa nc sc) 0 229 := ord_skip 229 27 (by decide +kernel)
  have s0 : lit (ordS li mo sa nc sc) 0 0 = 0 := rfl
  show lit (ordS li mo sa nc sc) 0 256 = _
  omega
end
section
/-! structures that follow an order; the greatest worth -/
def Pm (a b c d : Nat) : Prop := (a < 4 ∧ b < 4 ∧ c < 4 ∧ d < 4) ∧ (a ≠ b ∧ a ≠ c ∧ a ≠ d ∧ b ≠ c ∧ b ≠ d ∧ c ≠ d)
def ck_pf0 (a b c d : Nat) : Bool := decide ((a ≠ b ∧ a ≠ c ∧ a ≠ d ∧ b ≠ c ∧ b ≠ d ∧ c ≠ d) → (andn (1 <<< a) (1 <<< a) = 0 ∧ andn (O2 a b) (1 <<< b) = 1 <<< a ∧ andn (O3 a b c) (1 <<< c) = O2 a b ∧ andn 15 (1 <<< d) = O3 a b c) ∧ (((1 <<< a) >>> a) &&& 1 = 1 ∧ ((O2 a b) >>> b) &&& 1 = 1 ∧ ((O3 a b c) >>> c) &&& 1 = 1 ∧ (15 >>> d) &&& 1 = 1) ∧ (1 <<< a < 16 ∧ O2 a b < 16 ∧ O3 a b c < 16) ∧ (1 ≤ 1 <<< a ∧ 1 ≤ O2 a b ∧ 1 ≤ O3 a b c))
set_option maxRecDepth 100000 in
theorem pf0_b : ∀ a, a < 4 → ∀ b, b < 4 → ∀ c, c < 4 → ∀ d, d < 4 → ck_pf0 a b c d = true := by decide +kernel
theorem pf0 : ∀ a, a < 4 → ∀ b, b < 4 → ∀ c, c < 4 → ∀ d, d < 4 → (a ≠ b ∧ a ≠ c ∧ a ≠ d ∧ b ≠ c ∧ b ≠ d ∧ c ≠ d) → (andn (1 <<< a) (1 <<< a) = 0 ∧ andn (O2 a b) (1 <<< b) = 1 <<< a ∧ andn (O3 a b c) (1 <<< c) = O2 a b ∧ andn 15 (1 <<< d) = O3 a b c) ∧ (((1 <<< a) >>> a) &&& 1 = 1 ∧ ((O2 a b) >>> b) &&& 1 = 1 ∧ ((O3 a b c) >>> c) &&& 1 = 1 ∧ (15 >>> d) &&& 1 = 1) ∧ (1 <<< a < 16 ∧ O2 a b < 16 ∧ O3 a b c < 16) ∧ (1 ≤ 1 <<< a ∧ 1 ≤ O2 a b ∧ 1 ≤ O3 a b c) := fun a ha b hb c hc d hd => of_decide_eq_true (pf0_b a ha b hb c hc d hd)
def ck_pf2 (a b c d p : Nat) : Bool := decide ((a ≠ b ∧ a ≠ c ∧ a ≠ d ∧ b ≠ c ∧ b ≠ d ∧ c ≠ d) → bitN p d = 0 → andn p (O3 a b c) = 0)
set_option maxRecDepth 100000 in
theorem pf2_b : ∀ a, a < 4 → ∀ b, b < 4 → ∀ c, c < 4 → ∀ d, d < 4 → ∀ p, p < 16 → ck_pf2 a b c d p = true := by decide +kernel
theorem pf2 : ∀ a, a < 4 → ∀ b, b < 4 → ∀ c, c < 4 → ∀ d, d < 4 → (a ≠ b ∧ a ≠ c ∧ a ≠ d ∧ b ≠ c ∧ b ≠ d ∧ c ≠ d) → ∀ p, p < 16 → bitN p d = 0 → andn p (O3 a b c) = 0 := fun a ha b hb c hc d hd hn p hp => of_decide_eq_true (pf2_b a ha b hb c hc d hd p hp) hn
def ck_pf3 (d c b a : Nat) : Bool := decide (((andn 15 (1 <<< d)) >>> c) &&& 1 = 1 → ((andn (andn 15 (1 <<< d)) (1 <<< c)) >>> b) &&& 1 = 1 → ((andn (andn (andn 15 (1 <<< d)) (1 <<< c)) (1 <<< b)) >>> a) &&& 1 = 1 → (a ≠ b ∧ a ≠ c ∧ a ≠ d ∧ b ≠ c ∧ b ≠ d ∧ c ≠ d) ∧ andn 15 (1 <<< d) = O3 a b c ∧ andn (andn 15 (1 <<< d)) (1 <<< c) = O2 a b ∧ andn (andn (andn 15 (1 <<< d)) (1 <<< c)) (1 <<< b) = 1 <<< a)
set_option maxRecDepth 100000 in
theorem pf3_b : ∀ d, d < 4 → ∀ c, c < 4 → ∀ b, b < 4 → ∀ a, a < 4 → ck_pf3 d c b a = true := by decide +kernel
theorem pf3 : ∀ d, d < 4 → ∀ c, c < 4 → ∀ b, b < 4 → ∀ a, a < 4 → ((andn 15 (1 <<< d)) >>> c) &&& 1 = 1 → ((andn (andn 15 (1 <<< d)) (1 <<< c)) >>> b) &&& 1 = 1 → ((andn (andn (andn 15 (1 <<< d)) (1 <<< c)) (1 <<< b)) >>> a) &&& 1 = 1 → (a ≠ b ∧ a ≠ c ∧ a ≠ d ∧ b ≠ c ∧ b ≠ d ∧ c ≠ d) ∧ andn 15 (1 <<< d) = O3 a b c ∧ andn (andn 15 (1 <<< d)) (1 <<< c) = O2 a b ∧ andn (andn (andn 15 (1 <<< d)) (1 <<< c)) (1 <<< b) = 1 <<< a := fun d hd c hc b hb a ha => of_decide_eq_true (pf3_b d hd c hc b hb a ha)
def ck_pf4 (d c b : Nat) : Bool := decide (((andn 15 (1 <<< d)) >>> c) &&& 1 = 1 → ((andn (andn 15 (1 <<< d)) (1 <<< c)) >>> b) &&& 1 = 1 → 1 ≤ andn 15 (1 <<< d) ∧ andn 15 (1 <<< d) < 16 ∧ 1 ≤ andn (andn 15 (1 <<< d)) (1 <<< c) ∧ andn (andn 15 (1 <<< d)) (1 <<< c) < 16 ∧ 1 ≤ andn (andn (andn 15 (1 <<< d)) (1 <<< c)) (1 <<< b) ∧ andn (andn (andn 15 (1 <<< d)) (1 <<< c)) (1 <<< b) < 16)
set_option maxRecDepth 100000 in
theorem pf4_b : ∀ d, d < 4 → ∀ c, c < 4 → ∀ b, b < 4 → ck_pf4 d c b = true := by decide +kernel
theorem pf4 : ∀ d, d < 4 → ∀ c, c < 4 → ∀ b, b < 4 → ((andn 15 (1 <<< d)) >>> c) &&& 1 = 1 → ((andn (andn 15 (1 <<< d)) (1 <<< c)) >>> b) &&& 1 = 1 → 1 ≤ andn 15 (1 <<< d) ∧ andn 15 (1 <<< d) < 16 ∧ 1 ≤ andn (andn 15 (1 <<< d)) (1 <<< c) ∧ andn (andn 15 (1 <<< d)) (1 <<< c) < 16 ∧ 1 ≤ andn (andn (andn 15 (1 <<< d)) (1 <<< c)) (1 <<< b) ∧ andn (andn (andn 15 (1 <<< d)) (1 <<< c)) (1 <<< b) < 16 := fun d hd c hc b hb => of_decide_eq_true (pf4_b d hd c hc b hb)
theorem pf5 : ∀ d, d < 4 → 1 ≤ andn 15 (1 <<< d) ∧ andn 15 (1 <<< d) < 16 := by decide +kernel
theorem pf6 : ∀ d, d < 4 → ∀ c, c < 4 → ((andn 15 (1 <<< d)) >>> c) &&& 1 = 1 → 1 ≤ andn (andn 15 (1 <<< d)) (1 <<< c) ∧ andn (andn 15 (1 <<< d)) (1 <<< c) < 16 := by decide +kernel
theorem perm_sum (f : Nat → Int) {a b c d : Nat} (h : Pm a b c d) : f a + f b + f c + f d = f 0 + f 1 + f 2 + f 3 := by
  obtain ⟨⟨h1, h2, h3, h4⟩, n1, n2, n3, n4, n5, n6⟩ := h
  rcases (by omega : a = 0 ∨ a = 1 ∨ a = 2 ∨ a = 3) with rfl | rfl | rfl | rfl <;> rcases (by omega : b = 0 ∨ b = 1 ∨ b = 2 ∨ b = 3) with rfl | rfl | rfl | rfl <;> first | contradiction | skip
  all_goals (rcases (by omega : c = 0 ∨ c = 1 ∨ c = 2 ∨ c = 3) with rfl | rfl | rfl | rfl <;> first | contradiction | skip)
  all_goals (rcases (by omega : d = 0 ∨ d = 1 ∨ d = 2 ∨ d = 3) with rfl | rfl | rfl | rfl <;> first | contradiction | omega)
theorem wv_ge {al : Nat → Nat → Nat} {sc : Nat → Int32} (hS : Sm al sc) {v s p : Nat} (hv : v < 4) (hs : s < 16) (hp : p < 16) (hps : andn p s = 0) (hal : al v p ≠ 0) : wv al sc v s ≠ -100000 ∧ (sc (v * 16 + p)).toInt ≤ (wv al sc v s).toInt := by
  rcases wv_char hS hv s hs with h | ⟨⟨q, hq, _, hal', e⟩, h⟩
  · exact absurd (h.2 p hp hps) hal
  · refine ⟨fun z => ?_, h p hp hps hal⟩
    have b := hS v hv q hq hal'
    rw [← e, z, tI_none] at b
    omega
theorem wv_at {al : Nat → Nat → Nat} {sc : Nat → Int32} (hS : Sm al sc) {v s : Nat} (hv : v < 4) (hs : s < 16) (h : wv al sc v s ≠ -100000) : ∃ p, p < 16 ∧ andn p s = 0 ∧ al v p ≠ 0 ∧ (sc (v * 16 + p)).toInt = (wv al sc v s).toInt := by
  rcases wv_char hS hv s hs with q | ⟨⟨p, hp, hps, hal, e⟩, _⟩
  · exact absurd q.1 h
  · exact ⟨p, hp, hps, hal, by rw [e]⟩
theorem dp_step {al : Nat → Nat → Nat} {sc : Nat → Int32} (hS : Sm al sc) {s v r : Nat} (h1 : 1 ≤ s) (hs : s < 16) (hv : v < 4) (hbit : (s >>> v) &&& 1 = 1) (hr : andn s (1 <<< v) = r) (hw : wv al sc v r ≠ -100000) (hd : dp al sc r ≠ -100000) : Vl al sc s v ∧ dp al sc s ≠ -100000 ∧ (dp al sc r).toInt + (wv al sc v r).toInt ≤ (dp al sc s).toInt := by
  subst hr
  have hV : Vl al sc s v := ⟨hbit, hw, hd⟩
  obtain ⟨a, b⟩ := (dp_char hS s hs).2.2 h1
  refine ⟨hV, fun e => ?_, b v hv hV⟩
  rcases a with a | a
  · exact a.2 v hv hV
  · exact a.1 e
theorem dp00 (al : Nat → Nat → Nat) (sc : Nat → Int32) : dp al sc 0 ≠ -100000 ∧ (dp al sc 0).toInt = 0 := by
  rw [(dp_0 al sc).1]
  decide
/-- an order's structures are worth at most the table's number, and if one is worth just that, the order is one of those counted -/
theorem ord_up {al : Nat → Nat → Nat} {sc : Nat → Int32} (hS : Sm al sc) {a b c d pa pb pc pd : Nat} (hm : Pm a b c d) (ha : pa < 16) (hb : pb < 16) (hc : pc < 16) (hd : pd < 16) (sa : andn pa 0 = 0) (sb : andn pb (1 <<< a) = 0) (sc' : andn pc (O2 a b) = 0) (sd : andn pd (O3 a b c) = 0) (aa : al a pa ≠ 0) (ab : al b pb ≠ 0) (ac : al c pc ≠ 0) (ad : al d pd ≠ 0) :
    dp al sc 15 ≠ -100000 ∧ (sc (a * 16 + pa)).toInt + (sc (b * 16 + pb)).toInt + (sc (c * 16 + pc)).toInt + (sc (d * 16 + pd)).toInt ≤ (dp al sc 15).toInt ∧ ((sc (a * 16 + pa)).toInt + (sc (b * 16 + pb)).toInt + (sc (c * 16 + pc)).toInt + (sc (d * 16 + pd)).toInt = (dp al sc 15).toInt → Chain al sc a b c d) := by
  obtain ⟨⟨h1, h2, h3, h4⟩, hn⟩ := hm
  obtain ⟨⟨r1, r2, r3, r4⟩, ⟨b1, b2, b3, b4⟩, ⟨l1, l2, l3⟩, g1, g2, g3⟩ := pf0 a h1 b h2 c h3 d h4 hn
  have wa := wv_ge hS h1 (by decide : 0 < 16) ha sa aa
  have wb := wv_ge hS h2 l1 hb sb ab
  have wc := wv_ge hS h3 l2 hc sc' ac
  have wd := wv_ge hS h4 l3 hd sd ad
  have z := dp00 al sc
  obtain ⟨v1, d1, e1⟩ := dp_step hS g1 l1 h1 b1 r1 wa.1 z.1
  obtain ⟨v2, d2, e2⟩ := dp_step hS g2 l2 h2 b2 r2 wb.1 d1
  obtain ⟨v3, d3, e3⟩ := dp_step hS g3 l3 h3 b3 r3 wc.1 d2
  obtain ⟨v4, d4, e4⟩ := dp_step hS (by decide) (by decide : 15 < 16) h4 b4 r4 wd.1 d3
  have z2 := z.2
  have wa2 := wa.2
  have wb2 := wb.2
  have wc2 := wc.2
  have wd2 := wd.2
  refine ⟨d4, by omega, fun e => ⟨⟨v4, ?_⟩, ⟨v3, ?_⟩, ⟨v2, ?_⟩, ⟨v1, ?_⟩⟩⟩
  · unfold Xv; rw [r4]; omega
  · unfold Xv; rw [r3]; omega
  · unfold Xv; rw [r2]; omega
  · unfold Xv; rw [r1]; omega
theorem ord_at {al : Nat → Nat → Nat} {sc : Nat → Int32} (hS : Sm al sc) {a b c d : Nat} (hm : Pm a b c d) (h : Chain al sc a b c d) : ∃ pa pb pc pd, (pa < 16 ∧ pb < 16 ∧ pc < 16 ∧ pd < 16) ∧ (andn pa 0 = 0 ∧ andn pb (1 <<< a) = 0 ∧ andn pc (O2 a b) = 0 ∧ andn pd (O3 a b c) = 0) ∧ (al a pa ≠ 0 ∧ al b pb ≠ 0 ∧ al c pc ≠ 0 ∧ al d pd ≠ 0) ∧ (sc (a * 16 + pa)).toInt + (sc (b * 16 + pb)).toInt + (sc (c * 16 + pc)).toInt + (sc (d * 16 + pd)).toInt = (dp al sc 15).toInt := by
  obtain ⟨⟨h1, h2, h3, h4⟩, hn⟩ := hm
  obtain ⟨⟨r1, r2, r3, r4⟩, -, ⟨l1, l2, l3⟩, -⟩ := pf0 a h1 b h2 c h3 d h4 hn
  obtain ⟨⟨⟨-, w4, -⟩, e4⟩, ⟨⟨-, w3, -⟩, e3⟩, ⟨⟨-, w2, -⟩, e2⟩, ⟨⟨-, w1, -⟩, e1⟩⟩ := h
  unfold Xv at e1 e2 e3 e4
  rw [r4] at w4 e4
  rw [r3] at w3 e3
  rw [r2] at w2 e2
  rw [r1] at w1 e1
  obtain ⟨pa, qa, ta, ua, va⟩ := wv_at hS h1 (by decide : 0 < 16) w1
  obtain ⟨pb, qb, tb, ub, vb⟩ := wv_at hS h2 l1 w2
  obtain ⟨pc, qc, tc, uc, vc⟩ := wv_at hS h3 l2 w3
  obtain ⟨pd, qd, td, ud, vd⟩ := wv_at hS h4 l3 w4
  have z2 := (dp00 al sc).2
  exact ⟨pa, pb, pc, pd, ⟨qa, qb, qc, qd⟩, ⟨ta, tb, tc, td⟩, ⟨ua, ub, uc, ud⟩, by omega⟩
theorem dp_reach {al : Nat → Nat → Nat} {sc : Nat → Int32} (hS : Sm al sc) (h : dp al sc 15 ≠ -100000) : ∃ a b c d, Pm a b c d ∧ Chain al sc a b c d := by
  have B : ∀ s, s < 16 → 1 ≤ s → dp al sc s ≠ -100000 → ∃ v, v < 4 ∧ Opt al sc s v := by
    intro s hs h1 hd
    rcases ((dp_char hS s hs).2.2 h1).1 with q | ⟨-, v, hv, hV, e⟩
    · exact absurd q.1 hd
    · exact ⟨v, hv, hV, e.symm⟩
  obtain ⟨d, hd, o4⟩ := B 15 (by decide) (by decide) h
  obtain ⟨k1, k2⟩ := pf5 d hd
  obtain ⟨c, hc, o3⟩ := B _ k2 k1 o4.1.2.2
  obtain ⟨k3, k4⟩ := pf6 d hd c hc o3.1.1
  obtain ⟨b, hb, o2⟩ := B _ k4 k3 o3.1.2.2
  obtain ⟨-, -, -, -, k5, k6⟩ := pf4 d hd c hc b hb o3.1.1 o2.1.1
  obtain ⟨a, ha, o1⟩ := B _ k6 k5 o2.1.2.2
  obtain ⟨hn, e3, e2, e1⟩ := pf3 d hd c hc b hb a ha o3.1.1 o2.1.1 o1.1.1
  refine ⟨a, b, c, d, ⟨⟨ha, hb, hc, hd⟩, hn⟩, o4, ?_, ?_, ?_⟩
  · rw [← e3]; exact o3
  · rw [← e2]; exact o2
  · rw [← e1]; exact o1
-- ---- structures by their parents
theorem dgt_div (z v : Nat) : dgt z v = z / 2 ^ (3 * (3 - v)) % 8 := by
  unfold dgt
  rw [Nat.shiftRight_eq_div_pow, show (7 : Nat) = 2 ^ 3 - 1 from rfl, Nat.and_two_pow_sub_one_eq_mod]
def zenc (p : Nat → Nat) : Nat := 512 * digM 0 (p 0) + 64 * digM 1 (p 1) + 8 * digM 2 (p 2) + digM 3 (p 3)
theorem mask_dig : ∀ v, v < 4 → ∀ x, x < 16 → bitN x v = 0 → maskN v (digM v x) = x := by decide +kernel
theorem dig_mask : ∀ v, v < 4 → ∀ d, d < 8 → digM v (maskN v d) = d := by decide +kernel
theorem bit_mask : ∀ v, v < 4 → ∀ d, d < 8 → bitN (maskN v d) v = 0 := by decide +kernel
theorem parN_bit (z : Nat) {v : Nat} (hv : v < 4) : bitN (parN z v) v = 0 := bit_mask v hv _ (dgt_lt z v)
theorem zenc_ok {p : Nat → Nat} (h : ∀ v, v < 4 → p v < 16 ∧ bitN (p v) v = 0) : zenc p < 4096 ∧ ∀ v, v < 4 → parN (zenc p) v = p v := by
  have d0 := digM_lt 0 (by decide) (p 0) (h 0 (by decide)).1
  have d1 := digM_lt 1 (by decide) (p 1) (h 1 (by decide)).1
  have d2 := digM_lt 2 (by decide) (p 2) (h 2 (by decide)).1
  have d3 := digM_lt 3 (by decide) (p 3) (h 3 (by decide)).1
  have g : ∀ v, v < 4 → dgt (zenc p) v = digM v (p v) := by
    intro v hv
    rw [dgt_div]
    unfold zenc
    rcases (by omega : v = 0 ∨ v = 1 ∨ v = 2 ∨ v = 3) with rfl | rfl | rfl | rfl
    · show _ / 512 % 8 = _
      omega
    · show _ / 64 % 8 = _
      omega
    · show _ / 8 % 8 = _
      omega
    · show _ / 1 % 8 = _
      omega
  refine ⟨by unfold zenc; omega, fun v hv => ?_⟩
  unfold parN
  rw [g v hv]
  exact mask_dig v hv _ (h v hv).1 (h v hv).2
theorem folN_1 {z a b c d : Nat} (h : folN z a b c d = 1) : parN z a = 0 ∧ andn (parN z b) (1 <<< a) = 0 ∧ andn (parN z c) (O2 a b) = 0 := by
  unfold folN at h
  split at h
  · rename_i h1
    split at h
    · rename_i h2
      split at h
      · rename_i h3
        exact ⟨h1, h2, h3⟩
      · omega
    · omega
  · omega
theorem folN_of {z a b c d : Nat} (h1 : parN z a = 0) (h2 : andn (parN z b) (1 <<< a) = 0) (h3 : andn (parN z c) (O2 a b) = 0) (h4 : a ≠ d) : folN z a b c d = 1 := by
  unfold folN
  rw [if_pos h1, if_pos h2, if_pos h3, if_neg (fun e => h4 e.symm)]
theorem perms_ok : ∀ o ∈ perms, ((o.1 < 4 ∧ o.2.1 < 4 ∧ o.2.2.1 < 4 ∧ o.2.2.2 < 4) ∧ (o.1 ≠ o.2.1 ∧ o.1 ≠ o.2.2.1 ∧ o.1 ≠ o.2.2.2 ∧ o.2.1 ≠ o.2.2.1 ∧ o.2.1 ≠ o.2.2.2 ∧ o.2.2.1 ≠ o.2.2.2)) := by decide +kernel
def ck_perms_all (a b c d : Nat) : Bool := decide ((a ≠ b ∧ a ≠ c ∧ a ≠ d ∧ b ≠ c ∧ b ≠ d ∧ c ≠ d) → (a, b, c, d) ∈ perms)
set_option maxRecDepth 100000 in
theorem perms_all_b : ∀ a, a < 4 → ∀ b, b < 4 → ∀ c, c < 4 → ∀ d, d < 4 → ck_perms_all a b c d = true := by decide +kernel
theorem perms_all : ∀ a, a < 4 → ∀ b, b < 4 → ∀ c, c < 4 → ∀ d, d < 4 → (a ≠ b ∧ a ≠ c ∧ a ≠ d ∧ b ≠ c ∧ b ≠ d ∧ c ≠ d) → (a, b, c, d) ∈ perms := fun a ha b hb c hc d hd => of_decide_eq_true (perms_all_b a ha b hb c hc d hd)
theorem circ_iff {z : Nat} (hz : z < 4096) : circ z = 0 ↔ ∃ a b c d, Pm a b c d ∧ folN z a b c d = 1 := by
  have h := List.all_eq_true.mp circ_all z (List.mem_range.mpr hz)
  have h2 : Nat.beq (circ z) 0 = ordAny z := by simpa using h
  constructor
  · intro e
    rw [e] at h2
    have h3 : ordAny z = true := h2.symm
    unfold ordAny at h3
    obtain ⟨o, ho, q⟩ := List.any_eq_true.mp h3
    exact ⟨o.1, o.2.1, o.2.2.1, o.2.2.2, perms_ok o ho, Nat.eq_of_beq_eq_true q⟩
  · rintro ⟨a, b, c, d, hm, hf⟩
    have h3 : ordAny z = true := by
      unfold ordAny
      refine List.any_eq_true.mpr ⟨(a, b, c, d), perms_all a hm.1.1 b hm.1.2.1 c hm.1.2.2.1 d hm.1.2.2.2 hm.2, ?_⟩
      show Nat.beq (folN z a b c d) 1 = true
      rw [hf]
      rfl
    rw [h3] at h2
    exact Nat.eq_of_beq_eq_true h2
def wz (sc : Nat → Int32) (z : Nat) : Int := (sc (0 * 16 + parN z 0)).toInt + (sc (1 * 16 + parN z 1)).toInt + (sc (2 * 16 + parN z 2)).toInt + (sc (3 * 16 + parN z 3)).toInt
/-- the structure's parents are all allowed -/
def Fa (al : Nat → Nat → Nat) (z : Nat) : Prop := ∀ v, v < 4 → al v (parN z v) ≠ 0
theorem fol_up {al : Nat → Nat → Nat} {sc : Nat → Int32} (hS : Sm al sc) {z a b c d : Nat} (hF : Fa al z) (hm : Pm a b c d) (hf : folN z a b c d = 1) : dp al sc 15 ≠ -100000 ∧ wz sc z ≤ (dp al sc 15).toInt ∧ (wz sc z = (dp al sc 15).toInt → Chain al sc a b c d) := by
  obtain ⟨f1, f2, f3⟩ := folN_1 hf
  obtain ⟨⟨h1, h2, h3, h4⟩, hn⟩ := id hm
  have f4 := pf2 a h1 b h2 c h3 d h4 hn _ (parN_lt z h4) (parN_bit z h4)
  have r := ord_up hS hm (parN_lt z h1) (parN_lt z h2) (parN_lt z h3) (parN_lt z h4) (by rw [f1]; decide) f2 f3 f4 (hF a h1) (hF b h2) (hF c h3) (hF d h4)
  have e := perm_sum (fun v => (sc (v * 16 + parN z v)).toInt) hm
  unfold wz
  rw [← e]
  exact r
theorem fol_at {al : Nat → Nat → Nat} {sc : Nat → Int32} (hS : Sm al sc) (hal : ∀ v, v < 4 → ∀ p, p < 16 → al v p ≠ 0 → bitN p v = 0) {a b c d : Nat} (hm : Pm a b c d) (h : Chain al sc a b c d) : ∃ z, z < 4096 ∧ Fa al z ∧ folN z a b c d = 1 ∧ wz sc z = (dp al sc 15).toInt := by
  obtain ⟨pa, pb, pc, pd, ⟨q1, q2, q3, q4⟩, ⟨t1, t2, t3, t4⟩, ⟨u1, u2, u3, u4⟩, e⟩ := ord_at hS hm h
  obtain ⟨⟨h1, h2, h3, h4⟩, n1, n2, n3, n4, n5, n6⟩ := id hm
  obtain ⟨P, hP⟩ : ∃ P : Nat → Nat, P = fun v => if v = a then pa else if v = b then pb else if v = c then pc else pd := ⟨_, rfl⟩
  have ea : P a = pa := by rw [hP]; simp
  have eb : P b = pb := by rw [hP]; simp [n1.symm]
  have ec : P c = pc := by rw [hP]; simp [n2.symm, n4.symm]
  have ed : P d = pd := by rw [hP]; simp [n3.symm, n5.symm, n6.symm]
  have cov : ∀ v, v < 4 → v = a ∨ v = b ∨ v = c ∨ v = d := by intro v hv; omega
  have hA : ∀ v, v < 4 → P v < 16 ∧ al v (P v) ≠ 0 := by
    intro v hv
    rcases cov v hv with rfl | rfl | rfl | rfl
    · rw [ea]; exact ⟨q1, u1⟩
    · rw [eb]; exact ⟨q2, u2⟩
    · rw [ec]; exact ⟨q3, u3⟩
    · rw [ed]; exact ⟨q4, u4⟩
  obtain ⟨hz, hp⟩ := zenc_ok (p := P) (fun v hv => ⟨(hA v hv).1, hal v hv _ (hA v hv).1 (hA v hv).2⟩)
  have z0 : ∀ p, p < 16 → andn p 0 = 0 → p = 0 := by decide +kernel
  refine ⟨zenc P, hz, fun v hv => by rw [hp v hv]; exact (hA v hv).2, ?_, ?_⟩
  · refine folN_of ?_ ?_ ?_ n3
    · rw [hp a h1, ea]; exact z0 pa q1 t1
    · rw [hp b h2, eb]; exact t2
    · rw [hp c h3, ec]; exact t3
  · have e2 := perm_sum (fun v => (sc (v * 16 + parN (zenc P) v)).toInt) hm
    rw [hp a h1, hp b h2, hp c h3, hp d h4, ea, eb, ec, ed] at e2
    unfold wz
    omega
/-- B is the greatest worth of the structures with P -/
def IsB (P : Nat → Prop) (w : Nat → Int) (B : Int32) : Prop := (B = -100000 ∧ ∀ z, z < 4096 → ¬ P z) ∨ (B ≠ -100000 ∧ (∃ z, z < 4096 ∧ P z ∧ w z = B.toInt) ∧ ∀ z, z < 4096 → P z → w z ≤ B.toInt)
theorem IsB_u {P : Nat → Prop} {w : Nat → Int} {B C : Int32} (h : IsB P w B) (k : IsB P w C) : B = C := by
  rcases h with ⟨h1, h2⟩ | ⟨h1, ⟨z, hz, hP, hw⟩, h3⟩
  · rcases k with ⟨k1, -⟩ | ⟨-, ⟨y, hy, hPy, -⟩, -⟩
    · rw [h1, k1]
    · exact absurd hPy (h2 y hy)
  · rcases k with ⟨-, k2⟩ | ⟨-, ⟨y, hy, hPy, hwy⟩, k3⟩
    · exact absurd hP (k2 z hz)
    · have a := h3 y hy hPy
      have b := k3 z hz hP
      exact tI_ext (by omega)
theorem IsB_cong {P Q : Nat → Prop} {w v : Nat → Int} {B : Int32} (h : IsB P w B) (hp : ∀ z, z < 4096 → (P z ↔ Q z)) (hw : ∀ z, z < 4096 → P z → w z = v z) : IsB Q v B := by
  rcases h with ⟨h1, h2⟩ | ⟨h1, ⟨z, hz, hP, e⟩, h3⟩
  · exact Or.inl ⟨h1, fun z hz q => h2 z hz ((hp z hz).mpr q)⟩
  · exact Or.inr ⟨h1, ⟨z, hz, (hp z hz).mp hP, by rw [← hw z hz hP]; exact e⟩, fun y hy q => by rw [← hw y hy ((hp y hy).mpr q)]; exact h3 y hy ((hp y hy).mpr q)⟩
/-- the tables' answer is the greatest worth of the allowed structures without a circle -/
theorem BEST_is {al : Nat → Nat → Nat} {sc : Nat → Int32} (hS : Sm al sc) (hal : ∀ v, v < 4 → ∀ p, p < 16 → al v p ≠ 0 → bitN p v = 0) : IsB (fun z => circ z = 0 ∧ Fa al z) (wz sc) (BEST al sc) := by
  show IsB _ _ (dp al sc 15)
  by_cases h : dp al sc 15 = -100000
  · refine Or.inl ⟨h, fun z hz q => ?_⟩
    obtain ⟨a, b, c, d, hm, hf⟩ := (circ_iff hz).mp q.1
    exact (fol_up hS q.2 hm hf).1 h
  · refine Or.inr ⟨h, ?_, fun z hz q => ?_⟩
    · obtain ⟨a, b, c, d, hm, hc⟩ := dp_reach hS h
      obtain ⟨z, hz, hF, hf, e⟩ := fol_at hS hal hm hc
      exact ⟨z, hz, ⟨(circ_iff hz).mpr ⟨a, b, c, d, hm, hf⟩, hF⟩, e⟩
    · obtain ⟨a, b, c, d, hm, hf⟩ := (circ_iff hz).mp q.1
      exact (fol_up hS q.2 hm hf).2.1
theorem WAYS_is {al : Nat → Nat → Nat} {sc : Nat → Int32} (hS : Sm al sc) : WAYS al sc = nI (cntF al sc (3 + 1) 15) := by
  show wy al sc 15 = _
  rw [(dp_char hS 15 (by decide)).2.1]
  rfl
end
section
/-! the reference: all structures, one by one; what is allowed, on both sides -/
/-- the reference's scores are small -/
def Sm1 (sc : Nat → Int32) : Prop := ∀ v, v < 4 → ∀ d, d < 8 → -1000 ≤ (sc (v * 8 + d)).toInt ∧ (sc (v * 8 + d)).toInt ≤ 1000
theorem worF_int {sc : Nat → Int32} (h : Sm1 sc) (z : Nat) : (worF sc z).toInt = (sc (0 * 8 + dgt z 0)).toInt + (sc (1 * 8 + dgt z 1)).toInt + (sc (2 * 8 + dgt z 2)).toInt + (sc (3 * 8 + dgt z 3)).toInt := by
  have b0 := h 0 (by decide) _ (dgt_lt z 0)
  have b1 := h 1 (by decide) _ (dgt_lt z 1)
  have b2 := h 2 (by decide) _ (dgt_lt z 2)
  have b3 := h 3 (by decide) _ (dgt_lt z 3)
  show ((((nI 0 + sc (0 * 8 + dgt z 0)) + sc (1 * 8 + dgt z 1)) + sc (2 * 8 + dgt z 2)) + sc (3 * 8 + dgt z 3)).toInt = _
  have e0 : (nI 0).toInt = 0 := by decide
  have e1 : (nI 0 + sc (0 * 8 + dgt z 0)).toInt = (sc (0 * 8 + dgt z 0)).toInt := by
    rw [tI_add (by omega) (by omega), e0, Int.zero_add]
  have e2 : (nI 0 + sc (0 * 8 + dgt z 0) + sc (1 * 8 + dgt z 1)).toInt = (sc (0 * 8 + dgt z 0)).toInt + (sc (1 * 8 + dgt z 1)).toInt := by
    rw [tI_add (by omega) (by omega), e1]
  have e3 : (nI 0 + sc (0 * 8 + dgt z 0) + sc (1 * 8 + dgt z 1) + sc (2 * 8 + dgt z 2)).toInt = (sc (0 * 8 + dgt z 0)).toInt + (sc (1 * 8 + dgt z 1)).toInt + (sc (2 * 8 + dgt z 2)).toInt := by
    rw [tI_add (by omega) (by omega), e2]
  rw [tI_add (by omega) (by omega), e3]
theorem worF_bd {sc : Nat → Int32} (h : Sm1 sc) (z : Nat) : -4000 ≤ (worF sc z).toInt ∧ (worF sc z).toInt ≤ 4000 := by
  have b0 := h 0 (by decide) _ (dgt_lt z 0)
  have b1 := h 1 (by decide) _ (dgt_lt z 1)
  have b2 := h 2 (by decide) _ (dgt_lt z 2)
  have b3 := h 3 (by decide) _ (dgt_lt z 3)
  rw [worF_int h z]
  omega
theorem wo_char {li : Int32} {sa nc sc : Nat → Int32} (h : Sm1 sc) : ∀ n, ∀ st : Int32 × Int32, st = lit (woS li sa nc sc) (-100000, nI 0) n → (st.1 = -100000 ∧ ∀ z, z < n → alwN li sa nc z = 0) ∨ (∃ f, f < n ∧ st.2 = nI f ∧ alwN li sa nc f ≠ 0 ∧ st.1 = worF sc f ∧ (∀ z, z < n → alwN li sa nc z ≠ 0 → (worF sc z).toInt ≤ st.1.toInt) ∧ ∀ z, z < f → alwN li sa nc z ≠ 0 → (worF sc z).toInt < st.1.toInt) := by
  intro n
  induction n with
  | zero => intro st e; subst e; exact Or.inl ⟨rfl, fun z hz => absurd hz (Nat.not_lt_zero z)⟩
  | succ n ih =>
    intro st e
    rw [lit_succ] at e
    have k := ih _ rfl
    generalize lit (woS li sa nc sc) (-100000, nI 0) n = y at k e
    have bn := worF_bd h n
    unfold woS at e
    by_cases c : alwN li sa nc n = 0
    · rw [if_pos c] at e
      subst e
      rcases k with ⟨k1, k2⟩ | ⟨f, hf, k1, k2, k3, k4, k5⟩
      · refine Or.inl ⟨k1, fun z hz => ?_⟩
        by_cases q : z = n
        · subst q; exact c
        · exact k2 z (by omega)
      · refine Or.inr ⟨f, by omega, k1, k2, k3, fun z hz hal => ?_, k5⟩
        by_cases q : z = n
        · subst q; exact absurd c hal
        · exact k4 z (by omega) hal
    · rw [if_neg c] at e
      by_cases c2 : worF sc n ≤ y.1
      · rw [if_pos c2] at e
        subst e
        have c2' := Int32.le_iff_toInt_le.mp c2
        rcases k with ⟨k1, k2⟩ | ⟨f, hf, k1, k2, k3, k4, k5⟩
        · rw [k1, tI_none] at c2'
          omega
        · refine Or.inr ⟨f, by omega, k1, k2, k3, fun z hz hal => ?_, k5⟩
          by_cases q : z = n
          · subst q; exact c2'
          · exact k4 z (by omega) hal
      · rw [if_neg c2] at e
        subst e
        have c2' : y.1.toInt < (worF sc n).toInt := by
          rw [Int32.le_iff_toInt_le] at c2
          omega
        refine Or.inr ⟨n, by omega, rfl, c, rfl, fun z hz hal => ?_, fun z hz hal => ?_⟩
        · show _ ≤ (worF sc n).toInt
          by_cases q : z = n
          · subst q; exact Int.le_refl _
          · rcases k with ⟨k1, k2⟩ | ⟨f, hf, k1, k2, k3, k4, k5⟩
            · exact absurd (k2 z (by omega)) hal
            · have := k4 z (by omega) hal
              omega
        · show _ < (worF sc n).toInt
          rcases k with ⟨k1, k2⟩ | ⟨f, hf, k1, k2, k3, k4, k5⟩
          · exact absurd (k2 z (by omega)) hal
          · have := k4 z (by omega) hal
            omega
theorem woF_is {li : Int32} {sa nc sc : Nat → Int32} (h : Sm1 sc) : IsB (fun z => alwN li sa nc z ≠ 0) (fun z => (worF sc z).toInt) (woF li sa nc sc).1 := by
  rcases wo_char (li := li) (sa := sa) (nc := nc) h 4096 _ rfl with ⟨k1, k2⟩ | ⟨f, hf, k1, k2, k3, k4, k5⟩
  · exact Or.inl ⟨k1, fun z hz q => q (k2 z hz)⟩
  · have bn := worF_bd h f
    refine Or.inr ⟨fun e => ?_, ⟨f, hf, k2, by show (worF sc f).toInt = (lit (woS li sa nc sc) (-100000, nI 0) 4096).1.toInt; rw [k3]⟩, k4⟩
    have e : (lit (woS li sa nc sc) (-100000, nI 0) 4096).1 = -100000 := e
    rw [k3] at e
    rw [e, tI_none] at bn
    omega
/-- the first one of the greatest worth -/
theorem woF_first {li : Int32} {sa nc sc : Nat → Int32} (h : Sm1 sc) (hn : (woF li sa nc sc).1 ≠ -100000) : ∃ f, f < 4096 ∧ (woF li sa nc sc).2 = nI f ∧ alwN li sa nc f ≠ 0 ∧ (woF li sa nc sc).1 = worF sc f ∧ ∀ z, z < f → alwN li sa nc z ≠ 0 → (worF sc z).toInt < (woF li sa nc sc).1.toInt := by
  rcases wo_char (li := li) (sa := sa) (nc := nc) h 4096 _ rfl with ⟨k1, k2⟩ | ⟨f, hf, k1, k2, k3, k4, k5⟩
  · exact absurd k1 hn
  · exact ⟨f, hf, k1, k2, k3, k5⟩
theorem bb_char {li : Int32} {sa nc sc : Nat → Int32} (h : Sm1 sc) (a b t : Nat) : ∀ n, ∀ x : Int32, x = lit (bbS li sa nc sc a b t) (-100000) n → (x = -100000 ∧ ∀ z, z < n → ¬ (alwN li sa nc z ≠ 0 ∧ bitN (parN z b) a = t)) ∨ (∃ f, f < n ∧ (alwN li sa nc f ≠ 0 ∧ bitN (parN f b) a = t) ∧ x = worF sc f ∧ ∀ z, z < n → (alwN li sa nc z ≠ 0 ∧ bitN (parN z b) a = t) → (worF sc z).toInt ≤ x.toInt) := by
  intro n
  induction n with
  | zero => intro x e; subst e; exact Or.inl ⟨rfl, fun z hz => absurd hz (Nat.not_lt_zero z)⟩
  | succ n ih =>
    intro x e
    rw [lit_succ] at e
    have k := ih _ rfl
    generalize lit (bbS li sa nc sc a b t) (-100000) n = y at k e
    have bn := worF_bd h n
    by_cases c : alwN li sa nc n ≠ 0 ∧ bitN (parN n b) a = t
    · have e : x = if worF sc n ≤ y then y else worF sc n := by
        rw [e]
        unfold bbS
        rw [if_pos (show (parN n b >>> a) &&& 1 = t from c.2), if_neg c.1]
      by_cases c2 : worF sc n ≤ y
      · rw [if_pos c2] at e
        subst e
        have c2' := Int32.le_iff_toInt_le.mp c2
        rcases k with ⟨k1, k2⟩ | ⟨f, hf, k1, k2, k3⟩
        · rw [k1, tI_none] at c2'
          omega
        · refine Or.inr ⟨f, by omega, k1, k2, fun z hz hal => ?_⟩
          by_cases q : z = n
          · subst q; exact c2'
          · exact k3 z (by omega) hal
      · rw [if_neg c2] at e
        subst e
        have c2' : y.toInt < (worF sc n).toInt := by
          rw [Int32.le_iff_toInt_le] at c2
          omega
        refine Or.inr ⟨n, by omega, c, rfl, fun z hz hal => ?_⟩
        by_cases q : z = n
        · subst q; exact Int.le_refl _
        · rcases k with ⟨k1, k2⟩ | ⟨f, hf, k1, k2, k3⟩
          · exact absurd hal (k2 z (by omega))
          · have := k3 z (by omega) hal
            omega
    · have e : x = y := by
        rw [e]
        unfold bbS
        by_cases c1 : (parN n b >>> a) &&& 1 = t
        · rw [if_pos c1]
          by_cases c3 : alwN li sa nc n = 0
          · rw [if_pos c3]
          · exact absurd ⟨c3, c1⟩ c
        · rw [if_neg c1]
      subst e
      rcases k with ⟨k1, k2⟩ | ⟨f, hf, k1, k2, k3⟩
      · refine Or.inl ⟨k1, fun z hz => ?_⟩
        by_cases q : z = n
        · subst q; exact c
        · exact k2 z (by omega)
      · refine Or.inr ⟨f, by omega, k1, k2, fun z hz hal => ?_⟩
        by_cases q : z = n
        · subst q; exact absurd hal c
        · exact k3 z (by omega) hal
theorem bbF_is {li : Int32} {sa nc sc : Nat → Int32} (h : Sm1 sc) (a b t : Nat) : IsB (fun z => alwN li sa nc z ≠ 0 ∧ bitN (parN z b) a = t) (fun z => (worF sc z).toInt) (bbF li sa nc sc a b t) := by
  rcases bb_char (li := li) (sa := sa) (nc := nc) h a b t 4096 _ rfl with ⟨k1, k2⟩ | ⟨f, hf, k1, k2, k3⟩
  · exact Or.inl ⟨k1, k2⟩
  · have bn := worF_bd h f
    refine Or.inr ⟨fun e => ?_, ⟨f, hf, k1, by show (worF sc f).toInt = (lit (bbS li sa nc sc a b t) (-100000) 4096).toInt; rw [k2]⟩, k3⟩
    have e : lit (bbS li sa nc sc a b t) (-100000) 4096 = -100000 := e
    rw [k2] at e
    rw [e, tI_none] at bn
    omega
-- ---- what is allowed
theorem bf1 : ∀ p, p < 16 → ∀ x, x < 16 → ((p &&& x = 0) ↔ ∀ u, u < 4 → ¬ (bitN p u = 1 ∧ bitN x u = 1)) := by decide +kernel
theorem bf2 : ∀ p, p < 16 → ∀ x, x < 16 → ((p &&& x = x) ↔ ∀ u, u < 4 → bitN x u = 1 → bitN p u = 1) := by decide +kernel
theorem bf3 : ∀ x, x < 16 → ∀ y, y < 16 → ∀ u, u < 4 → (bitN (x ||| y) u = 1 ↔ bitN x u = 1 ∨ bitN y u = 1) := by decide +kernel
theorem bf4 : ∀ a, a < 4 → ∀ u, u < 4 → (bitN (1 <<< a) u = 1 ↔ u = a) := by decide +kernel
theorem bf0 : ∀ u, u < 4 → bitN 0 u = 0 := by decide +kernel
theorem bit_le (p u : Nat) : bitN p u ≤ 1 := Nat.and_le_right
theorem alN_iff {mo : Int32} {fb rq fx mu mn : Nat → Int32} {v p L f g m1 m2 : Nat} (hv : v < 4) (hp : p < 16) (hL : L ≤ 3) (hmo : mo = nI L) (hf : fb v = nI f) (hg : rq v = nI g) (h1 : mu v = nI m1) (h2 : mn v = nI m2) (bf : f < 16) (bg : g < 16) (b1 : m1 < 16) (b2 : m2 < 16) :
    alN mo fb rq fx mu mn v p ≠ 0 ↔ bitN p v = 0 ∧ (fx v < 0 ∨ fx v = nI p) ∧ szN p ≤ L ∧ p &&& (f ||| m2) = 0 ∧ p &&& (g ||| m1) = g ||| m1 := by
  have hz := szN_le p hp
  have l1 : p &&& (f ||| m2) ≤ p := Nat.and_le_left
  have l2 : p &&& (g ||| m1) ≤ p := Nat.and_le_left
  have l3 : g ||| m1 < 2 ^ 4 := Nat.or_lt_two_pow bg b1
  have k1 : (mo < nI (szN p)) ↔ L < szN p := by rw [hmo]; exact nI_ltI (by omega) (by omega)
  have k2 : (nI p &&& (fb v ||| mn v) = 0) ↔ p &&& (f ||| m2) = 0 := by
    rw [hf, h2, bb_or, bb_and, ← nI_0]
    exact nI_eq (by omega) (by omega)
  have k3 : (nI p &&& (rq v ||| mu v) = rq v ||| mu v) ↔ p &&& (g ||| m1) = g ||| m1 := by
    rw [hg, h1, bb_or, bb_and]
    exact nI_eq (by omega) (by omega)
  unfold alN
  rw [badP_nI v hv p hp]
  constructor
  · intro h
    split at h
    · rename_i q0
      split at h
      · rename_i q1
        split at h
        · exact absurd rfl h
        · rename_i q2
          split at h
          · rename_i q3
            split at h
            · rename_i q4
              exact ⟨q0, Or.inl q1, Nat.not_lt.mp (fun z => q2 (k1.mpr z)), k2.mp q3, k3.mp q4⟩
            · exact absurd rfl h
          · exact absurd rfl h
      · split at h
        · rename_i q1
          split at h
          · exact absurd rfl h
          · rename_i q2
            split at h
            · rename_i q3
              split at h
              · rename_i q4
                exact ⟨q0, Or.inr q1, Nat.not_lt.mp (fun z => q2 (k1.mpr z)), k2.mp q3, k3.mp q4⟩
              · exact absurd rfl h
            · exact absurd rfl h
        · exact absurd rfl h
    · exact absurd rfl h
  · rintro ⟨q0, q1, q2, q3, q4⟩
    have r : (if mo < nI (szN p) then 0 else if nI p &&& (fb v ||| mn v) = 0 then (if nI p &&& (rq v ||| mu v) = rq v ||| mu v then 1 else 0) else 0) = 1 := by
      rw [if_neg (fun z => by have := k1.mp z; omega), if_pos (k2.mpr q3), if_pos (k3.mpr q4)]
    rw [if_pos q0, r]
    by_cases c : fx v < 0
    · rw [if_pos c]; decide
    · rw [if_neg c, if_pos (q1.resolve_left c)]; decide
/-- both sides' settings say the same: limit L, forbidden F, required G, says K -/
def Cfg (mo : Int32) (fb rq : Nat → Int32) (li : Int32) (sa : Nat → Int32) (L : Nat) (F G : Nat → Nat) (K : Nat → Nat → Nat) : Prop := mo = nI L ∧ li = nI L ∧ L ≤ 3 ∧ ∀ v, v < 4 → (fb v = nI (F v) ∧ rq v = nI (G v) ∧ F v < 16 ∧ G v < 16) ∧ ∀ u, u < 4 → sa (u * 4 + v) = nI (K u v) ∧ K u v ≤ 2 ∧ (bitN (F v) u = 1 ↔ K u v = 1) ∧ (bitN (G v) u = 1 ↔ K u v = 2)
theorem okV_iff {mo li : Int32} {fb rq sa : Nat → Int32} {L : Nat} {F G : Nat → Nat} {K : Nat → Nat → Nat} (h : Cfg mo fb rq li sa L F G K) {v p : Nat} (hv : v < 4) (hp : p < 16) : okV li sa v p ↔ szN p ≤ L ∧ p &&& F v = 0 ∧ p &&& G v = G v := by
  obtain ⟨-, hli, hL, hc⟩ := h
  obtain ⟨⟨-, -, bF, bG⟩, hu⟩ := hc v hv
  have hz := szN_le p hp
  rw [bf1 p hp _ bF, bf2 p hp _ bG]
  constructor
  · rintro ⟨q1, q2⟩
    refine ⟨?_, fun u hu4 q => ?_, fun u hu4 q => ?_⟩
    · rw [hli] at q1
      exact (nI_leI (by omega) (by omega)).mp q1
    · obtain ⟨e1, -, e3, -⟩ := hu u hu4
      exact (q2 u hu4).1 ⟨by rw [e1, e3.mp q.2], q.1⟩
    · obtain ⟨e1, -, -, e4⟩ := hu u hu4
      have := bit_le p u
      by_cases c : bitN p u = 0
      · exact absurd ⟨by rw [e1, e4.mp q], c⟩ (q2 u hu4).2
      · omega
  · rintro ⟨q1, q2, q3⟩
    refine ⟨by rw [hli]; exact (nI_leI (by omega) (by omega)).mpr q1, fun u hu4 => ⟨fun q => ?_, fun q => ?_⟩⟩
    · obtain ⟨e1, e2, e3, -⟩ := hu u hu4
      have e := q.1
      rw [e1] at e
      exact q2 u hu4 ⟨q.2, e3.mpr ((nI_eq (by omega) (by omega)).mp e)⟩
    · obtain ⟨e1, e2, -, e4⟩ := hu u hu4
      have e := q.1
      rw [e1] at e
      have e5 := q3 u hu4 (e4.mpr ((nI_eq (by omega) (by omega)).mp e))
      have e6 : bitN p u = 0 := q.2
      omega
theorem alw_iff {li : Int32} {sa : Nat → Int32} {z : Nat} : alwN li sa ncF z ≠ 0 ↔ circ z = 0 ∧ okS li sa z := by
  have hc : circ z ≤ 1 := by unfold circ; split <;> omega
  have k : ncF z = 0 ↔ ¬ circ z = 0 := by
    unfold ncF
    rw [← nI_0, nI_eq (by omega) (by omega)]
    omega
  unfold alwN
  constructor
  · intro h
    split at h
    · exact absurd rfl h
    · rename_i q1
      split at h
      · rename_i q2
        exact ⟨Classical.byContradiction (fun c => q1 (k.mpr c)), q2⟩
      · exact absurd rfl h
  · rintro ⟨q1, q2⟩
    rw [if_neg (fun c => k.mp c q1), if_pos q2]
    decide
/-- both sides' scores say the same -/
def Scs (sc0 sc1 : Nat → Int32) : Prop := (∀ v, v < 4 → ∀ d, d < 8 → sc0 (v * 16 + maskN v d) = sc1 (v * 8 + d)) ∧ Sm1 sc1
theorem Scs_wz {sc0 sc1 : Nat → Int32} (h : Scs sc0 sc1) (z : Nat) : wz sc0 z = (worF sc1 z).toInt := by
  rw [worF_int h.2 z]
  unfold wz parN
  rw [h.1 0 (by decide) _ (dgt_lt z 0), h.1 1 (by decide) _ (dgt_lt z 1), h.1 2 (by decide) _ (dgt_lt z 2), h.1 3 (by decide) _ (dgt_lt z 3)]
theorem Scs_Sm {sc0 sc1 : Nat → Int32} (h : Scs sc0 sc1) {al : Nat → Nat → Nat} (hal : ∀ v, v < 4 → ∀ p, p < 16 → al v p ≠ 0 → bitN p v = 0) : Sm al sc0 := by
  intro v hv p hp ha
  have hb := hal v hv p hp ha
  have e := h.1 v hv (digM v p) (digM_lt v hv p hp)
  rw [mask_dig v hv p hp hb] at e
  rw [e]
  exact h.2 v hv _ (digM_lt v hv p hp)
/-- the tables' answer, with what is demanded beside the settings (E), is the greatest worth of the reference's allowed structures that meet E -/
theorem BEST_E {mo li : Int32} {fb rq sa sc0 sc1 : Nat → Int32} {al : Nat → Nat → Nat} (hs : Scs sc0 sc1) (E : Nat → Nat → Prop) (hal : ∀ v, v < 4 → ∀ p, p < 16 → (al v p ≠ 0 ↔ bitN p v = 0 ∧ okV li sa v p ∧ E v p)) : IsB (fun z => alwN li sa ncF z ≠ 0 ∧ ∀ v, v < 4 → E v (parN z v)) (fun z => (worF sc1 z).toInt) (BEST al sc0) := by
  have hb : ∀ v, v < 4 → ∀ p, p < 16 → al v p ≠ 0 → bitN p v = 0 := fun v hv p hp h => ((hal v hv p hp).mp h).1
  refine IsB_cong (BEST_is (Scs_Sm hs hb) hb) (fun z hz => ?_) (fun z hz _ => Scs_wz hs z)
  rw [alw_iff]
  constructor
  · rintro ⟨q1, q2⟩
    exact ⟨⟨q1, fun v hv => ((hal v hv _ (parN_lt z hv)).mp (q2 v hv)).2.1⟩, fun v hv => ((hal v hv _ (parN_lt z hv)).mp (q2 v hv)).2.2⟩
  · rintro ⟨⟨q1, q2⟩, q3⟩
    exact ⟨q1, fun v hv => (hal v hv _ (parN_lt z hv)).mpr ⟨parN_bit z hv, q2 v hv, q3 v hv⟩⟩
end
section
/-! the class and the reference answer alike: the plain law -/
theorem sh4 : ∀ a, a < 4 → 1 <<< a < 16 := by decide
theorem alF_iff {mo li : Int32} {fb rq sa fx : Nat → Int32} {L : Nat} {F G : Nat → Nat} {K : Nat → Nat → Nat} (h : Cfg mo fb rq li sa L F G K) {v p : Nat} (hv : v < 4) (hp : p < 16) : alN mo fb rq fx c0 c0 v p ≠ 0 ↔ bitN p v = 0 ∧ okV li sa v p ∧ (fx v < 0 ∨ fx v = nI p) := by
  rw [okV_iff h hv hp]
  obtain ⟨hmo, -, hL, hc⟩ := h
  obtain ⟨⟨e1, e2, b1, b2⟩, -⟩ := hc v hv
  rw [alN_iff hv hp hL hmo e1 e2 (m1 := 0) (m2 := 0) rfl rfl b1 b2 (by decide) (by decide), Nat.or_zero, Nat.or_zero]
  exact ⟨fun q => ⟨q.1, q.2.2, q.2.1⟩, fun q => ⟨q.1, q.2.2, q.2.1⟩⟩
theorem cM_lt (v : Nat) : cM v < 0 := by show (-1 : Int32) < 0; decide
theorem al0_iff {mo li : Int32} {fb rq sa : Nat → Int32} {L : Nat} {F G : Nat → Nat} {K : Nat → Nat → Nat} (h : Cfg mo fb rq li sa L F G K) {v p : Nat} (hv : v < 4) (hp : p < 16) : AL0 mo fb rq v p ≠ 0 ↔ bitN p v = 0 ∧ okV li sa v p ∧ True := by
  rw [alF_iff h hv hp]
  exact ⟨fun q => ⟨q.1, q.2.1, trivial⟩, fun q => ⟨q.1, q.2.1, Or.inl (cM_lt v)⟩⟩
theorem alM_iff {mo li : Int32} {fb rq sa : Nat → Int32} {L : Nat} {F G : Nat → Nat} {K : Nat → Nat → Nat} (h : Cfg mo fb rq li sa L F G K) {a b v p : Nat} (ha : a < 4) (hv : v < 4) (hp : p < 16) : alN mo fb rq cM (upd c0 b (nI (1 <<< a))) c0 v p ≠ 0 ↔ bitN p v = 0 ∧ okV li sa v p ∧ (v = b → bitN p a = 1) := by
  rw [okV_iff h hv hp]
  obtain ⟨hmo, -, hL, hc⟩ := h
  obtain ⟨⟨e1, e2, b1, b2⟩, -⟩ := hc v hv
  have hs := sh4 a ha
  by_cases e : v = b
  · subst e
    have l3 : G v ||| (1 <<< a) < 16 := Nat.or_lt_two_pow (n := 4) b2 hs
    rw [alN_iff hv hp hL hmo e1 e2 (m1 := 1 <<< a) (m2 := 0) upd_s rfl b1 b2 hs (by decide), Nat.or_zero, bf2 p hp _ l3, bf2 p hp _ b2]
    constructor
    · rintro ⟨q0, q1, q2, q3, q4⟩
      exact ⟨q0, ⟨q2, q3, fun u hu q => q4 u hu ((bf3 _ b2 _ hs u hu).mpr (Or.inl q))⟩, fun _ => q4 a ha ((bf3 _ b2 _ hs a ha).mpr (Or.inr ((bf4 a ha a ha).mpr rfl)))⟩
    · rintro ⟨q0, ⟨q2, q3, q4⟩, q5⟩
      refine ⟨q0, Or.inl (cM_lt v), q2, q3, fun u hu q => ?_⟩
      rcases (bf3 _ b2 _ hs u hu).mp q with r | r
      · exact q4 u hu r
      · rw [(bf4 a ha u hu).mp r]; exact q5 rfl
  · rw [alN_iff hv hp hL hmo e1 e2 (m1 := 0) (m2 := 0) (upd_n e) rfl b1 b2 (by decide) (by decide), Nat.or_zero, Nat.or_zero]
    exact ⟨fun q => ⟨q.1, q.2.2, fun z => absurd z e⟩, fun q => ⟨q.1, Or.inl (cM_lt v), q.2.1⟩⟩
theorem alW_iff {mo li : Int32} {fb rq sa : Nat → Int32} {L : Nat} {F G : Nat → Nat} {K : Nat → Nat → Nat} (h : Cfg mo fb rq li sa L F G K) {a b v p : Nat} (ha : a < 4) (hv : v < 4) (hp : p < 16) : alN mo fb rq cM c0 (upd c0 b (nI (1 <<< a))) v p ≠ 0 ↔ bitN p v = 0 ∧ okV li sa v p ∧ (v = b → bitN p a = 0) := by
  rw [okV_iff h hv hp]
  obtain ⟨hmo, -, hL, hc⟩ := h
  obtain ⟨⟨e1, e2, b1, b2⟩, -⟩ := hc v hv
  have hs := sh4 a ha
  by_cases e : v = b
  · subst e
    have l3 : F v ||| (1 <<< a) < 16 := Nat.or_lt_two_pow (n := 4) b1 hs
    rw [alN_iff hv hp hL hmo e1 e2 (m1 := 0) (m2 := 1 <<< a) rfl upd_s b1 b2 (by decide) hs, Nat.or_zero, bf1 p hp _ l3, bf1 p hp _ b1]
    constructor
    · rintro ⟨q0, q1, q2, q3, q4⟩
      refine ⟨q0, ⟨q2, fun u hu q => q3 u hu ⟨q.1, (bf3 _ b1 _ hs u hu).mpr (Or.inl q.2)⟩, q4⟩, fun _ => ?_⟩
      have := bit_le p a
      by_cases c : bitN p a = 1
      · exact absurd ⟨c, (bf3 _ b1 _ hs a ha).mpr (Or.inr ((bf4 a ha a ha).mpr rfl))⟩ (q3 a ha)
      · omega
    · rintro ⟨q0, ⟨q2, q3, q4⟩, q5⟩
      refine ⟨q0, Or.inl (cM_lt v), q2, fun u hu q => ?_, q4⟩
      rcases (bf3 _ b1 _ hs u hu).mp q.2 with r | r
      · exact q3 u hu ⟨q.1, r⟩
      · have e := (bf4 a ha u hu).mp r
        subst e
        have := q5 rfl
        omega
  · rw [alN_iff hv hp hL hmo e1 e2 (m1 := 0) (m2 := 0) rfl (upd_n e) b1 b2 (by decide) (by decide), Nat.or_zero, Nat.or_zero]
    exact ⟨fun q => ⟨q.1, q.2.2, fun z => absurd z e⟩, fun q => ⟨q.1, Or.inl (cM_lt v), q.2.1⟩⟩
section T
variable {mo li : Int32} {fb rq sa sc0 sc1 : Nat → Int32} {L : Nat} {F G : Nat → Nat} {K : Nat → Nat → Nat}
/-- best -/
theorem T_best (h : Cfg mo fb rq li sa L F G K) (hs : Scs sc0 sc1) : BEST (AL0 mo fb rq) sc0 = (woF li sa ncF sc1).1 := by
  refine IsB_u (IsB_cong (BEST_E (mo := mo) (fb := fb) (rq := rq) hs (fun _ _ => True) (fun v hv p hp => al0_iff h hv hp)) (fun z _ => ?_) (fun _ _ _ => rfl)) (woF_is hs.2)
  exact ⟨fun q => q.1, fun q => ⟨q, fun _ _ => trivial⟩⟩
theorem T_with (h : Cfg mo fb rq li sa L F G K) (hs : Scs sc0 sc1) {a b : Nat} (ha : a < 4) (hb : b < 4) : BEST (alN mo fb rq cM (upd c0 b (nI (1 <<< a))) c0) sc0 = bbF li sa ncF sc1 a b 1 := by
  refine IsB_u (IsB_cong (BEST_E (mo := mo) (fb := fb) (rq := rq) hs (fun v p => v = b → bitN p a = 1) (fun v hv p hp => alM_iff h ha hv hp)) (fun z _ => ?_) (fun _ _ _ => rfl)) (bbF_is hs.2 a b 1)
  exact ⟨fun q => ⟨q.1, q.2 b hb rfl⟩, fun q => ⟨q.1, fun v _ e => by rw [e]; exact q.2⟩⟩
theorem T_without (h : Cfg mo fb rq li sa L F G K) (hs : Scs sc0 sc1) {a b : Nat} (ha : a < 4) (hb : b < 4) : BEST (alN mo fb rq cM c0 (upd c0 b (nI (1 <<< a)))) sc0 = bbF li sa ncF sc1 a b 0 := by
  refine IsB_u (IsB_cong (BEST_E (mo := mo) (fb := fb) (rq := rq) hs (fun v p => v = b → bitN p a = 0) (fun v hv p hp => alW_iff h ha hv hp)) (fun z _ => ?_) (fun _ _ _ => rfl)) (bbF_is hs.2 a b 0)
  exact ⟨fun q => ⟨q.1, q.2 b hb rfl⟩, fun q => ⟨q.1, fun v _ e => by rw [e]; exact q.2⟩⟩
theorem lex_m : ∀ v, v < 4 → ∀ x, x < 8 → ∀ y, y < 8 → maskN v x < maskN v y → x < y := by decide +kernel
theorem dgt_par (z : Nat) {v : Nat} (hv : v < 4) : dgt z v = digM v (parN z v) := (dig_mask v hv _ (dgt_lt z v)).symm
theorem lex_z {z f n : Nat} (hz : z < 4096) (hf : f < 4096) (hn : n < 4) (he : ∀ v, v < n → parN z v = parN f v) (hlt : parN z n < parN f n) : z < f := by
  have hd : dgt z n < dgt f n := lex_m n hn _ (dgt_lt z n) _ (dgt_lt f n) hlt
  have hq : ∀ v, v < n → dgt z v = dgt f v := fun v hv => by rw [dgt_par z (by omega), dgt_par f (by omega), he v hv]
  have k : ∀ y, y < 4096 → y = 512 * dgt y 0 + 64 * dgt y 1 + 8 * dgt y 2 + dgt y 3 := by
    intro y hy
    rw [dgt_div, dgt_div, dgt_div, dgt_div]
    show y = 512 * (y / 512 % 8) + 64 * (y / 64 % 8) + 8 * (y / 8 % 8) + y / 1 % 8
    omega
  have kz := k z hz
  have kf := k f hf
  have z0 := dgt_lt z 0
  have z1 := dgt_lt z 1
  have z2 := dgt_lt z 2
  have z3 := dgt_lt z 3
  have f0 := dgt_lt f 0
  have f1 := dgt_lt f 1
  have f2 := dgt_lt f 2
  have f3 := dgt_lt f 3
  rcases (by omega : n = 0 ∨ n = 1 ∨ n = 2 ∨ n = 3) with rfl | rfl | rfl | rfl
  · omega
  · have a0 := hq 0 (by decide)
    omega
  · have a0 := hq 0 (by decide)
    have a1 := hq 1 (by decide)
    omega
  · have a0 := hq 0 (by decide)
    have a1 := hq 1 (by decide)
    have a2 := hq 2 (by decide)
    omega
/-- the fixed parents are those of the first structure -/
theorem T_first (h : Cfg mo fb rq li sa L F G K) (hs : Scs sc0 sc1) (hn : (woF li sa ncF sc1).1 ≠ -100000) : ∃ f, f < 4096 ∧ (woF li sa ncF sc1).2 = nI f ∧ ∀ v, v < 4 → ffF mo fb rq sc0 v = nI (parN f v) := by
  obtain ⟨f, hf, e2, halw, e1, hfst⟩ := woF_first hs.2 hn
  refine ⟨f, hf, e2, ?_⟩
  have hmax : ∀ z, z < 4096 → alwN li sa ncF z ≠ 0 → (worF sc1 z).toInt ≤ (woF li sa ncF sc1).1.toInt := by
    rcases woF_is (li := li) (sa := sa) (nc := ncF) hs.2 with q | q
    · exact absurd q.1 hn
    · exact q.2.2
  -- n rounds of the outer loop
  have outer : ∀ n, n ≤ 4 → ∀ fx : Nat → Int32, fx = lit (ffO mo fb rq sc0 (BEST (AL0 mo fb rq) sc0)) cM n → (∀ v, v < n → fx v = nI (parN f v)) ∧ ∀ v, n ≤ v → fx v = -1 := by
    intro n
    induction n with
    | zero => intro _ fx e; subst e; exact ⟨fun v hv => absurd hv (Nat.not_lt_zero v), fun v _ => rfl⟩
    | succ n ih =>
      intro hn4 fx e
      rw [lit_succ] at e
      obtain ⟨i1, i2⟩ := ih (by omega) _ rfl
      generalize lit (ffO mo fb rq sc0 (BEST (AL0 mo fb rq) sc0)) cM n = gx at i1 i2 e
      have hm := parN_lt f (v := n) (by omega)
      -- the answer with p tried
      have E : ∀ q, IsB (fun z => alwN li sa ncF z ≠ 0 ∧ ∀ v, v < 4 → (upd gx n (nI q) v < 0 ∨ upd gx n (nI q) v = nI (parN z v))) (fun z => (worF sc1 z).toInt) (BEST (alN mo fb rq (upd gx n (nI q)) c0 c0) sc0) := fun q => BEST_E (mo := mo) (fb := fb) (rq := rq) hs (fun v p => upd gx n (nI q) v < 0 ∨ upd gx n (nI q) v = nI p) (fun v hv p hp => alF_iff h hv hp)
      have same : ∀ q z, q < 16 → z < 4096 → (∀ v, v < 4 → (upd gx n (nI q) v < 0 ∨ upd gx n (nI q) v = nI (parN z v))) → (∀ v, v < n → parN z v = parN f v) ∧ parN z n = q := by
        intro q z hq hz hE
        refine ⟨fun v hv => ?_, ?_⟩
        · have r := hE v (by omega)
          rw [upd_n (by omega), i1 v hv] at r
          rcases r with r | r
          · exact absurd r (nI_pos (by have := parN_lt f (v := v) (by omega); omega))
          · exact ((nI_eq (by have := parN_lt f (v := v) (by omega); omega) (by have := parN_lt z (v := v) (by omega); omega)).mp r).symm
        · have r := hE n (by omega)
          rw [upd_s] at r
          rcases r with r | r
          · exact absurd r (nI_pos (by omega))
          · exact ((nI_eq (by omega) (by have := parN_lt z (v := n) (by omega); omega)).mp r).symm
      have no : ∀ q, q < parN f n → ¬ BEST (alN mo fb rq (upd gx n (nI q)) c0 c0) sc0 = BEST (AL0 mo fb rq) sc0 := by
        intro q hq e3
        rw [T_best h hs] at e3
        rcases E q with r | ⟨-, ⟨z, hz, ⟨ha, hE⟩, hw⟩, -⟩
        · exact hn (e3.symm.trans r.1)
        · obtain ⟨s1, s2⟩ := same q z (by omega) hz hE
          have hlt : z < f := lex_z hz hf (show n < 4 by omega) s1 (by omega)
          have := hfst z hlt ha
          have hw : (worF sc1 z).toInt = (BEST (alN mo fb rq (upd gx n (nI q)) c0 c0) sc0).toInt := hw
          rw [e3] at hw
          omega
      have yes : BEST (alN mo fb rq (upd gx n (nI (parN f n))) c0 c0) sc0 = BEST (AL0 mo fb rq) sc0 := by
        rw [T_best h hs]
        have hPf : ∀ v, v < 4 → (upd gx n (nI (parN f n)) v < 0 ∨ upd gx n (nI (parN f n)) v = nI (parN f v)) := by
          intro v hv
          by_cases c : v = n
          · subst c; rw [upd_s]; exact Or.inr rfl
          · rw [upd_n c]
            by_cases c2 : v < n
            · exact Or.inr (i1 v c2)
            · rw [i2 v (by omega)]; exact Or.inl (by decide)
        rcases E (parN f n) with r | ⟨-, ⟨z, hz, ⟨ha, -⟩, hw⟩, hup⟩
        · exact absurd ⟨halw, hPf⟩ (r.2 f hf)
        · have u1 := hup f hf ⟨halw, hPf⟩
          have u2 := hmax z hz ha
          have u1 : (worF sc1 f).toInt ≤ (BEST (alN mo fb rq (upd gx n (nI (parN f n))) c0 c0) sc0).toInt := u1
          have hw : (worF sc1 z).toInt = (BEST (alN mo fb rq (upd gx n (nI (parN f n))) c0 c0) sc0).toInt := hw
          rw [← e1] at u1
          exact tI_ext (by omega)
      have inner : ∀ q, q ≤ parN f n → (lit (ffI mo fb rq sc0 (BEST (AL0 mo fb rq) sc0) n) (gx, 0) q).2 = 0 ∧ ∀ x, upd (lit (ffI mo fb rq sc0 (BEST (AL0 mo fb rq) sc0) n) (gx, 0) q).1 n x = upd gx n x := by
        intro q
        induction q with
        | zero => intro _; exact ⟨rfl, fun _ => rfl⟩
        | succ q ihq =>
          intro hq
          obtain ⟨j1, j2⟩ := ihq (by omega)
          rw [lit_succ, ffI_1 j1, j2, if_neg (no q (by omega))]
          exact ⟨rfl, fun x => upd_u⟩
      obtain ⟨j1, j2⟩ := inner _ (Nat.le_refl _)
      have fin : lit (ffI mo fb rq sc0 (BEST (AL0 mo fb rq) sc0) n) (gx, 0) (parN f n + 1) = (upd gx n (nI (parN f n)), 1) := by
        rw [lit_succ, ffI_1 j1, j2, if_pos yes]
      have e4 : fx = upd gx n (nI (parN f n)) := by
        rw [e]
        unfold ffO
        rw [ffI_stay (q := parN f n + 1) (by rw [fin]; exact Nat.one_ne_zero) 16 (by omega), fin]
      rw [e4]
      refine ⟨fun v hv => ?_, fun v hv => ?_⟩
      · by_cases c : v = n
        · subst c; rw [upd_s]
        · rw [upd_n c]; exact i1 v (by omega)
      · rw [upd_n (by omega)]; exact i2 v (by omega)
  exact fun v hv => (outer 4 (Nat.le_refl _) _ rfl).1 v hv
/-- the orders -/
theorem T_order (h : Cfg mo fb rq li sa L F G K) (hs : Scs sc0 sc1) {B : Int32} (hB : BEST (AL0 mo fb rq) sc0 = B) {a b c d : Nat} (hm : Pm a b c d) : gT (AL0 mo fb rq) sc0 a b c d = hT li B sa ncF sc1 a b c d := by
  have hb : ∀ v, v < 4 → ∀ p, p < 16 → AL0 mo fb rq v p ≠ 0 → bitN p v = 0 := fun v hv p hp q => ((al0_iff h hv hp).mp q).1
  have hS := Scs_Sm hs hb
  have hD : dp (AL0 mo fb rq) sc0 15 = B := hB
  have hFa : ∀ z, Fa (AL0 mo fb rq) z ↔ okS li sa z := by
    intro z
    exact ⟨fun q v hv => ((al0_iff h hv (parN_lt z hv)).mp (q v hv)).2.1, fun q v hv => (al0_iff h hv (parN_lt z hv)).mpr ⟨parN_bit z hv, q v hv, trivial⟩⟩
  have key : Chain (AL0 mo fb rq) sc0 a b c d ↔ ¬ sofN li B sa ncF sc1 a b c d = 0 := by
    constructor
    · intro hc
      obtain ⟨z, hz, hF, hf, e⟩ := fol_at hS hb hm hc
      have w : worF sc1 z = B := tI_ext (by rw [← Scs_wz hs z, e, hD])
      have al : ¬ alwN li sa ncF z = 0 := alw_iff.mpr ⟨(circ_iff hz).mpr ⟨a, b, c, d, hm, hf⟩, (hFa z).mp hF⟩
      intro e0
      unfold sofN at e0
      rw [if_neg (fun q => q z hz ⟨by rw [hf]; decide, w, al⟩)] at e0
      exact absurd e0 (by decide)
    · intro q
      have : ∃ z, z < 4096 ∧ sofP li B sa ncF sc1 a b c d z := by
        apply Classical.byContradiction
        intro c
        apply q
        unfold sofN
        rw [if_pos (fun z hz p => c ⟨z, hz, p⟩)]
      obtain ⟨z, hz, hf, w, al⟩ := this
      have hf1 : folN z a b c d = 1 := by have := folN_le z a b c d; omega
      refine (fol_up hS ((hFa z).mpr (alw_iff.mp al).2) hm hf1).2.2 ?_
      rw [Scs_wz hs z, w, hD]
  unfold gT hT
  by_cases c : Chain (AL0 mo fb rq) sc0 a b c d
  · rw [iteN_t c, if_neg (key.mp c)]
  · rw [iteN_f c, if_pos (Classical.byContradiction (fun z => c (key.mpr z)))]
theorem T_ways (h : Cfg mo fb rq li sa L F G K) (hs : Scs sc0 sc1) {B : Int32} (hB : BEST (AL0 mo fb rq) sc0 = B) : WAYS (AL0 mo fb rq) sc0 = nI (ordN li B sa ncF sc1) := by
  have hb : ∀ v, v < 4 → ∀ p, p < 16 → AL0 mo fb rq v p ≠ 0 → bitN p v = 0 := fun v hv p hp q => ((al0_iff h hv hp).mp q).1
  rw [WAYS_is (Scs_Sm hs hb), cnt15, ord256]
  have t : ∀ a b c d, Pm a b c d → gT (AL0 mo fb rq) sc0 a b c d = hT li B sa ncF sc1 a b c d := fun a b c d hm => T_order h hs hB hm
  simp only [t 0 1 2 3 (by unfold Pm; decide), t 0 1 3 2 (by unfold Pm; decide), t 0 2 1 3 (by unfold Pm; decide), t 0 2 3 1 (by unfold Pm; decide), t 0 3 1 2 (by unfold Pm; decide), t 0 3 2 1 (by unfold Pm; decide), t 1 0 2 3 (by unfold Pm; decide), t 1 0 3 2 (by unfold Pm; decide), t 1 2 0 3 (by unfold Pm; decide), t 1 2 3 0 (by unfold Pm; decide), t 1 3 0 2 (by unfold Pm; decide), t 1 3 2 0 (by unfold Pm; decide), t 2 0 1 3 (by unfold Pm; decide), t 2 0 3 1 (by unfold Pm; decide), t 2 1 0 3 (by unfold Pm; decide), t 2 1 3 0 (by unfold Pm; decide), t 2 3 0 1 (by unfold Pm; decide), t 2 3 1 0 (by unfold Pm; decide), t 3 0 1 2 (by unfold Pm; decide), t 3 0 2 1 (by unfold Pm; decide), t 3 1 0 2 (by unfold Pm; decide), t 3 1 2 0 (by unfold Pm; decide), t 3 2 0 1 (by unfold Pm; decide), t 3 2 1 0 (by unfold Pm; decide)]
end T
end
section
/-! how the two objects hang together, and each question of the law -/
def Rel (mo : Int32) (sc0 fb rq : Nat → Int32) (li kn mo1 fi : Int32) (sc1 sa nc : Nat → Int32) : Prop :=
  (∃ (L : Nat) (F G : Nat → Nat) (K : Nat → Nat → Nat), Cfg mo fb rq li sa L F G K) ∧ Scs sc0 sc1 ∧ nc = ncF ∧ (kn = 0 ∨ (kn = nI 1 ∧ (mo1, fi) = woF li sa nc sc1)) ∧ ∃ f : Nat, f < 4096 ∧ fi = nI f
theorem Rel_0 : Rel (nI 3) c0 c0 c0 (nI 3) 0 0 0 c0 c0 ncF := by
  refine ⟨⟨3, fun _ => 0, fun _ => 0, fun _ _ => 0, rfl, rfl, by decide, fun v hv => ⟨⟨rfl, rfl, Nat.le_of_ble_eq_true rfl, Nat.le_of_ble_eq_true rfl⟩, fun u hu => ⟨rfl, Nat.zero_le 2, ?_, ?_⟩⟩⟩, ⟨fun v hv d hd => rfl, fun v hv d hd => ?_⟩, rfl, Or.inl rfl, 0, by decide, rfl⟩
  · show bitN 0 u = 1 ↔ 0 = 1
    rw [bf0 u hu]
  · show bitN 0 u = 1 ↔ 0 = 2
    rw [bf0 u hu]
    exact ⟨fun z => absurd z (by decide), fun z => absurd z (by decide)⟩
  · show -1000 ≤ (nI 0).toInt ∧ (nI 0).toInt ≤ 1000
    decide
section Q
variable {mo li kn mo1 fi : Int32} {sc0 fb rq sc1 sa nc : Nat → Int32}
theorem Rel_wo (h : Rel mo sc0 fb rq li kn mo1 fi sc1 sa nc) {u : Int32 × Int32 × Int32} (w : WO li sa nc sc1 kn mo1 fi u) : Rel mo sc0 fb rq li u.1 u.2.1 u.2.2 sc1 sa nc ∧ u.2 = woF li sa ncF sc1 ∧ u.2.1 = BEST (AL0 mo fb rq) sc0 := by
  have hfi := WO_fi w h.2.2.2.2
  obtain ⟨⟨L, F, G, K, hc⟩, hs, hn, hk, hf⟩ := h
  subst hn
  have e : u.1 = nI 1 ∧ u.2 = woF li sa ncF sc1 := by
    rcases w with ⟨w1, w2⟩ | ⟨w1, w2, w3⟩
    · rcases hk with k | k
      · exact absurd k w1
      · rw [w2]; exact k
    · exact ⟨w2, w3⟩
  exact ⟨⟨⟨L, F, G, K, hc⟩, hs, rfl, Or.inr ⟨e.1, e.2⟩, hfi⟩, e.2, by rw [T_best hc hs, e.2]⟩
-- ---- score
theorem scoreR_0 {x1 x2 x3 : Int32} (h : scoreR x1 x2 x3 = nI 0) : ∃ a q : Nat, a < 4 ∧ q < 16 ∧ x1 = nI a ∧ x2 = nI q ∧ bitN q a = 0 ∧ -1000 ≤ x3.toInt ∧ x3.toInt ≤ 1000 := by
  unfold scoreR at h
  split at h
  · rename_i c1
    obtain ⟨a, ha, rfl⟩ := badV_0 c1
    rw [nI_clamp (by omega)] at h
    split at h
    · rename_i c2
      obtain ⟨q, hq, rfl, hb⟩ := badP_0 ha c2
      split at h
      · exact absurd h (by decide)
      · rename_i c3
        split at h
        · rename_i c4
          rw [Int32.le_iff_toInt_le, nI_toInt (by decide)] at c4
          rw [Int32.lt_iff_toInt_lt, show (-1000 : Int32).toInt = -1000 from by decide] at c3
          exact ⟨a, q, ha, hq, rfl, rfl, hb, by omega, by omega⟩
        · exact absurd h (by decide)
    · exact absurd h (by decide)
  · exact absurd h (by decide)
theorem L_score (h : Rel mo sc0 fb rq li kn mo1 fi sc1 sa nc) {x1 x2 x3 r0 r1 : Int32} {u0 : Nat → Int32} {u1 : (Nat → Int32) × Int32} (h0 : r0 = scoreR x1 x2 x3 ∧ u0 = scoreU sc0 x1 x2 x3) (h1 : r1 = scoreR x1 x2 x3 ∧ u1 = scoreU1 sc1 kn x1 x2 x3) : r0 = r1 ∧ Rel mo u0 fb rq li u1.2 mo1 fi u1.1 sa nc := by
  refine ⟨h0.1.trans h1.1.symm, ?_⟩
  rw [h0.2, h1.2]
  by_cases hR : scoreR x1 x2 x3 = nI 0
  · obtain ⟨a, q, ha, hq, e1, e2, hb, g1, g2⟩ := scoreR_0 hR
    rw [scoreU_ok hR ha hq e1 e2, scoreU1_ok hR ha hq e1 e2]
    obtain ⟨hc, ⟨s1, s2⟩, hn, -, hf⟩ := h
    refine ⟨hc, ⟨fun v hv d hd => ?_, fun v hv d hd => ?_⟩, hn, Or.inl nI_0, hf⟩
    · show upd sc0 (a * 16 + q) x3 (v * 16 + maskN v d) = upd sc1 (a * 8 + digM a q) x3 (v * 8 + d)
      have m1 := maskN_lt v hv d hd
      have m2 := digM_lt a ha q hq
      by_cases c : v = a ∧ maskN v d = q
      · obtain ⟨rfl, rfl⟩ := c
        rw [dig_mask v hv d hd, upd_s, upd_s]
      · have c2 : ¬ (v = a ∧ d = digM a q) := by
          rintro ⟨rfl, rfl⟩
          exact c ⟨rfl, mask_dig v ha q hq hb⟩
        rw [upd_n (fun e => c ⟨by omega, by omega⟩), upd_n (fun e => c2 ⟨by omega, by omega⟩)]
        exact s1 v hv d hd
    · show -1000 ≤ (upd sc1 (a * 8 + digM a q) x3 (v * 8 + d)).toInt ∧ (upd sc1 (a * 8 + digM a q) x3 (v * 8 + d)).toInt ≤ 1000
      by_cases c : v * 8 + d = a * 8 + digM a q
      · rw [c, upd_s]; exact ⟨g1, g2⟩
      · rw [upd_n c]; exact s2 v hv d hd
  · rw [scoreU_no hR, scoreU1_no hR]
    exact h
-- ---- limit
theorem L_limit (h : Rel mo sc0 fb rq li kn mo1 fi sc1 sa nc) {x r0 r1 u0 : Int32} {u1 : Int32 × Int32} (h0 : r0 = limR mo x ∧ u0 = limU mo x) (h1 : r1 = limR li x ∧ u1 = (limU li x, limK kn x)) : r0 = r1 ∧ Rel u0 sc0 fb rq u1.1 u1.2 mo1 fi sc1 sa nc := by
  obtain ⟨⟨L, F, G, K, e1, e2, hL, hc⟩, hs, hn, hk, hf⟩ := id h
  refine ⟨by rw [h0.1, h1.1, e1, e2], ?_⟩
  rw [h0.2, h1.2]
  show Rel (limU mo x) sc0 fb rq (limU li x) (limK kn x) mo1 fi sc1 sa nc
  unfold limU limK
  by_cases c1 : x < 0
  · rw [if_pos c1, if_pos c1, if_pos c1]; exact h
  · rw [if_neg c1, if_neg c1, if_neg c1]
    by_cases c2 : x ≤ nI 3
    · rw [if_pos c2, if_pos c2, if_pos c2]
      obtain ⟨j, hj, rfl⟩ := nI_of2 (n := 3) (by decide) c1 c2
      exact ⟨⟨j, F, G, K, rfl, rfl, hj, hc⟩, hs, hn, Or.inl nI_0, hf⟩
    · rw [if_neg c2, if_neg c2, if_neg c2]; exact h
-- ---- edge
theorem edB_nI {a b : Nat} (ha : a < 4) (hb : b < 4) (h : ¬ a = b) : edB (nI a) (nI b) = 0 := edB_d (badV_nI a ha) (badV_nI b hb) ha hb rfl rfl h
theorem ed1 : ∀ f, f < 16 → ∀ a, a < 4 → ((f &&& (1 <<< a) = 0) ↔ ¬ bitN f a = 1) := by decide +kernel
theorem ed2 : ∀ f, f < 16 → ∀ a, a < 4 → ∀ u, u < 4 → bitN (andn f (1 <<< a)) u = if u = a then 0 else bitN f u := by decide +kernel
theorem ed3 : ∀ f, f < 16 → ∀ a, a < 4 → ∀ u, u < 4 → bitN (andn f (1 <<< a) ||| (1 <<< a)) u = if u = a then 1 else bitN f u := by decide +kernel
theorem ed_o {f g a : Nat} (hf : f < 16) (hg : g < 16) (ha : a < 4) : edO (nI f) (nI g) (nI (1 <<< a)) = nI (if bitN f a = 1 then 1 else if bitN g a = 1 then 2 else 0) := by
  have k : ∀ x, x < 16 → ((nI x &&& nI (1 <<< a) = 0) ↔ ¬ bitN x a = 1) := by
    intro x hx
    have l : x &&& (1 <<< a) ≤ x := Nat.and_le_left
    rw [bb_and, ← nI_0, nI_eq (by omega) (by omega)]
    exact ed1 x hx a ha
  unfold edO
  by_cases c1 : bitN f a = 1
  · rw [if_neg (fun z => (k f hf).mp z c1), if_pos c1]
  · rw [if_pos ((k f hf).mpr c1), if_neg c1]
    by_cases c2 : bitN g a = 1
    · rw [if_neg (fun z => (k g hg).mp z c2), if_pos c2]
    · rw [if_pos ((k g hg).mpr c2), if_neg c2]
theorem ed_n {f a hh k : Nat} {x3 : Int32} (e : x3 &&& nI 3 = nI hh) (h4 : hh < 4) (k4 : k < 4) : edN (nI f) (nI (1 <<< a)) x3 (nI k) = nI (if hh = k then andn f (1 <<< a) ||| (1 <<< a) else andn f (1 <<< a)) := by
  unfold edN
  rw [e, bb_andn, bb_or]
  by_cases c : hh = k
  · rw [if_pos (by rw [c]), if_pos c]
  · rw [if_neg (fun z => c ((nI_eq (by omega) (by omega)).mp z)), if_neg c]
theorem L_edge (h : Rel mo sc0 fb rq li kn mo1 fi sc1 sa nc) {x1 x2 x3 r0 r1 : Int32} {u0 : (Nat → Int32) × (Nat → Int32)} {u1 : (Nat → Int32) × Int32}
    (h0 : (edB x1 x2 = 1 ∧ r0 = -1 ∧ u0 = (fb, rq)) ∨ (∃ a b : Nat, a < 4 ∧ b < 4 ∧ ¬ a = b ∧ x1 = nI a ∧ x2 = nI b ∧ r0 = edO (fb b) (rq b) (nI (1 <<< a)) ∧ u0 = (upd fb b (edN (fb b) (nI (1 <<< a)) x3 (nI 1)), upd rq b (edN (rq b) (nI (1 <<< a)) x3 (nI 2)))))
    (h1 : (edB x1 x2 = 1 ∧ r1 = -1 ∧ u1 = (sa, kn)) ∨ (∃ a b : Nat, a < 4 ∧ b < 4 ∧ ¬ a = b ∧ x1 = nI a ∧ x2 = nI b ∧ r1 = sa (a * 4 + b) ∧ u1 = (upd sa (a * 4 + b) (if x3 &&& nI 3 = nI 3 then nI 0 else x3 &&& nI 3), nI 0))) : r0 = r1 ∧ Rel mo sc0 u0.1 u0.2 li u1.2 mo1 fi sc1 u1.1 nc := by
  rcases h0 with ⟨p1, p2, p3⟩ | ⟨a, b, ha, hb, hab, p1, p2, p3, p4⟩
  · rcases h1 with ⟨-, q2, q3⟩ | ⟨a, b, ha, hb, hab, q1, q2, -⟩
    · rw [p2, q2, p3, q3]; exact ⟨rfl, h⟩
    · rw [q1, q2, edB_nI ha hb hab] at p1
      exact absurd p1 (by decide)
  · rcases h1 with ⟨q1, -⟩ | ⟨a', b', ha', hb', hab', q1, q2, q3, q4⟩
    · rw [p1, p2, edB_nI ha hb hab] at q1
      exact absurd q1 (by decide)
    · have ea : a' = a := (nI_eq (by omega) (by omega)).mp (q1.symm.trans p1)
      have eb : b' = b := (nI_eq (by omega) (by omega)).mp (q2.symm.trans p2)
      subst ea
      subst eb
      obtain ⟨⟨L, F, G, K, e1, e2, hL, hc⟩, hs, hn, hk, hf⟩ := id h
      obtain ⟨⟨f1, f2, f3, f4⟩, fu⟩ := hc b' hb'
      obtain ⟨k1, k2, k3, k4⟩ := fu a' ha'
      obtain ⟨hh, hh4, hx⟩ := pk_andE x3 (m := nI 3) 2 (by decide)
      have hh4 : hh < 4 := hh4
      refine ⟨?_, ?_⟩
      · rw [p3, q3, f1, f2, ed_o f3 f4 ha', k1]
        congr 1
        by_cases c1 : bitN (F b') a' = 1
        · rw [if_pos c1]; exact (k3.mp c1).symm
        · rw [if_neg c1]
          by_cases c2 : bitN (G b') a' = 1
          · rw [if_pos c2]; exact (k4.mp c2).symm
          · rw [if_neg c2]
            have n1 : K a' b' ≠ 1 := fun z => c1 (k3.mpr z)
            have n2 : K a' b' ≠ 2 := fun z => c2 (k4.mpr z)
            omega
      · rw [p4, q4, f1, f2, ed_n hx hh4 (by decide), ed_n hx hh4 (by decide)]
        have ex : (if x3 &&& nI 3 = nI 3 then nI 0 else x3 &&& nI 3) = nI (if hh = 3 then 0 else hh) := by
          rw [hx]
          by_cases c : hh = 3
          · rw [if_pos (by rw [c]), if_pos c]
          · rw [if_neg (fun z => c ((nI_eq (by omega) (by omega)).mp z)), if_neg c]
        rw [ex]
        obtain ⟨Fx, hFx⟩ : ∃ x, x = if hh = 1 then andn (F b') (1 <<< a') ||| (1 <<< a') else andn (F b') (1 <<< a') := ⟨_, rfl⟩
        obtain ⟨Gx, hGx⟩ : ∃ x, x = if hh = 2 then andn (G b') (1 <<< a') ||| (1 <<< a') else andn (G b') (1 <<< a') := ⟨_, rfl⟩
        obtain ⟨Kx, hKx⟩ : ∃ x, x = if hh = 3 then 0 else hh := ⟨_, rfl⟩
        rw [← hFx, ← hGx, ← hKx]
        have s4 := sh4 a' ha'
        have lF := andn_le (F b') (1 <<< a')
        have lG := andn_le (G b') (1 <<< a')
        have lF2 : andn (F b') (1 <<< a') ||| (1 <<< a') < 2 ^ 4 := Nat.or_lt_two_pow (by omega) s4
        have lG2 : andn (G b') (1 <<< a') ||| (1 <<< a') < 2 ^ 4 := Nat.or_lt_two_pow (by omega) s4
        have bF : Fx < 16 := by rw [hFx]; split <;> omega
        have bG : Gx < 16 := by rw [hGx]; split <;> omega
        have bK : Kx ≤ 2 := by rw [hKx]; split <;> omega
        have mF : ∀ u, u < 4 → bitN Fx u = if u = a' then (if hh = 1 then 1 else 0) else bitN (F b') u := by
          intro u hu
          rw [hFx]
          by_cases ch : hh = 1
          · rw [if_pos ch, if_pos ch, ed3 _ f3 _ ha' _ hu]
          · rw [if_neg ch, if_neg ch, ed2 _ f3 _ ha' _ hu]
        have mG : ∀ u, u < 4 → bitN Gx u = if u = a' then (if hh = 2 then 1 else 0) else bitN (G b') u := by
          intro u hu
          rw [hGx]
          by_cases ch : hh = 2
          · rw [if_pos ch, if_pos ch, ed3 _ f4 _ ha' _ hu]
          · rw [if_neg ch, if_neg ch, ed2 _ f4 _ ha' _ hu]
        have nF : (if hh = 1 then 1 else 0) = 1 ↔ Kx = 1 := by rw [hKx]; (repeat' split) <;> omega
        have nG : (if hh = 2 then 1 else 0) = 1 ↔ Kx = 2 := by rw [hKx]; (repeat' split) <;> omega
        obtain ⟨F', hF'⟩ : ∃ F' : Nat → Nat, F' = fun v => if v = b' then Fx else F v := ⟨_, rfl⟩
        obtain ⟨G', hG'⟩ : ∃ G' : Nat → Nat, G' = fun v => if v = b' then Gx else G v := ⟨_, rfl⟩
        obtain ⟨K', hK'⟩ : ∃ K' : Nat → Nat → Nat, K' = fun u v => if u = a' ∧ v = b' then Kx else K u v := ⟨_, rfl⟩
        have F1 : F' b' = Fx := by rw [hF']; exact if_pos rfl
        have F2 : ∀ v, v ≠ b' → F' v = F v := fun v c => by rw [hF']; exact if_neg c
        have G1 : G' b' = Gx := by rw [hG']; exact if_pos rfl
        have G2 : ∀ v, v ≠ b' → G' v = G v := fun v c => by rw [hG']; exact if_neg c
        have K1 : K' a' b' = Kx := by rw [hK']; exact if_pos ⟨rfl, rfl⟩
        have K2 : ∀ u v, ¬ (u = a' ∧ v = b') → K' u v = K u v := fun u v c => by rw [hK']; exact if_neg c
        refine ⟨⟨L, F', G', K', e1, e2, hL, fun v hv => ?_⟩, hs, hn, Or.inl nI_0, hf⟩
        obtain ⟨⟨g1, g2, g3, g4⟩, gu⟩ := hc v hv
        show (upd fb b' (nI Fx) v = nI (F' v) ∧ upd rq b' (nI Gx) v = nI (G' v) ∧ F' v < 16 ∧ G' v < 16) ∧ ∀ u, u < 4 → upd sa (a' * 4 + b') (nI Kx) (u * 4 + v) = nI (K' u v) ∧ K' u v ≤ 2 ∧ (bitN (F' v) u = 1 ↔ K' u v = 1) ∧ (bitN (G' v) u = 1 ↔ K' u v = 2)
        by_cases c : v = b'
        · subst c
          rw [upd_s, upd_s, F1, G1]
          refine ⟨⟨rfl, rfl, bF, bG⟩, fun u hu => ?_⟩
          rw [mF u hu, mG u hu]
          by_cases cu : u = a'
          · subst cu
            rw [upd_s, K1, if_pos rfl, if_pos rfl]
            exact ⟨rfl, bK, nF, nG⟩
          · rw [upd_n (by omega), K2 u v (fun z => cu z.1), if_neg cu, if_neg cu]
            exact gu u hu
        · rw [upd_n c, upd_n c, F2 v c, G2 v c]
          refine ⟨⟨g1, g2, g3, g4⟩, fun u hu => ?_⟩
          rw [upd_n (by omega), K2 u v (fun z => c z.2)]
          exact gu u hu
-- ---- learn
theorem hit_le {cs : Int64} {v p t : Nat} : ∀ n, (lit (hitS cs v p t) (0, 0) n).1 + (lit (hitS cs v p t) (0, 0) n).2 ≤ n := by
  intro n
  induction n with
  | zero => exact Nat.le_refl 0
  | succ n ih =>
    rw [lit_succ]
    generalize lit (hitS cs v p t) (0, 0) n = s at ih
    unfold hitS
    split
    · split
      · show s.1 + (s.2 + 1) ≤ n + 1
        omega
      · show s.1 + 1 + s.2 ≤ n + 1
        omega
    · omega
theorem hitF_le (cs : Int64) (v p t : Nat) : hitF cs v p t ≤ 16 := by
  have h := hit_le (cs := cs) (v := v) (p := p) (t := t) 16
  unfold hitF
  split <;> omega
theorem sum_le {cs : Int64} {v p : Nat} : ∀ n, lit (sumS cs v p) 0 n ≤ 16 * n := by
  intro n
  induction n with
  | zero => exact Nat.le_refl 0
  | succ n ih =>
    rw [lit_succ]
    generalize lit (sumS cs v p) 0 n = s at ih
    have := hitF_le cs v p n
    unfold sumS
    split <;> omega
theorem sfF_bd (cs : Int64) (v : Nat) {p : Nat} (hp : p < 16) : -1000 ≤ (sfF cs v p).toInt ∧ (sfF cs v p).toInt ≤ 1000 := by
  have h1 := sum_le (cs := cs) (v := v) (p := p) 16
  have h2 : ∀ x, x < 16 → 3 * (1 <<< szN x) ≤ 48 := by decide +kernel
  have h3 := h2 p hp
  unfold sfF
  rw [pk_sub_toInt (by omega) (by omega)]
  omega
theorem lnI_o {cs : Int64} {v : Nat} {sc : Nat → Int32} : ∀ n k, (k < v * 16 ∨ v * 16 + n ≤ k) → lit (lnI cs v) sc n k = sc k := by
  intro n
  induction n with
  | zero => intro k _; rfl
  | succ n ih =>
    intro k hk
    rw [lit_succ, ← ih k (by omega)]
    generalize lit (lnI cs v) sc n = s
    unfold lnI
    split
    · exact upd_n (by omega)
    · rfl
theorem lnI_at {cs : Int64} {v : Nat} {sc : Nat → Int32} : ∀ n p, p < n → bitN p v = 0 → lit (lnI cs v) sc n (v * 16 + p) = sfF cs v p := by
  intro n
  induction n with
  | zero => intro p h; exact absurd h (Nat.not_lt_zero p)
  | succ n ih =>
    intro p hp hb
    rw [lit_succ]
    by_cases e : p = n
    · subst e
      generalize lit (lnI cs v) sc p = s
      unfold lnI
      rw [if_pos (show (p >>> v) &&& 1 = 0 from hb), upd_s]
    · rw [← ih p (by omega) hb]
      generalize lit (lnI cs v) sc n = s
      unfold lnI
      split
      · exact upd_n (by omega)
      · rfl
theorem lnO_at {cs : Int64} {sc : Nat → Int32} : ∀ n v p, v < n → p < 16 → bitN p v = 0 → lit (lnO cs) sc n (v * 16 + p) = sfF cs v p := by
  intro n
  induction n with
  | zero => intro v p h; exact absurd h (Nat.not_lt_zero v)
  | succ n ih =>
    intro v p hv hp hb
    rw [lit_succ]
    by_cases e : v = n
    · subst e; exact lnI_at 16 p hp hb
    · rw [← ih v p (by omega) hp hb]
      exact lnI_o 16 _ (by omega)
theorem ln1I_o {cs : Int64} {v : Nat} {sc : Nat → Int32} : ∀ n k, (k < v * 8 ∨ v * 8 + n ≤ k) → lit (ln1I cs v) sc n k = sc k := by
  intro n
  induction n with
  | zero => intro k _; rfl
  | succ n ih =>
    intro k hk
    rw [lit_succ, ← ih k (by omega)]
    exact upd_n (by omega)
theorem ln1I_at {cs : Int64} {v : Nat} {sc : Nat → Int32} : ∀ n d, d < n → lit (ln1I cs v) sc n (v * 8 + d) = sfF cs v (maskN v d) := by
  intro n
  induction n with
  | zero => intro d h; exact absurd h (Nat.not_lt_zero d)
  | succ n ih =>
    intro d hd
    rw [lit_succ]
    by_cases e : d = n
    · subst e; exact upd_s
    · rw [← ih d (by omega)]
      exact upd_n (by omega)
theorem ln1O_at {cs : Int64} {sc : Nat → Int32} : ∀ n v d, v < n → d < 8 → lit (ln1O cs) sc n (v * 8 + d) = sfF cs v (maskN v d) := by
  intro n
  induction n with
  | zero => intro v d h; exact absurd h (Nat.not_lt_zero v)
  | succ n ih =>
    intro v d hv hd
    rw [lit_succ]
    by_cases e : v = n
    · subst e; exact ln1I_at 8 d hd
    · rw [← ih v d (by omega) hd]
      exact ln1I_o 8 _ (by omega)
theorem L_learn (h : Rel mo sc0 fb rq li kn mo1 fi sc1 sa nc) {cs : Int64} {r0 r1 : Int32} {u0 : Nat → Int32} {u1 : (Nat → Int32) × Int32} (h0 : r0 = nI 0 ∧ u0 = lit (lnO cs) sc0 4) (h1 : r1 = nI 0 ∧ u1 = (lit (ln1O cs) sc1 4, nI 0)) : r0 = r1 ∧ Rel mo u0 fb rq li u1.2 mo1 fi u1.1 sa nc := by
  refine ⟨h0.1.trans h1.1.symm, ?_⟩
  rw [h0.2, h1.2]
  obtain ⟨hc, -, hn, -, hf⟩ := h
  refine ⟨hc, ⟨fun v hv d hd => ?_, fun v hv d hd => ?_⟩, hn, Or.inl nI_0, hf⟩
  · show lit (lnO cs) sc0 4 (v * 16 + maskN v d) = lit (ln1O cs) sc1 4 (v * 8 + d)
    rw [lnO_at 4 v _ hv (maskN_lt v hv d hd) (bit_mask v hv d hd), ln1O_at 4 v d hv hd]
  · show -1000 ≤ (lit (ln1O cs) sc1 4 (v * 8 + d)).toInt ∧ (lit (ln1O cs) sc1 4 (v * 8 + d)).toInt ≤ 1000
    rw [ln1O_at 4 v d hv hd]
    exact sfF_bd cs v (maskN_lt v hv d hd)
-- ---- questions
theorem L_best (h : Rel mo sc0 fb rq li kn mo1 fi sc1 sa nc) {r0 r1 : Int32} {u : Int32 × Int32 × Int32} (h0 : r0 = BEST (AL0 mo fb rq) sc0) (h1 : WO li sa nc sc1 kn mo1 fi u ∧ r1 = u.2.1) : r0 = r1 ∧ Rel mo sc0 fb rq li u.1 u.2.1 u.2.2 sc1 sa nc := by
  obtain ⟨a, -, c⟩ := Rel_wo h h1.1
  exact ⟨by rw [h0, h1.2, c], a⟩
theorem L_parents (h : Rel mo sc0 fb rq li kn mo1 fi sc1 sa nc) {x r0 r1 : Int32} {u : Int32 × Int32 × Int32} (h0 : r0 = parR mo fb rq sc0 x) (h1 : (¬ badV x = 0 ∧ r1 = -1 ∧ u = (kn, mo1, fi)) ∨ (badV x = 0 ∧ WO li sa nc sc1 kn mo1 fi u ∧ r1 = if u.2.1 = -100000 then -100000 else nI (parN u.2.2.toNatClampNeg x.toNatClampNeg))) : r0 = r1 ∧ Rel mo sc0 fb rq li u.1 u.2.1 u.2.2 sc1 sa nc := by
  unfold parR at h0
  rcases h1 with ⟨p1, p2, p3⟩ | ⟨p1, p2, p3⟩
  · rw [if_neg p1] at h0
    rw [p3]
    exact ⟨h0.trans p2.symm, h⟩
  · obtain ⟨a, b, c⟩ := Rel_wo h p2
    refine ⟨?_, a⟩
    rw [if_pos p1, ← c] at h0
    rw [h0, p3]
    by_cases q : u.2.1 = -100000
    · rw [if_pos q, if_pos q]
    · rw [if_neg q, if_neg q]
      obtain ⟨⟨L, F, G, K, hc⟩, hs, -⟩ := h
      obtain ⟨f, hf, e, hv⟩ := T_first hc hs (by rw [← b]; exact q)
      obtain ⟨v, hv4, rfl⟩ := badV_0 p1
      rw [b, e, nI_clamp (by omega), nI_clamp (by omega)]
      exact hv v hv4
theorem L_edges (h : Rel mo sc0 fb rq li kn mo1 fi sc1 sa nc) {r0 r1 : Int32} {u : Int32 × Int32 × Int32} (h0 : r0 = if BEST (AL0 mo fb rq) sc0 = -100000 then -100000 else nI (edgN mo fb rq sc0)) (h1 : WO li sa nc sc1 kn mo1 fi u ∧ r1 = if u.2.1 = -100000 then -100000 else nI (eg1N u.2.2.toNatClampNeg)) : r0 = r1 ∧ Rel mo sc0 fb rq li u.1 u.2.1 u.2.2 sc1 sa nc := by
  obtain ⟨a, b, c⟩ := Rel_wo h h1.1
  refine ⟨?_, a⟩
  rw [← c] at h0
  rw [h0, h1.2]
  by_cases q : u.2.1 = -100000
  · rw [if_pos q, if_pos q]
  · rw [if_neg q, if_neg q]
    obtain ⟨⟨L, F, G, K, hc⟩, hs, -⟩ := h
    obtain ⟨f, hf, e, hv⟩ := T_first hc hs (by rw [← b]; exact q)
    have k : edgN mo fb rq sc0 = eg1N f := by
      unfold edgN eg1N
      refine lit_congn 4 (fun v n hv4 => ?_) 0
      show n + szN (ffF mo fb rq sc0 v).toNatClampNeg = n + szN (parN f v)
      rw [hv v hv4, nI_clamp (by have := parN_lt f hv4; omega)]
    rw [b, e, nI_clamp (by omega), k]
theorem L_orders (h : Rel mo sc0 fb rq li kn mo1 fi sc1 sa nc) {r0 r1 : Int32} {u : Int32 × Int32 × Int32} (h0 : r0 = if BEST (AL0 mo fb rq) sc0 = -100000 then nI 0 else WAYS (AL0 mo fb rq) sc0) (h1 : WO li sa nc sc1 kn mo1 fi u ∧ r1 = if u.2.1 = -100000 then nI 0 else nI (ordN li u.2.1 sa nc sc1)) : r0 = r1 ∧ Rel mo sc0 fb rq li u.1 u.2.1 u.2.2 sc1 sa nc := by
  obtain ⟨a, b, c⟩ := Rel_wo h h1.1
  refine ⟨?_, a⟩
  rw [← c] at h0
  rw [h0, h1.2]
  by_cases q : u.2.1 = -100000
  · rw [if_pos q, if_pos q]
  · rw [if_neg q, if_neg q]
    obtain ⟨⟨L, F, G, K, hc⟩, hs, hn, -⟩ := h
    rw [T_ways hc hs c.symm, hn]
theorem edB_0 {x y : Int32} (h : edB x y = 0) : ∃ a b : Nat, a < 4 ∧ b < 4 ∧ x = nI a ∧ y = nI b := by
  unfold edB at h
  split at h
  · rename_i c1
    split at h
    · rename_i c2
      obtain ⟨a, ha, e1⟩ := badV_0 c1
      obtain ⟨b, hb, e2⟩ := badV_0 c2
      exact ⟨a, b, ha, hb, e1, e2⟩
    · exact absurd h (by decide)
  · exact absurd h (by decide)
theorem L_with (h : Rel mo sc0 fb rq li kn mo1 fi sc1 sa nc) {x1 x2 r0 r1 : Int32} (h0 : (edB x1 x2 = 1 ∧ r0 = -1) ∨ (edB x1 x2 = 0 ∧ r0 = BEST (alN mo fb rq cM (upd c0 x2.toNatClampNeg (nI (1 <<< x1.toNatClampNeg))) c0) sc0)) (h1 : (edB x1 x2 = 1 ∧ r1 = -1) ∨ (edB x1 x2 = 0 ∧ r1 = bbF li sa nc sc1 x1.toNatClampNeg x2.toNatClampNeg 1)) : r0 = r1 := by
  rcases h0 with p | p
  · rcases h1 with q | q
    · rw [p.2, q.2]
    · exact absurd (p.1.symm.trans q.1) (by decide)
  · rcases h1 with q | q
    · exact absurd (p.1.symm.trans q.1) (by decide)
    · obtain ⟨⟨L, F, G, K, hc⟩, hs, hn, -⟩ := h
      obtain ⟨a, b, ha, hb, rfl, rfl⟩ := edB_0 p.1
      rw [p.2, q.2, hn, nI_clamp (by omega), nI_clamp (by omega)]
      exact T_with hc hs ha hb
theorem L_without (h : Rel mo sc0 fb rq li kn mo1 fi sc1 sa nc) {x1 x2 r0 r1 : Int32} (h0 : (edB x1 x2 = 1 ∧ r0 = -1) ∨ (edB x1 x2 = 0 ∧ r0 = BEST (alN mo fb rq cM c0 (upd c0 x2.toNatClampNeg (nI (1 <<< x1.toNatClampNeg)))) sc0)) (h1 : (edB x1 x2 = 1 ∧ r1 = -1) ∨ (edB x1 x2 = 0 ∧ r1 = bbF li sa nc sc1 x1.toNatClampNeg x2.toNatClampNeg 0)) : r0 = r1 := by
  rcases h0 with p | p
  · rcases h1 with q | q
    · rw [p.2, q.2]
    · exact absurd (p.1.symm.trans q.1) (by decide)
  · rcases h1 with q | q
    · exact absurd (p.1.symm.trans q.1) (by decide)
    · obtain ⟨⟨L, F, G, K, hc⟩, hs, hn, -⟩ := h
      obtain ⟨a, b, ha, hb, rfl, rfl⟩ := edB_0 p.1
      rw [p.2, q.2, hn, nI_clamp (by omega), nI_clamp (by omega)]
      exact T_without hc hs ha hb
theorem L_scoreOf (h : Rel mo sc0 fb rq li kn mo1 fi sc1 sa nc) (x1 x2 : Int32) : soR sc0 x1 x2 = so1R sc1 x1 x2 := by
  unfold soR so1R
  by_cases c1 : badV x1 = 0
  · rw [if_pos c1, if_pos c1]
    obtain ⟨a, ha, rfl⟩ := badV_0 c1
    rw [nI_clamp (by omega)]
    by_cases c2 : badP a x2 = 0
    · rw [if_pos c2, if_pos c2]
      obtain ⟨q, hq, rfl, hb⟩ := badP_0 ha c2
      rw [nI_clamp (by omega)]
      have e := h.2.1.1 a ha (digM a q) (digM_lt a ha q hq)
      rw [mask_dig a ha q hq hb] at e
      exact e
    · rw [if_neg c2, if_neg c2]
  · rw [if_neg c1, if_neg c1]
end Q
end
section
/-! THE CLAIM OUT OF ONE WALK OF THE LAW'S BODY. Your part is whole_start (and what it stands on); all else here is the same for every law, but numbers. -/
def R_law : String := "StructureLearnerLaw"
def lw_P (b : Addr) (xs : List Int32) (args : Array Value) (s : State) : Prop := args = #[.ref b] ∧ s.IntsAt b xs ∧ xs.length ≤ 256 ∧ (Jvm.Cond.and given_1 narrow_1).before args s = true
def lw_Q (_ : Array Value) (s : State) (o : Outcome) (t : State) : Prop := o = .returned (some (.int 1)) ∧ Framed s o t [] 600000 7290000
def lw_Z (below : List Frame) (a : Array Value) (s : State) : State → Prop := fun t => ∃ o, t.status = .running ∧ Ended t below o ∧ lw_Q a s o t
/-- the law's own end, with 1 on the stack, nothing written that was there before, its room as the claim has it -/
theorem lw_ret {p : Program} {l : Launch} {e : Env} {s : State} {m : MethodId} {below : List Frame} {meth : Method} {c : Code} {b : Nat} (hx : p.tables.exec = Jvm.exec) (hb : c.code = code) (hr : meth.sig.returnType = ret) (hlocks : meth.locks = false) {pc : Nat} {H : Heap} {ls : Array Slot} (hdg : decode code pc = .ok (.ireturn, 1)) : W p l e room_1 s m #[Value.ref b] below meth c H [] 600000 7290000 (lw_Z below #[Value.ref b] s) (F0 m pc ls [.int 1]) := by
  intro T hT X
  obtain ⟨fs, hret, hrun, hended, hW, hframe⟩ := X.leave (v := some (.int 1)) (hlocks := hlocks) (fun h => by rw [hr] at h; cases h)
  have hmeth' : T.vm.method? m = some meth := X.method'
  refine ⟨T.setFrames fs, ?_, .returned (some (.int 1)), hrun, hended, rfl, ⟨_, rfl⟩, hW, hframe⟩
  jvm_step X.here [X.here.top, hx, hb, hdg, hmeth', hr, ret, narrow_b1]
  (try refine ⟨rfl, ?_⟩); (try refine ⟨rfl, ?_⟩)
  first | (intro acts; rw [hret _ acts rfl rfl rfl]) | rw [hret _ _ rfl rfl rfl]
  exact Steps.refl _
/-- what holds at the law's entry: the machine, the code, the tables' words (any of lw_tbl by 'hts w (by decide +kernel)'), the script of L ints xs at the cell b, what the Statement gives of the start (any of its parts by flat_of_before) -/
def lw_At (p : Program) (s : State) (m : MethodId) (meth : Method) (c : Code) (b L : Nat) (xs : Nat → Int32) : Prop :=
  p.tables.exec = Jvm.exec ∧ c.code = code ∧ meth.sig.returnType = ret ∧ c.maxLocals = 4 ∧ s.vm.findClass R_law = some m.cls ∧ (∀ w ∈ lw_tbl, w.before #[Value.ref b] s = true) ∧ va_X b L xs s s.heap ∧ b < s.heap.size ∧ meth.locks = false ∧ (Jvm.Cond.and given_1 narrow_1).before #[Value.ref b] s = true
end
section
theorem law_cmp {L i : Nat} (hL : L ≤ 256) (hi : i ≤ L) (h : ¬ nI L - nI 4 < nI i) : i + 4 ≤ L := by
  rw [Int32.lt_iff_toInt_lt, pk_sub_toInt (by omega) (by decide), nI_toInt (by omega)] at h
  omega
section LW
variable {p : Program} {l : Launch} {e : Env} {R : Room} {s : State} {m : MethodId} {args : Array Value} {below : List Frame} {meth : Method} {c : Code} {H : Heap} {locs : List Loc} {cells slots : Nat} {Q : State → Prop}
variable {cc : ByteArray} {pc : Nat} {ls : Array Slot} {rest : List Value} {A : Nat → Prop} {H0 : Heap}
theorem wk_sld (hexec : p.tables.exec = Jvm.exec) (hb : c.code = cc) {b L : Nat} {xs : Nat → Int32} (hX : va_X b L xs s H0) (hbl : b < H0.size) (hbA : ¬ A b) (hS : va_S A H0 H locs) {ix : Nat} (hi : ix < L) (hL : L < 2 ^ 31) (hdg : decode cc pc = .ok (.iaload, 1))
    (kk : W p l e R s m args below meth c H locs cells slots Q (F0 m (pc + 1) ls (.int (xs ix) :: rest))) : W p l e R s m args below meth c H locs cells slots Q (F0 m pc ls (.int (nI ix) :: .ref b :: rest)) :=
  va_sld hexec hb hX hbl hbA hS (vp_in_nI hi hL) hdg (by rw [nI_clamp (Nat.lt_trans hi hL)]; exact kk)
end LW
set_option maxHeartbeats 8000000 in
set_option maxRecDepth 100000 in
/-- the law's loop at its head: i ints are read, the two objects hang together -/
theorem law_loop {p : Program} {l : Launch} {e : Env} {s : State} {m : MethodId} {below : List Frame} {meth : Method} {c : Code} {dC : Nat → ClassId} {dI : Nat → Nat → Nat} {b L : Nat} {xs : Nat → Int32} {A : Nat → Prop} (hL : L ≤ 256) (C0 : lw_At p s m meth c b L xs) (hA : ∀ q : Nat, s.heap.size ≤ q → A q) (hAe : ∀ q : Nat, A q → s.heap.size ≤ q) (hbA : ¬ A b) (q0 q1 : Nat) (cI cJ cB : ClassId) (g0 g1 : Nat → Nat) (hK : va_K (dC, dI) vwCl [(cI, .int), (cJ, .int), (cB, .boolean)] s) :
    ∀ (n i : Nat) (mo : Int32) (sc fb rq fx mu mn wi bo wa : Nat → Int32) (li kn m1 fi : Int32) (s1 sa nc : Nat → Int32), i ≤ L → L + 1 ≤ i + n → Rel mo sc fb rq li kn m1 fi s1 sa nc → ∀ (H : Heap) (locs : List Loc), va_P (dC, dI) vwCl ((wX0 q0 cI g0 mo sc fb rq fx mu mn wi bo wa) ++ (wX1 q1 cJ cB g1 li kn m1 fi s1 sa nc)) H → va_D A ((wX0 q0 cI g0 mo sc fb rq fx mu mn wi bo wa) ++ (wX1 q1 cJ cB g1 li kn m1 fi s1 sa nc)) → va_S A s.heap H locs → ∀ (ls : Array Slot), lv_has ls 4 [(0, .ref b), (1, .ref q0), (2, .ref q1), (3, .int (nI i))] → W p l e room_1 s m #[Value.ref b] below meth c H locs 14 4341 (lw_Z below #[Value.ref b] s) (F0 m 18 ls []) := by
  obtain ⟨hx, hb, hr, hml, hown, hts0, hX, hbl, hlocks, hgv⟩ := C0
  have hts : ∀ w ∈ lw_all, w.before #[Value.ref b] s = true := fun w h => hts0 w (lw_all_tbl h)
  intro n
  induction n with
  | zero =>
    intro i mo sc fb rq fx mu mn wi bo wa li kn m1 fi s1 sa nc h1 h2
    exact absurd h2 (by omega)
  | succ n ih =>
    intro i mo sc fb rq fx mu mn wi bo wa li kn m1 fi s1 sa nc hi hk hRel H locs hP hD hS ls hl
    refine lv_iload_n hx hb dL_law_18 rfl (lv_at hl 3 rfl) ?_
    refine lv_aload_n hx hb dL_law_19 rfl (lv_at hl 0 rfl) ?_
    refine va_slen hx hb hX hbl hbA hS dL_law_20 ?_
    refine wk_top (y := nI L) rfl ?_
    refine lv_iconst (v := nI 4) hx hb dL_law_21 (by decide) ?_
    refine lv_isub hx hb dL_law_22 ?_
    refine lv_icmp_gt (tgt := 421) hx hb dL_law_23 (by decide) (fun c_23 => ?_) (fun c_23 => ?_)
    · refine lv_iconst (v := 1) hx hb dL_law_421 (by decide) ?_
      refine va_forget (fun q hq => hAe _ (hS.2.2 q hq)) ?_
      refine W.widen (k := 600000) (n := 7290000) (by decide) (by decide) ?_
      exact lw_ret hx hb hr hlocks dL_law_422
    · have hlt : i + 4 ≤ L := law_cmp hL hi c_23
      refine lv_aload_n hx hb dL_law_26 rfl (lv_at hl 0 rfl) ?_
      refine lv_iload_n hx hb dL_law_27 rfl (lv_at hl 3 rfl) ?_
      refine wk_sld hx hb hX hbl hbA hS (ix := i) (by omega) (by omega) dL_law_28 ?_
      refine lv_bipush (v := nI 15) hx hb dL_law_29 (by decide) ?_
      refine lv_iand hx hb dL_law_31 ?_
      obtain ⟨j, hj, ej⟩ := pk_andE (xs i) (m := nI 15) 4 (by decide)
      have hj : j < 16 := hj
      refine wk_top ej ?_
      rcases (by omega : j = 0 ∨ j = 1 ∨ j = 2 ∨ j = 3 ∨ j = 4 ∨ j = 5 ∨ j = 6 ∨ j = 7 ∨ j = 8 ∨ j = 9 ∨ j = 10 ∨ 11 ≤ j) with rfl | rfl | rfl | rfl | rfl | rfl | rfl | rfl | rfl | rfl | rfl | hj11
      · refine lv_tableIn (tgt := 92) (off := 60) hx hb dL_law_32 (by decide) (by decide) (by decide) (by decide) ?_
        refine lv_aload_n hx hb dL_law_92 rfl (lv_at hl 1 rfl) ?_
        refine lv_aload_n hx hb dL_law_93 rfl (lv_at hl 0 rfl) ?_
        refine lv_iload_n hx hb dL_law_94 rfl (lv_at hl 3 rfl) ?_
        refine lv_iconst (v := nI 1) hx hb dL_law_95 (by decide) ?_
        refine wk_iadd hx hb dL_law_96 ?_
        refine wk_sld hx hb hX hbl hbA hS (ix := (i + 1)) (by omega) (by omega) dL_law_97 ?_
        refine lv_aload_n hx hb dL_law_98 rfl (lv_at hl 0 rfl) ?_
        refine lv_iload_n hx hb dL_law_99 rfl (lv_at hl 3 rfl) ?_
        refine lv_iconst (v := nI 2) hx hb dL_law_100 (by decide) ?_
        refine wk_iadd hx hb dL_law_101 ?_
        refine wk_sld hx hb hX hbl hbA hS (ix := (i + 2)) (by omega) (by omega) dL_law_102 ?_
        refine lv_aload_n hx hb dL_law_103 rfl (lv_at hl 0 rfl) ?_
        refine lv_iload_n hx hb dL_law_104 rfl (lv_at hl 3 rfl) ?_
        refine lv_iconst (v := nI 3) hx hb dL_law_105 (by decide) ?_
        refine wk_iadd hx hb dL_law_106 ?_
        refine wk_sld hx hb hX hbl hbA hS (ix := (i + 3)) (by omega) (by omega) dL_law_107 ?_
        have hFc := va_free (wc := (wX0 q0 cI g0 mo sc fb rq fx mu mn wi bo wa)) hD hS hA [0, 1, 2, 3, 4, 5, 6, 7, 8, 9] rfl
        have hPc := hP.sub (ws' := (wX0 q0 cI g0 mo sc fb rq fx mu mn wi bo wa)) [0, 1, 2, 3, 4, 5, 6, 7, 8, 9] rfl
        have hDc := hD.sub (ws' := (wX0 q0 cI g0 mo sc fb rq fx mu mn wi bo wa)) [0, 1, 2, 3, 4, 5, 6, 7, 8, 9] (by decide) rfl
        have hKc := hK.sub (tys' := [(cI, .int)]) [0] rfl
        refine va_calli (va_runV (b := q0) (As := [.int (xs (i + 1)), .int (xs (i + 2)), .int (xs (i + 3))]) (rest := []) ⟨hx, hb, hml, hown, hts⟩ (metX0_score l dC dI q0 H.size cI g0 mo sc fb rq fx mu mn wi bo wa (xs (i + 1)) (xs (i + 2)) (xs (i + 3))) (cwV 3 hts (lw_V q69 q70 q71 q23 q72) rfl rfl rfl (by decide +kernel) ⟨Nat.le_of_ble_eq_true rfl, Nat.le_of_ble_eq_true rfl⟩) ⟨fun a U g mk q => by obtain ⟨q0, q1, qP, qK, qD⟩ := q; exact ⟨q0, q1, qP, va_K.moved (u := U) (U := U.calling g mk a) (Vm.Alike.refl U.vm) qK, qD⟩, va_recv hKc hPc (ci := 0) (q0 := 0) rfl rfl, fun U hU hW => ⟨rfl, by rw [hU], by rw [hU]; exact hPc, va_K.moved hW.alike hKc, hDc.weaken (fun _ _ _ _ => trivial)⟩⟩ rfl rfl hl.1 rfl (lv_room (Nat.le_of_ble_eq_true rfl)) dL_law_108 ⟨Nat.le_of_ble_eq_true rfl, Nat.le_of_ble_eq_true rfl⟩) hS (fun q _ h => hFc q h) hFc (fun r_108 u t H1 locs ht hvm hw_108 hB hz1 hk1 hS => ?_)
        obtain ⟨sc_108, rfl⟩ : ∃ z, z = u := ⟨_, rfl⟩
        obtain ⟨hP1, hK1, hD1⟩ := hB
        rw [ht] at hP1
        try dsimp only at hw_108
        obtain ⟨hP, hD⟩ := va_join (wr := (wX1 q1 cJ cB g1 li kn m1 fi s1 sa nc)) (w1 := (wX0 q0 cI g0 mo sc_108 fb rq fx mu mn wi bo wa)) hP hD [0, 1, 2, 3, 4, 5, 6, 7, 8, 9] [10, 11, 12, 13] rfl rfl (by decide) (by decide) hk1 hFc hP1 hD1
        generalize H1 = H at hP hS ⊢
        have hP : va_P (dC, dI) vwCl ((wX1 q1 cJ cB g1 li kn m1 fi s1 sa nc) ++ (wX0 q0 cI g0 mo sc_108 fb rq fx mu mn wi bo wa)) H := hP
        have hD : va_D A ((wX1 q1 cJ cB g1 li kn m1 fi s1 sa nc) ++ (wX0 q0 cI g0 mo sc_108 fb rq fx mu mn wi bo wa)) := hD
        refine lv_aload_n hx hb dL_law_111 rfl (lv_at hl 2 rfl) ?_
        refine lv_aload_n hx hb dL_law_112 rfl (lv_at hl 0 rfl) ?_
        refine lv_iload_n hx hb dL_law_113 rfl (lv_at hl 3 rfl) ?_
        refine lv_iconst (v := nI 1) hx hb dL_law_114 (by decide) ?_
        refine wk_iadd hx hb dL_law_115 ?_
        refine wk_sld hx hb hX hbl hbA hS (ix := (i + 1)) (by omega) (by omega) dL_law_116 ?_
        refine lv_aload_n hx hb dL_law_117 rfl (lv_at hl 0 rfl) ?_
        refine lv_iload_n hx hb dL_law_118 rfl (lv_at hl 3 rfl) ?_
        refine lv_iconst (v := nI 2) hx hb dL_law_119 (by decide) ?_
        refine wk_iadd hx hb dL_law_120 ?_
        refine wk_sld hx hb hX hbl hbA hS (ix := (i + 2)) (by omega) (by omega) dL_law_121 ?_
        refine lv_aload_n hx hb dL_law_122 rfl (lv_at hl 0 rfl) ?_
        refine lv_iload_n hx hb dL_law_123 rfl (lv_at hl 3 rfl) ?_
        refine lv_iconst (v := nI 3) hx hb dL_law_124 (by decide) ?_
        refine wk_iadd hx hb dL_law_125 ?_
        refine wk_sld hx hb hX hbl hbA hS (ix := (i + 3)) (by omega) (by omega) dL_law_126 ?_
        have hFc := va_free (wc := (wX1 q1 cJ cB g1 li kn m1 fi s1 sa nc)) hD hS hA [0, 1, 2, 3] rfl
        have hPc := hP.sub (ws' := (wX1 q1 cJ cB g1 li kn m1 fi s1 sa nc)) [0, 1, 2, 3] rfl
        have hDc := hD.sub (ws' := (wX1 q1 cJ cB g1 li kn m1 fi s1 sa nc)) [0, 1, 2, 3] (by decide) rfl
        have hKc := hK.sub (tys' := [(cJ, .int), (cB, .boolean)]) [1, 2] rfl
        refine va_calli (va_runV (b := q1) (As := [.int (xs (i + 1)), .int (xs (i + 2)), .int (xs (i + 3))]) (rest := [.int r_108]) ⟨hx, hb, hml, hown, hts⟩ (metX1_score l dC dI q1 H.size cJ cB g1 li kn m1 fi s1 sa nc (xs (i + 1)) (xs (i + 2)) (xs (i + 3))) (cwV 3 hts (lw_V q198 q199 q200 q24 q201) rfl rfl rfl (by decide +kernel) ⟨Nat.le_of_ble_eq_true rfl, Nat.le_of_ble_eq_true rfl⟩) ⟨fun a U g mk q => by obtain ⟨q0, q1, qP, qK, qD⟩ := q; exact ⟨q0, q1, qP, va_K.moved (u := U) (U := U.calling g mk a) (Vm.Alike.refl U.vm) qK, qD⟩, va_recv hKc hPc (ci := 1) (q0 := 0) rfl rfl, fun U hU hW => ⟨rfl, by rw [hU], by rw [hU]; exact hPc, va_K.moved hW.alike hKc, hDc.weaken (fun _ _ _ _ => trivial)⟩⟩ rfl rfl hl.1 rfl (lv_room (Nat.le_of_ble_eq_true rfl)) dL_law_127 ⟨Nat.le_of_ble_eq_true rfl, Nat.le_of_ble_eq_true rfl⟩) hS (fun q _ h => hFc q h) hFc (fun r_127 u t H1 locs ht hvm hw_127 hB hz1 hk1 hS => ?_)
        obtain ⟨sc_127, kn_127⟩ := u
        obtain ⟨hP1, hK1, hD1⟩ := hB
        rw [ht] at hP1
        try dsimp only at hw_127
        obtain ⟨hP, hD⟩ := va_join (wr := (wX0 q0 cI g0 mo sc_108 fb rq fx mu mn wi bo wa)) (w1 := (wX1 q1 cJ cB g1 li kn_127 m1 fi sc_127 sa nc)) hP hD [0, 1, 2, 3] [4, 5, 6, 7, 8, 9, 10, 11, 12, 13] rfl rfl (by decide) (by decide) hk1 hFc hP1 hD1
        generalize H1 = H at hP hS ⊢
        have hP : va_P (dC, dI) vwCl ((wX0 q0 cI g0 mo sc_108 fb rq fx mu mn wi bo wa) ++ (wX1 q1 cJ cB g1 li kn_127 m1 fi sc_127 sa nc)) H := hP
        have hD : va_D A ((wX0 q0 cI g0 mo sc_108 fb rq fx mu mn wi bo wa) ++ (wX1 q1 cJ cB g1 li kn_127 m1 fi sc_127 sa nc)) := hD
        refine lv_icmp_eq (tgt := 415) hx hb dL_law_130 (by decide) (fun c_130 => ?_) (fun c_130 => ?_)
        · refine wk_iinc4 (lv' := [(3, .int (nI (i + 4))), (0, .ref b), (1, .ref q0), (2, .ref q1)]) hx hb dL_law_415 hl (k := 3) rfl (by decide) rfl (fun ls hl => ?_)
          refine lv_goto (tgt := 18) hx hb dL_law_418 (by decide) ?_
          exact ih (i + 4) mo sc_108 fb rq fx mu mn wi bo wa li kn_127 m1 fi sc_127 sa nc (by omega) (by omega) (L_score hRel hw_108 hw_127).2 _ _ (hP.sub [0, 1, 2, 3, 4, 5, 6, 7, 8, 9, 10, 11, 12, 13] rfl) (hD.sub [0, 1, 2, 3, 4, 5, 6, 7, 8, 9, 10, 11, 12, 13] (by decide) rfl) hS ls (lv_sub hl [1, 2, 3, 0] rfl)
        · exact absurd (L_score hRel hw_108 hw_127).1 c_130
      · refine lv_tableIn (tgt := 135) (off := 103) hx hb dL_law_32 (by decide) (by decide) (by decide) (by decide) ?_
        refine lv_aload_n hx hb dL_law_135 rfl (lv_at hl 1 rfl) ?_
        refine lv_aload_n hx hb dL_law_136 rfl (lv_at hl 0 rfl) ?_
        refine lv_iload_n hx hb dL_law_137 rfl (lv_at hl 3 rfl) ?_
        refine lv_iconst (v := nI 1) hx hb dL_law_138 (by decide) ?_
        refine wk_iadd hx hb dL_law_139 ?_
        refine wk_sld hx hb hX hbl hbA hS (ix := (i + 1)) (by omega) (by omega) dL_law_140 ?_
        have hFc := va_free (wc := (wX0 q0 cI g0 mo sc fb rq fx mu mn wi bo wa)) hD hS hA [0, 1, 2, 3, 4, 5, 6, 7, 8, 9] rfl
        have hPc := hP.sub (ws' := (wX0 q0 cI g0 mo sc fb rq fx mu mn wi bo wa)) [0, 1, 2, 3, 4, 5, 6, 7, 8, 9] rfl
        have hDc := hD.sub (ws' := (wX0 q0 cI g0 mo sc fb rq fx mu mn wi bo wa)) [0, 1, 2, 3, 4, 5, 6, 7, 8, 9] (by decide) rfl
        have hKc := hK.sub (tys' := [(cI, .int)]) [0] rfl
        refine va_calli (va_runV (b := q0) (As := [.int (xs (i + 1))]) (rest := []) ⟨hx, hb, hml, hown, hts⟩ (metX0_limit l dC dI q0 H.size cI g0 mo sc fb rq fx mu mn wi bo wa (xs (i + 1))) (cwV 1 hts (lw_V q79 q80 q81 q23 q82) rfl rfl rfl (by decide +kernel) ⟨Nat.le_of_ble_eq_true rfl, Nat.le_of_ble_eq_true rfl⟩) ⟨fun a U g mk q => by obtain ⟨q0, q1, qP, qK, qD⟩ := q; exact ⟨q0, q1, qP, va_K.moved (u := U) (U := U.calling g mk a) (Vm.Alike.refl U.vm) qK, qD⟩, va_recv hKc hPc (ci := 0) (q0 := 0) rfl rfl, fun U hU hW => ⟨rfl, by rw [hU], by rw [hU]; exact hPc, va_K.moved hW.alike hKc, hDc.weaken (fun _ _ _ _ => trivial)⟩⟩ rfl rfl hl.1 rfl (lv_room (Nat.le_of_ble_eq_true rfl)) dL_law_141 ⟨Nat.le_of_ble_eq_true rfl, Nat.le_of_ble_eq_true rfl⟩) hS (fun q _ h => hFc q h) hFc (fun r_141 u t H1 locs ht hvm hw_141 hB hz1 hk1 hS => ?_)
        obtain ⟨mo_141, rfl⟩ : ∃ z, z = u := ⟨_, rfl⟩
        obtain ⟨hP1, hK1, hD1⟩ := hB
        rw [ht] at hP1
        try dsimp only at hw_141
        obtain ⟨hP, hD⟩ := va_join (wr := (wX1 q1 cJ cB g1 li kn m1 fi s1 sa nc)) (w1 := (wX0 q0 cI g0 mo_141 sc fb rq fx mu mn wi bo wa)) hP hD [0, 1, 2, 3, 4, 5, 6, 7, 8, 9] [10, 11, 12, 13] rfl rfl (by decide) (by decide) hk1 hFc hP1 hD1
        generalize H1 = H at hP hS ⊢
        have hP : va_P (dC, dI) vwCl ((wX1 q1 cJ cB g1 li kn m1 fi s1 sa nc) ++ (wX0 q0 cI g0 mo_141 sc fb rq fx mu mn wi bo wa)) H := hP
        have hD : va_D A ((wX1 q1 cJ cB g1 li kn m1 fi s1 sa nc) ++ (wX0 q0 cI g0 mo_141 sc fb rq fx mu mn wi bo wa)) := hD
        refine lv_aload_n hx hb dL_law_144 rfl (lv_at hl 2 rfl) ?_
        refine lv_aload_n hx hb dL_law_145 rfl (lv_at hl 0 rfl) ?_
        refine lv_iload_n hx hb dL_law_146 rfl (lv_at hl 3 rfl) ?_
        refine lv_iconst (v := nI 1) hx hb dL_law_147 (by decide) ?_
        refine wk_iadd hx hb dL_law_148 ?_
        refine wk_sld hx hb hX hbl hbA hS (ix := (i + 1)) (by omega) (by omega) dL_law_149 ?_
        have hFc := va_free (wc := (wX1 q1 cJ cB g1 li kn m1 fi s1 sa nc)) hD hS hA [0, 1, 2, 3] rfl
        have hPc := hP.sub (ws' := (wX1 q1 cJ cB g1 li kn m1 fi s1 sa nc)) [0, 1, 2, 3] rfl
        have hDc := hD.sub (ws' := (wX1 q1 cJ cB g1 li kn m1 fi s1 sa nc)) [0, 1, 2, 3] (by decide) rfl
        have hKc := hK.sub (tys' := [(cJ, .int), (cB, .boolean)]) [1, 2] rfl
        refine va_calli (va_runV (b := q1) (As := [.int (xs (i + 1))]) (rest := [.int r_141]) ⟨hx, hb, hml, hown, hts⟩ (metX1_limit l dC dI q1 H.size cJ cB g1 li kn m1 fi s1 sa nc (xs (i + 1))) (cwV 1 hts (lw_V q214 q215 q216 q24 q217) rfl rfl rfl (by decide +kernel) ⟨Nat.le_of_ble_eq_true rfl, Nat.le_of_ble_eq_true rfl⟩) ⟨fun a U g mk q => by obtain ⟨q0, q1, qP, qK, qD⟩ := q; exact ⟨q0, q1, qP, va_K.moved (u := U) (U := U.calling g mk a) (Vm.Alike.refl U.vm) qK, qD⟩, va_recv hKc hPc (ci := 1) (q0 := 0) rfl rfl, fun U hU hW => ⟨rfl, by rw [hU], by rw [hU]; exact hPc, va_K.moved hW.alike hKc, hDc.weaken (fun _ _ _ _ => trivial)⟩⟩ rfl rfl hl.1 rfl (lv_room (Nat.le_of_ble_eq_true rfl)) dL_law_150 ⟨Nat.le_of_ble_eq_true rfl, Nat.le_of_ble_eq_true rfl⟩) hS (fun q _ h => hFc q h) hFc (fun r_150 u t H1 locs ht hvm hw_150 hB hz1 hk1 hS => ?_)
        obtain ⟨li_150, kn_150⟩ := u
        obtain ⟨hP1, hK1, hD1⟩ := hB
        rw [ht] at hP1
        try dsimp only at hw_150
        obtain ⟨hP, hD⟩ := va_join (wr := (wX0 q0 cI g0 mo_141 sc fb rq fx mu mn wi bo wa)) (w1 := (wX1 q1 cJ cB g1 li_150 kn_150 m1 fi s1 sa nc)) hP hD [0, 1, 2, 3] [4, 5, 6, 7, 8, 9, 10, 11, 12, 13] rfl rfl (by decide) (by decide) hk1 hFc hP1 hD1
        generalize H1 = H at hP hS ⊢
        have hP : va_P (dC, dI) vwCl ((wX0 q0 cI g0 mo_141 sc fb rq fx mu mn wi bo wa) ++ (wX1 q1 cJ cB g1 li_150 kn_150 m1 fi s1 sa nc)) H := hP
        have hD : va_D A ((wX0 q0 cI g0 mo_141 sc fb rq fx mu mn wi bo wa) ++ (wX1 q1 cJ cB g1 li_150 kn_150 m1 fi s1 sa nc)) := hD
        refine lv_icmp_eq (tgt := 415) hx hb dL_law_153 (by decide) (fun c_153 => ?_) (fun c_153 => ?_)
        · refine wk_iinc4 (lv' := [(3, .int (nI (i + 4))), (0, .ref b), (1, .ref q0), (2, .ref q1)]) hx hb dL_law_415 hl (k := 3) rfl (by decide) rfl (fun ls hl => ?_)
          refine lv_goto (tgt := 18) hx hb dL_law_418 (by decide) ?_
          exact ih (i + 4) mo_141 sc fb rq fx mu mn wi bo wa li_150 kn_150 m1 fi s1 sa nc (by omega) (by omega) (L_limit hRel hw_141 hw_150).2 _ _ (hP.sub [0, 1, 2, 3, 4, 5, 6, 7, 8, 9, 10, 11, 12, 13] rfl) (hD.sub [0, 1, 2, 3, 4, 5, 6, 7, 8, 9, 10, 11, 12, 13] (by decide) rfl) hS ls (lv_sub hl [1, 2, 3, 0] rfl)
        · exact absurd (L_limit hRel hw_141 hw_150).1 c_153
      · refine lv_tableIn (tgt := 158) (off := 126) hx hb dL_law_32 (by decide) (by decide) (by decide) (by decide) ?_
        refine lv_aload_n hx hb dL_law_158 rfl (lv_at hl 1 rfl) ?_
        refine lv_aload_n hx hb dL_law_159 rfl (lv_at hl 0 rfl) ?_
        refine lv_iload_n hx hb dL_law_160 rfl (lv_at hl 3 rfl) ?_
        refine lv_iconst (v := nI 1) hx hb dL_law_161 (by decide) ?_
        refine wk_iadd hx hb dL_law_162 ?_
        refine wk_sld hx hb hX hbl hbA hS (ix := (i + 1)) (by omega) (by omega) dL_law_163 ?_
        refine lv_aload_n hx hb dL_law_164 rfl (lv_at hl 0 rfl) ?_
        refine lv_iload_n hx hb dL_law_165 rfl (lv_at hl 3 rfl) ?_
        refine lv_iconst (v := nI 2) hx hb dL_law_166 (by decide) ?_
        refine wk_iadd hx hb dL_law_167 ?_
        refine wk_sld hx hb hX hbl hbA hS (ix := (i + 2)) (by omega) (by omega) dL_law_168 ?_
        refine lv_aload_n hx hb dL_law_169 rfl (lv_at hl 0 rfl) ?_
        refine lv_iload_n hx hb dL_law_170 rfl (lv_at hl 3 rfl) ?_
        refine lv_iconst (v := nI 3) hx hb dL_law_171 (by decide) ?_
        refine wk_iadd hx hb dL_law_172 ?_
        refine wk_sld hx hb hX hbl hbA hS (ix := (i + 3)) (by omega) (by omega) dL_law_173 ?_
        have hFc := va_free (wc := (wX0 q0 cI g0 mo sc fb rq fx mu mn wi bo wa)) hD hS hA [0, 1, 2, 3, 4, 5, 6, 7, 8, 9] rfl
        have hPc := hP.sub (ws' := (wX0 q0 cI g0 mo sc fb rq fx mu mn wi bo wa)) [0, 1, 2, 3, 4, 5, 6, 7, 8, 9] rfl
        have hDc := hD.sub (ws' := (wX0 q0 cI g0 mo sc fb rq fx mu mn wi bo wa)) [0, 1, 2, 3, 4, 5, 6, 7, 8, 9] (by decide) rfl
        have hKc := hK.sub (tys' := [(cI, .int)]) [0] rfl
        refine va_calli (va_runV (b := q0) (As := [.int (xs (i + 1)), .int (xs (i + 2)), .int (xs (i + 3))]) (rest := []) ⟨hx, hb, hml, hown, hts⟩ (metX0_edge l dC dI q0 H.size cI g0 mo sc fb rq fx mu mn wi bo wa (xs (i + 1)) (xs (i + 2)) (xs (i + 3))) (cwV 3 hts (lw_V q83 q84 q85 q23 q86) rfl rfl rfl (by decide +kernel) ⟨Nat.le_of_ble_eq_true rfl, Nat.le_of_ble_eq_true rfl⟩) ⟨fun a U g mk q => by obtain ⟨q0, q1, qP, qK, qD⟩ := q; exact ⟨q0, q1, qP, va_K.moved (u := U) (U := U.calling g mk a) (Vm.Alike.refl U.vm) qK, qD⟩, va_recv hKc hPc (ci := 0) (q0 := 0) rfl rfl, fun U hU hW => ⟨rfl, by rw [hU], by rw [hU]; exact hPc, va_K.moved hW.alike hKc, hDc.weaken (fun _ _ _ _ => trivial)⟩⟩ rfl rfl hl.1 rfl (lv_room (Nat.le_of_ble_eq_true rfl)) dL_law_174 ⟨Nat.le_of_ble_eq_true rfl, Nat.le_of_ble_eq_true rfl⟩) hS (fun q _ h => hFc q h) hFc (fun r_174 u t H1 locs ht hvm hw_174 hB hz1 hk1 hS => ?_)
        obtain ⟨fb_174, rq_174⟩ := u
        obtain ⟨hP1, hK1, hD1⟩ := hB
        rw [ht] at hP1
        try dsimp only at hw_174
        obtain ⟨hP, hD⟩ := va_join (wr := (wX1 q1 cJ cB g1 li kn m1 fi s1 sa nc)) (w1 := (wX0 q0 cI g0 mo sc fb_174 rq_174 fx mu mn wi bo wa)) hP hD [0, 1, 2, 3, 4, 5, 6, 7, 8, 9] [10, 11, 12, 13] rfl rfl (by decide) (by decide) hk1 hFc hP1 hD1
        generalize H1 = H at hP hS ⊢
        have hP : va_P (dC, dI) vwCl ((wX1 q1 cJ cB g1 li kn m1 fi s1 sa nc) ++ (wX0 q0 cI g0 mo sc fb_174 rq_174 fx mu mn wi bo wa)) H := hP
        have hD : va_D A ((wX1 q1 cJ cB g1 li kn m1 fi s1 sa nc) ++ (wX0 q0 cI g0 mo sc fb_174 rq_174 fx mu mn wi bo wa)) := hD
        refine lv_aload_n hx hb dL_law_177 rfl (lv_at hl 2 rfl) ?_
        refine lv_aload_n hx hb dL_law_178 rfl (lv_at hl 0 rfl) ?_
        refine lv_iload_n hx hb dL_law_179 rfl (lv_at hl 3 rfl) ?_
        refine lv_iconst (v := nI 1) hx hb dL_law_180 (by decide) ?_
        refine wk_iadd hx hb dL_law_181 ?_
        refine wk_sld hx hb hX hbl hbA hS (ix := (i + 1)) (by omega) (by omega) dL_law_182 ?_
        refine lv_aload_n hx hb dL_law_183 rfl (lv_at hl 0 rfl) ?_
        refine lv_iload_n hx hb dL_law_184 rfl (lv_at hl 3 rfl) ?_
        refine lv_iconst (v := nI 2) hx hb dL_law_185 (by decide) ?_
        refine wk_iadd hx hb dL_law_186 ?_
        refine wk_sld hx hb hX hbl hbA hS (ix := (i + 2)) (by omega) (by omega) dL_law_187 ?_
        refine lv_aload_n hx hb dL_law_188 rfl (lv_at hl 0 rfl) ?_
        refine lv_iload_n hx hb dL_law_189 rfl (lv_at hl 3 rfl) ?_
        refine lv_iconst (v := nI 3) hx hb dL_law_190 (by decide) ?_
        refine wk_iadd hx hb dL_law_191 ?_
        refine wk_sld hx hb hX hbl hbA hS (ix := (i + 3)) (by omega) (by omega) dL_law_192 ?_
        have hFc := va_free (wc := (wX1 q1 cJ cB g1 li kn m1 fi s1 sa nc)) hD hS hA [0, 1, 2, 3] rfl
        have hPc := hP.sub (ws' := (wX1 q1 cJ cB g1 li kn m1 fi s1 sa nc)) [0, 1, 2, 3] rfl
        have hDc := hD.sub (ws' := (wX1 q1 cJ cB g1 li kn m1 fi s1 sa nc)) [0, 1, 2, 3] (by decide) rfl
        have hKc := hK.sub (tys' := [(cJ, .int), (cB, .boolean)]) [1, 2] rfl
        refine va_calli (va_runV (b := q1) (As := [.int (xs (i + 1)), .int (xs (i + 2)), .int (xs (i + 3))]) (rest := [.int r_174]) ⟨hx, hb, hml, hown, hts⟩ (metX1_edge l dC dI q1 H.size cJ cB g1 li kn m1 fi s1 sa nc (xs (i + 1)) (xs (i + 2)) (xs (i + 3))) (cwV 3 hts (lw_V q218 q219 q220 q24 q221) rfl rfl rfl (by decide +kernel) ⟨Nat.le_of_ble_eq_true rfl, Nat.le_of_ble_eq_true rfl⟩) ⟨fun a U g mk q => by obtain ⟨q0, q1, qP, qK, qD⟩ := q; exact ⟨q0, q1, qP, va_K.moved (u := U) (U := U.calling g mk a) (Vm.Alike.refl U.vm) qK, qD⟩, va_recv hKc hPc (ci := 1) (q0 := 0) rfl rfl, fun U hU hW => ⟨rfl, by rw [hU], by rw [hU]; exact hPc, va_K.moved hW.alike hKc, hDc.weaken (fun _ _ _ _ => trivial)⟩⟩ rfl rfl hl.1 rfl (lv_room (Nat.le_of_ble_eq_true rfl)) dL_law_193 ⟨Nat.le_of_ble_eq_true rfl, Nat.le_of_ble_eq_true rfl⟩) hS (fun q _ h => hFc q h) hFc (fun r_193 u t H1 locs ht hvm hw_193 hB hz1 hk1 hS => ?_)
        obtain ⟨sa_193, kn_193⟩ := u
        obtain ⟨hP1, hK1, hD1⟩ := hB
        rw [ht] at hP1
        try dsimp only at hw_193
        obtain ⟨hP, hD⟩ := va_join (wr := (wX0 q0 cI g0 mo sc fb_174 rq_174 fx mu mn wi bo wa)) (w1 := (wX1 q1 cJ cB g1 li kn_193 m1 fi s1 sa_193 nc)) hP hD [0, 1, 2, 3] [4, 5, 6, 7, 8, 9, 10, 11, 12, 13] rfl rfl (by decide) (by decide) hk1 hFc hP1 hD1
        generalize H1 = H at hP hS ⊢
        have hP : va_P (dC, dI) vwCl ((wX0 q0 cI g0 mo sc fb_174 rq_174 fx mu mn wi bo wa) ++ (wX1 q1 cJ cB g1 li kn_193 m1 fi s1 sa_193 nc)) H := hP
        have hD : va_D A ((wX0 q0 cI g0 mo sc fb_174 rq_174 fx mu mn wi bo wa) ++ (wX1 q1 cJ cB g1 li kn_193 m1 fi s1 sa_193 nc)) := hD
        refine lv_icmp_eq (tgt := 415) hx hb dL_law_196 (by decide) (fun c_196 => ?_) (fun c_196 => ?_)
        · refine wk_iinc4 (lv' := [(3, .int (nI (i + 4))), (0, .ref b), (1, .ref q0), (2, .ref q1)]) hx hb dL_law_415 hl (k := 3) rfl (by decide) rfl (fun ls hl => ?_)
          refine lv_goto (tgt := 18) hx hb dL_law_418 (by decide) ?_
          exact ih (i + 4) mo sc fb_174 rq_174 fx mu mn wi bo wa li kn_193 m1 fi s1 sa_193 nc (by omega) (by omega) (L_edge hRel hw_174 hw_193).2 _ _ (hP.sub [0, 1, 2, 3, 4, 5, 6, 7, 8, 9, 10, 11, 12, 13] rfl) (hD.sub [0, 1, 2, 3, 4, 5, 6, 7, 8, 9, 10, 11, 12, 13] (by decide) rfl) hS ls (lv_sub hl [1, 2, 3, 0] rfl)
        · exact absurd (L_edge hRel hw_174 hw_193).1 c_196
      · refine lv_tableIn (tgt := 201) (off := 169) hx hb dL_law_32 (by decide) (by decide) (by decide) (by decide) ?_
        refine lv_aload_n hx hb dL_law_201 rfl (lv_at hl 1 rfl) ?_
        refine lv_aload_n hx hb dL_law_202 rfl (lv_at hl 0 rfl) ?_
        refine lv_iload_n hx hb dL_law_203 rfl (lv_at hl 3 rfl) ?_
        refine lv_iconst (v := nI 1) hx hb dL_law_204 (by decide) ?_
        refine wk_iadd hx hb dL_law_205 ?_
        refine wk_sld hx hb hX hbl hbA hS (ix := (i + 1)) (by omega) (by omega) dL_law_206 ?_
        refine lv_i2l hx hb dL_law_207 rfl ?_
        refine lv_bipush (v := nI 32) hx hb dL_law_208 (by decide) ?_
        refine lv_lshl hx hb dL_law_210 rfl ?_
        refine lv_aload_n hx hb dL_law_211 rfl (lv_at hl 0 rfl) ?_
        refine lv_iload_n hx hb dL_law_212 rfl (lv_at hl 3 rfl) ?_
        refine lv_iconst (v := nI 2) hx hb dL_law_213 (by decide) ?_
        refine wk_iadd hx hb dL_law_214 ?_
        refine wk_sld hx hb hX hbl hbA hS (ix := (i + 2)) (by omega) (by omega) dL_law_215 ?_
        refine lv_i2l hx hb dL_law_216 rfl ?_
        refine lv_ldc2 hx hb hown (hts _ q292) dL_law_217 ?_
        refine lv_land hx hb dL_law_220 ?_
        refine lv_lor hx hb dL_law_221 ?_
        have hFc := va_free (wc := (wX0 q0 cI g0 mo sc fb rq fx mu mn wi bo wa)) hD hS hA [0, 1, 2, 3, 4, 5, 6, 7, 8, 9] rfl
        have hPc := hP.sub (ws' := (wX0 q0 cI g0 mo sc fb rq fx mu mn wi bo wa)) [0, 1, 2, 3, 4, 5, 6, 7, 8, 9] rfl
        have hDc := hD.sub (ws' := (wX0 q0 cI g0 mo sc fb rq fx mu mn wi bo wa)) [0, 1, 2, 3, 4, 5, 6, 7, 8, 9] (by decide) rfl
        have hKc := hK.sub (tys' := [(cI, .int)]) [0] rfl
        refine va_calli (va_runV (b := q0) (As := [.long (((((xs (i + 1))).toInt64) <<< ((nI 32).toInt64 &&& 63)) ||| (((xs (i + 2))).toInt64 &&& (4294967295)))]) (rest := []) ⟨hx, hb, hml, hown, hts⟩ (metX0_learn l dC dI q0 H.size cI g0 mo sc fb rq fx mu mn wi bo wa (((xs (i + 1)).toInt64 <<< ((nI 32).toInt64 &&& 63)) ||| ((xs (i + 2)).toInt64 &&& (4294967295)))) (cwV 1 hts (lw_V q87 q88 q89 q23 q90) rfl rfl rfl (by decide +kernel) ⟨Nat.le_of_ble_eq_true rfl, Nat.le_of_ble_eq_true rfl⟩) ⟨fun a U g mk q => by obtain ⟨q0, q1, qP, qK, qD⟩ := q; exact ⟨q0, q1, qP, va_K.moved (u := U) (U := U.calling g mk a) (Vm.Alike.refl U.vm) qK, qD⟩, va_recv hKc hPc (ci := 0) (q0 := 0) rfl rfl, fun U hU hW => ⟨rfl, by rw [hU], by rw [hU]; exact hPc, va_K.moved hW.alike hKc, hDc.weaken (fun _ _ _ _ => trivial)⟩⟩ rfl rfl hl.1 rfl (lv_room (Nat.le_of_ble_eq_true rfl)) dL_law_222 ⟨Nat.le_of_ble_eq_true rfl, Nat.le_of_ble_eq_true rfl⟩) hS (fun q _ h => hFc q h) hFc (fun r_222 u t H1 locs ht hvm hw_222 hB hz1 hk1 hS => ?_)
        obtain ⟨sc_222, rfl⟩ : ∃ z, z = u := ⟨_, rfl⟩
        obtain ⟨hP1, hK1, hD1⟩ := hB
        rw [ht] at hP1
        try dsimp only at hw_222
        obtain ⟨hP, hD⟩ := va_join (wr := (wX1 q1 cJ cB g1 li kn m1 fi s1 sa nc)) (w1 := (wX0 q0 cI g0 mo sc_222 fb rq fx mu mn wi bo wa)) hP hD [0, 1, 2, 3, 4, 5, 6, 7, 8, 9] [10, 11, 12, 13] rfl rfl (by decide) (by decide) hk1 hFc hP1 hD1
        generalize H1 = H at hP hS ⊢
        have hP : va_P (dC, dI) vwCl ((wX1 q1 cJ cB g1 li kn m1 fi s1 sa nc) ++ (wX0 q0 cI g0 mo sc_222 fb rq fx mu mn wi bo wa)) H := hP
        have hD : va_D A ((wX1 q1 cJ cB g1 li kn m1 fi s1 sa nc) ++ (wX0 q0 cI g0 mo sc_222 fb rq fx mu mn wi bo wa)) := hD
        refine lv_aload_n hx hb dL_law_225 rfl (lv_at hl 2 rfl) ?_
        refine lv_aload_n hx hb dL_law_226 rfl (lv_at hl 0 rfl) ?_
        refine lv_iload_n hx hb dL_law_227 rfl (lv_at hl 3 rfl) ?_
        refine lv_iconst (v := nI 1) hx hb dL_law_228 (by decide) ?_
        refine wk_iadd hx hb dL_law_229 ?_
        refine wk_sld hx hb hX hbl hbA hS (ix := (i + 1)) (by omega) (by omega) dL_law_230 ?_
        refine lv_i2l hx hb dL_law_231 rfl ?_
        refine lv_bipush (v := nI 32) hx hb dL_law_232 (by decide) ?_
        refine lv_lshl hx hb dL_law_234 rfl ?_
        refine lv_aload_n hx hb dL_law_235 rfl (lv_at hl 0 rfl) ?_
        refine lv_iload_n hx hb dL_law_236 rfl (lv_at hl 3 rfl) ?_
        refine lv_iconst (v := nI 2) hx hb dL_law_237 (by decide) ?_
        refine wk_iadd hx hb dL_law_238 ?_
        refine wk_sld hx hb hX hbl hbA hS (ix := (i + 2)) (by omega) (by omega) dL_law_239 ?_
        refine lv_i2l hx hb dL_law_240 rfl ?_
        refine lv_ldc2 hx hb hown (hts _ q292) dL_law_241 ?_
        refine lv_land hx hb dL_law_244 ?_
        refine lv_lor hx hb dL_law_245 ?_
        have hFc := va_free (wc := (wX1 q1 cJ cB g1 li kn m1 fi s1 sa nc)) hD hS hA [0, 1, 2, 3] rfl
        have hPc := hP.sub (ws' := (wX1 q1 cJ cB g1 li kn m1 fi s1 sa nc)) [0, 1, 2, 3] rfl
        have hDc := hD.sub (ws' := (wX1 q1 cJ cB g1 li kn m1 fi s1 sa nc)) [0, 1, 2, 3] (by decide) rfl
        have hKc := hK.sub (tys' := [(cJ, .int), (cB, .boolean)]) [1, 2] rfl
        refine va_calli (va_runV (b := q1) (As := [.long (((((xs (i + 1))).toInt64) <<< ((nI 32).toInt64 &&& 63)) ||| (((xs (i + 2))).toInt64 &&& (4294967295)))]) (rest := [.int r_222]) ⟨hx, hb, hml, hown, hts⟩ (metX1_learn l dC dI q1 H.size cJ cB g1 li kn m1 fi s1 sa nc (((xs (i + 1)).toInt64 <<< ((nI 32).toInt64 &&& 63)) ||| ((xs (i + 2)).toInt64 &&& (4294967295)))) (cwV 1 hts (lw_V q222 q223 q224 q24 q225) rfl rfl rfl (by decide +kernel) ⟨Nat.le_of_ble_eq_true rfl, Nat.le_of_ble_eq_true rfl⟩) ⟨fun a U g mk q => by obtain ⟨q0, q1, qP, qK, qD⟩ := q; exact ⟨q0, q1, qP, va_K.moved (u := U) (U := U.calling g mk a) (Vm.Alike.refl U.vm) qK, qD⟩, va_recv hKc hPc (ci := 1) (q0 := 0) rfl rfl, fun U hU hW => ⟨rfl, by rw [hU], by rw [hU]; exact hPc, va_K.moved hW.alike hKc, hDc.weaken (fun _ _ _ _ => trivial)⟩⟩ rfl rfl hl.1 rfl (lv_room (Nat.le_of_ble_eq_true rfl)) dL_law_246 ⟨Nat.le_of_ble_eq_true rfl, Nat.le_of_ble_eq_true rfl⟩) hS (fun q _ h => hFc q h) hFc (fun r_246 u t H1 locs ht hvm hw_246 hB hz1 hk1 hS => ?_)
        obtain ⟨sc_246, kn_246⟩ := u
        obtain ⟨hP1, hK1, hD1⟩ := hB
        rw [ht] at hP1
        try dsimp only at hw_246
        obtain ⟨hP, hD⟩ := va_join (wr := (wX0 q0 cI g0 mo sc_222 fb rq fx mu mn wi bo wa)) (w1 := (wX1 q1 cJ cB g1 li kn_246 m1 fi sc_246 sa nc)) hP hD [0, 1, 2, 3] [4, 5, 6, 7, 8, 9, 10, 11, 12, 13] rfl rfl (by decide) (by decide) hk1 hFc hP1 hD1
        generalize H1 = H at hP hS ⊢
        have hP : va_P (dC, dI) vwCl ((wX0 q0 cI g0 mo sc_222 fb rq fx mu mn wi bo wa) ++ (wX1 q1 cJ cB g1 li kn_246 m1 fi sc_246 sa nc)) H := hP
        have hD : va_D A ((wX0 q0 cI g0 mo sc_222 fb rq fx mu mn wi bo wa) ++ (wX1 q1 cJ cB g1 li kn_246 m1 fi sc_246 sa nc)) := hD
        refine lv_icmp_eq (tgt := 415) hx hb dL_law_249 (by decide) (fun c_249 => ?_) (fun c_249 => ?_)
        · refine wk_iinc4 (lv' := [(3, .int (nI (i + 4))), (0, .ref b), (1, .ref q0), (2, .ref q1)]) hx hb dL_law_415 hl (k := 3) rfl (by decide) rfl (fun ls hl => ?_)
          refine lv_goto (tgt := 18) hx hb dL_law_418 (by decide) ?_
          exact ih (i + 4) mo sc_222 fb rq fx mu mn wi bo wa li kn_246 m1 fi sc_246 sa nc (by omega) (by omega) (L_learn hRel hw_222 hw_246).2 _ _ (hP.sub [0, 1, 2, 3, 4, 5, 6, 7, 8, 9, 10, 11, 12, 13] rfl) (hD.sub [0, 1, 2, 3, 4, 5, 6, 7, 8, 9, 10, 11, 12, 13] (by decide) rfl) hS ls (lv_sub hl [1, 2, 3, 0] rfl)
        · exact absurd (L_learn hRel hw_222 hw_246).1 c_249
      · refine lv_tableIn (tgt := 254) (off := 222) hx hb dL_law_32 (by decide) (by decide) (by decide) (by decide) ?_
        refine lv_aload_n hx hb dL_law_254 rfl (lv_at hl 1 rfl) ?_
        have hFc := va_free (wc := (wX0 q0 cI g0 mo sc fb rq fx mu mn wi bo wa)) hD hS hA [0, 1, 2, 3, 4, 5, 6, 7, 8, 9] rfl
        have hPc := hP.sub (ws' := (wX0 q0 cI g0 mo sc fb rq fx mu mn wi bo wa)) [0, 1, 2, 3, 4, 5, 6, 7, 8, 9] rfl
        have hDc := hD.sub (ws' := (wX0 q0 cI g0 mo sc fb rq fx mu mn wi bo wa)) [0, 1, 2, 3, 4, 5, 6, 7, 8, 9] (by decide) rfl
        have hKc := hK.sub (tys' := [(cI, .int)]) [0] rfl
        refine va_calli (va_runV (b := q0) (As := []) (rest := []) ⟨hx, hb, hml, hown, hts⟩ (metX0_best l dC dI q0 H.size cI g0 mo sc fb rq fx mu mn wi bo wa ) (cwV 0 hts (lw_V q103 q104 q105 q23 q106) rfl rfl rfl (by decide +kernel) ⟨Nat.le_of_ble_eq_true rfl, Nat.le_of_ble_eq_true rfl⟩) ⟨fun a U g mk q => by obtain ⟨q0, q1, qP, qK, qD⟩ := q; exact ⟨q0, q1, qP, va_K.moved (u := U) (U := U.calling g mk a) (Vm.Alike.refl U.vm) qK, qD⟩, va_recv hKc hPc (ci := 0) (q0 := 0) rfl rfl, fun U hU hW => ⟨rfl, by rw [hU], by rw [hU]; exact hPc, va_K.moved hW.alike hKc, hDc.weaken (fun _ _ _ _ => trivial)⟩⟩ rfl rfl hl.1 rfl (lv_room (Nat.le_of_ble_eq_true rfl)) dL_law_255 ⟨Nat.le_of_ble_eq_true rfl, Nat.le_of_ble_eq_true rfl⟩) hS (fun q _ h => hFc q h) hFc (fun r_255 u t H1 locs ht hvm hw_255 hB hz1 hk1 hS => ?_)
        obtain ⟨wi_255, bo_255, wa_255⟩ := u
        obtain ⟨hP1, hK1, hD1⟩ := hB
        rw [ht] at hP1
        try dsimp only at hw_255
        obtain ⟨hP, hD⟩ := va_join (wr := (wX1 q1 cJ cB g1 li kn m1 fi s1 sa nc)) (w1 := (wX0 q0 cI g0 mo sc fb rq cM c0 c0 wi_255 bo_255 wa_255)) hP hD [0, 1, 2, 3, 4, 5, 6, 7, 8, 9] [10, 11, 12, 13] rfl rfl (by decide) (by decide) hk1 hFc hP1 hD1
        generalize H1 = H at hP hS ⊢
        have hP : va_P (dC, dI) vwCl ((wX1 q1 cJ cB g1 li kn m1 fi s1 sa nc) ++ (wX0 q0 cI g0 mo sc fb rq cM c0 c0 wi_255 bo_255 wa_255)) H := hP
        have hD : va_D A ((wX1 q1 cJ cB g1 li kn m1 fi s1 sa nc) ++ (wX0 q0 cI g0 mo sc fb rq cM c0 c0 wi_255 bo_255 wa_255)) := hD
        refine lv_aload_n hx hb dL_law_258 rfl (lv_at hl 2 rfl) ?_
        have hFc := va_free (wc := (wX1 q1 cJ cB g1 li kn m1 fi s1 sa nc)) hD hS hA [0, 1, 2, 3] rfl
        have hPc := hP.sub (ws' := (wX1 q1 cJ cB g1 li kn m1 fi s1 sa nc)) [0, 1, 2, 3] rfl
        have hDc := hD.sub (ws' := (wX1 q1 cJ cB g1 li kn m1 fi s1 sa nc)) [0, 1, 2, 3] (by decide) rfl
        have hKc := hK.sub (tys' := [(cJ, .int), (cB, .boolean)]) [1, 2] rfl
        refine va_calli (va_runV (b := q1) (As := []) (rest := [.int r_255]) ⟨hx, hb, hml, hown, hts⟩ (metX1_best l dC dI q1 H.size cJ cB g1 li kn m1 fi s1 sa nc ) (cwV 0 hts (lw_V q239 q240 q241 q24 q242) rfl rfl rfl (by decide +kernel) ⟨Nat.le_of_ble_eq_true rfl, Nat.le_of_ble_eq_true rfl⟩) ⟨fun a U g mk q => by obtain ⟨q0, q1, qP, qK, qD⟩ := q; exact ⟨q0, q1, qP, va_K.moved (u := U) (U := U.calling g mk a) (Vm.Alike.refl U.vm) qK, qD⟩, va_recv hKc hPc (ci := 1) (q0 := 0) rfl rfl, fun U hU hW => ⟨rfl, by rw [hU], by rw [hU]; exact hPc, va_K.moved hW.alike hKc, hDc.weaken (fun _ _ _ _ => trivial)⟩⟩ rfl rfl hl.1 rfl (lv_room (Nat.le_of_ble_eq_true rfl)) dL_law_259 ⟨Nat.le_of_ble_eq_true rfl, Nat.le_of_ble_eq_true rfl⟩) hS (fun q _ h => hFc q h) hFc (fun r_259 u t H1 locs ht hvm hw_259 hB hz1 hk1 hS => ?_)
        obtain ⟨kn_259, mo_259, fi_259⟩ := u
        obtain ⟨hP1, hK1, hD1⟩ := hB
        rw [ht] at hP1
        try dsimp only at hw_259
        obtain ⟨hP, hD⟩ := va_join (wr := (wX0 q0 cI g0 mo sc fb rq cM c0 c0 wi_255 bo_255 wa_255)) (w1 := (wX1 q1 cJ cB g1 li kn_259 mo_259 fi_259 s1 sa nc)) hP hD [0, 1, 2, 3] [4, 5, 6, 7, 8, 9, 10, 11, 12, 13] rfl rfl (by decide) (by decide) hk1 hFc hP1 hD1
        generalize H1 = H at hP hS ⊢
        have hP : va_P (dC, dI) vwCl ((wX0 q0 cI g0 mo sc fb rq cM c0 c0 wi_255 bo_255 wa_255) ++ (wX1 q1 cJ cB g1 li kn_259 mo_259 fi_259 s1 sa nc)) H := hP
        have hD : va_D A ((wX0 q0 cI g0 mo sc fb rq cM c0 c0 wi_255 bo_255 wa_255) ++ (wX1 q1 cJ cB g1 li kn_259 mo_259 fi_259 s1 sa nc)) := hD
        refine lv_icmp_eq (tgt := 415) hx hb dL_law_262 (by decide) (fun c_262 => ?_) (fun c_262 => ?_)
        · refine wk_iinc4 (lv' := [(3, .int (nI (i + 4))), (0, .ref b), (1, .ref q0), (2, .ref q1)]) hx hb dL_law_415 hl (k := 3) rfl (by decide) rfl (fun ls hl => ?_)
          refine lv_goto (tgt := 18) hx hb dL_law_418 (by decide) ?_
          exact ih (i + 4) mo sc fb rq cM c0 c0 wi_255 bo_255 wa_255 li kn_259 mo_259 fi_259 s1 sa nc (by omega) (by omega) (L_best hRel hw_255 hw_259).2 _ _ (hP.sub [0, 1, 2, 3, 4, 5, 6, 7, 8, 9, 10, 11, 12, 13] rfl) (hD.sub [0, 1, 2, 3, 4, 5, 6, 7, 8, 9, 10, 11, 12, 13] (by decide) rfl) hS ls (lv_sub hl [1, 2, 3, 0] rfl)
        · exact absurd (L_best hRel hw_255 hw_259).1 c_262
      · refine lv_tableIn (tgt := 267) (off := 235) hx hb dL_law_32 (by decide) (by decide) (by decide) (by decide) ?_
        refine lv_aload_n hx hb dL_law_267 rfl (lv_at hl 1 rfl) ?_
        refine lv_aload_n hx hb dL_law_268 rfl (lv_at hl 0 rfl) ?_
        refine lv_iload_n hx hb dL_law_269 rfl (lv_at hl 3 rfl) ?_
        refine lv_iconst (v := nI 1) hx hb dL_law_270 (by decide) ?_
        refine wk_iadd hx hb dL_law_271 ?_
        refine wk_sld hx hb hX hbl hbA hS (ix := (i + 1)) (by omega) (by omega) dL_law_272 ?_
        have hFc := va_free (wc := (wX0 q0 cI g0 mo sc fb rq fx mu mn wi bo wa)) hD hS hA [0, 1, 2, 3, 4, 5, 6, 7, 8, 9] rfl
        have hPc := hP.sub (ws' := (wX0 q0 cI g0 mo sc fb rq fx mu mn wi bo wa)) [0, 1, 2, 3, 4, 5, 6, 7, 8, 9] rfl
        have hDc := hD.sub (ws' := (wX0 q0 cI g0 mo sc fb rq fx mu mn wi bo wa)) [0, 1, 2, 3, 4, 5, 6, 7, 8, 9] (by decide) rfl
        have hKc := hK.sub (tys' := [(cI, .int)]) [0] rfl
        refine va_calli (va_runV (b := q0) (As := [.int (xs (i + 1))]) (rest := []) ⟨hx, hb, hml, hown, hts⟩ (metX0_parents l dC dI q0 H.size cI g0 mo sc fb rq fx mu mn wi bo wa (xs (i + 1))) (cwV 1 hts (lw_V q124 q125 q126 q23 q127) rfl rfl rfl (by decide +kernel) ⟨Nat.le_of_ble_eq_true rfl, Nat.le_of_ble_eq_true rfl⟩) ⟨fun a U g mk q => by obtain ⟨q0, q1, qP, qK, qD⟩ := q; exact ⟨q0, q1, qP, va_K.moved (u := U) (U := U.calling g mk a) (Vm.Alike.refl U.vm) qK, qD⟩, va_recv hKc hPc (ci := 0) (q0 := 0) rfl rfl, fun U hU hW => ⟨rfl, by rw [hU], by rw [hU]; exact hPc, va_K.moved hW.alike hKc, hDc.weaken (fun _ _ _ _ => trivial)⟩⟩ rfl rfl hl.1 rfl (lv_room (Nat.le_of_ble_eq_true rfl)) dL_law_273 ⟨Nat.le_of_ble_eq_true rfl, Nat.le_of_ble_eq_true rfl⟩) hS (fun q _ h => hFc q h) hFc (fun r_273 u t H1 locs ht hvm hw_273 hB hz1 hk1 hS => ?_)
        obtain ⟨fx_273, mu_273, mn_273, wi_273, bo_273, wa_273⟩ := u
        obtain ⟨hP1, hK1, hD1⟩ := hB
        rw [ht] at hP1
        try dsimp only at hw_273
        obtain ⟨hP, hD⟩ := va_join (wr := (wX1 q1 cJ cB g1 li kn m1 fi s1 sa nc)) (w1 := (wX0 q0 cI g0 mo sc fb rq fx_273 mu_273 mn_273 wi_273 bo_273 wa_273)) hP hD [0, 1, 2, 3, 4, 5, 6, 7, 8, 9] [10, 11, 12, 13] rfl rfl (by decide) (by decide) hk1 hFc hP1 hD1
        generalize H1 = H at hP hS ⊢
        have hP : va_P (dC, dI) vwCl ((wX1 q1 cJ cB g1 li kn m1 fi s1 sa nc) ++ (wX0 q0 cI g0 mo sc fb rq fx_273 mu_273 mn_273 wi_273 bo_273 wa_273)) H := hP
        have hD : va_D A ((wX1 q1 cJ cB g1 li kn m1 fi s1 sa nc) ++ (wX0 q0 cI g0 mo sc fb rq fx_273 mu_273 mn_273 wi_273 bo_273 wa_273)) := hD
        refine lv_aload_n hx hb dL_law_276 rfl (lv_at hl 2 rfl) ?_
        refine lv_aload_n hx hb dL_law_277 rfl (lv_at hl 0 rfl) ?_
        refine lv_iload_n hx hb dL_law_278 rfl (lv_at hl 3 rfl) ?_
        refine lv_iconst (v := nI 1) hx hb dL_law_279 (by decide) ?_
        refine wk_iadd hx hb dL_law_280 ?_
        refine wk_sld hx hb hX hbl hbA hS (ix := (i + 1)) (by omega) (by omega) dL_law_281 ?_
        have hFc := va_free (wc := (wX1 q1 cJ cB g1 li kn m1 fi s1 sa nc)) hD hS hA [0, 1, 2, 3] rfl
        have hPc := hP.sub (ws' := (wX1 q1 cJ cB g1 li kn m1 fi s1 sa nc)) [0, 1, 2, 3] rfl
        have hDc := hD.sub (ws' := (wX1 q1 cJ cB g1 li kn m1 fi s1 sa nc)) [0, 1, 2, 3] (by decide) rfl
        have hKc := hK.sub (tys' := [(cJ, .int), (cB, .boolean)]) [1, 2] rfl
        refine va_calli (va_runV (b := q1) (As := [.int (xs (i + 1))]) (rest := [.int r_273]) ⟨hx, hb, hml, hown, hts⟩ (metX1_parents l dC dI q1 H.size cJ cB g1 li kn m1 fi s1 sa nc (xs (i + 1)) hRel.2.2.2.2) (cwV 1 hts (lw_V q256 q257 q258 q24 q259) rfl rfl rfl (by decide +kernel) ⟨Nat.le_of_ble_eq_true rfl, Nat.le_of_ble_eq_true rfl⟩) ⟨fun a U g mk q => by obtain ⟨q0, q1, qP, qK, qD⟩ := q; exact ⟨q0, q1, qP, va_K.moved (u := U) (U := U.calling g mk a) (Vm.Alike.refl U.vm) qK, qD⟩, va_recv hKc hPc (ci := 1) (q0 := 0) rfl rfl, fun U hU hW => ⟨rfl, by rw [hU], by rw [hU]; exact hPc, va_K.moved hW.alike hKc, hDc.weaken (fun _ _ _ _ => trivial)⟩⟩ rfl rfl hl.1 rfl (lv_room (Nat.le_of_ble_eq_true rfl)) dL_law_282 ⟨Nat.le_of_ble_eq_true rfl, Nat.le_of_ble_eq_true rfl⟩) hS (fun q _ h => hFc q h) hFc (fun r_282 u t H1 locs ht hvm hw_282 hB hz1 hk1 hS => ?_)
        obtain ⟨kn_282, mo_282, fi_282⟩ := u
        obtain ⟨hP1, hK1, hD1⟩ := hB
        rw [ht] at hP1
        try dsimp only at hw_282
        obtain ⟨hP, hD⟩ := va_join (wr := (wX0 q0 cI g0 mo sc fb rq fx_273 mu_273 mn_273 wi_273 bo_273 wa_273)) (w1 := (wX1 q1 cJ cB g1 li kn_282 mo_282 fi_282 s1 sa nc)) hP hD [0, 1, 2, 3] [4, 5, 6, 7, 8, 9, 10, 11, 12, 13] rfl rfl (by decide) (by decide) hk1 hFc hP1 hD1
        generalize H1 = H at hP hS ⊢
        have hP : va_P (dC, dI) vwCl ((wX0 q0 cI g0 mo sc fb rq fx_273 mu_273 mn_273 wi_273 bo_273 wa_273) ++ (wX1 q1 cJ cB g1 li kn_282 mo_282 fi_282 s1 sa nc)) H := hP
        have hD : va_D A ((wX0 q0 cI g0 mo sc fb rq fx_273 mu_273 mn_273 wi_273 bo_273 wa_273) ++ (wX1 q1 cJ cB g1 li kn_282 mo_282 fi_282 s1 sa nc)) := hD
        refine lv_icmp_eq (tgt := 415) hx hb dL_law_285 (by decide) (fun c_285 => ?_) (fun c_285 => ?_)
        · refine wk_iinc4 (lv' := [(3, .int (nI (i + 4))), (0, .ref b), (1, .ref q0), (2, .ref q1)]) hx hb dL_law_415 hl (k := 3) rfl (by decide) rfl (fun ls hl => ?_)
          refine lv_goto (tgt := 18) hx hb dL_law_418 (by decide) ?_
          exact ih (i + 4) mo sc fb rq fx_273 mu_273 mn_273 wi_273 bo_273 wa_273 li kn_282 mo_282 fi_282 s1 sa nc (by omega) (by omega) (L_parents hRel hw_273 hw_282).2 _ _ (hP.sub [0, 1, 2, 3, 4, 5, 6, 7, 8, 9, 10, 11, 12, 13] rfl) (hD.sub [0, 1, 2, 3, 4, 5, 6, 7, 8, 9, 10, 11, 12, 13] (by decide) rfl) hS ls (lv_sub hl [1, 2, 3, 0] rfl)
        · exact absurd (L_parents hRel hw_273 hw_282).1 c_285
      · refine lv_tableIn (tgt := 290) (off := 258) hx hb dL_law_32 (by decide) (by decide) (by decide) (by decide) ?_
        refine lv_aload_n hx hb dL_law_290 rfl (lv_at hl 1 rfl) ?_
        refine lv_aload_n hx hb dL_law_291 rfl (lv_at hl 0 rfl) ?_
        refine lv_iload_n hx hb dL_law_292 rfl (lv_at hl 3 rfl) ?_
        refine lv_iconst (v := nI 1) hx hb dL_law_293 (by decide) ?_
        refine wk_iadd hx hb dL_law_294 ?_
        refine wk_sld hx hb hX hbl hbA hS (ix := (i + 1)) (by omega) (by omega) dL_law_295 ?_
        refine lv_aload_n hx hb dL_law_296 rfl (lv_at hl 0 rfl) ?_
        refine lv_iload_n hx hb dL_law_297 rfl (lv_at hl 3 rfl) ?_
        refine lv_iconst (v := nI 2) hx hb dL_law_298 (by decide) ?_
        refine wk_iadd hx hb dL_law_299 ?_
        refine wk_sld hx hb hX hbl hbA hS (ix := (i + 2)) (by omega) (by omega) dL_law_300 ?_
        have hFc := va_free (wc := (wX0 q0 cI g0 mo sc fb rq fx mu mn wi bo wa)) hD hS hA [0, 1, 2, 3, 4, 5, 6, 7, 8, 9] rfl
        have hPc := hP.sub (ws' := (wX0 q0 cI g0 mo sc fb rq fx mu mn wi bo wa)) [0, 1, 2, 3, 4, 5, 6, 7, 8, 9] rfl
        have hDc := hD.sub (ws' := (wX0 q0 cI g0 mo sc fb rq fx mu mn wi bo wa)) [0, 1, 2, 3, 4, 5, 6, 7, 8, 9] (by decide) rfl
        have hKc := hK.sub (tys' := [(cI, .int)]) [0] rfl
        refine va_calli (va_runV (b := q0) (As := [.int (xs (i + 1)), .int (xs (i + 2))]) (rest := []) ⟨hx, hb, hml, hown, hts⟩ (metX0_bestWith l dC dI q0 H.size cI g0 mo sc fb rq fx mu mn wi bo wa (xs (i + 1)) (xs (i + 2))) (cwV 2 hts (lw_V q133 q134 q135 q23 q136) rfl rfl rfl (by decide +kernel) ⟨Nat.le_of_ble_eq_true rfl, Nat.le_of_ble_eq_true rfl⟩) ⟨fun a U g mk q => by obtain ⟨q0, q1, qP, qK, qD⟩ := q; exact ⟨q0, q1, qP, va_K.moved (u := U) (U := U.calling g mk a) (Vm.Alike.refl U.vm) qK, qD⟩, va_recv hKc hPc (ci := 0) (q0 := 0) rfl rfl, fun U hU hW => ⟨rfl, by rw [hU], by rw [hU]; exact hPc, va_K.moved hW.alike hKc, hDc.weaken (fun _ _ _ _ => trivial)⟩⟩ rfl rfl hl.1 rfl (lv_room (Nat.le_of_ble_eq_true rfl)) dL_law_301 ⟨Nat.le_of_ble_eq_true rfl, Nat.le_of_ble_eq_true rfl⟩) hS (fun q _ h => hFc q h) hFc (fun r_301 u t H1 locs ht hvm hw_301 hB hz1 hk1 hS => ?_)
        obtain ⟨fx_301, mu_301, mn_301, wi_301, bo_301, wa_301⟩ := u
        obtain ⟨hP1, hK1, hD1⟩ := hB
        rw [ht] at hP1
        try dsimp only at hw_301
        obtain ⟨hP, hD⟩ := va_join (wr := (wX1 q1 cJ cB g1 li kn m1 fi s1 sa nc)) (w1 := (wX0 q0 cI g0 mo sc fb rq fx_301 mu_301 mn_301 wi_301 bo_301 wa_301)) hP hD [0, 1, 2, 3, 4, 5, 6, 7, 8, 9] [10, 11, 12, 13] rfl rfl (by decide) (by decide) hk1 hFc hP1 hD1
        generalize H1 = H at hP hS ⊢
        have hP : va_P (dC, dI) vwCl ((wX1 q1 cJ cB g1 li kn m1 fi s1 sa nc) ++ (wX0 q0 cI g0 mo sc fb rq fx_301 mu_301 mn_301 wi_301 bo_301 wa_301)) H := hP
        have hD : va_D A ((wX1 q1 cJ cB g1 li kn m1 fi s1 sa nc) ++ (wX0 q0 cI g0 mo sc fb rq fx_301 mu_301 mn_301 wi_301 bo_301 wa_301)) := hD
        refine lv_aload_n hx hb dL_law_304 rfl (lv_at hl 2 rfl) ?_
        refine lv_aload_n hx hb dL_law_305 rfl (lv_at hl 0 rfl) ?_
        refine lv_iload_n hx hb dL_law_306 rfl (lv_at hl 3 rfl) ?_
        refine lv_iconst (v := nI 1) hx hb dL_law_307 (by decide) ?_
        refine wk_iadd hx hb dL_law_308 ?_
        refine wk_sld hx hb hX hbl hbA hS (ix := (i + 1)) (by omega) (by omega) dL_law_309 ?_
        refine lv_aload_n hx hb dL_law_310 rfl (lv_at hl 0 rfl) ?_
        refine lv_iload_n hx hb dL_law_311 rfl (lv_at hl 3 rfl) ?_
        refine lv_iconst (v := nI 2) hx hb dL_law_312 (by decide) ?_
        refine wk_iadd hx hb dL_law_313 ?_
        refine wk_sld hx hb hX hbl hbA hS (ix := (i + 2)) (by omega) (by omega) dL_law_314 ?_
        have hPc := hP.sub (ws' := (wX1 q1 cJ cB g1 li kn m1 fi s1 sa nc)) [0, 1, 2, 3] rfl
        have hDc := hD.sub (ws' := (wX1 q1 cJ cB g1 li kn m1 fi s1 sa nc)) [0, 1, 2, 3] (by decide) rfl
        have hKc := hK.sub (tys' := [(cJ, .int), (cB, .boolean)]) [1, 2] rfl
        refine vp_callSi (W.runV (b := q1) (As := [.int (xs (i + 1)), .int (xs (i + 2))]) (rest := [.int r_301]) ⟨hx, hb, hml, hown, hts⟩ (metX1_bestWith l dC dI q1 0 cJ cB g1 li kn m1 fi s1 sa nc (xs (i + 1)) (xs (i + 2))) (cwV 2 hts (lw_V q260 q261 q262 q24 q263) rfl rfl rfl (by decide +kernel) ⟨Nat.le_of_ble_eq_true rfl, Nat.le_of_ble_eq_true rfl⟩) ⟨fun a U g mk q => ⟨q.1, q.2.1, va_K.moved (u := U) (U := U.calling g mk a) (Vm.Alike.refl U.vm) q.2.2⟩, va_recv hKc hPc (ci := 1) (q0 := 0) rfl rfl, fun U hU hW => ⟨rfl, by rw [hU]; exact hPc, va_K.moved hW.alike hKc⟩⟩ rfl rfl hl.1 rfl (lv_room (Nat.le_of_ble_eq_true rfl)) dL_law_315 ⟨Nat.le_of_ble_eq_true rfl, Nat.le_of_ble_eq_true rfl⟩) (fun r hr_315 => ?_)
        obtain ⟨r_315, er_315⟩ : ∃ z, z = r := ⟨_, rfl⟩
        subst er_315
        refine lv_icmp_eq (tgt := 415) hx hb dL_law_318 (by decide) (fun c_318 => ?_) (fun c_318 => ?_)
        · refine wk_iinc4 (lv' := [(3, .int (nI (i + 4))), (0, .ref b), (1, .ref q0), (2, .ref q1)]) hx hb dL_law_415 hl (k := 3) rfl (by decide) rfl (fun ls hl => ?_)
          refine lv_goto (tgt := 18) hx hb dL_law_418 (by decide) ?_
          exact ih (i + 4) mo sc fb rq fx_301 mu_301 mn_301 wi_301 bo_301 wa_301 li kn m1 fi s1 sa nc (by omega) (by omega) hRel _ _ (hP.sub [4, 5, 6, 7, 8, 9, 10, 11, 12, 13, 0, 1, 2, 3] rfl) (hD.sub [4, 5, 6, 7, 8, 9, 10, 11, 12, 13, 0, 1, 2, 3] (by decide) rfl) hS ls (lv_sub hl [1, 2, 3, 0] rfl)
        · exact absurd (L_with hRel hw_301 hr_315) c_318
      · refine lv_tableIn (tgt := 323) (off := 291) hx hb dL_law_32 (by decide) (by decide) (by decide) (by decide) ?_
        refine lv_aload_n hx hb dL_law_323 rfl (lv_at hl 1 rfl) ?_
        refine lv_aload_n hx hb dL_law_324 rfl (lv_at hl 0 rfl) ?_
        refine lv_iload_n hx hb dL_law_325 rfl (lv_at hl 3 rfl) ?_
        refine lv_iconst (v := nI 1) hx hb dL_law_326 (by decide) ?_
        refine wk_iadd hx hb dL_law_327 ?_
        refine wk_sld hx hb hX hbl hbA hS (ix := (i + 1)) (by omega) (by omega) dL_law_328 ?_
        refine lv_aload_n hx hb dL_law_329 rfl (lv_at hl 0 rfl) ?_
        refine lv_iload_n hx hb dL_law_330 rfl (lv_at hl 3 rfl) ?_
        refine lv_iconst (v := nI 2) hx hb dL_law_331 (by decide) ?_
        refine wk_iadd hx hb dL_law_332 ?_
        refine wk_sld hx hb hX hbl hbA hS (ix := (i + 2)) (by omega) (by omega) dL_law_333 ?_
        have hFc := va_free (wc := (wX0 q0 cI g0 mo sc fb rq fx mu mn wi bo wa)) hD hS hA [0, 1, 2, 3, 4, 5, 6, 7, 8, 9] rfl
        have hPc := hP.sub (ws' := (wX0 q0 cI g0 mo sc fb rq fx mu mn wi bo wa)) [0, 1, 2, 3, 4, 5, 6, 7, 8, 9] rfl
        have hDc := hD.sub (ws' := (wX0 q0 cI g0 mo sc fb rq fx mu mn wi bo wa)) [0, 1, 2, 3, 4, 5, 6, 7, 8, 9] (by decide) rfl
        have hKc := hK.sub (tys' := [(cI, .int)]) [0] rfl
        refine va_calli (va_runV (b := q0) (As := [.int (xs (i + 1)), .int (xs (i + 2))]) (rest := []) ⟨hx, hb, hml, hown, hts⟩ (metX0_bestWithout l dC dI q0 H.size cI g0 mo sc fb rq fx mu mn wi bo wa (xs (i + 1)) (xs (i + 2))) (cwV 2 hts (lw_V q137 q138 q139 q23 q140) rfl rfl rfl (by decide +kernel) ⟨Nat.le_of_ble_eq_true rfl, Nat.le_of_ble_eq_true rfl⟩) ⟨fun a U g mk q => by obtain ⟨q0, q1, qP, qK, qD⟩ := q; exact ⟨q0, q1, qP, va_K.moved (u := U) (U := U.calling g mk a) (Vm.Alike.refl U.vm) qK, qD⟩, va_recv hKc hPc (ci := 0) (q0 := 0) rfl rfl, fun U hU hW => ⟨rfl, by rw [hU], by rw [hU]; exact hPc, va_K.moved hW.alike hKc, hDc.weaken (fun _ _ _ _ => trivial)⟩⟩ rfl rfl hl.1 rfl (lv_room (Nat.le_of_ble_eq_true rfl)) dL_law_334 ⟨Nat.le_of_ble_eq_true rfl, Nat.le_of_ble_eq_true rfl⟩) hS (fun q _ h => hFc q h) hFc (fun r_334 u t H1 locs ht hvm hw_334 hB hz1 hk1 hS => ?_)
        obtain ⟨fx_334, mu_334, mn_334, wi_334, bo_334, wa_334⟩ := u
        obtain ⟨hP1, hK1, hD1⟩ := hB
        rw [ht] at hP1
        try dsimp only at hw_334
        obtain ⟨hP, hD⟩ := va_join (wr := (wX1 q1 cJ cB g1 li kn m1 fi s1 sa nc)) (w1 := (wX0 q0 cI g0 mo sc fb rq fx_334 mu_334 mn_334 wi_334 bo_334 wa_334)) hP hD [0, 1, 2, 3, 4, 5, 6, 7, 8, 9] [10, 11, 12, 13] rfl rfl (by decide) (by decide) hk1 hFc hP1 hD1
        generalize H1 = H at hP hS ⊢
        have hP : va_P (dC, dI) vwCl ((wX1 q1 cJ cB g1 li kn m1 fi s1 sa nc) ++ (wX0 q0 cI g0 mo sc fb rq fx_334 mu_334 mn_334 wi_334 bo_334 wa_334)) H := hP
        have hD : va_D A ((wX1 q1 cJ cB g1 li kn m1 fi s1 sa nc) ++ (wX0 q0 cI g0 mo sc fb rq fx_334 mu_334 mn_334 wi_334 bo_334 wa_334)) := hD
        refine lv_aload_n hx hb dL_law_337 rfl (lv_at hl 2 rfl) ?_
        refine lv_aload_n hx hb dL_law_338 rfl (lv_at hl 0 rfl) ?_
        refine lv_iload_n hx hb dL_law_339 rfl (lv_at hl 3 rfl) ?_
        refine lv_iconst (v := nI 1) hx hb dL_law_340 (by decide) ?_
        refine wk_iadd hx hb dL_law_341 ?_
        refine wk_sld hx hb hX hbl hbA hS (ix := (i + 1)) (by omega) (by omega) dL_law_342 ?_
        refine lv_aload_n hx hb dL_law_343 rfl (lv_at hl 0 rfl) ?_
        refine lv_iload_n hx hb dL_law_344 rfl (lv_at hl 3 rfl) ?_
        refine lv_iconst (v := nI 2) hx hb dL_law_345 (by decide) ?_
        refine wk_iadd hx hb dL_law_346 ?_
        refine wk_sld hx hb hX hbl hbA hS (ix := (i + 2)) (by omega) (by omega) dL_law_347 ?_
        have hPc := hP.sub (ws' := (wX1 q1 cJ cB g1 li kn m1 fi s1 sa nc)) [0, 1, 2, 3] rfl
        have hDc := hD.sub (ws' := (wX1 q1 cJ cB g1 li kn m1 fi s1 sa nc)) [0, 1, 2, 3] (by decide) rfl
        have hKc := hK.sub (tys' := [(cJ, .int), (cB, .boolean)]) [1, 2] rfl
        refine vp_callSi (W.runV (b := q1) (As := [.int (xs (i + 1)), .int (xs (i + 2))]) (rest := [.int r_334]) ⟨hx, hb, hml, hown, hts⟩ (metX1_bestWithout l dC dI q1 0 cJ cB g1 li kn m1 fi s1 sa nc (xs (i + 1)) (xs (i + 2))) (cwV 2 hts (lw_V q268 q269 q270 q24 q271) rfl rfl rfl (by decide +kernel) ⟨Nat.le_of_ble_eq_true rfl, Nat.le_of_ble_eq_true rfl⟩) ⟨fun a U g mk q => ⟨q.1, q.2.1, va_K.moved (u := U) (U := U.calling g mk a) (Vm.Alike.refl U.vm) q.2.2⟩, va_recv hKc hPc (ci := 1) (q0 := 0) rfl rfl, fun U hU hW => ⟨rfl, by rw [hU]; exact hPc, va_K.moved hW.alike hKc⟩⟩ rfl rfl hl.1 rfl (lv_room (Nat.le_of_ble_eq_true rfl)) dL_law_348 ⟨Nat.le_of_ble_eq_true rfl, Nat.le_of_ble_eq_true rfl⟩) (fun r hr_348 => ?_)
        obtain ⟨r_348, er_348⟩ : ∃ z, z = r := ⟨_, rfl⟩
        subst er_348
        refine lv_icmp_eq (tgt := 415) hx hb dL_law_351 (by decide) (fun c_351 => ?_) (fun c_351 => ?_)
        · refine wk_iinc4 (lv' := [(3, .int (nI (i + 4))), (0, .ref b), (1, .ref q0), (2, .ref q1)]) hx hb dL_law_415 hl (k := 3) rfl (by decide) rfl (fun ls hl => ?_)
          refine lv_goto (tgt := 18) hx hb dL_law_418 (by decide) ?_
          exact ih (i + 4) mo sc fb rq fx_334 mu_334 mn_334 wi_334 bo_334 wa_334 li kn m1 fi s1 sa nc (by omega) (by omega) hRel _ _ (hP.sub [4, 5, 6, 7, 8, 9, 10, 11, 12, 13, 0, 1, 2, 3] rfl) (hD.sub [4, 5, 6, 7, 8, 9, 10, 11, 12, 13, 0, 1, 2, 3] (by decide) rfl) hS ls (lv_sub hl [1, 2, 3, 0] rfl)
        · exact absurd (L_without hRel hw_334 hr_348) c_351
      · refine lv_tableIn (tgt := 356) (off := 324) hx hb dL_law_32 (by decide) (by decide) (by decide) (by decide) ?_
        refine lv_aload_n hx hb dL_law_356 rfl (lv_at hl 1 rfl) ?_
        have hFc := va_free (wc := (wX0 q0 cI g0 mo sc fb rq fx mu mn wi bo wa)) hD hS hA [0, 1, 2, 3, 4, 5, 6, 7, 8, 9] rfl
        have hPc := hP.sub (ws' := (wX0 q0 cI g0 mo sc fb rq fx mu mn wi bo wa)) [0, 1, 2, 3, 4, 5, 6, 7, 8, 9] rfl
        have hDc := hD.sub (ws' := (wX0 q0 cI g0 mo sc fb rq fx mu mn wi bo wa)) [0, 1, 2, 3, 4, 5, 6, 7, 8, 9] (by decide) rfl
        have hKc := hK.sub (tys' := [(cI, .int)]) [0] rfl
        refine va_calli (va_runV (b := q0) (As := []) (rest := []) ⟨hx, hb, hml, hown, hts⟩ (metX0_edges l dC dI q0 H.size cI g0 mo sc fb rq fx mu mn wi bo wa ) (cwV 0 hts (lw_V q141 q142 q143 q23 q144) rfl rfl rfl (by decide +kernel) ⟨Nat.le_of_ble_eq_true rfl, Nat.le_of_ble_eq_true rfl⟩) ⟨fun a U g mk q => by obtain ⟨q0, q1, qP, qK, qD⟩ := q; exact ⟨q0, q1, qP, va_K.moved (u := U) (U := U.calling g mk a) (Vm.Alike.refl U.vm) qK, qD⟩, va_recv hKc hPc (ci := 0) (q0 := 0) rfl rfl, fun U hU hW => ⟨rfl, by rw [hU], by rw [hU]; exact hPc, va_K.moved hW.alike hKc, hDc.weaken (fun _ _ _ _ => trivial)⟩⟩ rfl rfl hl.1 rfl (lv_room (Nat.le_of_ble_eq_true rfl)) dL_law_357 ⟨Nat.le_of_ble_eq_true rfl, Nat.le_of_ble_eq_true rfl⟩) hS (fun q _ h => hFc q h) hFc (fun r_357 u t H1 locs ht hvm hw_357 hB hz1 hk1 hS => ?_)
        obtain ⟨fx_357, mu_357, mn_357, wi_357, bo_357, wa_357⟩ := u
        obtain ⟨hP1, hK1, hD1⟩ := hB
        rw [ht] at hP1
        try dsimp only at hw_357
        obtain ⟨hP, hD⟩ := va_join (wr := (wX1 q1 cJ cB g1 li kn m1 fi s1 sa nc)) (w1 := (wX0 q0 cI g0 mo sc fb rq fx_357 mu_357 mn_357 wi_357 bo_357 wa_357)) hP hD [0, 1, 2, 3, 4, 5, 6, 7, 8, 9] [10, 11, 12, 13] rfl rfl (by decide) (by decide) hk1 hFc hP1 hD1
        generalize H1 = H at hP hS ⊢
        have hP : va_P (dC, dI) vwCl ((wX1 q1 cJ cB g1 li kn m1 fi s1 sa nc) ++ (wX0 q0 cI g0 mo sc fb rq fx_357 mu_357 mn_357 wi_357 bo_357 wa_357)) H := hP
        have hD : va_D A ((wX1 q1 cJ cB g1 li kn m1 fi s1 sa nc) ++ (wX0 q0 cI g0 mo sc fb rq fx_357 mu_357 mn_357 wi_357 bo_357 wa_357)) := hD
        refine lv_aload_n hx hb dL_law_360 rfl (lv_at hl 2 rfl) ?_
        have hFc := va_free (wc := (wX1 q1 cJ cB g1 li kn m1 fi s1 sa nc)) hD hS hA [0, 1, 2, 3] rfl
        have hPc := hP.sub (ws' := (wX1 q1 cJ cB g1 li kn m1 fi s1 sa nc)) [0, 1, 2, 3] rfl
        have hDc := hD.sub (ws' := (wX1 q1 cJ cB g1 li kn m1 fi s1 sa nc)) [0, 1, 2, 3] (by decide) rfl
        have hKc := hK.sub (tys' := [(cJ, .int), (cB, .boolean)]) [1, 2] rfl
        refine va_calli (va_runV (b := q1) (As := []) (rest := [.int r_357]) ⟨hx, hb, hml, hown, hts⟩ (metX1_edges l dC dI q1 H.size cJ cB g1 li kn m1 fi s1 sa nc  hRel.2.2.2.2) (cwV 0 hts (lw_V q272 q273 q274 q24 q275) rfl rfl rfl (by decide +kernel) ⟨Nat.le_of_ble_eq_true rfl, Nat.le_of_ble_eq_true rfl⟩) ⟨fun a U g mk q => by obtain ⟨q0, q1, qP, qK, qD⟩ := q; exact ⟨q0, q1, qP, va_K.moved (u := U) (U := U.calling g mk a) (Vm.Alike.refl U.vm) qK, qD⟩, va_recv hKc hPc (ci := 1) (q0 := 0) rfl rfl, fun U hU hW => ⟨rfl, by rw [hU], by rw [hU]; exact hPc, va_K.moved hW.alike hKc, hDc.weaken (fun _ _ _ _ => trivial)⟩⟩ rfl rfl hl.1 rfl (lv_room (Nat.le_of_ble_eq_true rfl)) dL_law_361 ⟨Nat.le_of_ble_eq_true rfl, Nat.le_of_ble_eq_true rfl⟩) hS (fun q _ h => hFc q h) hFc (fun r_361 u t H1 locs ht hvm hw_361 hB hz1 hk1 hS => ?_)
        obtain ⟨kn_361, mo_361, fi_361⟩ := u
        obtain ⟨hP1, hK1, hD1⟩ := hB
        rw [ht] at hP1
        try dsimp only at hw_361
        obtain ⟨hP, hD⟩ := va_join (wr := (wX0 q0 cI g0 mo sc fb rq fx_357 mu_357 mn_357 wi_357 bo_357 wa_357)) (w1 := (wX1 q1 cJ cB g1 li kn_361 mo_361 fi_361 s1 sa nc)) hP hD [0, 1, 2, 3] [4, 5, 6, 7, 8, 9, 10, 11, 12, 13] rfl rfl (by decide) (by decide) hk1 hFc hP1 hD1
        generalize H1 = H at hP hS ⊢
        have hP : va_P (dC, dI) vwCl ((wX0 q0 cI g0 mo sc fb rq fx_357 mu_357 mn_357 wi_357 bo_357 wa_357) ++ (wX1 q1 cJ cB g1 li kn_361 mo_361 fi_361 s1 sa nc)) H := hP
        have hD : va_D A ((wX0 q0 cI g0 mo sc fb rq fx_357 mu_357 mn_357 wi_357 bo_357 wa_357) ++ (wX1 q1 cJ cB g1 li kn_361 mo_361 fi_361 s1 sa nc)) := hD
        refine lv_icmp_eq (tgt := 415) hx hb dL_law_364 (by decide) (fun c_364 => ?_) (fun c_364 => ?_)
        · refine wk_iinc4 (lv' := [(3, .int (nI (i + 4))), (0, .ref b), (1, .ref q0), (2, .ref q1)]) hx hb dL_law_415 hl (k := 3) rfl (by decide) rfl (fun ls hl => ?_)
          refine lv_goto (tgt := 18) hx hb dL_law_418 (by decide) ?_
          exact ih (i + 4) mo sc fb rq fx_357 mu_357 mn_357 wi_357 bo_357 wa_357 li kn_361 mo_361 fi_361 s1 sa nc (by omega) (by omega) (L_edges hRel hw_357 hw_361).2 _ _ (hP.sub [0, 1, 2, 3, 4, 5, 6, 7, 8, 9, 10, 11, 12, 13] rfl) (hD.sub [0, 1, 2, 3, 4, 5, 6, 7, 8, 9, 10, 11, 12, 13] (by decide) rfl) hS ls (lv_sub hl [1, 2, 3, 0] rfl)
        · exact absurd (L_edges hRel hw_357 hw_361).1 c_364
      · refine lv_tableIn (tgt := 369) (off := 337) hx hb dL_law_32 (by decide) (by decide) (by decide) (by decide) ?_
        refine lv_aload_n hx hb dL_law_369 rfl (lv_at hl 1 rfl) ?_
        have hFc := va_free (wc := (wX0 q0 cI g0 mo sc fb rq fx mu mn wi bo wa)) hD hS hA [0, 1, 2, 3, 4, 5, 6, 7, 8, 9] rfl
        have hPc := hP.sub (ws' := (wX0 q0 cI g0 mo sc fb rq fx mu mn wi bo wa)) [0, 1, 2, 3, 4, 5, 6, 7, 8, 9] rfl
        have hDc := hD.sub (ws' := (wX0 q0 cI g0 mo sc fb rq fx mu mn wi bo wa)) [0, 1, 2, 3, 4, 5, 6, 7, 8, 9] (by decide) rfl
        have hKc := hK.sub (tys' := [(cI, .int)]) [0] rfl
        refine va_calli (va_runV (b := q0) (As := []) (rest := []) ⟨hx, hb, hml, hown, hts⟩ (metX0_orders l dC dI q0 H.size cI g0 mo sc fb rq fx mu mn wi bo wa ) (cwV 0 hts (lw_V q145 q146 q147 q23 q148) rfl rfl rfl (by decide +kernel) ⟨Nat.le_of_ble_eq_true rfl, Nat.le_of_ble_eq_true rfl⟩) ⟨fun a U g mk q => by obtain ⟨q0, q1, qP, qK, qD⟩ := q; exact ⟨q0, q1, qP, va_K.moved (u := U) (U := U.calling g mk a) (Vm.Alike.refl U.vm) qK, qD⟩, va_recv hKc hPc (ci := 0) (q0 := 0) rfl rfl, fun U hU hW => ⟨rfl, by rw [hU], by rw [hU]; exact hPc, va_K.moved hW.alike hKc, hDc.weaken (fun _ _ _ _ => trivial)⟩⟩ rfl rfl hl.1 rfl (lv_room (Nat.le_of_ble_eq_true rfl)) dL_law_370 ⟨Nat.le_of_ble_eq_true rfl, Nat.le_of_ble_eq_true rfl⟩) hS (fun q _ h => hFc q h) hFc (fun r_370 u t H1 locs ht hvm hw_370 hB hz1 hk1 hS => ?_)
        obtain ⟨fx_370, mu_370, mn_370, wi_370, bo_370, wa_370⟩ := u
        obtain ⟨hP1, hK1, hD1⟩ := hB
        rw [ht] at hP1
        try dsimp only at hw_370
        obtain ⟨hP, hD⟩ := va_join (wr := (wX1 q1 cJ cB g1 li kn m1 fi s1 sa nc)) (w1 := (wX0 q0 cI g0 mo sc fb rq fx_370 mu_370 mn_370 wi_370 bo_370 wa_370)) hP hD [0, 1, 2, 3, 4, 5, 6, 7, 8, 9] [10, 11, 12, 13] rfl rfl (by decide) (by decide) hk1 hFc hP1 hD1
        generalize H1 = H at hP hS ⊢
        have hP : va_P (dC, dI) vwCl ((wX1 q1 cJ cB g1 li kn m1 fi s1 sa nc) ++ (wX0 q0 cI g0 mo sc fb rq fx_370 mu_370 mn_370 wi_370 bo_370 wa_370)) H := hP
        have hD : va_D A ((wX1 q1 cJ cB g1 li kn m1 fi s1 sa nc) ++ (wX0 q0 cI g0 mo sc fb rq fx_370 mu_370 mn_370 wi_370 bo_370 wa_370)) := hD
        refine lv_aload_n hx hb dL_law_373 rfl (lv_at hl 2 rfl) ?_
        have hFc := va_free (wc := (wX1 q1 cJ cB g1 li kn m1 fi s1 sa nc)) hD hS hA [0, 1, 2, 3] rfl
        have hPc := hP.sub (ws' := (wX1 q1 cJ cB g1 li kn m1 fi s1 sa nc)) [0, 1, 2, 3] rfl
        have hDc := hD.sub (ws' := (wX1 q1 cJ cB g1 li kn m1 fi s1 sa nc)) [0, 1, 2, 3] (by decide) rfl
        have hKc := hK.sub (tys' := [(cJ, .int), (cB, .boolean)]) [1, 2] rfl
        refine va_calli (va_runV (b := q1) (As := []) (rest := [.int r_370]) ⟨hx, hb, hml, hown, hts⟩ (metX1_orders l dC dI q1 H.size cJ cB g1 li kn m1 fi s1 sa nc ) (cwV 0 hts (lw_V q276 q277 q278 q24 q279) rfl rfl rfl (by decide +kernel) ⟨Nat.le_of_ble_eq_true rfl, Nat.le_of_ble_eq_true rfl⟩) ⟨fun a U g mk q => by obtain ⟨q0, q1, qP, qK, qD⟩ := q; exact ⟨q0, q1, qP, va_K.moved (u := U) (U := U.calling g mk a) (Vm.Alike.refl U.vm) qK, qD⟩, va_recv hKc hPc (ci := 1) (q0 := 0) rfl rfl, fun U hU hW => ⟨rfl, by rw [hU], by rw [hU]; exact hPc, va_K.moved hW.alike hKc, hDc.weaken (fun _ _ _ _ => trivial)⟩⟩ rfl rfl hl.1 rfl (lv_room (Nat.le_of_ble_eq_true rfl)) dL_law_374 ⟨Nat.le_of_ble_eq_true rfl, Nat.le_of_ble_eq_true rfl⟩) hS (fun q _ h => hFc q h) hFc (fun r_374 u t H1 locs ht hvm hw_374 hB hz1 hk1 hS => ?_)
        obtain ⟨kn_374, mo_374, fi_374⟩ := u
        obtain ⟨hP1, hK1, hD1⟩ := hB
        rw [ht] at hP1
        try dsimp only at hw_374
        obtain ⟨hP, hD⟩ := va_join (wr := (wX0 q0 cI g0 mo sc fb rq fx_370 mu_370 mn_370 wi_370 bo_370 wa_370)) (w1 := (wX1 q1 cJ cB g1 li kn_374 mo_374 fi_374 s1 sa nc)) hP hD [0, 1, 2, 3] [4, 5, 6, 7, 8, 9, 10, 11, 12, 13] rfl rfl (by decide) (by decide) hk1 hFc hP1 hD1
        generalize H1 = H at hP hS ⊢
        have hP : va_P (dC, dI) vwCl ((wX0 q0 cI g0 mo sc fb rq fx_370 mu_370 mn_370 wi_370 bo_370 wa_370) ++ (wX1 q1 cJ cB g1 li kn_374 mo_374 fi_374 s1 sa nc)) H := hP
        have hD : va_D A ((wX0 q0 cI g0 mo sc fb rq fx_370 mu_370 mn_370 wi_370 bo_370 wa_370) ++ (wX1 q1 cJ cB g1 li kn_374 mo_374 fi_374 s1 sa nc)) := hD
        refine lv_icmp_eq (tgt := 415) hx hb dL_law_377 (by decide) (fun c_377 => ?_) (fun c_377 => ?_)
        · refine wk_iinc4 (lv' := [(3, .int (nI (i + 4))), (0, .ref b), (1, .ref q0), (2, .ref q1)]) hx hb dL_law_415 hl (k := 3) rfl (by decide) rfl (fun ls hl => ?_)
          refine lv_goto (tgt := 18) hx hb dL_law_418 (by decide) ?_
          exact ih (i + 4) mo sc fb rq fx_370 mu_370 mn_370 wi_370 bo_370 wa_370 li kn_374 mo_374 fi_374 s1 sa nc (by omega) (by omega) (L_orders hRel hw_370 hw_374).2 _ _ (hP.sub [0, 1, 2, 3, 4, 5, 6, 7, 8, 9, 10, 11, 12, 13] rfl) (hD.sub [0, 1, 2, 3, 4, 5, 6, 7, 8, 9, 10, 11, 12, 13] (by decide) rfl) hS ls (lv_sub hl [1, 2, 3, 0] rfl)
        · exact absurd (L_orders hRel hw_370 hw_374).1 c_377
      · refine lv_tableIn (tgt := 382) (off := 350) hx hb dL_law_32 (by decide) (by decide) (by decide) (by decide) ?_
        refine lv_aload_n hx hb dL_law_382 rfl (lv_at hl 1 rfl) ?_
        refine lv_aload_n hx hb dL_law_383 rfl (lv_at hl 0 rfl) ?_
        refine lv_iload_n hx hb dL_law_384 rfl (lv_at hl 3 rfl) ?_
        refine lv_iconst (v := nI 1) hx hb dL_law_385 (by decide) ?_
        refine wk_iadd hx hb dL_law_386 ?_
        refine wk_sld hx hb hX hbl hbA hS (ix := (i + 1)) (by omega) (by omega) dL_law_387 ?_
        refine lv_aload_n hx hb dL_law_388 rfl (lv_at hl 0 rfl) ?_
        refine lv_iload_n hx hb dL_law_389 rfl (lv_at hl 3 rfl) ?_
        refine lv_iconst (v := nI 2) hx hb dL_law_390 (by decide) ?_
        refine wk_iadd hx hb dL_law_391 ?_
        refine wk_sld hx hb hX hbl hbA hS (ix := (i + 2)) (by omega) (by omega) dL_law_392 ?_
        have hPc := hP.sub (ws' := (wX0 q0 cI g0 mo sc fb rq fx mu mn wi bo wa)) [0, 1, 2, 3, 4, 5, 6, 7, 8, 9] rfl
        have hDc := hD.sub (ws' := (wX0 q0 cI g0 mo sc fb rq fx mu mn wi bo wa)) [0, 1, 2, 3, 4, 5, 6, 7, 8, 9] (by decide) rfl
        have hKc := hK.sub (tys' := [(cI, .int)]) [0] rfl
        refine vp_callSi (W.runV (b := q0) (As := [.int (xs (i + 1)), .int (xs (i + 2))]) (rest := []) ⟨hx, hb, hml, hown, hts⟩ (metX0_scoreOf l dC dI q0 0 cI g0 mo sc fb rq fx mu mn wi bo wa (xs (i + 1)) (xs (i + 2))) (cwV 2 hts (lw_V q149 q150 q151 q23 q152) rfl rfl rfl (by decide +kernel) ⟨Nat.le_of_ble_eq_true rfl, Nat.le_of_ble_eq_true rfl⟩) ⟨fun a U g mk q => ⟨q.1, q.2.1, va_K.moved (u := U) (U := U.calling g mk a) (Vm.Alike.refl U.vm) q.2.2⟩, va_recv hKc hPc (ci := 0) (q0 := 0) rfl rfl, fun U hU hW => ⟨rfl, by rw [hU]; exact hPc, va_K.moved hW.alike hKc⟩⟩ rfl rfl hl.1 rfl (lv_room (Nat.le_of_ble_eq_true rfl)) dL_law_393 ⟨Nat.le_of_ble_eq_true rfl, Nat.le_of_ble_eq_true rfl⟩) (fun r hr_393 => ?_)
        have hr_393 : r = (soR sc (xs (i + 1)) (xs (i + 2))) := hr_393
        subst hr_393
        refine lv_aload_n hx hb dL_law_396 rfl (lv_at hl 2 rfl) ?_
        refine lv_aload_n hx hb dL_law_397 rfl (lv_at hl 0 rfl) ?_
        refine lv_iload_n hx hb dL_law_398 rfl (lv_at hl 3 rfl) ?_
        refine lv_iconst (v := nI 1) hx hb dL_law_399 (by decide) ?_
        refine wk_iadd hx hb dL_law_400 ?_
        refine wk_sld hx hb hX hbl hbA hS (ix := (i + 1)) (by omega) (by omega) dL_law_401 ?_
        refine lv_aload_n hx hb dL_law_402 rfl (lv_at hl 0 rfl) ?_
        refine lv_iload_n hx hb dL_law_403 rfl (lv_at hl 3 rfl) ?_
        refine lv_iconst (v := nI 2) hx hb dL_law_404 (by decide) ?_
        refine wk_iadd hx hb dL_law_405 ?_
        refine wk_sld hx hb hX hbl hbA hS (ix := (i + 2)) (by omega) (by omega) dL_law_406 ?_
        have hPc := hP.sub (ws' := (wX1 q1 cJ cB g1 li kn m1 fi s1 sa nc)) [10, 11, 12, 13] rfl
        have hDc := hD.sub (ws' := (wX1 q1 cJ cB g1 li kn m1 fi s1 sa nc)) [10, 11, 12, 13] (by decide) rfl
        have hKc := hK.sub (tys' := [(cJ, .int), (cB, .boolean)]) [1, 2] rfl
        refine vp_callSi (W.runV (b := q1) (As := [.int (xs (i + 1)), .int (xs (i + 2))]) (rest := [.int (soR sc (xs (i + 1)) (xs (i + 2)))]) ⟨hx, hb, hml, hown, hts⟩ (metX1_scoreOf l dC dI q1 0 cJ cB g1 li kn m1 fi s1 sa nc (xs (i + 1)) (xs (i + 2))) (cwV 2 hts (lw_V q288 q289 q290 q24 q291) rfl rfl rfl (by decide +kernel) ⟨Nat.le_of_ble_eq_true rfl, Nat.le_of_ble_eq_true rfl⟩) ⟨fun a U g mk q => ⟨q.1, q.2.1, va_K.moved (u := U) (U := U.calling g mk a) (Vm.Alike.refl U.vm) q.2.2⟩, va_recv hKc hPc (ci := 1) (q0 := 0) rfl rfl, fun U hU hW => ⟨rfl, by rw [hU]; exact hPc, va_K.moved hW.alike hKc⟩⟩ rfl rfl hl.1 rfl (lv_room (Nat.le_of_ble_eq_true rfl)) dL_law_407 ⟨Nat.le_of_ble_eq_true rfl, Nat.le_of_ble_eq_true rfl⟩) (fun r hr_407 => ?_)
        have hr_407 : r = (so1R s1 (xs (i + 1)) (xs (i + 2))) := hr_407
        subst hr_407
        refine lv_icmp_eq (tgt := 415) hx hb dL_law_410 (by decide) (fun c_410 => ?_) (fun c_410 => ?_)
        · refine wk_iinc4 (lv' := [(3, .int (nI (i + 4))), (0, .ref b), (1, .ref q0), (2, .ref q1)]) hx hb dL_law_415 hl (k := 3) rfl (by decide) rfl (fun ls hl => ?_)
          refine lv_goto (tgt := 18) hx hb dL_law_418 (by decide) ?_
          exact ih (i + 4) mo sc fb rq fx mu mn wi bo wa li kn m1 fi s1 sa nc (by omega) (by omega) hRel _ _ (hP.sub [0, 1, 2, 3, 4, 5, 6, 7, 8, 9, 10, 11, 12, 13] rfl) (hD.sub [0, 1, 2, 3, 4, 5, 6, 7, 8, 9, 10, 11, 12, 13] (by decide) rfl) hS ls (lv_sub hl [1, 2, 3, 0] rfl)
        · exact absurd (L_scoreOf hRel _ _) c_410
      · refine lv_tableOut (tgt := 415) hx hb dL_law_32 (Or.inr (by rw [nI_toInt (by omega)]; omega)) (by decide) ?_
        refine wk_iinc4 (lv' := [(3, .int (nI (i + 4))), (0, .ref b), (1, .ref q0), (2, .ref q1)]) hx hb dL_law_415 hl (k := 3) rfl (by decide) rfl (fun ls hl => ?_)
        refine lv_goto (tgt := 18) hx hb dL_law_418 (by decide) ?_
        exact ih (i + 4) mo sc fb rq fx mu mn wi bo wa li kn m1 fi s1 sa nc (by omega) (by omega) hRel _ _ (hP.sub [0, 1, 2, 3, 4, 5, 6, 7, 8, 9, 10, 11, 12, 13] rfl) (hD.sub [0, 1, 2, 3, 4, 5, 6, 7, 8, 9, 10, 11, 12, 13] (by decide) rfl) hS ls (lv_sub hl [1, 2, 3, 0] rfl)
end
section
set_option maxHeartbeats 8000000 in
set_option maxRecDepth 100000 in
/-- the law from its entry, for every script of at most 256 ints -/
theorem whole_start {p : Program} {e : Env} {s : State} {m : MethodId} {below : List Frame} {meth : Method} {c : Code} (l : Launch) {b L : Nat} {xs : Nat → Int32} (hL : L ≤ 256) (C0 : lw_At p s m meth c b L xs) : W p l e room_1 s m #[Value.ref b] below meth c s.heap [] 0 0 (lw_Z below #[Value.ref b] s) (entryFrame m ([Value.ref b] : List Value).toArray 4) := by
  obtain ⟨hx, hb, hr, hml, hown, hts0, hX, hbl, hlocks, hgv⟩ := id C0
  have hts : ∀ w ∈ lw_all, w.before #[Value.ref b] s = true := fun w h => hts0 w (lw_all_tbl h)
  obtain ⟨A, hAd⟩ : ∃ A : Nat → Prop, A = fun q => s.heap.size ≤ q := ⟨_, rfl⟩
  have hA : ∀ q : Nat, s.heap.size ≤ q → A q := fun q h => by rw [hAd]; exact h
  have hAe : ∀ q : Nat, A q → s.heap.size ≤ q := fun q h => by rw [hAd] at h; exact h
  have hbA : ¬ A b := fun h => absurd (hAe b h) (Nat.not_le.mpr hbl)
  obtain ⟨k0, iS0, hKn0⟩ := u_known (C := RX0) (T := TX0) (N := 10) (n := 10) hts in_X0 (hts _ q26)
  obtain ⟨k1, iS1, hKn1⟩ := u_known (C := RX1) (T := TX1) (N := 7) (n := 7) hts in_X1 (hts _ q154)
  obtain ⟨dC, dI, hKc⟩ : ∃ (dC : Nat → ClassId) (dI : Nat → Nat → Nat), ∀ (k : Nat) (q : vw_C), vwCl[k]? = some q → u_Kn s q.1 q.2.1 q.2.2 (dC k) (dI k) := by
    refine ⟨fun k => if k = 0 then k0 else k1, fun k => if k = 0 then iS0 else iS1, ?_⟩
    intro k q hq
    match k, hq with
    | 0, hq => cases hq; exact hKn0
    | 1, hq => cases hq; exact hKn1
    | k + 2, hq => simp [vwCl] at hq
  have hS : va_S A s.heap s.heap [] := va_S.rf
  have hK : va_K (dC, dI) vwCl [] s := ⟨hKc, fun k q h => by simp at h⟩
  have hP : va_P (dC, dI) vwCl [] s.heap := fun k q h => by simp at h
  have hD : va_D A [] := ⟨fun i j p q h => by simp at h, fun k q h => by simp at h⟩
  have hl := lv_entry ([.ref b]) (n := 4) (Nat.le_of_ble_eq_true rfl)
  rw [lg_entry_eq]
  generalize (lg_sl ([.ref b]) ++ List.replicate (4 - (lg_sl ([.ref b])).length) Slot.unset).toArray = ls at hl ⊢
  have hl : lv_has ls 4 [(0, .ref b)] := hl
  refine va_new (ci := 0) (fs := [.null, .int 0, .null, .null, .null, .null, .null, .null, .null, .null]) (C := RX0) (T := TX0) (N := 10) hx hb hts in_X0 tyX0 tyX0_ok hown (hts _ q25) (hts _ q26) (hts _ q23) hK hP hD hS hA rfl (fun j hj => by rcases (show j = 0 ∨ j = 1 ∨ j = 2 ∨ j = 3 ∨ j = 4 ∨ j = 5 ∨ j = 6 ∨ j = 7 ∨ j = 8 ∨ j = 9 by omega) with rfl | rfl | rfl | rfl | rfl | rfl | rfl | rfl | rfl | rfl <;> rfl) (Nat.le_of_ble_eq_true rfl) (Nat.le_of_ble_eq_true rfl) dL_law_0 (fun q0 H hP hD hS => ?_)
  have hP : va_P (dC, dI) vwCl [(q0, .inr (0, [.null, .int 0, .null, .null, .null, .null, .null, .null, .null, .null]))] H := hP
  have hD : va_D A [(q0, .inr (0, [.null, .int 0, .null, .null, .null, .null, .null, .null, .null, .null]))] := hD
  refine W.widen (k := 1) (n := 10) (by omega) (by omega) ?_
  refine lv_dup hx hb dL_law_3 rfl ?_
  have hFc := va_free (wc := [(q0, .inr (0, [.null, .int 0, .null, .null, .null, .null, .null, .null, .null, .null]))]) hD hS hA [0] rfl
  refine va_callv (va_runI (As := []) (rest := [.ref q0]) ⟨hx, hb, hml, hown, hts⟩ (metX0_init l dC dI q0 H.size) (cwI 0 hts (lw_meth q29) rfl rfl rfl (hts _ q23) (hts _ q27) (hts _ q28) rfl (by decide +kernel) ⟨Nat.le_of_ble_eq_true rfl, Nat.le_of_ble_eq_true rfl⟩) ⟨fun a U g mk q => by obtain ⟨q0, q1, qP, qK, qD⟩ := q; exact ⟨q0, q1, qP, va_K.moved (u := U) (U := U.calling g mk a) (Vm.Alike.refl U.vm) qK, qD⟩, fun U hU hW => ⟨rfl, by rw [hU], by rw [hU]; exact hP, va_K.moved hW.alike hK, hD.weaken (fun _ _ _ _ => trivial)⟩⟩ rfl rfl hl.1 rfl (lv_room (Nat.le_of_ble_eq_true rfl)) dL_law_4 ⟨Nat.le_of_ble_eq_true rfl, Nat.le_of_ble_eq_true rfl⟩) hS (fun q _ h => hFc q h) hFc (fun u t H1 locs ht hvm hw hB hz1 hk1 hS => ?_)
  obtain ⟨cI, g0⟩ := u
  obtain ⟨hP1, hK1, hD1⟩ := hB
  rw [ht] at hP1
  have hK := va_K.moved hvm.symm hK1
  have hP : va_P (dC, dI) vwCl (wX0 q0 cI g0 (nI 3) c0 c0 c0 cM c0 c0 c0 c0 c0) H1 := hP1
  have hD : va_D A (wX0 q0 cI g0 (nI 3) c0 c0 c0 cM c0 c0 c0 c0 c0) := hD1.weaken (fun _ q _ h => hFc q.1 h)
  have hK : va_K (dC, dI) vwCl [(cI, .int)] s := hK
  generalize H1 = H at hP hS ⊢
  refine W.widen (k := 10) (n := 190) (by decide) (by decide) ?_
  refine lv_astore_n (lv' := [(1, .ref q0), (0, .ref b)]) hx hb dL_law_7 rfl hl (by decide) rfl (fun ls hl => ?_)
  refine va_new (ci := 1) (fs := [.null, .int 0, .null, .null, .int 0, .int 0, .int 0]) (C := RX1) (T := TX1) (N := 7) hx hb hts in_X1 tyX1 tyX1_ok hown (hts _ q153) (hts _ q154) (hts _ q24) hK hP hD hS hA rfl (fun j hj => by rcases (show j = 0 ∨ j = 1 ∨ j = 2 ∨ j = 3 ∨ j = 4 ∨ j = 5 ∨ j = 6 by omega) with rfl | rfl | rfl | rfl | rfl | rfl | rfl <;> rfl) (Nat.le_of_ble_eq_true rfl) (Nat.le_of_ble_eq_true rfl) dL_law_8 (fun q1 H hP hD hS => ?_)
  have hP : va_P (dC, dI) vwCl ((wX0 q0 cI g0 (nI 3) c0 c0 c0 cM c0 c0 c0 c0 c0) ++ [(q1, .inr (1, [.null, .int 0, .null, .null, .int 0, .int 0, .int 0]))]) H := hP
  have hD : va_D A ((wX0 q0 cI g0 (nI 3) c0 c0 c0 cM c0 c0 c0 c0 c0) ++ [(q1, .inr (1, [.null, .int 0, .null, .null, .int 0, .int 0, .int 0]))]) := hD
  refine W.widen (k := 11) (n := 197) (by decide) (by decide) ?_
  refine lv_dup hx hb dL_law_11 rfl ?_
  have hFc := va_free (wc := [(q1, .inr (1, [.null, .int 0, .null, .null, .int 0, .int 0, .int 0]))]) hD hS hA [10] rfl
  have hPc := hP.sub (ws' := [(q1, .inr (1, [.null, .int 0, .null, .null, .int 0, .int 0, .int 0]))]) [10] rfl
  have hDc := hD.sub (ws' := [(q1, .inr (1, [.null, .int 0, .null, .null, .int 0, .int 0, .int 0]))]) [10] (by decide) rfl
  have hKc := hK.sub (tys' := []) [] rfl
  refine va_callv (va_runI (As := []) (rest := [.ref q1]) ⟨hx, hb, hml, hown, hts⟩ (metX1_init l dC dI q1 H.size) (cwI 0 hts (lw_meth q157) rfl rfl rfl (hts _ q24) (hts _ q155) (hts _ q156) rfl (by decide +kernel) ⟨Nat.le_of_ble_eq_true rfl, Nat.le_of_ble_eq_true rfl⟩) ⟨fun a U g mk q => by obtain ⟨q0, q1, qP, qK, qD⟩ := q; exact ⟨q0, q1, qP, va_K.moved (u := U) (U := U.calling g mk a) (Vm.Alike.refl U.vm) qK, qD⟩, fun U hU hW => ⟨rfl, by rw [hU], by rw [hU]; exact hPc, va_K.moved hW.alike hKc, hDc.weaken (fun _ _ _ _ => trivial)⟩⟩ rfl rfl hl.1 rfl (lv_room (Nat.le_of_ble_eq_true rfl)) dL_law_12 ⟨Nat.le_of_ble_eq_true rfl, Nat.le_of_ble_eq_true rfl⟩) hS (fun q _ h => hFc q h) hFc (fun u t H1 locs ht hvm hw hB hz1 hk1 hS => ?_)
  obtain ⟨cJ, cB, g1⟩ := u
  obtain ⟨hP1, hK1, hD1⟩ := hB
  rw [ht] at hP1
  have hK1 := va_K.moved hvm.symm hK1
  obtain ⟨hP, hD⟩ := va_join (wr := (wX0 q0 cI g0 (nI 3) c0 c0 c0 cM c0 c0 c0 c0 c0)) (w1 := (wX1 q1 cJ cB g1 (nI 3) 0 0 0 c0 c0 ncF)) hP hD [10] [0, 1, 2, 3, 4, 5, 6, 7, 8, 9] rfl rfl (by decide) (by decide) hk1 hFc hP1 hD1
  have hK := hK.app hK1
  have hK : va_K (dC, dI) vwCl [(cI, .int), (cJ, .int), (cB, .boolean)] s := hK
  generalize H1 = H at hP hS ⊢
  refine W.widen (k := 14) (n := 4341) (by decide) (by decide) ?_
  refine lv_astore_n (lv' := [(2, .ref q1), (1, .ref q0), (0, .ref b)]) hx hb dL_law_15 rfl hl (by decide) rfl (fun ls hl => ?_)
  refine lv_iconst (v := nI 0) hx hb dL_law_16 (by decide) ?_
  refine lv_istore_n (lv' := [(3, .int (nI 0)), (2, .ref q1), (1, .ref q0), (0, .ref b)]) hx hb dL_law_17 rfl hl (by decide) rfl (fun ls hl => ?_)
  exact law_loop hL C0 hA hAe hbA q0 q1 cI cJ cB g0 g1 hK (L + 1) 0 (nI 3) c0 c0 c0 cM c0 c0 c0 c0 c0 (nI 3) 0 0 0 c0 c0 ncF (Nat.zero_le L) (by omega) Rel_0 _ _ hP hD hS ls (lv_sub hl [3, 2, 1, 0] rfl)
end
section
-- ===== YOUR PART ENDS =====
set_option maxHeartbeats 4000000 in
theorem lw_walk (l : Launch) (b : Addr) (xs : List Int32) : MetFree l x (headSpec (Jvm.Cond.code x code maxLocals ret :: tables_1) room_1) (lw_P b xs) (fun _ _ _ _ _ => True) lw_Q := by
  refine MetFree.of_bodyS (code := code) (maxLocals := maxLocals) (ret := ret) (by decide) ?_ ?_
  · intro args s m h hn
    obtain ⟨meth, c, h1, h2, h3, h4, h5, h6, -, -⟩ := Cond.code_spec hn (atoms_spec (ws := Jvm.Cond.code x code maxLocals ret :: tables_1) h _ List.mem_cons_self)
    exact ⟨meth, c, h1, h2, h3, h4, h5, h6⟩
  · intro p e s m args below meth c s₁ B hml0 hP _
    obtain ⟨rfl, hx, hbd, hgv⟩ := hP
    obtain ⟨scr, harrAt, hlist, hof, hsmall⟩ := hx
    obtain ⟨hcb, hkn, -, -⟩ := State.arrayAt?_spec harrAt
    have hown : s.vm.findClass R_law = some m.cls := findClass_of_methodNamed B.named
    have hts0 : ∀ c ∈ (Jvm.Cond.code x code maxLocals ret :: tables_1), c.before #[Value.ref b] s = true := atoms_spec (ws := Jvm.Cond.code x code maxLocals ret :: tables_1) B.pre
    have hts : ∀ w ∈ lw_tbl, w.before #[Value.ref b] s = true := k2_hts_sels lw_privs (fun w hw => hts0 w (List.mem_cons_of_mem _ hw)) lw_privs_ok
    have hml : c.maxLocals = 4 := B.maxLocals_eq (hts0 _ List.mem_cons_self)
    have X₀ : Stand p l e room_1 s m #[Value.ref b] below meth c s₁ [] 0 0 := Stand.of_body B
    have hh0 : s₁.heap = s.heap := by rw [B.state]; rfl
    have hsz : scr.slots.size = xs.length := by rw [← Array.length_toList, hlist, List.length_map]
    have hval : ∀ j : Nat, j < xs.length → scr.slots[j]? = some (.int (xs.getD j 0)) := fun j hj => by
      rw [← Array.getElem?_toList, hlist]
      simp [hj]
    have hbl : b < s.heap.size := (Array.getElem?_eq_some_iff.mp hcb).1
    have hX : va_X b xs.length (fun j => xs.getD j 0) s s.heap := ⟨scr, hcb, hof, hkn, hsz, hval⟩
    have K : W p l e room_1 s m #[Value.ref b] below meth c s₁.heap [] 0 0 (lw_Z below #[Value.ref b] s) (entryFrame m ([Value.ref b] : List Value).toArray 4) := by
      rw [hh0]
      exact whole_start l hbd ⟨B.exec, B.bytes, B.returns, hml, hown, hts, hX, hbl, B.notSynchronized, hgv⟩
    obtain ⟨t, a1, o, b1, b2, b3⟩ := K s₁ rfl X₀
    exact ⟨t, o, a1, b1, b2, b3⟩
theorem lw_pre_spec {args : Array Value} {s : State} (h : (Jvm.Cond.and given_1 narrow_1).before args s = true) (hr : rest_1_c.before args s = true) : ∃ (b : Addr) (xs : List Int32), lw_P b xs args s := by
  have hs := flat_of_before _ h
  have hq := flat_of_before _ hr
  have hc : (Cond.count 1).before args s = true := hs _ (by decide +kernel)
  have harr : (Cond.arrayOf (.arg 0) .int).before args s = true := hs _ (by decide +kernel)
  have hle : (Cond.le (.length (.arg 0)) (.int 256)).before args s = true := hs _ (by decide +kernel)
  have hlen : (Cond.isInt (.length (.arg 0))).before args s = true := hq _ (by decide +kernel)
  have hall : (Cond.all (.arg 0) (.isInt (.elem (.arg 0) (.index 0)))).before args s = true := hq _ (by decide +kernel)
  obtain ⟨b, xs, hb, hx⟩ := State.ints_of_pre rfl harr hlen hall
  have hsm : xs.length < 2 ^ 31 := hx.choose_spec.2.2.2
  have hev : (Term.length (.arg 0)).eval args s none [] s = some (.int xs.length.toInt32) := hx.length_eval hb
  have hv := Cond.le_ints hev (show (Term.int 256).eval args s none [] s = some (.int 256) from rfl)
  have hd : xs.length.toInt32 ≤ 256 := by
    simpa [Cond.before, Cond.holds, hv] using hle
  have hN : xs.length ≤ 256 := (Int32.ofNat_le_ofNat hsm (by decide)).mp (show Int32.ofNat xs.length ≤ Int32.ofNat 256 from hd)
  exact ⟨b, xs, Cond.one_arg hc (show args[0]? = some (.ref b) from hb), hx, hN, h⟩
theorem lw_comes (l : Launch) : Comes l x (Jvm.Cond.code x code maxLocals ret :: tables_1) room_1 (fun tb e args s => Calls_1 tb e args s ∧ rest_1 tb e args s ∧ Pre_1 tb e args s)
    (fun _ _ args s o t => lw_Q args s o t) := by
  intro p e ha hc hk s m args below hf hfit hheap happ hpre
  obtain ⟨b, xs, hP⟩ := lw_pre_spec hpre.2.2 hpre.2.1
  obtain ⟨k, o, h1, h2, h3, hQ⟩ := lw_walk l b xs p e ha hc hk s m args below hf ((Spec.applies_iff_loose hf).mp happ).1 hP trivial
  exact ⟨k, o, h1, h2, h3, hQ⟩
theorem lw_frame {s t : State} {o : Outcome} {args : Array Value} (h : Framed s o t [] 600000 7290000) :
    Framed s o t (fieldLocs frame_1_writes args s ++ arrayLocs frame_1_arrays args s ++ staticLocs frame_1_statics s) 600000 7290000 := h
theorem lw_limb (L : Cond) (hL : ∀ (args : Array Value) (s t : State), L.after args s (.returned (some (.int 1))) t = true) :
    ArmFor flags0 classFile x code maxLocals ret World_1 tables_1 room_1 Calls_1 rest_1 Pre_1
      (fun tb e a s o t => postC L tb e a s o t ∧ Framed s o t (fieldLocs frame_1_writes a s ++ arrayLocs frame_1_arrays a s ++ staticLocs frame_1_statics s) 600000 7290000) := by
  intro l _ _ _ p e ha hc hk s m args below hf hfit hheap happ hpre
  obtain ⟨k, o, h1, h2, h3, rfl, hF⟩ := lw_comes l p e ha hc hk s m args below hf hfit hheap happ hpre
  exact ⟨k, _, h1, h2, h3, hL args s _, lw_frame hF⟩
theorem i_vc : Claimed_1_1 ∧ Claimed_1_2 := ⟨lw_limb limb_1_1 (fun args s t => by simp [limb_1_1, Cond.after, Cond.holds, Cond.value]), lw_limb limb_1_2 (fun args s t => Cond.after_iff.mpr (by
  first | (rw [show limb_1_2 = Cond.eq .result (.int 1) from rfl, Cond.eq_ints (x := 1) (y := 1) rfl rfl]; simp; done) | (simp [limb_1_2, Cond.value, Term.eval]; done)))⟩
end
