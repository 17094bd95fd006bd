section
-- ===== PART A: goes FIRST, ahead of the names: the tables' words, and 'selects' of the private methods out of them =====
/-- a private method of a class that the tables say can be made, by its rows of tables_1 -/
def lw_okq (q : MethodName × Nat) : Prop := (q.1.cls ≠ "java/lang/invoke/MethodHandle" ∧ q.1.cls ≠ "java/lang/invoke/VarHandle") ∧ Cond.instantiable q.1.cls q.2 ∈ tables_1 ∧ Cond.privateMethod q.1 ∈ tables_1 ∧ Cond.instanceMethod q.1 ∈ tables_1
set_option maxRecDepth 100000
theorem lw_t1 {w : Cond} (h : w ∈ tables_1_1) : w ∈ tables_1 := List.mem_append_left _ h
theorem lw_t2 {w : Cond} (h : w ∈ tables_1_2) : w ∈ tables_1 := List.mem_append_right _ h
theorem lw_p0 : lw_okq (⟨"ModelCounter", "countAllowed", "(II)I"⟩, 21) := ⟨⟨by decide +kernel, by decide +kernel⟩, lw_t1 (List.mem_of_getElem? (i := 4) rfl), lw_t1 (List.mem_of_getElem? (i := 105) rfl), lw_t1 (List.mem_of_getElem? (i := 106) rfl)⟩
theorem lw_p1 : lw_okq (⟨"ModelCounter", "allow", "(II)V"⟩, 21) := ⟨⟨by decide +kernel, by decide +kernel⟩, lw_t1 (List.mem_of_getElem? (i := 4) rfl), lw_t1 (List.mem_of_getElem? (i := 109) rfl), lw_t1 (List.mem_of_getElem? (i := 110) rfl)⟩
theorem lw_p2 : lw_okq (⟨"ModelCounter", "pass", "()I"⟩, 21) := ⟨⟨by decide +kernel, by decide +kernel⟩, lw_t1 (List.mem_of_getElem? (i := 4) rfl), lw_t1 (List.mem_of_getElem? (i := 113) rfl), lw_t1 (List.mem_of_getElem? (i := 114) rfl)⟩
theorem lw_p3 : lw_okq (⟨"ModelCounter", "build", "()V"⟩, 21) := ⟨⟨by decide +kernel, by decide +kernel⟩, lw_t1 (List.mem_of_getElem? (i := 4) rfl), lw_t1 (List.mem_of_getElem? (i := 117) rfl), lw_t1 (List.mem_of_getElem? (i := 118) rfl)⟩
theorem lw_p4 : lw_okq (⟨"ModelCounter", "nodeFor", "(II)I"⟩, 21) := ⟨⟨by decide +kernel, by decide +kernel⟩, lw_t1 (List.mem_of_getElem? (i := 4) rfl), lw_t1 (List.mem_of_getElem? (i := 121) rfl), lw_t1 (List.mem_of_getElem? (i := 122) rfl)⟩
theorem lw_p5 : lw_okq (⟨"ModelCounter", "sizeOf", "(I)I"⟩, 21) := ⟨⟨by decide +kernel, by decide +kernel⟩, lw_t1 (List.mem_of_getElem? (i := 4) rfl), lw_t1 (List.mem_of_getElem? (i := 126) rfl), lw_t1 (List.mem_of_getElem? (i := 127) rfl)⟩
theorem lw_p6 : lw_okq (⟨"ModelCounter", "workOut", "(I)V"⟩, 21) := ⟨⟨by decide +kernel, by decide +kernel⟩, lw_t1 (List.mem_of_getElem? (i := 4) rfl), lw_t1 (List.mem_of_getElem? (i := 130) rfl), lw_t1 (List.mem_of_getElem? (i := 131) rfl)⟩
theorem lw_p7 : lw_okq (⟨"ModelCounter", "hasEmpty", "(II)Z"⟩, 21) := ⟨⟨by decide +kernel, by decide +kernel⟩, lw_t1 (List.mem_of_getElem? (i := 4) rfl), lw_t1 (List.mem_of_getElem? (i := 134) rfl), lw_t1 (List.mem_of_getElem? (i := 135) rfl)⟩
theorem lw_p8 : lw_okq (⟨"ModelCounter", "literalsOf", "(I)I"⟩, 21) := ⟨⟨by decide +kernel, by decide +kernel⟩, lw_t1 (List.mem_of_getElem? (i := 4) rfl), lw_t1 (List.mem_of_getElem? (i := 138) rfl), lw_t1 (List.mem_of_getElem? (i := 139) rfl)⟩
theorem lw_p9 : lw_okq (⟨"ModelCounter", "together", "(II)I"⟩, 21) := ⟨⟨by decide +kernel, by decide +kernel⟩, lw_t1 (List.mem_of_getElem? (i := 4) rfl), lw_t1 (List.mem_of_getElem? (i := 142) rfl), lw_t1 (List.mem_of_getElem? (i := 143) rfl)⟩
theorem lw_p10 : lw_okq (⟨"ModelCounter", "clausesWith", "(II)I"⟩, 21) := ⟨⟨by decide +kernel, by decide +kernel⟩, lw_t1 (List.mem_of_getElem? (i := 4) rfl), lw_t1 (List.mem_of_getElem? (i := 146) rfl), lw_t1 (List.mem_of_getElem? (i := 147) rfl)⟩
theorem lw_p11 : lw_okq (⟨"ModelCounter", "busiest", "(II)I"⟩, 21) := ⟨⟨by decide +kernel, by decide +kernel⟩, lw_t1 (List.mem_of_getElem? (i := 4) rfl), lw_t1 (List.mem_of_getElem? (i := 150) rfl), lw_t1 (List.mem_of_getElem? (i := 151) rfl)⟩
theorem lw_p12 : lw_okq (⟨"ModelCounter", "clausesLeft", "(IIZ)I"⟩, 21) := ⟨⟨by decide +kernel, by decide +kernel⟩, lw_t1 (List.mem_of_getElem? (i := 4) rfl), lw_t1 (List.mem_of_getElem? (i := 154) rfl), lw_t1 (List.mem_of_getElem? (i := 155) rfl)⟩
theorem lw_p13 : lw_okq (⟨"ModelCounter", "evaluated", "(I)I"⟩, 21) := ⟨⟨by decide +kernel, by decide +kernel⟩, lw_t1 (List.mem_of_getElem? (i := 4) rfl), lw_t1 (List.mem_of_getElem? (i := 158) rfl), lw_t1 (List.mem_of_getElem? (i := 159) rfl)⟩
theorem lw_p14 : lw_okq (⟨"ModelCounter", "badSet", "(I)Z"⟩, 21) := ⟨⟨by decide +kernel, by decide +kernel⟩, lw_t1 (List.mem_of_getElem? (i := 4) rfl), lw_t1 (List.mem_of_getElem? (i := 166) rfl), lw_t1 (List.mem_of_getElem? (i := 167) rfl)⟩
theorem lw_p15 : lw_okq (⟨"ModelCounter", "passSizes", "()V"⟩, 21) := ⟨⟨by decide +kernel, by decide +kernel⟩, lw_t1 (List.mem_of_getElem? (i := 4) rfl), lw_t1 (List.mem_of_getElem? (i := 174) rfl), lw_t1 (List.mem_of_getElem? (i := 175) rfl)⟩
def lw_privs_1 : List (MethodName × Nat) := [(⟨"ModelCounter", "countAllowed", "(II)I"⟩, 21), (⟨"ModelCounter", "allow", "(II)V"⟩, 21), (⟨"ModelCounter", "pass", "()I"⟩, 21), (⟨"ModelCounter", "build", "()V"⟩, 21), (⟨"ModelCounter", "nodeFor", "(II)I"⟩, 21), (⟨"ModelCounter", "sizeOf", "(I)I"⟩, 21), (⟨"ModelCounter", "workOut", "(I)V"⟩, 21), (⟨"ModelCounter", "hasEmpty", "(II)Z"⟩, 21), (⟨"ModelCounter", "literalsOf", "(I)I"⟩, 21), (⟨"ModelCounter", "together", "(II)I"⟩, 21), (⟨"ModelCounter", "clausesWith", "(II)I"⟩, 21), (⟨"ModelCounter", "busiest", "(II)I"⟩, 21), (⟨"ModelCounter", "clausesLeft", "(IIZ)I"⟩, 21), (⟨"ModelCounter", "evaluated", "(I)I"⟩, 21), (⟨"ModelCounter", "badSet", "(I)Z"⟩, 21), (⟨"ModelCounter", "passSizes", "()V"⟩, 21)]
theorem lw_r1 : ∀ q ∈ lw_privs_1, lw_okq q := List.forall_mem_cons.mpr ⟨lw_p0, List.forall_mem_cons.mpr ⟨lw_p1, List.forall_mem_cons.mpr ⟨lw_p2, List.forall_mem_cons.mpr ⟨lw_p3, List.forall_mem_cons.mpr ⟨lw_p4, List.forall_mem_cons.mpr ⟨lw_p5, List.forall_mem_cons.mpr ⟨lw_p6, List.forall_mem_cons.mpr ⟨lw_p7, List.forall_mem_cons.mpr ⟨lw_p8, List.forall_mem_cons.mpr ⟨lw_p9, List.forall_mem_cons.mpr ⟨lw_p10, List.forall_mem_cons.mpr ⟨lw_p11, List.forall_mem_cons.mpr ⟨lw_p12, List.forall_mem_cons.mpr ⟨lw_p13, List.forall_mem_cons.mpr ⟨lw_p14, List.forall_mem_cons.mpr ⟨lw_p15, fun _ h => absurd h List.not_mem_nil⟩⟩⟩⟩⟩⟩⟩⟩⟩⟩⟩⟩⟩⟩⟩⟩
theorem lw_p16 : lw_okq (⟨"ModelCounter", "sizes", "(I)V"⟩, 21) := ⟨⟨by decide +kernel, by decide +kernel⟩, lw_t1 (List.mem_of_getElem? (i := 4) rfl), lw_t1 (List.mem_of_getElem? (i := 178) rfl), lw_t1 (List.mem_of_getElem? (i := 179) rfl)⟩
theorem lw_p17 : lw_okq (⟨"ModelCounter", "weigh", "()V"⟩, 21) := ⟨⟨by decide +kernel, by decide +kernel⟩, lw_t1 (List.mem_of_getElem? (i := 4) rfl), lw_t1 (List.mem_of_getElem? (i := 186) rfl), lw_t1 (List.mem_of_getElem? (i := 187) rfl)⟩
theorem lw_p18 : lw_okq (⟨"ModelCounter", "countWithout", "(I)I"⟩, 21) := ⟨⟨by decide +kernel, by decide +kernel⟩, lw_t1 (List.mem_of_getElem? (i := 4) rfl), lw_t1 (List.mem_of_getElem? (i := 219) rfl), lw_t1 (List.mem_of_getElem? (i := 220) rfl)⟩
theorem lw_p19 : lw_okq (⟨"ModelCounterModel", "makesTrue", "(I)Z"⟩, 4) := ⟨⟨by decide +kernel, by decide +kernel⟩, lw_t1 (List.mem_of_getElem? (i := 227) rfl), lw_t2 (List.mem_of_getElem? (i := 38) rfl), lw_t2 (List.mem_of_getElem? (i := 39) rfl)⟩
theorem lw_p20 : lw_okq (⟨"ModelCounterModel", "isTrue", "(II)Z"⟩, 4) := ⟨⟨by decide +kernel, by decide +kernel⟩, lw_t1 (List.mem_of_getElem? (i := 227) rfl), lw_t2 (List.mem_of_getElem? (i := 42) rfl), lw_t2 (List.mem_of_getElem? (i := 43) rfl)⟩
theorem lw_p21 : lw_okq (⟨"ModelCounterModel", "truth", "(II)I"⟩, 4) := ⟨⟨by decide +kernel, by decide +kernel⟩, lw_t1 (List.mem_of_getElem? (i := 227) rfl), lw_t2 (List.mem_of_getElem? (i := 46) rfl), lw_t2 (List.mem_of_getElem? (i := 47) rfl)⟩
theorem lw_p22 : lw_okq (⟨"ModelCounterModel", "sizeOf", "(I)I"⟩, 4) := ⟨⟨by decide +kernel, by decide +kernel⟩, lw_t1 (List.mem_of_getElem? (i := 227) rfl), lw_t2 (List.mem_of_getElem? (i := 58) rfl), lw_t2 (List.mem_of_getElem? (i := 59) rfl)⟩
theorem lw_p23 : lw_okq (⟨"ModelCounterModel", "weightOf", "(I)I"⟩, 4) := ⟨⟨by decide +kernel, by decide +kernel⟩, lw_t1 (List.mem_of_getElem? (i := 227) rfl), lw_t2 (List.mem_of_getElem? (i := 70) rfl), lw_t2 (List.mem_of_getElem? (i := 71) rfl)⟩
theorem lw_p24 : lw_okq (⟨"ModelCounterModel", "isIdle", "(I)Z"⟩, 4) := ⟨⟨by decide +kernel, by decide +kernel⟩, lw_t1 (List.mem_of_getElem? (i := 227) rfl), lw_t2 (List.mem_of_getElem? (i := 96) rfl), lw_t2 (List.mem_of_getElem? (i := 97) rfl)⟩
def lw_privs_2 : List (MethodName × Nat) := [(⟨"ModelCounter", "sizes", "(I)V"⟩, 21), (⟨"ModelCounter", "weigh", "()V"⟩, 21), (⟨"ModelCounter", "countWithout", "(I)I"⟩, 21), (⟨"ModelCounterModel", "makesTrue", "(I)Z"⟩, 4), (⟨"ModelCounterModel", "isTrue", "(II)Z"⟩, 4), (⟨"ModelCounterModel", "truth", "(II)I"⟩, 4), (⟨"ModelCounterModel", "sizeOf", "(I)I"⟩, 4), (⟨"ModelCounterModel", "weightOf", "(I)I"⟩, 4), (⟨"ModelCounterModel", "isIdle", "(I)Z"⟩, 4)]
theorem lw_r2 : ∀ q ∈ lw_privs_2, lw_okq q := List.forall_mem_cons.mpr ⟨lw_p16, List.forall_mem_cons.mpr ⟨lw_p17, List.forall_mem_cons.mpr ⟨lw_p18, List.forall_mem_cons.mpr ⟨lw_p19, List.forall_mem_cons.mpr ⟨lw_p20, List.forall_mem_cons.mpr ⟨lw_p21, List.forall_mem_cons.mpr ⟨lw_p22, List.forall_mem_cons.mpr ⟨lw_p23, List.forall_mem_cons.mpr ⟨lw_p24, fun _ h => absurd h List.not_mem_nil⟩⟩⟩⟩⟩⟩⟩⟩⟩
def lw_privs : List (MethodName × Nat) := lw_privs_1 ++ (lw_privs_2)
def lw_tbl : List Cond := k2_sels lw_privs ++ tables_1
theorem lw_privs_ok : ∀ q ∈ lw_privs, lw_okq q := by
  show ∀ q ∈ lw_privs_1 ++ (lw_privs_2), lw_okq q
  exact List.forall_mem_append.mpr ⟨lw_r1, lw_r2⟩
-- ===== ONE list of words for every method: the tables' words that hold all through a run =====
def lw_all : List Cond := lw_tbl.filter goodWord
/-- a word of the tables by its place: claim/WORDS.tsv -/
theorem lw_w {w : Cond} (i : Nat) (h : lw_tbl[i]? = some w) (g : goodWord w = true) : w ∈ lw_all := List.mem_filter.mpr ⟨List.mem_of_getElem? h, g⟩
theorem lw_all_tbl {w : Cond} (h : w ∈ lw_all) : w ∈ lw_tbl := (List.mem_filter.mp h).1
theorem lw_self : GoodIn lw_all lw_all := fun w h => ⟨h, good_of_word (List.mem_filter.mp h).2⟩
/-- a class's field words, by their places -/
theorem lw_in (ws : List Cond) (ps : List Nat) (hp : ws = ps.filterMap (fun i => lw_tbl[i]?)) (hg : ws.all goodWord = true) : ∀ w ∈ ws, w ∈ lw_all := by
  intro w h
  have h1 := List.all_eq_true.mp hg w h
  rw [hp] at h
  obtain ⟨i, -, hi⟩ := List.mem_filterMap.mp h
  exact lw_w i hi h1
/-- the words of a contract for the method y with code b, L locals, answer r -/
abbrev ws_ (y : MethodName) (b : ByteArray) (L : Nat) (r : Option FieldType) : List Cond := Cond.code y b L r :: lw_all
theorem lw_meth {y : MethodName} {b : ByteArray} {L : Nat} {r : Option FieldType} (h : Cond.code y b L r ∈ lw_all) : GoodIn lw_all (ws_ y b L r) := by
  intro w hw
  rcases List.mem_cons.mp hw with e | e
  · rw [e]
    exact lw_self _ h
  · exact lw_self _ e
theorem lw_app {a c : List Cond} (ha : ∀ w ∈ a, w ∈ lw_all) (hc : GoodIn lw_all c) : GoodIn lw_all (a ++ c) := by
  intro w hw
  rcases List.mem_append.mp hw with e | e
  · exact lw_self w (ha w e)
  · exact hc w e
/-- what a call through an object asks: cwV n hts (lw_V ..) -/
theorem lw_V {own : String} {idx : Nat} {C : String} {y : MethodName} {b : ByteArray} {L : Nat} {r : Option FieldType} (h1 : Cond.methodLink own idx y ∈ lw_all) (h2 : Cond.instanceMethod y ∈ lw_all) (h3 : Cond.selects C y y ∈ lw_all) (h4 : Cond.initialized C ∈ lw_all) (h5 : Cond.code y b L r ∈ lw_all) : GoodIn lw_all (wsV own idx C y (ws_ y b L r)) := by
  refine lw_app ?_ (lw_meth h5)
  intro w hw
  simp only [List.mem_cons, List.not_mem_nil, or_false] at hw
  rcases hw with e | e | e | e
  · rw [e]; exact h1
  · rw [e]; exact h2
  · rw [e]; exact h3
  · rw [e]; exact h4
/-- what a static call asks: va_cwS n hts (lw_S ..) -/
theorem lw_S {own : String} {idx : Nat} {y : MethodName} {b : ByteArray} {L : Nat} {r : Option FieldType} (h1 : Cond.methodLink own idx y ∈ lw_all) (h2 : Cond.static y ∈ lw_all) (h3 : Cond.initialized y.cls ∈ lw_all) (h4 : Cond.code y b L r ∈ lw_all) : GoodIn lw_all (va_wsS own idx y (ws_ y b L r)) := by
  refine lw_app ?_ (lw_meth h4)
  intro w hw
  simp only [List.mem_cons, List.not_mem_nil, or_false] at hw
  rcases hw with e | e | e
  · rw [e]; exact h1
  · rw [e]; exact h2
  · rw [e]; exact h3
/-- the words of a contract for a method WITH HANDLERS (hh: its table) -/
abbrev wsW_ (y : MethodName) (b : ByteArray) (L : Nat) (r : Option FieldType) (hh : List (Nat × Nat × Nat × Nat)) : List Cond := Cond.codeWith y b L r hh :: lw_all
theorem lw_methW {y : MethodName} {b : ByteArray} {L : Nat} {r : Option FieldType} {hh : List (Nat × Nat × Nat × Nat)} (h : Cond.codeWith y b L r hh ∈ lw_all) : GoodIn lw_all (wsW_ y b L r hh) := by
  intro w hw
  rcases List.mem_cons.mp hw with e | e
  · rw [e]
    exact lw_self _ h
  · exact lw_self _ e
/-- any list of words by their places (lw_in), good -/
theorem lw_good {ws : List Cond} (h : ∀ w ∈ ws, w ∈ lw_all) : GoodIn lw_all ws := fun w hw => lw_self w (h w hw)
/-- what a call of a method with handlers asks: vx_cwVW n hts (lw_VW ..), vx_cwSW n hts (lw_SW ..) -/
theorem lw_VW {own : String} {idx : Nat} {C : String} {y : MethodName} {b : ByteArray} {L : Nat} {r : Option FieldType} {hh : List (Nat × Nat × Nat × Nat)} (h1 : Cond.methodLink own idx y ∈ lw_all) (h2 : Cond.instanceMethod y ∈ lw_all) (h3 : Cond.selects C y y ∈ lw_all) (h4 : Cond.initialized C ∈ lw_all) (h5 : Cond.codeWith y b L r hh ∈ lw_all) : GoodIn lw_all (wsV own idx C y (wsW_ y b L r hh)) := by
  refine lw_app ?_ (lw_methW h5)
  intro w hw
  simp only [List.mem_cons, List.not_mem_nil, or_false] at hw
  rcases hw with e | e | e | e
  · rw [e]; exact h1
  · rw [e]; exact h2
  · rw [e]; exact h3
  · rw [e]; exact h4
theorem lw_SW {own : String} {idx : Nat} {y : MethodName} {b : ByteArray} {L : Nat} {r : Option FieldType} {hh : List (Nat × Nat × Nat × Nat)} (h1 : Cond.methodLink own idx y ∈ lw_all) (h2 : Cond.static y ∈ lw_all) (h3 : Cond.initialized y.cls ∈ lw_all) (h4 : Cond.codeWith y b L r hh ∈ lw_all) : GoodIn lw_all (va_wsS own idx y (wsW_ y b L r hh)) := by
  refine lw_app ?_ (lw_methW h4)
  intro w hw
  simp only [List.mem_cons, List.not_mem_nil, or_false] at hw
  rcases hw with e | e | e
  · rw [e]; exact h1
  · rw [e]; exact h2
  · rw [e]; exact h3
/-- a word by its place in its run of the tables -/
theorem lw_at {r : List Cond} (hr : ∀ w ∈ r, w ∈ lw_tbl) {w : Cond} (i : Nat) (h : r[i]? = some w) : w ∈ lw_tbl := hr w (List.mem_of_getElem? h)
theorem lw_g {w : Cond} (h : w ∈ lw_tbl) (g : goodWord w = true) : w ∈ lw_all := List.mem_filter.mpr ⟨h, g⟩
theorem lw_ms : ∀ w ∈ k2_sels lw_privs, w ∈ lw_tbl := fun w h => show w ∈ k2_sels lw_privs ++ tables_1 from List.mem_append_left _ h
theorem lw_m1 : ∀ w ∈ tables_1_1, w ∈ lw_tbl := fun w h => show w ∈ k2_sels lw_privs ++ tables_1 from List.mem_append_right (k2_sels lw_privs) (show w ∈ tables_1 from List.mem_append_left _ h)
theorem lw_m2 : ∀ w ∈ tables_1_2, w ∈ lw_tbl := fun w h => show w ∈ k2_sels lw_privs ++ tables_1 from List.mem_append_right (k2_sels lw_privs) (show w ∈ tables_1 from List.mem_append_right _ h)
theorem qs0 : (Cond.selects "ModelCounter" ⟨"ModelCounter", "countAllowed", "(II)I"⟩ ⟨"ModelCounter", "countAllowed", "(II)I"⟩) ∈ lw_all := lw_g (lw_at lw_ms 0 rfl) rfl
theorem qs1 : (Cond.selects "ModelCounter" ⟨"ModelCounter", "allow", "(II)V"⟩ ⟨"ModelCounter", "allow", "(II)V"⟩) ∈ lw_all := lw_g (lw_at lw_ms 1 rfl) rfl
theorem qs2 : (Cond.selects "ModelCounter" ⟨"ModelCounter", "pass", "()I"⟩ ⟨"ModelCounter", "pass", "()I"⟩) ∈ lw_all := lw_g (lw_at lw_ms 2 rfl) rfl
theorem qs3 : (Cond.selects "ModelCounter" ⟨"ModelCounter", "build", "()V"⟩ ⟨"ModelCounter", "build", "()V"⟩) ∈ lw_all := lw_g (lw_at lw_ms 3 rfl) rfl
theorem qs4 : (Cond.selects "ModelCounter" ⟨"ModelCounter", "nodeFor", "(II)I"⟩ ⟨"ModelCounter", "nodeFor", "(II)I"⟩) ∈ lw_all := lw_g (lw_at lw_ms 4 rfl) rfl
theorem qs5 : (Cond.selects "ModelCounter" ⟨"ModelCounter", "sizeOf", "(I)I"⟩ ⟨"ModelCounter", "sizeOf", "(I)I"⟩) ∈ lw_all := lw_g (lw_at lw_ms 5 rfl) rfl
theorem qs6 : (Cond.selects "ModelCounter" ⟨"ModelCounter", "workOut", "(I)V"⟩ ⟨"ModelCounter", "workOut", "(I)V"⟩) ∈ lw_all := lw_g (lw_at lw_ms 6 rfl) rfl
theorem qs7 : (Cond.selects "ModelCounter" ⟨"ModelCounter", "hasEmpty", "(II)Z"⟩ ⟨"ModelCounter", "hasEmpty", "(II)Z"⟩) ∈ lw_all := lw_g (lw_at lw_ms 7 rfl) rfl
theorem qs8 : (Cond.selects "ModelCounter" ⟨"ModelCounter", "literalsOf", "(I)I"⟩ ⟨"ModelCounter", "literalsOf", "(I)I"⟩) ∈ lw_all := lw_g (lw_at lw_ms 8 rfl) rfl
theorem qs9 : (Cond.selects "ModelCounter" ⟨"ModelCounter", "together", "(II)I"⟩ ⟨"ModelCounter", "together", "(II)I"⟩) ∈ lw_all := lw_g (lw_at lw_ms 9 rfl) rfl
theorem qs10 : (Cond.selects "ModelCounter" ⟨"ModelCounter", "clausesWith", "(II)I"⟩ ⟨"ModelCounter", "clausesWith", "(II)I"⟩) ∈ lw_all := lw_g (lw_at lw_ms 10 rfl) rfl
theorem qs11 : (Cond.selects "ModelCounter" ⟨"ModelCounter", "busiest", "(II)I"⟩ ⟨"ModelCounter", "busiest", "(II)I"⟩) ∈ lw_all := lw_g (lw_at lw_ms 11 rfl) rfl
theorem qs12 : (Cond.selects "ModelCounter" ⟨"ModelCounter", "clausesLeft", "(IIZ)I"⟩ ⟨"ModelCounter", "clausesLeft", "(IIZ)I"⟩) ∈ lw_all := lw_g (lw_at lw_ms 12 rfl) rfl
theorem qs13 : (Cond.selects "ModelCounter" ⟨"ModelCounter", "evaluated", "(I)I"⟩ ⟨"ModelCounter", "evaluated", "(I)I"⟩) ∈ lw_all := lw_g (lw_at lw_ms 13 rfl) rfl
theorem qs14 : (Cond.selects "ModelCounter" ⟨"ModelCounter", "badSet", "(I)Z"⟩ ⟨"ModelCounter", "badSet", "(I)Z"⟩) ∈ lw_all := lw_g (lw_at lw_ms 14 rfl) rfl
theorem qs15 : (Cond.selects "ModelCounter" ⟨"ModelCounter", "passSizes", "()V"⟩ ⟨"ModelCounter", "passSizes", "()V"⟩) ∈ lw_all := lw_g (lw_at lw_ms 15 rfl) rfl
theorem qs16 : (Cond.selects "ModelCounter" ⟨"ModelCounter", "sizes", "(I)V"⟩ ⟨"ModelCounter", "sizes", "(I)V"⟩) ∈ lw_all := lw_g (lw_at lw_ms 16 rfl) rfl
theorem qs17 : (Cond.selects "ModelCounter" ⟨"ModelCounter", "weigh", "()V"⟩ ⟨"ModelCounter", "weigh", "()V"⟩) ∈ lw_all := lw_g (lw_at lw_ms 17 rfl) rfl
theorem qs18 : (Cond.selects "ModelCounter" ⟨"ModelCounter", "countWithout", "(I)I"⟩ ⟨"ModelCounter", "countWithout", "(I)I"⟩) ∈ lw_all := lw_g (lw_at lw_ms 18 rfl) rfl
theorem qs19 : (Cond.selects "ModelCounterModel" ⟨"ModelCounterModel", "makesTrue", "(I)Z"⟩ ⟨"ModelCounterModel", "makesTrue", "(I)Z"⟩) ∈ lw_all := lw_g (lw_at lw_ms 19 rfl) rfl
theorem qs20 : (Cond.selects "ModelCounterModel" ⟨"ModelCounterModel", "isTrue", "(II)Z"⟩ ⟨"ModelCounterModel", "isTrue", "(II)Z"⟩) ∈ lw_all := lw_g (lw_at lw_ms 20 rfl) rfl
theorem qs21 : (Cond.selects "ModelCounterModel" ⟨"ModelCounterModel", "truth", "(II)I"⟩ ⟨"ModelCounterModel", "truth", "(II)I"⟩) ∈ lw_all := lw_g (lw_at lw_ms 21 rfl) rfl
theorem qs22 : (Cond.selects "ModelCounterModel" ⟨"ModelCounterModel", "sizeOf", "(I)I"⟩ ⟨"ModelCounterModel", "sizeOf", "(I)I"⟩) ∈ lw_all := lw_g (lw_at lw_ms 22 rfl) rfl
theorem qs23 : (Cond.selects "ModelCounterModel" ⟨"ModelCounterModel", "weightOf", "(I)I"⟩ ⟨"ModelCounterModel", "weightOf", "(I)I"⟩) ∈ lw_all := lw_g (lw_at lw_ms 23 rfl) rfl
theorem qs24 : (Cond.selects "ModelCounterModel" ⟨"ModelCounterModel", "isIdle", "(I)Z"⟩ ⟨"ModelCounterModel", "isIdle", "(I)Z"⟩) ∈ lw_all := lw_g (lw_at lw_ms 24 rfl) rfl
end
section
set_option maxRecDepth 100000
/-! java/lang/Object -/
def RJ0 : String := "java/lang/Object"
abbrev cJ0_init : ByteArray := object_method_1_code
def yJ0_init : MethodName := ⟨RJ0, "<init>", "()V"⟩
theorem q34 : (Jvm.Cond.instanceMethod ({ cls := "java/lang/Object", name := "<init>", desc := "()V" } : Jvm.MethodName)) ∈ lw_all := lw_g (lw_at lw_m1 9 rfl) rfl
theorem q35 : (Jvm.Cond.code ({ cls := "java/lang/Object", name := "<init>", desc := "()V" } : Jvm.MethodName) object_method_1_code (1 : Nat) (Option.none : Option Jvm.ClassFile.FieldType)) ∈ lw_all := lw_g (lw_at lw_m1 10 rfl) rfl

theorem q100 : (Jvm.Cond.arrayClass Jvm.ClassFile.FieldType.int) ∈ lw_all := lw_g (lw_at lw_m1 75 rfl) rfl

/-! ModelCounter -/
def RX0 : String := "ModelCounter"
def TX0 : u_T := fun k => match k with
  | 0 => ("ModelCounter", "drafted", "I", false)
  | 1 => ("ModelCounter", "draft", "[I", true)
  | 2 => ("ModelCounter", "count", "I", false)
  | 3 => ("ModelCounter", "positive", "[I", true)
  | 4 => ("ModelCounter", "negative", "[I", true)
  | 5 => ("ModelCounter", "weightFalse", "[I", true)
  | 6 => ("ModelCounter", "weightTrue", "[I", true)
  | 7 => ("ModelCounter", "built", "Z", false)
  | 8 => ("ModelCounter", "nodes", "I", false)
  | 9 => ("ModelCounter", "nodeVariables", "[I", true)
  | 10 => ("ModelCounter", "nodeClauses", "[I", true)
  | 11 => ("ModelCounter", "nodeSize", "[I", true)
  | 12 => ("ModelCounter", "kind", "[I", true)
  | 13 => ("ModelCounter", "decided", "[I", true)
  | 14 => ("ModelCounter", "first", "[I", true)
  | 15 => ("ModelCounter", "second", "[I", true)
  | 16 => ("ModelCounter", "table", "[I", true)
  | 17 => ("ModelCounter", "value", "[I", true)
  | 18 => ("ModelCounter", "bySize", "[I", true)
  | 19 => ("ModelCounter", "ifFalse", "[I", true)
  | _ => ("ModelCounter", "ifTrue", "[I", true)
def tyX0 : Nat → FieldType := fun k => match k with
  | 0 => .int
  | 1 => .array .int
  | 2 => .int
  | 3 => .array .int
  | 4 => .array .int
  | 5 => .array .int
  | 6 => .array .int
  | 7 => .boolean
  | 8 => .int
  | 9 => .array .int
  | 10 => .array .int
  | 11 => .array .int
  | 12 => .array .int
  | 13 => .array .int
  | 14 => .array .int
  | 15 => .array .int
  | 16 => .array .int
  | 17 => .array .int
  | 18 => .array .int
  | 19 => .array .int
  | _ => .array .int
abbrev wsX00 : List Cond := u_ws RX0 TX0 21
set_option maxRecDepth 100000 in
theorem nmX0 : ∀ a, a < 21 → ∀ b, b < 21 → a ≠ b → (TX0 a).2.1 ≠ (TX0 b).2.1 := by decide +kernel
set_option maxRecDepth 100000 in
theorem tyX0_ok : ∀ k, k < 21 → parseFieldDescriptor (TX0 k).2.2.1 = some (tyX0 k) := by decide +kernel
abbrev cX0_init : ByteArray := prog_1_method_1_code
def yX0_init : MethodName := ⟨RX0, "<init>", "()V"⟩
abbrev cX0_literal : ByteArray := prog_1_method_2_code
def yX0_literal : MethodName := ⟨RX0, "literal", "(I)I"⟩
abbrev cX0_scrap : ByteArray := prog_1_method_3_code
def yX0_scrap : MethodName := ⟨RX0, "scrap", "()V"⟩
abbrev cX0_clause : ByteArray := prog_1_method_4_code
def yX0_clause : MethodName := ⟨RX0, "clause", "()I"⟩
abbrev cX0_unclause : ByteArray := prog_1_method_5_code
def yX0_unclause : MethodName := ⟨RX0, "unclause", "()I"⟩
abbrev cX0_clauses : ByteArray := prog_1_method_6_code
def yX0_clauses : MethodName := ⟨RX0, "clauses", "()I"⟩
abbrev cX0_weight : ByteArray := prog_1_method_7_code
def yX0_weight : MethodName := ⟨RX0, "weight", "(III)I"⟩
abbrev cX0_count : ByteArray := prog_1_method_24_code
def yX0_count : MethodName := ⟨RX0, "count", "()I"⟩
abbrev cX0_countAllowed : ByteArray := prog_1_method_21_code
def yX0_countAllowed : MethodName := ⟨RX0, "countAllowed", "(II)I"⟩
abbrev cX0_allow : ByteArray := prog_1_method_20_code
def yX0_allow : MethodName := ⟨RX0, "allow", "(II)V"⟩
abbrev cX0_pass : ByteArray := prog_1_method_19_code
def yX0_pass : MethodName := ⟨RX0, "pass", "()I"⟩
abbrev cX0_build : ByteArray := prog_1_method_16_code
def yX0_build : MethodName := ⟨RX0, "build", "()V"⟩
abbrev cX0_nodeFor : ByteArray := prog_1_method_8_code
def yX0_nodeFor : MethodName := ⟨RX0, "nodeFor", "(II)I"⟩
abbrev cX0_sizeOf : ByteArray := prog_1_method_17_code
def yX0_sizeOf : MethodName := ⟨RX0, "sizeOf", "(I)I"⟩
abbrev cX0_workOut : ByteArray := prog_1_method_15_code
def yX0_workOut : MethodName := ⟨RX0, "workOut", "(I)V"⟩
abbrev cX0_hasEmpty : ByteArray := prog_1_method_12_code
def yX0_hasEmpty : MethodName := ⟨RX0, "hasEmpty", "(II)Z"⟩
abbrev cX0_literalsOf : ByteArray := prog_1_method_9_code
def yX0_literalsOf : MethodName := ⟨RX0, "literalsOf", "(I)I"⟩
abbrev cX0_together : ByteArray := prog_1_method_10_code
def yX0_together : MethodName := ⟨RX0, "together", "(II)I"⟩
abbrev cX0_clausesWith : ByteArray := prog_1_method_11_code
def yX0_clausesWith : MethodName := ⟨RX0, "clausesWith", "(II)I"⟩
abbrev cX0_busiest : ByteArray := prog_1_method_13_code
def yX0_busiest : MethodName := ⟨RX0, "busiest", "(II)I"⟩
abbrev cX0_clausesLeft : ByteArray := prog_1_method_14_code
def yX0_clausesLeft : MethodName := ⟨RX0, "clausesLeft", "(IIZ)I"⟩
abbrev cX0_evaluated : ByteArray := prog_1_method_18_code
def yX0_evaluated : MethodName := ⟨RX0, "evaluated", "(I)I"⟩
abbrev cX0_countWith : ByteArray := prog_1_method_25_code
def yX0_countWith : MethodName := ⟨RX0, "countWith", "(II)I"⟩
abbrev cX0_badSet : ByteArray := prog_1_method_23_code
def yX0_badSet : MethodName := ⟨RX0, "badSet", "(I)Z"⟩
abbrev cX0_countSize : ByteArray := prog_1_method_28_code
def yX0_countSize : MethodName := ⟨RX0, "countSize", "(I)I"⟩
abbrev cX0_passSizes : ByteArray := prog_1_method_27_code
def yX0_passSizes : MethodName := ⟨RX0, "passSizes", "()V"⟩
abbrev cX0_sizes : ByteArray := prog_1_method_26_code
def yX0_sizes : MethodName := ⟨RX0, "sizes", "(I)V"⟩
abbrev cX0_weighted : ByteArray := prog_1_method_29_code
def yX0_weighted : MethodName := ⟨RX0, "weighted", "()I"⟩
abbrev cX0_weigh : ByteArray := prog_1_method_22_code
def yX0_weigh : MethodName := ⟨RX0, "weigh", "()V"⟩
abbrev cX0_share : ByteArray := prog_1_method_30_code
def yX0_share : MethodName := ⟨RX0, "share", "(II)I"⟩
abbrev cX0_model : ByteArray := prog_1_method_31_code
def yX0_model : MethodName := ⟨RX0, "model", "(I)I"⟩
abbrev cX0_rank : ByteArray := prog_1_method_32_code
def yX0_rank : MethodName := ⟨RX0, "rank", "(I)I"⟩
abbrev cX0_isModel : ByteArray := prog_1_method_33_code
def yX0_isModel : MethodName := ⟨RX0, "isModel", "(I)Z"⟩
abbrev cX0_alwaysTrue : ByteArray := prog_1_method_34_code
def yX0_alwaysTrue : MethodName := ⟨RX0, "alwaysTrue", "()I"⟩
abbrev cX0_alwaysFalse : ByteArray := prog_1_method_35_code
def yX0_alwaysFalse : MethodName := ⟨RX0, "alwaysFalse", "()I"⟩
abbrev cX0_idle : ByteArray := prog_1_method_36_code
def yX0_idle : MethodName := ⟨RX0, "idle", "()I"⟩
abbrev cX0_countWithout : ByteArray := prog_1_method_37_code
def yX0_countWithout : MethodName := ⟨RX0, "countWithout", "(I)I"⟩
abbrev cX0_leastTrue : ByteArray := prog_1_method_38_code
def yX0_leastTrue : MethodName := ⟨RX0, "leastTrue", "()I"⟩
theorem q26 : (Jvm.Cond.initialized "ModelCounter") ∈ lw_all := lw_g (lw_at lw_m1 1 rfl) rfl
theorem q29 : (Jvm.Cond.instantiable "ModelCounter" (21 : Nat)) ∈ lw_all := lw_g (lw_at lw_m1 4 rfl) rfl
theorem q31 : (Jvm.Cond.instanceMethod ({ cls := "ModelCounter", name := "<init>", desc := "()V" } : Jvm.MethodName)) ∈ lw_all := lw_g (lw_at lw_m1 6 rfl) rfl
theorem q32 : (Jvm.Cond.code ({ cls := "ModelCounter", name := "<init>", desc := "()V" } : Jvm.MethodName) prog_1_method_1_code (2 : Nat) (Option.none : Option Jvm.ClassFile.FieldType)) ∈ lw_all := lw_g (lw_at lw_m1 7 rfl) rfl
theorem q33 : (Jvm.Cond.methodLink "ModelCounter" (1 : Nat) ({ cls := "java/lang/Object", name := "<init>", desc := "()V" } : Jvm.MethodName)) ∈ lw_all := lw_g (lw_at lw_m1 8 rfl) rfl
theorem q36 : (Jvm.Cond.fieldLink "ModelCounter" (61 : Nat) "ModelCounter" "drafted" "I") ∈ lw_all := lw_g (lw_at lw_m1 11 rfl) rfl
theorem q37 : (Jvm.Cond.fieldLink "ModelCounter" (7 : Nat) "ModelCounter" "draft" "[I") ∈ lw_all := lw_g (lw_at lw_m1 12 rfl) rfl
theorem q38 : (Jvm.Cond.fieldLink "ModelCounter" (65 : Nat) "ModelCounter" "count" "I") ∈ lw_all := lw_g (lw_at lw_m1 13 rfl) rfl
theorem q39 : (Jvm.Cond.fieldLink "ModelCounter" (13 : Nat) "ModelCounter" "positive" "[I") ∈ lw_all := lw_g (lw_at lw_m1 14 rfl) rfl
theorem q40 : (Jvm.Cond.fieldLink "ModelCounter" (16 : Nat) "ModelCounter" "negative" "[I") ∈ lw_all := lw_g (lw_at lw_m1 15 rfl) rfl
theorem q41 : (Jvm.Cond.fieldLink "ModelCounter" (19 : Nat) "ModelCounter" "weightFalse" "[I") ∈ lw_all := lw_g (lw_at lw_m1 16 rfl) rfl
theorem q42 : (Jvm.Cond.fieldLink "ModelCounter" (22 : Nat) "ModelCounter" "weightTrue" "[I") ∈ lw_all := lw_g (lw_at lw_m1 17 rfl) rfl
theorem q43 : (Jvm.Cond.fieldLink "ModelCounter" (68 : Nat) "ModelCounter" "built" "Z") ∈ lw_all := lw_g (lw_at lw_m1 18 rfl) rfl
theorem q44 : (Jvm.Cond.fieldLink "ModelCounter" (73 : Nat) "ModelCounter" "nodes" "I") ∈ lw_all := lw_g (lw_at lw_m1 19 rfl) rfl
theorem q45 : (Jvm.Cond.fieldLink "ModelCounter" (25 : Nat) "ModelCounter" "nodeVariables" "[I") ∈ lw_all := lw_g (lw_at lw_m1 20 rfl) rfl
theorem q46 : (Jvm.Cond.fieldLink "ModelCounter" (28 : Nat) "ModelCounter" "nodeClauses" "[I") ∈ lw_all := lw_g (lw_at lw_m1 21 rfl) rfl
theorem q47 : (Jvm.Cond.fieldLink "ModelCounter" (31 : Nat) "ModelCounter" "nodeSize" "[I") ∈ lw_all := lw_g (lw_at lw_m1 22 rfl) rfl
theorem q48 : (Jvm.Cond.fieldLink "ModelCounter" (34 : Nat) "ModelCounter" "kind" "[I") ∈ lw_all := lw_g (lw_at lw_m1 23 rfl) rfl
theorem q49 : (Jvm.Cond.fieldLink "ModelCounter" (37 : Nat) "ModelCounter" "decided" "[I") ∈ lw_all := lw_g (lw_at lw_m1 24 rfl) rfl
theorem q50 : (Jvm.Cond.fieldLink "ModelCounter" (40 : Nat) "ModelCounter" "first" "[I") ∈ lw_all := lw_g (lw_at lw_m1 25 rfl) rfl
theorem q51 : (Jvm.Cond.fieldLink "ModelCounter" (43 : Nat) "ModelCounter" "second" "[I") ∈ lw_all := lw_g (lw_at lw_m1 26 rfl) rfl
theorem q52 : (Jvm.Cond.fieldLink "ModelCounter" (46 : Nat) "ModelCounter" "table" "[I") ∈ lw_all := lw_g (lw_at lw_m1 27 rfl) rfl
theorem q53 : (Jvm.Cond.fieldLink "ModelCounter" (49 : Nat) "ModelCounter" "value" "[I") ∈ lw_all := lw_g (lw_at lw_m1 28 rfl) rfl
theorem q54 : (Jvm.Cond.fieldLink "ModelCounter" (52 : Nat) "ModelCounter" "bySize" "[I") ∈ lw_all := lw_g (lw_at lw_m1 29 rfl) rfl
theorem q55 : (Jvm.Cond.fieldLink "ModelCounter" (55 : Nat) "ModelCounter" "ifFalse" "[I") ∈ lw_all := lw_g (lw_at lw_m1 30 rfl) rfl
theorem q56 : (Jvm.Cond.fieldLink "ModelCounter" (58 : Nat) "ModelCounter" "ifTrue" "[I") ∈ lw_all := lw_g (lw_at lw_m1 31 rfl) rfl
theorem q57 : (Jvm.Cond.lays "ModelCounter" "ModelCounter" "drafted" "I") ∈ lw_all := lw_g (lw_at lw_m1 32 rfl) rfl
theorem q58 : (Jvm.Cond.soleField "ModelCounter" "drafted") ∈ lw_all := lw_g (lw_at lw_m1 33 rfl) rfl
theorem q59 : (Jvm.Cond.laysFinal "ModelCounter" "ModelCounter" "draft" "[I") ∈ lw_all := lw_g (lw_at lw_m1 34 rfl) rfl
theorem q60 : (Jvm.Cond.soleField "ModelCounter" "draft") ∈ lw_all := lw_g (lw_at lw_m1 35 rfl) rfl
theorem q61 : (Jvm.Cond.lays "ModelCounter" "ModelCounter" "count" "I") ∈ lw_all := lw_g (lw_at lw_m1 36 rfl) rfl
theorem q62 : (Jvm.Cond.soleField "ModelCounter" "count") ∈ lw_all := lw_g (lw_at lw_m1 37 rfl) rfl
theorem q63 : (Jvm.Cond.laysFinal "ModelCounter" "ModelCounter" "positive" "[I") ∈ lw_all := lw_g (lw_at lw_m1 38 rfl) rfl
theorem q64 : (Jvm.Cond.soleField "ModelCounter" "positive") ∈ lw_all := lw_g (lw_at lw_m1 39 rfl) rfl
theorem q65 : (Jvm.Cond.laysFinal "ModelCounter" "ModelCounter" "negative" "[I") ∈ lw_all := lw_g (lw_at lw_m1 40 rfl) rfl
theorem q66 : (Jvm.Cond.soleField "ModelCounter" "negative") ∈ lw_all := lw_g (lw_at lw_m1 41 rfl) rfl
theorem q67 : (Jvm.Cond.laysFinal "ModelCounter" "ModelCounter" "weightFalse" "[I") ∈ lw_all := lw_g (lw_at lw_m1 42 rfl) rfl
theorem q68 : (Jvm.Cond.soleField "ModelCounter" "weightFalse") ∈ lw_all := lw_g (lw_at lw_m1 43 rfl) rfl
theorem q69 : (Jvm.Cond.laysFinal "ModelCounter" "ModelCounter" "weightTrue" "[I") ∈ lw_all := lw_g (lw_at lw_m1 44 rfl) rfl
theorem q70 : (Jvm.Cond.soleField "ModelCounter" "weightTrue") ∈ lw_all := lw_g (lw_at lw_m1 45 rfl) rfl
theorem q71 : (Jvm.Cond.lays "ModelCounter" "ModelCounter" "built" "Z") ∈ lw_all := lw_g (lw_at lw_m1 46 rfl) rfl
theorem q72 : (Jvm.Cond.soleField "ModelCounter" "built") ∈ lw_all := lw_g (lw_at lw_m1 47 rfl) rfl
theorem q73 : (Jvm.Cond.lays "ModelCounter" "ModelCounter" "nodes" "I") ∈ lw_all := lw_g (lw_at lw_m1 48 rfl) rfl
theorem q74 : (Jvm.Cond.soleField "ModelCounter" "nodes") ∈ lw_all := lw_g (lw_at lw_m1 49 rfl) rfl
theorem q75 : (Jvm.Cond.laysFinal "ModelCounter" "ModelCounter" "nodeVariables" "[I") ∈ lw_all := lw_g (lw_at lw_m1 50 rfl) rfl
theorem q76 : (Jvm.Cond.soleField "ModelCounter" "nodeVariables") ∈ lw_all := lw_g (lw_at lw_m1 51 rfl) rfl
theorem q77 : (Jvm.Cond.laysFinal "ModelCounter" "ModelCounter" "nodeClauses" "[I") ∈ lw_all := lw_g (lw_at lw_m1 52 rfl) rfl
theorem q78 : (Jvm.Cond.soleField "ModelCounter" "nodeClauses") ∈ lw_all := lw_g (lw_at lw_m1 53 rfl) rfl
theorem q79 : (Jvm.Cond.laysFinal "ModelCounter" "ModelCounter" "nodeSize" "[I") ∈ lw_all := lw_g (lw_at lw_m1 54 rfl) rfl
theorem q80 : (Jvm.Cond.soleField "ModelCounter" "nodeSize") ∈ lw_all := lw_g (lw_at lw_m1 55 rfl) rfl
theorem q81 : (Jvm.Cond.laysFinal "ModelCounter" "ModelCounter" "kind" "[I") ∈ lw_all := lw_g (lw_at lw_m1 56 rfl) rfl
theorem q82 : (Jvm.Cond.soleField "ModelCounter" "kind") ∈ lw_all := lw_g (lw_at lw_m1 57 rfl) rfl
theorem q83 : (Jvm.Cond.laysFinal "ModelCounter" "ModelCounter" "decided" "[I") ∈ lw_all := lw_g (lw_at lw_m1 58 rfl) rfl
theorem q84 : (Jvm.Cond.soleField "ModelCounter" "decided") ∈ lw_all := lw_g (lw_at lw_m1 59 rfl) rfl
theorem q85 : (Jvm.Cond.laysFinal "ModelCounter" "ModelCounter" "first" "[I") ∈ lw_all := lw_g (lw_at lw_m1 60 rfl) rfl
theorem q86 : (Jvm.Cond.soleField "ModelCounter" "first") ∈ lw_all := lw_g (lw_at lw_m1 61 rfl) rfl
theorem q87 : (Jvm.Cond.laysFinal "ModelCounter" "ModelCounter" "second" "[I") ∈ lw_all := lw_g (lw_at lw_m1 62 rfl) rfl
theorem q88 : (Jvm.Cond.soleField "ModelCounter" "second") ∈ lw_all := lw_g (lw_at lw_m1 63 rfl) rfl
theorem q89 : (Jvm.Cond.laysFinal "ModelCounter" "ModelCounter" "table" "[I") ∈ lw_all := lw_g (lw_at lw_m1 64 rfl) rfl
theorem q90 : (Jvm.Cond.soleField "ModelCounter" "table") ∈ lw_all := lw_g (lw_at lw_m1 65 rfl) rfl
theorem q91 : (Jvm.Cond.laysFinal "ModelCounter" "ModelCounter" "value" "[I") ∈ lw_all := lw_g (lw_at lw_m1 66 rfl) rfl
theorem q92 : (Jvm.Cond.soleField "ModelCounter" "value") ∈ lw_all := lw_g (lw_at lw_m1 67 rfl) rfl
theorem q93 : (Jvm.Cond.laysFinal "ModelCounter" "ModelCounter" "bySize" "[I") ∈ lw_all := lw_g (lw_at lw_m1 68 rfl) rfl
theorem q94 : (Jvm.Cond.soleField "ModelCounter" "bySize") ∈ lw_all := lw_g (lw_at lw_m1 69 rfl) rfl
theorem q95 : (Jvm.Cond.laysFinal "ModelCounter" "ModelCounter" "ifFalse" "[I") ∈ lw_all := lw_g (lw_at lw_m1 70 rfl) rfl
theorem q96 : (Jvm.Cond.soleField "ModelCounter" "ifFalse") ∈ lw_all := lw_g (lw_at lw_m1 71 rfl) rfl
theorem q97 : (Jvm.Cond.laysFinal "ModelCounter" "ModelCounter" "ifTrue" "[I") ∈ lw_all := lw_g (lw_at lw_m1 72 rfl) rfl
theorem q98 : (Jvm.Cond.soleField "ModelCounter" "ifTrue") ∈ lw_all := lw_g (lw_at lw_m1 73 rfl) rfl
theorem q99 : (Jvm.Cond.superclass "ModelCounter" "java/lang/Object") ∈ lw_all := lw_g (lw_at lw_m1 74 rfl) rfl
theorem q102 : (Jvm.Cond.instanceMethod ({ cls := "ModelCounter", name := "literal", desc := "(I)I" } : Jvm.MethodName)) ∈ lw_all := lw_g (lw_at lw_m1 77 rfl) rfl
theorem q103 : (Jvm.Cond.selects "ModelCounter" ({ cls := "ModelCounter", name := "literal", desc := "(I)I" } : Jvm.MethodName) ({ cls := "ModelCounter", name := "literal", desc := "(I)I" } : Jvm.MethodName)) ∈ lw_all := lw_g (lw_at lw_m1 78 rfl) rfl
theorem q104 : (Jvm.Cond.code ({ cls := "ModelCounter", name := "literal", desc := "(I)I" } : Jvm.MethodName) prog_1_method_2_code (2 : Nat) (Option.some Jvm.ClassFile.FieldType.int)) ∈ lw_all := lw_g (lw_at lw_m1 79 rfl) rfl
theorem q106 : (Jvm.Cond.instanceMethod ({ cls := "ModelCounter", name := "scrap", desc := "()V" } : Jvm.MethodName)) ∈ lw_all := lw_g (lw_at lw_m1 81 rfl) rfl
theorem q107 : (Jvm.Cond.selects "ModelCounter" ({ cls := "ModelCounter", name := "scrap", desc := "()V" } : Jvm.MethodName) ({ cls := "ModelCounter", name := "scrap", desc := "()V" } : Jvm.MethodName)) ∈ lw_all := lw_g (lw_at lw_m1 82 rfl) rfl
theorem q108 : (Jvm.Cond.code ({ cls := "ModelCounter", name := "scrap", desc := "()V" } : Jvm.MethodName) prog_1_method_3_code (1 : Nat) (Option.none : Option Jvm.ClassFile.FieldType)) ∈ lw_all := lw_g (lw_at lw_m1 83 rfl) rfl
theorem q110 : (Jvm.Cond.instanceMethod ({ cls := "ModelCounter", name := "clause", desc := "()I" } : Jvm.MethodName)) ∈ lw_all := lw_g (lw_at lw_m1 85 rfl) rfl
theorem q111 : (Jvm.Cond.selects "ModelCounter" ({ cls := "ModelCounter", name := "clause", desc := "()I" } : Jvm.MethodName) ({ cls := "ModelCounter", name := "clause", desc := "()I" } : Jvm.MethodName)) ∈ lw_all := lw_g (lw_at lw_m1 86 rfl) rfl
theorem q112 : (Jvm.Cond.code ({ cls := "ModelCounter", name := "clause", desc := "()I" } : Jvm.MethodName) prog_1_method_4_code (2 : Nat) (Option.some Jvm.ClassFile.FieldType.int)) ∈ lw_all := lw_g (lw_at lw_m1 87 rfl) rfl
theorem q114 : (Jvm.Cond.instanceMethod ({ cls := "ModelCounter", name := "unclause", desc := "()I" } : Jvm.MethodName)) ∈ lw_all := lw_g (lw_at lw_m1 89 rfl) rfl
theorem q115 : (Jvm.Cond.selects "ModelCounter" ({ cls := "ModelCounter", name := "unclause", desc := "()I" } : Jvm.MethodName) ({ cls := "ModelCounter", name := "unclause", desc := "()I" } : Jvm.MethodName)) ∈ lw_all := lw_g (lw_at lw_m1 90 rfl) rfl
theorem q116 : (Jvm.Cond.code ({ cls := "ModelCounter", name := "unclause", desc := "()I" } : Jvm.MethodName) prog_1_method_5_code (1 : Nat) (Option.some Jvm.ClassFile.FieldType.int)) ∈ lw_all := lw_g (lw_at lw_m1 91 rfl) rfl
theorem q118 : (Jvm.Cond.instanceMethod ({ cls := "ModelCounter", name := "clauses", desc := "()I" } : Jvm.MethodName)) ∈ lw_all := lw_g (lw_at lw_m1 93 rfl) rfl
theorem q119 : (Jvm.Cond.selects "ModelCounter" ({ cls := "ModelCounter", name := "clauses", desc := "()I" } : Jvm.MethodName) ({ cls := "ModelCounter", name := "clauses", desc := "()I" } : Jvm.MethodName)) ∈ lw_all := lw_g (lw_at lw_m1 94 rfl) rfl
theorem q120 : (Jvm.Cond.code ({ cls := "ModelCounter", name := "clauses", desc := "()I" } : Jvm.MethodName) prog_1_method_6_code (1 : Nat) (Option.some Jvm.ClassFile.FieldType.int)) ∈ lw_all := lw_g (lw_at lw_m1 95 rfl) rfl
theorem q122 : (Jvm.Cond.instanceMethod ({ cls := "ModelCounter", name := "weight", desc := "(III)I" } : Jvm.MethodName)) ∈ lw_all := lw_g (lw_at lw_m1 97 rfl) rfl
theorem q123 : (Jvm.Cond.selects "ModelCounter" ({ cls := "ModelCounter", name := "weight", desc := "(III)I" } : Jvm.MethodName) ({ cls := "ModelCounter", name := "weight", desc := "(III)I" } : Jvm.MethodName)) ∈ lw_all := lw_g (lw_at lw_m1 98 rfl) rfl
theorem q124 : (Jvm.Cond.code ({ cls := "ModelCounter", name := "weight", desc := "(III)I" } : Jvm.MethodName) prog_1_method_7_code (5 : Nat) (Option.some Jvm.ClassFile.FieldType.int)) ∈ lw_all := lw_g (lw_at lw_m1 99 rfl) rfl
theorem q126 : (Jvm.Cond.instanceMethod ({ cls := "ModelCounter", name := "count", desc := "()I" } : Jvm.MethodName)) ∈ lw_all := lw_g (lw_at lw_m1 101 rfl) rfl
theorem q127 : (Jvm.Cond.selects "ModelCounter" ({ cls := "ModelCounter", name := "count", desc := "()I" } : Jvm.MethodName) ({ cls := "ModelCounter", name := "count", desc := "()I" } : Jvm.MethodName)) ∈ lw_all := lw_g (lw_at lw_m1 102 rfl) rfl
theorem q128 : (Jvm.Cond.code ({ cls := "ModelCounter", name := "count", desc := "()I" } : Jvm.MethodName) prog_1_method_24_code (1 : Nat) (Option.some Jvm.ClassFile.FieldType.int)) ∈ lw_all := lw_g (lw_at lw_m1 103 rfl) rfl
theorem q129 : (Jvm.Cond.methodLink "ModelCounter" (122 : Nat) ({ cls := "ModelCounter", name := "countAllowed", desc := "(II)I" } : Jvm.MethodName)) ∈ lw_all := lw_g (lw_at lw_m1 104 rfl) rfl
theorem q130 : (Jvm.Cond.privateMethod ({ cls := "ModelCounter", name := "countAllowed", desc := "(II)I" } : Jvm.MethodName)) ∈ lw_tbl := lw_at lw_m1 105 rfl
theorem q131 : (Jvm.Cond.instanceMethod ({ cls := "ModelCounter", name := "countAllowed", desc := "(II)I" } : Jvm.MethodName)) ∈ lw_all := lw_g (lw_at lw_m1 106 rfl) rfl
theorem q132 : (Jvm.Cond.code ({ cls := "ModelCounter", name := "countAllowed", desc := "(II)I" } : Jvm.MethodName) prog_1_method_21_code (3 : Nat) (Option.some Jvm.ClassFile.FieldType.int)) ∈ lw_all := lw_g (lw_at lw_m1 107 rfl) rfl
theorem q133 : (Jvm.Cond.methodLink "ModelCounter" (114 : Nat) ({ cls := "ModelCounter", name := "allow", desc := "(II)V" } : Jvm.MethodName)) ∈ lw_all := lw_g (lw_at lw_m1 108 rfl) rfl
theorem q134 : (Jvm.Cond.privateMethod ({ cls := "ModelCounter", name := "allow", desc := "(II)V" } : Jvm.MethodName)) ∈ lw_tbl := lw_at lw_m1 109 rfl
theorem q135 : (Jvm.Cond.instanceMethod ({ cls := "ModelCounter", name := "allow", desc := "(II)V" } : Jvm.MethodName)) ∈ lw_all := lw_g (lw_at lw_m1 110 rfl) rfl
theorem q136 : (Jvm.Cond.code ({ cls := "ModelCounter", name := "allow", desc := "(II)V" } : Jvm.MethodName) prog_1_method_20_code (6 : Nat) (Option.none : Option Jvm.ClassFile.FieldType)) ∈ lw_all := lw_g (lw_at lw_m1 111 rfl) rfl
theorem q137 : (Jvm.Cond.methodLink "ModelCounter" (118 : Nat) ({ cls := "ModelCounter", name := "pass", desc := "()I" } : Jvm.MethodName)) ∈ lw_all := lw_g (lw_at lw_m1 112 rfl) rfl
theorem q138 : (Jvm.Cond.privateMethod ({ cls := "ModelCounter", name := "pass", desc := "()I" } : Jvm.MethodName)) ∈ lw_tbl := lw_at lw_m1 113 rfl
theorem q139 : (Jvm.Cond.instanceMethod ({ cls := "ModelCounter", name := "pass", desc := "()I" } : Jvm.MethodName)) ∈ lw_all := lw_g (lw_at lw_m1 114 rfl) rfl
theorem q140 : (Jvm.Cond.code ({ cls := "ModelCounter", name := "pass", desc := "()I" } : Jvm.MethodName) prog_1_method_19_code (3 : Nat) (Option.some Jvm.ClassFile.FieldType.int)) ∈ lw_all := lw_g (lw_at lw_m1 115 rfl) rfl
theorem q141 : (Jvm.Cond.methodLink "ModelCounter" (108 : Nat) ({ cls := "ModelCounter", name := "build", desc := "()V" } : Jvm.MethodName)) ∈ lw_all := lw_g (lw_at lw_m1 116 rfl) rfl
theorem q142 : (Jvm.Cond.privateMethod ({ cls := "ModelCounter", name := "build", desc := "()V" } : Jvm.MethodName)) ∈ lw_tbl := lw_at lw_m1 117 rfl
theorem q143 : (Jvm.Cond.instanceMethod ({ cls := "ModelCounter", name := "build", desc := "()V" } : Jvm.MethodName)) ∈ lw_all := lw_g (lw_at lw_m1 118 rfl) rfl
theorem q144 : (Jvm.Cond.code ({ cls := "ModelCounter", name := "build", desc := "()V" } : Jvm.MethodName) prog_1_method_16_code (2 : Nat) (Option.none : Option Jvm.ClassFile.FieldType)) ∈ lw_all := lw_g (lw_at lw_m1 119 rfl) rfl
theorem q145 : (Jvm.Cond.methodLink "ModelCounter" (94 : Nat) ({ cls := "ModelCounter", name := "nodeFor", desc := "(II)I" } : Jvm.MethodName)) ∈ lw_all := lw_g (lw_at lw_m1 120 rfl) rfl
theorem q146 : (Jvm.Cond.privateMethod ({ cls := "ModelCounter", name := "nodeFor", desc := "(II)I" } : Jvm.MethodName)) ∈ lw_tbl := lw_at lw_m1 121 rfl
theorem q147 : (Jvm.Cond.instanceMethod ({ cls := "ModelCounter", name := "nodeFor", desc := "(II)I" } : Jvm.MethodName)) ∈ lw_all := lw_g (lw_at lw_m1 122 rfl) rfl
theorem q148 : (Jvm.Cond.code ({ cls := "ModelCounter", name := "nodeFor", desc := "(II)I" } : Jvm.MethodName) prog_1_method_8_code (6 : Nat) (Option.some Jvm.ClassFile.FieldType.int)) ∈ lw_all := lw_g (lw_at lw_m1 123 rfl) rfl
theorem q149 : (Jvm.Cond.constant "ModelCounter" (72 : Nat) (2147483647 : Int32)) ∈ lw_all := lw_g (lw_at lw_m1 124 rfl) rfl
theorem q150 : (Jvm.Cond.methodLink "ModelCounter" (76 : Nat) ({ cls := "ModelCounter", name := "sizeOf", desc := "(I)I" } : Jvm.MethodName)) ∈ lw_all := lw_g (lw_at lw_m1 125 rfl) rfl
theorem q151 : (Jvm.Cond.privateMethod ({ cls := "ModelCounter", name := "sizeOf", desc := "(I)I" } : Jvm.MethodName)) ∈ lw_tbl := lw_at lw_m1 126 rfl
theorem q152 : (Jvm.Cond.instanceMethod ({ cls := "ModelCounter", name := "sizeOf", desc := "(I)I" } : Jvm.MethodName)) ∈ lw_all := lw_g (lw_at lw_m1 127 rfl) rfl
theorem q153 : (Jvm.Cond.code ({ cls := "ModelCounter", name := "sizeOf", desc := "(I)I" } : Jvm.MethodName) prog_1_method_17_code (4 : Nat) (Option.some Jvm.ClassFile.FieldType.int)) ∈ lw_all := lw_g (lw_at lw_m1 128 rfl) rfl
theorem q154 : (Jvm.Cond.methodLink "ModelCounter" (104 : Nat) ({ cls := "ModelCounter", name := "workOut", desc := "(I)V" } : Jvm.MethodName)) ∈ lw_all := lw_g (lw_at lw_m1 129 rfl) rfl
theorem q155 : (Jvm.Cond.privateMethod ({ cls := "ModelCounter", name := "workOut", desc := "(I)V" } : Jvm.MethodName)) ∈ lw_tbl := lw_at lw_m1 130 rfl
theorem q156 : (Jvm.Cond.instanceMethod ({ cls := "ModelCounter", name := "workOut", desc := "(I)V" } : Jvm.MethodName)) ∈ lw_all := lw_g (lw_at lw_m1 131 rfl) rfl
theorem q157 : (Jvm.Cond.code ({ cls := "ModelCounter", name := "workOut", desc := "(I)V" } : Jvm.MethodName) prog_1_method_15_code (10 : Nat) (Option.none : Option Jvm.ClassFile.FieldType)) ∈ lw_all := lw_g (lw_at lw_m1 132 rfl) rfl
theorem q158 : (Jvm.Cond.methodLink "ModelCounter" (83 : Nat) ({ cls := "ModelCounter", name := "hasEmpty", desc := "(II)Z" } : Jvm.MethodName)) ∈ lw_all := lw_g (lw_at lw_m1 133 rfl) rfl
theorem q159 : (Jvm.Cond.privateMethod ({ cls := "ModelCounter", name := "hasEmpty", desc := "(II)Z" } : Jvm.MethodName)) ∈ lw_tbl := lw_at lw_m1 134 rfl
theorem q160 : (Jvm.Cond.instanceMethod ({ cls := "ModelCounter", name := "hasEmpty", desc := "(II)Z" } : Jvm.MethodName)) ∈ lw_all := lw_g (lw_at lw_m1 135 rfl) rfl
theorem q161 : (Jvm.Cond.code ({ cls := "ModelCounter", name := "hasEmpty", desc := "(II)Z" } : Jvm.MethodName) prog_1_method_12_code (4 : Nat) (Option.some Jvm.ClassFile.FieldType.boolean)) ∈ lw_all := lw_g (lw_at lw_m1 136 rfl) rfl
theorem q162 : (Jvm.Cond.methodLink "ModelCounter" (80 : Nat) ({ cls := "ModelCounter", name := "literalsOf", desc := "(I)I" } : Jvm.MethodName)) ∈ lw_all := lw_g (lw_at lw_m1 137 rfl) rfl
theorem q163 : (Jvm.Cond.privateMethod ({ cls := "ModelCounter", name := "literalsOf", desc := "(I)I" } : Jvm.MethodName)) ∈ lw_tbl := lw_at lw_m1 138 rfl
theorem q164 : (Jvm.Cond.instanceMethod ({ cls := "ModelCounter", name := "literalsOf", desc := "(I)I" } : Jvm.MethodName)) ∈ lw_all := lw_g (lw_at lw_m1 139 rfl) rfl
theorem q165 : (Jvm.Cond.code ({ cls := "ModelCounter", name := "literalsOf", desc := "(I)I" } : Jvm.MethodName) prog_1_method_9_code (2 : Nat) (Option.some Jvm.ClassFile.FieldType.int)) ∈ lw_all := lw_g (lw_at lw_m1 140 rfl) rfl
theorem q166 : (Jvm.Cond.methodLink "ModelCounter" (87 : Nat) ({ cls := "ModelCounter", name := "together", desc := "(II)I" } : Jvm.MethodName)) ∈ lw_all := lw_g (lw_at lw_m1 141 rfl) rfl
theorem q167 : (Jvm.Cond.privateMethod ({ cls := "ModelCounter", name := "together", desc := "(II)I" } : Jvm.MethodName)) ∈ lw_tbl := lw_at lw_m1 142 rfl
theorem q168 : (Jvm.Cond.instanceMethod ({ cls := "ModelCounter", name := "together", desc := "(II)I" } : Jvm.MethodName)) ∈ lw_all := lw_g (lw_at lw_m1 143 rfl) rfl
theorem q169 : (Jvm.Cond.code ({ cls := "ModelCounter", name := "together", desc := "(II)I" } : Jvm.MethodName) prog_1_method_10_code (6 : Nat) (Option.some Jvm.ClassFile.FieldType.int)) ∈ lw_all := lw_g (lw_at lw_m1 144 rfl) rfl
theorem q170 : (Jvm.Cond.methodLink "ModelCounter" (91 : Nat) ({ cls := "ModelCounter", name := "clausesWith", desc := "(II)I" } : Jvm.MethodName)) ∈ lw_all := lw_g (lw_at lw_m1 145 rfl) rfl
theorem q171 : (Jvm.Cond.privateMethod ({ cls := "ModelCounter", name := "clausesWith", desc := "(II)I" } : Jvm.MethodName)) ∈ lw_tbl := lw_at lw_m1 146 rfl
theorem q172 : (Jvm.Cond.instanceMethod ({ cls := "ModelCounter", name := "clausesWith", desc := "(II)I" } : Jvm.MethodName)) ∈ lw_all := lw_g (lw_at lw_m1 147 rfl) rfl
theorem q173 : (Jvm.Cond.code ({ cls := "ModelCounter", name := "clausesWith", desc := "(II)I" } : Jvm.MethodName) prog_1_method_11_code (5 : Nat) (Option.some Jvm.ClassFile.FieldType.int)) ∈ lw_all := lw_g (lw_at lw_m1 148 rfl) rfl
theorem q174 : (Jvm.Cond.methodLink "ModelCounter" (97 : Nat) ({ cls := "ModelCounter", name := "busiest", desc := "(II)I" } : Jvm.MethodName)) ∈ lw_all := lw_g (lw_at lw_m1 149 rfl) rfl
theorem q175 : (Jvm.Cond.privateMethod ({ cls := "ModelCounter", name := "busiest", desc := "(II)I" } : Jvm.MethodName)) ∈ lw_tbl := lw_at lw_m1 150 rfl
theorem q176 : (Jvm.Cond.instanceMethod ({ cls := "ModelCounter", name := "busiest", desc := "(II)I" } : Jvm.MethodName)) ∈ lw_all := lw_g (lw_at lw_m1 151 rfl) rfl
theorem q177 : (Jvm.Cond.code ({ cls := "ModelCounter", name := "busiest", desc := "(II)I" } : Jvm.MethodName) prog_1_method_13_code (8 : Nat) (Option.some Jvm.ClassFile.FieldType.int)) ∈ lw_all := lw_g (lw_at lw_m1 152 rfl) rfl
theorem q178 : (Jvm.Cond.methodLink "ModelCounter" (100 : Nat) ({ cls := "ModelCounter", name := "clausesLeft", desc := "(IIZ)I" } : Jvm.MethodName)) ∈ lw_all := lw_g (lw_at lw_m1 153 rfl) rfl
theorem q179 : (Jvm.Cond.privateMethod ({ cls := "ModelCounter", name := "clausesLeft", desc := "(IIZ)I" } : Jvm.MethodName)) ∈ lw_tbl := lw_at lw_m1 154 rfl
theorem q180 : (Jvm.Cond.instanceMethod ({ cls := "ModelCounter", name := "clausesLeft", desc := "(IIZ)I" } : Jvm.MethodName)) ∈ lw_all := lw_g (lw_at lw_m1 155 rfl) rfl
theorem q181 : (Jvm.Cond.code ({ cls := "ModelCounter", name := "clausesLeft", desc := "(IIZ)I" } : Jvm.MethodName) prog_1_method_14_code (7 : Nat) (Option.some Jvm.ClassFile.FieldType.int)) ∈ lw_all := lw_g (lw_at lw_m1 156 rfl) rfl
theorem q182 : (Jvm.Cond.methodLink "ModelCounter" (111 : Nat) ({ cls := "ModelCounter", name := "evaluated", desc := "(I)I" } : Jvm.MethodName)) ∈ lw_all := lw_g (lw_at lw_m1 157 rfl) rfl
theorem q183 : (Jvm.Cond.privateMethod ({ cls := "ModelCounter", name := "evaluated", desc := "(I)I" } : Jvm.MethodName)) ∈ lw_tbl := lw_at lw_m1 158 rfl
theorem q184 : (Jvm.Cond.instanceMethod ({ cls := "ModelCounter", name := "evaluated", desc := "(I)I" } : Jvm.MethodName)) ∈ lw_all := lw_g (lw_at lw_m1 159 rfl) rfl
theorem q185 : (Jvm.Cond.code ({ cls := "ModelCounter", name := "evaluated", desc := "(I)I" } : Jvm.MethodName) prog_1_method_18_code (4 : Nat) (Option.some Jvm.ClassFile.FieldType.int)) ∈ lw_all := lw_g (lw_at lw_m1 160 rfl) rfl
theorem q187 : (Jvm.Cond.instanceMethod ({ cls := "ModelCounter", name := "countWith", desc := "(II)I" } : Jvm.MethodName)) ∈ lw_all := lw_g (lw_at lw_m1 162 rfl) rfl
theorem q188 : (Jvm.Cond.selects "ModelCounter" ({ cls := "ModelCounter", name := "countWith", desc := "(II)I" } : Jvm.MethodName) ({ cls := "ModelCounter", name := "countWith", desc := "(II)I" } : Jvm.MethodName)) ∈ lw_all := lw_g (lw_at lw_m1 163 rfl) rfl
theorem q189 : (Jvm.Cond.code ({ cls := "ModelCounter", name := "countWith", desc := "(II)I" } : Jvm.MethodName) prog_1_method_25_code (3 : Nat) (Option.some Jvm.ClassFile.FieldType.int)) ∈ lw_all := lw_g (lw_at lw_m1 164 rfl) rfl
theorem q190 : (Jvm.Cond.methodLink "ModelCounter" (125 : Nat) ({ cls := "ModelCounter", name := "badSet", desc := "(I)Z" } : Jvm.MethodName)) ∈ lw_all := lw_g (lw_at lw_m1 165 rfl) rfl
theorem q191 : (Jvm.Cond.privateMethod ({ cls := "ModelCounter", name := "badSet", desc := "(I)Z" } : Jvm.MethodName)) ∈ lw_tbl := lw_at lw_m1 166 rfl
theorem q192 : (Jvm.Cond.instanceMethod ({ cls := "ModelCounter", name := "badSet", desc := "(I)Z" } : Jvm.MethodName)) ∈ lw_all := lw_g (lw_at lw_m1 167 rfl) rfl
theorem q193 : (Jvm.Cond.code ({ cls := "ModelCounter", name := "badSet", desc := "(I)Z" } : Jvm.MethodName) prog_1_method_23_code (2 : Nat) (Option.some Jvm.ClassFile.FieldType.boolean)) ∈ lw_all := lw_g (lw_at lw_m1 168 rfl) rfl
theorem q195 : (Jvm.Cond.instanceMethod ({ cls := "ModelCounter", name := "countSize", desc := "(I)I" } : Jvm.MethodName)) ∈ lw_all := lw_g (lw_at lw_m1 170 rfl) rfl
theorem q196 : (Jvm.Cond.selects "ModelCounter" ({ cls := "ModelCounter", name := "countSize", desc := "(I)I" } : Jvm.MethodName) ({ cls := "ModelCounter", name := "countSize", desc := "(I)I" } : Jvm.MethodName)) ∈ lw_all := lw_g (lw_at lw_m1 171 rfl) rfl
theorem q197 : (Jvm.Cond.code ({ cls := "ModelCounter", name := "countSize", desc := "(I)I" } : Jvm.MethodName) prog_1_method_28_code (2 : Nat) (Option.some Jvm.ClassFile.FieldType.int)) ∈ lw_all := lw_g (lw_at lw_m1 172 rfl) rfl
theorem q198 : (Jvm.Cond.methodLink "ModelCounter" (132 : Nat) ({ cls := "ModelCounter", name := "passSizes", desc := "()V" } : Jvm.MethodName)) ∈ lw_all := lw_g (lw_at lw_m1 173 rfl) rfl
theorem q199 : (Jvm.Cond.privateMethod ({ cls := "ModelCounter", name := "passSizes", desc := "()V" } : Jvm.MethodName)) ∈ lw_tbl := lw_at lw_m1 174 rfl
theorem q200 : (Jvm.Cond.instanceMethod ({ cls := "ModelCounter", name := "passSizes", desc := "()V" } : Jvm.MethodName)) ∈ lw_all := lw_g (lw_at lw_m1 175 rfl) rfl
theorem q201 : (Jvm.Cond.code ({ cls := "ModelCounter", name := "passSizes", desc := "()V" } : Jvm.MethodName) prog_1_method_27_code (3 : Nat) (Option.none : Option Jvm.ClassFile.FieldType)) ∈ lw_all := lw_g (lw_at lw_m1 176 rfl) rfl
theorem q202 : (Jvm.Cond.methodLink "ModelCounter" (129 : Nat) ({ cls := "ModelCounter", name := "sizes", desc := "(I)V" } : Jvm.MethodName)) ∈ lw_all := lw_g (lw_at lw_m1 177 rfl) rfl
theorem q203 : (Jvm.Cond.privateMethod ({ cls := "ModelCounter", name := "sizes", desc := "(I)V" } : Jvm.MethodName)) ∈ lw_tbl := lw_at lw_m1 178 rfl
theorem q204 : (Jvm.Cond.instanceMethod ({ cls := "ModelCounter", name := "sizes", desc := "(I)V" } : Jvm.MethodName)) ∈ lw_all := lw_g (lw_at lw_m1 179 rfl) rfl
theorem q205 : (Jvm.Cond.code ({ cls := "ModelCounter", name := "sizes", desc := "(I)V" } : Jvm.MethodName) prog_1_method_26_code (5 : Nat) (Option.none : Option Jvm.ClassFile.FieldType)) ∈ lw_all := lw_g (lw_at lw_m1 180 rfl) rfl
theorem q207 : (Jvm.Cond.instanceMethod ({ cls := "ModelCounter", name := "weighted", desc := "()I" } : Jvm.MethodName)) ∈ lw_all := lw_g (lw_at lw_m1 182 rfl) rfl
theorem q208 : (Jvm.Cond.selects "ModelCounter" ({ cls := "ModelCounter", name := "weighted", desc := "()I" } : Jvm.MethodName) ({ cls := "ModelCounter", name := "weighted", desc := "()I" } : Jvm.MethodName)) ∈ lw_all := lw_g (lw_at lw_m1 183 rfl) rfl
theorem q209 : (Jvm.Cond.code ({ cls := "ModelCounter", name := "weighted", desc := "()I" } : Jvm.MethodName) prog_1_method_29_code (1 : Nat) (Option.some Jvm.ClassFile.FieldType.int)) ∈ lw_all := lw_g (lw_at lw_m1 184 rfl) rfl
theorem q210 : (Jvm.Cond.methodLink "ModelCounter" (135 : Nat) ({ cls := "ModelCounter", name := "weigh", desc := "()V" } : Jvm.MethodName)) ∈ lw_all := lw_g (lw_at lw_m1 185 rfl) rfl
theorem q211 : (Jvm.Cond.privateMethod ({ cls := "ModelCounter", name := "weigh", desc := "()V" } : Jvm.MethodName)) ∈ lw_tbl := lw_at lw_m1 186 rfl
theorem q212 : (Jvm.Cond.instanceMethod ({ cls := "ModelCounter", name := "weigh", desc := "()V" } : Jvm.MethodName)) ∈ lw_all := lw_g (lw_at lw_m1 187 rfl) rfl
theorem q213 : (Jvm.Cond.code ({ cls := "ModelCounter", name := "weigh", desc := "()V" } : Jvm.MethodName) prog_1_method_22_code (2 : Nat) (Option.none : Option Jvm.ClassFile.FieldType)) ∈ lw_all := lw_g (lw_at lw_m1 188 rfl) rfl
theorem q215 : (Jvm.Cond.instanceMethod ({ cls := "ModelCounter", name := "share", desc := "(II)I" } : Jvm.MethodName)) ∈ lw_all := lw_g (lw_at lw_m1 190 rfl) rfl
theorem q216 : (Jvm.Cond.selects "ModelCounter" ({ cls := "ModelCounter", name := "share", desc := "(II)I" } : Jvm.MethodName) ({ cls := "ModelCounter", name := "share", desc := "(II)I" } : Jvm.MethodName)) ∈ lw_all := lw_g (lw_at lw_m1 191 rfl) rfl
theorem q217 : (Jvm.Cond.code ({ cls := "ModelCounter", name := "share", desc := "(II)I" } : Jvm.MethodName) prog_1_method_30_code (3 : Nat) (Option.some Jvm.ClassFile.FieldType.int)) ∈ lw_all := lw_g (lw_at lw_m1 192 rfl) rfl
theorem q219 : (Jvm.Cond.instanceMethod ({ cls := "ModelCounter", name := "model", desc := "(I)I" } : Jvm.MethodName)) ∈ lw_all := lw_g (lw_at lw_m1 194 rfl) rfl
theorem q220 : (Jvm.Cond.selects "ModelCounter" ({ cls := "ModelCounter", name := "model", desc := "(I)I" } : Jvm.MethodName) ({ cls := "ModelCounter", name := "model", desc := "(I)I" } : Jvm.MethodName)) ∈ lw_all := lw_g (lw_at lw_m1 195 rfl) rfl
theorem q221 : (Jvm.Cond.code ({ cls := "ModelCounter", name := "model", desc := "(I)I" } : Jvm.MethodName) prog_1_method_31_code (8 : Nat) (Option.some Jvm.ClassFile.FieldType.int)) ∈ lw_all := lw_g (lw_at lw_m1 196 rfl) rfl
theorem q222 : (Jvm.Cond.methodLink "ModelCounter" (138 : Nat) ({ cls := "ModelCounter", name := "count", desc := "()I" } : Jvm.MethodName)) ∈ lw_all := lw_g (lw_at lw_m1 197 rfl) rfl
theorem q224 : (Jvm.Cond.instanceMethod ({ cls := "ModelCounter", name := "rank", desc := "(I)I" } : Jvm.MethodName)) ∈ lw_all := lw_g (lw_at lw_m1 199 rfl) rfl
theorem q225 : (Jvm.Cond.selects "ModelCounter" ({ cls := "ModelCounter", name := "rank", desc := "(I)I" } : Jvm.MethodName) ({ cls := "ModelCounter", name := "rank", desc := "(I)I" } : Jvm.MethodName)) ∈ lw_all := lw_g (lw_at lw_m1 200 rfl) rfl
theorem q226 : (Jvm.Cond.code ({ cls := "ModelCounter", name := "rank", desc := "(I)I" } : Jvm.MethodName) prog_1_method_32_code (6 : Nat) (Option.some Jvm.ClassFile.FieldType.int)) ∈ lw_all := lw_g (lw_at lw_m1 201 rfl) rfl
theorem q228 : (Jvm.Cond.instanceMethod ({ cls := "ModelCounter", name := "isModel", desc := "(I)Z" } : Jvm.MethodName)) ∈ lw_all := lw_g (lw_at lw_m1 203 rfl) rfl
theorem q229 : (Jvm.Cond.selects "ModelCounter" ({ cls := "ModelCounter", name := "isModel", desc := "(I)Z" } : Jvm.MethodName) ({ cls := "ModelCounter", name := "isModel", desc := "(I)Z" } : Jvm.MethodName)) ∈ lw_all := lw_g (lw_at lw_m1 204 rfl) rfl
theorem q230 : (Jvm.Cond.code ({ cls := "ModelCounter", name := "isModel", desc := "(I)Z" } : Jvm.MethodName) prog_1_method_33_code (2 : Nat) (Option.some Jvm.ClassFile.FieldType.boolean)) ∈ lw_all := lw_g (lw_at lw_m1 205 rfl) rfl
theorem q232 : (Jvm.Cond.instanceMethod ({ cls := "ModelCounter", name := "alwaysTrue", desc := "()I" } : Jvm.MethodName)) ∈ lw_all := lw_g (lw_at lw_m1 207 rfl) rfl
theorem q233 : (Jvm.Cond.selects "ModelCounter" ({ cls := "ModelCounter", name := "alwaysTrue", desc := "()I" } : Jvm.MethodName) ({ cls := "ModelCounter", name := "alwaysTrue", desc := "()I" } : Jvm.MethodName)) ∈ lw_all := lw_g (lw_at lw_m1 208 rfl) rfl
theorem q234 : (Jvm.Cond.code ({ cls := "ModelCounter", name := "alwaysTrue", desc := "()I" } : Jvm.MethodName) prog_1_method_34_code (5 : Nat) (Option.some Jvm.ClassFile.FieldType.int)) ∈ lw_all := lw_g (lw_at lw_m1 209 rfl) rfl
theorem q236 : (Jvm.Cond.instanceMethod ({ cls := "ModelCounter", name := "alwaysFalse", desc := "()I" } : Jvm.MethodName)) ∈ lw_all := lw_g (lw_at lw_m1 211 rfl) rfl
theorem q237 : (Jvm.Cond.selects "ModelCounter" ({ cls := "ModelCounter", name := "alwaysFalse", desc := "()I" } : Jvm.MethodName) ({ cls := "ModelCounter", name := "alwaysFalse", desc := "()I" } : Jvm.MethodName)) ∈ lw_all := lw_g (lw_at lw_m1 212 rfl) rfl
theorem q238 : (Jvm.Cond.code ({ cls := "ModelCounter", name := "alwaysFalse", desc := "()I" } : Jvm.MethodName) prog_1_method_35_code (5 : Nat) (Option.some Jvm.ClassFile.FieldType.int)) ∈ lw_all := lw_g (lw_at lw_m1 213 rfl) rfl
theorem q240 : (Jvm.Cond.instanceMethod ({ cls := "ModelCounter", name := "idle", desc := "()I" } : Jvm.MethodName)) ∈ lw_all := lw_g (lw_at lw_m1 215 rfl) rfl
theorem q241 : (Jvm.Cond.selects "ModelCounter" ({ cls := "ModelCounter", name := "idle", desc := "()I" } : Jvm.MethodName) ({ cls := "ModelCounter", name := "idle", desc := "()I" } : Jvm.MethodName)) ∈ lw_all := lw_g (lw_at lw_m1 216 rfl) rfl
theorem q242 : (Jvm.Cond.code ({ cls := "ModelCounter", name := "idle", desc := "()I" } : Jvm.MethodName) prog_1_method_36_code (5 : Nat) (Option.some Jvm.ClassFile.FieldType.int)) ∈ lw_all := lw_g (lw_at lw_m1 217 rfl) rfl
theorem q243 : (Jvm.Cond.methodLink "ModelCounter" (140 : Nat) ({ cls := "ModelCounter", name := "countWithout", desc := "(I)I" } : Jvm.MethodName)) ∈ lw_all := lw_g (lw_at lw_m1 218 rfl) rfl
theorem q244 : (Jvm.Cond.privateMethod ({ cls := "ModelCounter", name := "countWithout", desc := "(I)I" } : Jvm.MethodName)) ∈ lw_tbl := lw_at lw_m1 219 rfl
theorem q245 : (Jvm.Cond.instanceMethod ({ cls := "ModelCounter", name := "countWithout", desc := "(I)I" } : Jvm.MethodName)) ∈ lw_all := lw_g (lw_at lw_m1 220 rfl) rfl
theorem q246 : (Jvm.Cond.code ({ cls := "ModelCounter", name := "countWithout", desc := "(I)I" } : Jvm.MethodName) prog_1_method_37_code (7 : Nat) (Option.some Jvm.ClassFile.FieldType.int)) ∈ lw_all := lw_g (lw_at lw_m1 221 rfl) rfl
theorem q248 : (Jvm.Cond.instanceMethod ({ cls := "ModelCounter", name := "leastTrue", desc := "()I" } : Jvm.MethodName)) ∈ lw_all := lw_g (lw_at lw_m1 223 rfl) rfl
theorem q249 : (Jvm.Cond.selects "ModelCounter" ({ cls := "ModelCounter", name := "leastTrue", desc := "()I" } : Jvm.MethodName) ({ cls := "ModelCounter", name := "leastTrue", desc := "()I" } : Jvm.MethodName)) ∈ lw_all := lw_g (lw_at lw_m1 224 rfl) rfl
theorem q250 : (Jvm.Cond.code ({ cls := "ModelCounter", name := "leastTrue", desc := "()I" } : Jvm.MethodName) prog_1_method_38_code (2 : Nat) (Option.some Jvm.ClassFile.FieldType.int)) ∈ lw_all := lw_g (lw_at lw_m1 225 rfl) rfl
theorem in_X0 : ∀ w ∈ wsX00, w ∈ lw_all := lw_in wsX00 [57, 59, 61, 63, 65, 67, 69, 71, 73, 75, 77, 79, 81, 83, 85, 87, 89, 91, 93, 95, 97] (by decide +kernel) (by decide +kernel)

/-! ModelCounterModel -/
def RX1 : String := "ModelCounterModel"
def TX1 : u_T := fun k => match k with
  | 0 => ("ModelCounterModel", "literals", "[I", true)
  | 1 => ("ModelCounterModel", "sizes", "[I", true)
  | 2 => ("ModelCounterModel", "clauses", "I", false)
  | _ => ("ModelCounterModel", "weights", "[I", true)
def tyX1 : Nat → FieldType := fun k => match k with
  | 0 => .array .int
  | 1 => .array .int
  | 2 => .int
  | _ => .array .int
abbrev wsX10 : List Cond := u_ws RX1 TX1 4
theorem nmX1 : ∀ a, a < 4 → ∀ b, b < 4 → a ≠ b → (TX1 a).2.1 ≠ (TX1 b).2.1 := by decide +kernel
theorem tyX1_ok : ∀ k, k < 4 → parseFieldDescriptor (TX1 k).2.2.1 = some (tyX1 k) := by decide +kernel
abbrev cX1_init : ByteArray := prog_3_method_1_code
def yX1_init : MethodName := ⟨RX1, "<init>", "()V"⟩
abbrev cX1_literal : ByteArray := prog_3_method_2_code
def yX1_literal : MethodName := ⟨RX1, "literal", "(I)I"⟩
abbrev cX1_scrap : ByteArray := prog_3_method_3_code
def yX1_scrap : MethodName := ⟨RX1, "scrap", "()V"⟩
abbrev cX1_clause : ByteArray := prog_3_method_4_code
def yX1_clause : MethodName := ⟨RX1, "clause", "()I"⟩
abbrev cX1_unclause : ByteArray := prog_3_method_5_code
def yX1_unclause : MethodName := ⟨RX1, "unclause", "()I"⟩
abbrev cX1_clauses : ByteArray := prog_3_method_6_code
def yX1_clauses : MethodName := ⟨RX1, "clauses", "()I"⟩
abbrev cX1_weight : ByteArray := prog_3_method_7_code
def yX1_weight : MethodName := ⟨RX1, "weight", "(III)I"⟩
abbrev cX1_count : ByteArray := prog_3_method_11_code
def yX1_count : MethodName := ⟨RX1, "count", "()I"⟩
abbrev cX1_rank : ByteArray := prog_3_method_19_code
def yX1_rank : MethodName := ⟨RX1, "rank", "(I)I"⟩
abbrev cX1_makesTrue : ByteArray := prog_3_method_10_code
def yX1_makesTrue : MethodName := ⟨RX1, "makesTrue", "(I)Z"⟩
abbrev cX1_isTrue : ByteArray := prog_3_method_9_code
def yX1_isTrue : MethodName := ⟨RX1, "isTrue", "(II)Z"⟩
abbrev cX1_truth : ByteArray := prog_3_method_8_code
def yX1_truth : MethodName := ⟨RX1, "truth", "(II)I"⟩
abbrev cX1_countWith : ByteArray := prog_3_method_12_code
def yX1_countWith : MethodName := ⟨RX1, "countWith", "(II)I"⟩
abbrev cX1_countSize : ByteArray := prog_3_method_14_code
def yX1_countSize : MethodName := ⟨RX1, "countSize", "(I)I"⟩
abbrev cX1_sizeOf : ByteArray := prog_3_method_13_code
def yX1_sizeOf : MethodName := ⟨RX1, "sizeOf", "(I)I"⟩
abbrev cX1_weighted : ByteArray := prog_3_method_16_code
def yX1_weighted : MethodName := ⟨RX1, "weighted", "()I"⟩
abbrev cX1_share : ByteArray := prog_3_method_17_code
def yX1_share : MethodName := ⟨RX1, "share", "(II)I"⟩
abbrev cX1_weightOf : ByteArray := prog_3_method_15_code
def yX1_weightOf : MethodName := ⟨RX1, "weightOf", "(I)I"⟩
abbrev cX1_model : ByteArray := prog_3_method_18_code
def yX1_model : MethodName := ⟨RX1, "model", "(I)I"⟩
abbrev cX1_isModel : ByteArray := prog_3_method_20_code
def yX1_isModel : MethodName := ⟨RX1, "isModel", "(I)Z"⟩
abbrev cX1_alwaysTrue : ByteArray := prog_3_method_21_code
def yX1_alwaysTrue : MethodName := ⟨RX1, "alwaysTrue", "()I"⟩
abbrev cX1_alwaysFalse : ByteArray := prog_3_method_22_code
def yX1_alwaysFalse : MethodName := ⟨RX1, "alwaysFalse", "()I"⟩
abbrev cX1_idle : ByteArray := prog_3_method_24_code
def yX1_idle : MethodName := ⟨RX1, "idle", "()I"⟩
abbrev cX1_isIdle : ByteArray := prog_3_method_23_code
def yX1_isIdle : MethodName := ⟨RX1, "isIdle", "(I)Z"⟩
abbrev cX1_leastTrue : ByteArray := prog_3_method_25_code
def yX1_leastTrue : MethodName := ⟨RX1, "leastTrue", "()I"⟩
theorem q27 : (Jvm.Cond.initialized "ModelCounterModel") ∈ lw_all := lw_g (lw_at lw_m1 2 rfl) rfl
theorem q252 : (Jvm.Cond.instantiable "ModelCounterModel" (4 : Nat)) ∈ lw_all := lw_g (lw_at lw_m1 227 rfl) rfl
theorem q254 : (Jvm.Cond.instanceMethod ({ cls := "ModelCounterModel", name := "<init>", desc := "()V" } : Jvm.MethodName)) ∈ lw_all := lw_g (lw_at lw_m1 229 rfl) rfl
theorem q255 : (Jvm.Cond.code ({ cls := "ModelCounterModel", name := "<init>", desc := "()V" } : Jvm.MethodName) prog_3_method_1_code (2 : Nat) (Option.none : Option Jvm.ClassFile.FieldType)) ∈ lw_all := lw_g (lw_at lw_m1 230 rfl) rfl
theorem q256 : (Jvm.Cond.methodLink "ModelCounterModel" (1 : Nat) ({ cls := "java/lang/Object", name := "<init>", desc := "()V" } : Jvm.MethodName)) ∈ lw_all := lw_g (lw_at lw_m1 231 rfl) rfl
theorem q257 : (Jvm.Cond.fieldLink "ModelCounterModel" (7 : Nat) "ModelCounterModel" "literals" "[I") ∈ lw_all := lw_g (lw_at lw_m1 232 rfl) rfl
theorem q258 : (Jvm.Cond.fieldLink "ModelCounterModel" (13 : Nat) "ModelCounterModel" "sizes" "[I") ∈ lw_all := lw_g (lw_at lw_m1 233 rfl) rfl
theorem q259 : (Jvm.Cond.fieldLink "ModelCounterModel" (19 : Nat) "ModelCounterModel" "clauses" "I") ∈ lw_all := lw_g (lw_at lw_m1 234 rfl) rfl
theorem q260 : (Jvm.Cond.fieldLink "ModelCounterModel" (16 : Nat) "ModelCounterModel" "weights" "[I") ∈ lw_all := lw_g (lw_at lw_m1 235 rfl) rfl
theorem q261 : (Jvm.Cond.laysFinal "ModelCounterModel" "ModelCounterModel" "literals" "[I") ∈ lw_all := lw_g (lw_at lw_m1 236 rfl) rfl
theorem q262 : (Jvm.Cond.soleField "ModelCounterModel" "literals") ∈ lw_all := lw_g (lw_at lw_m1 237 rfl) rfl
theorem q263 : (Jvm.Cond.laysFinal "ModelCounterModel" "ModelCounterModel" "sizes" "[I") ∈ lw_all := lw_g (lw_at lw_m1 238 rfl) rfl
theorem q264 : (Jvm.Cond.soleField "ModelCounterModel" "sizes") ∈ lw_all := lw_g (lw_at lw_m1 239 rfl) rfl
theorem q265 : (Jvm.Cond.lays "ModelCounterModel" "ModelCounterModel" "clauses" "I") ∈ lw_all := lw_g (lw_at lw_m2 0 rfl) rfl
theorem q266 : (Jvm.Cond.soleField "ModelCounterModel" "clauses") ∈ lw_all := lw_g (lw_at lw_m2 1 rfl) rfl
theorem q267 : (Jvm.Cond.laysFinal "ModelCounterModel" "ModelCounterModel" "weights" "[I") ∈ lw_all := lw_g (lw_at lw_m2 2 rfl) rfl
theorem q268 : (Jvm.Cond.soleField "ModelCounterModel" "weights") ∈ lw_all := lw_g (lw_at lw_m2 3 rfl) rfl
theorem q269 : (Jvm.Cond.superclass "ModelCounterModel" "java/lang/Object") ∈ lw_all := lw_g (lw_at lw_m2 4 rfl) rfl
theorem q271 : (Jvm.Cond.instanceMethod ({ cls := "ModelCounterModel", name := "literal", desc := "(I)I" } : Jvm.MethodName)) ∈ lw_all := lw_g (lw_at lw_m2 6 rfl) rfl
theorem q272 : (Jvm.Cond.selects "ModelCounterModel" ({ cls := "ModelCounterModel", name := "literal", desc := "(I)I" } : Jvm.MethodName) ({ cls := "ModelCounterModel", name := "literal", desc := "(I)I" } : Jvm.MethodName)) ∈ lw_all := lw_g (lw_at lw_m2 7 rfl) rfl
theorem q273 : (Jvm.Cond.code ({ cls := "ModelCounterModel", name := "literal", desc := "(I)I" } : Jvm.MethodName) prog_3_method_2_code (2 : Nat) (Option.some Jvm.ClassFile.FieldType.int)) ∈ lw_all := lw_g (lw_at lw_m2 8 rfl) rfl
theorem q275 : (Jvm.Cond.instanceMethod ({ cls := "ModelCounterModel", name := "scrap", desc := "()V" } : Jvm.MethodName)) ∈ lw_all := lw_g (lw_at lw_m2 10 rfl) rfl
theorem q276 : (Jvm.Cond.selects "ModelCounterModel" ({ cls := "ModelCounterModel", name := "scrap", desc := "()V" } : Jvm.MethodName) ({ cls := "ModelCounterModel", name := "scrap", desc := "()V" } : Jvm.MethodName)) ∈ lw_all := lw_g (lw_at lw_m2 11 rfl) rfl
theorem q277 : (Jvm.Cond.code ({ cls := "ModelCounterModel", name := "scrap", desc := "()V" } : Jvm.MethodName) prog_3_method_3_code (1 : Nat) (Option.none : Option Jvm.ClassFile.FieldType)) ∈ lw_all := lw_g (lw_at lw_m2 12 rfl) rfl
theorem q279 : (Jvm.Cond.instanceMethod ({ cls := "ModelCounterModel", name := "clause", desc := "()I" } : Jvm.MethodName)) ∈ lw_all := lw_g (lw_at lw_m2 14 rfl) rfl
theorem q280 : (Jvm.Cond.selects "ModelCounterModel" ({ cls := "ModelCounterModel", name := "clause", desc := "()I" } : Jvm.MethodName) ({ cls := "ModelCounterModel", name := "clause", desc := "()I" } : Jvm.MethodName)) ∈ lw_all := lw_g (lw_at lw_m2 15 rfl) rfl
theorem q281 : (Jvm.Cond.code ({ cls := "ModelCounterModel", name := "clause", desc := "()I" } : Jvm.MethodName) prog_3_method_4_code (2 : Nat) (Option.some Jvm.ClassFile.FieldType.int)) ∈ lw_all := lw_g (lw_at lw_m2 16 rfl) rfl
theorem q283 : (Jvm.Cond.instanceMethod ({ cls := "ModelCounterModel", name := "unclause", desc := "()I" } : Jvm.MethodName)) ∈ lw_all := lw_g (lw_at lw_m2 18 rfl) rfl
theorem q284 : (Jvm.Cond.selects "ModelCounterModel" ({ cls := "ModelCounterModel", name := "unclause", desc := "()I" } : Jvm.MethodName) ({ cls := "ModelCounterModel", name := "unclause", desc := "()I" } : Jvm.MethodName)) ∈ lw_all := lw_g (lw_at lw_m2 19 rfl) rfl
theorem q285 : (Jvm.Cond.code ({ cls := "ModelCounterModel", name := "unclause", desc := "()I" } : Jvm.MethodName) prog_3_method_5_code (1 : Nat) (Option.some Jvm.ClassFile.FieldType.int)) ∈ lw_all := lw_g (lw_at lw_m2 20 rfl) rfl
theorem q287 : (Jvm.Cond.instanceMethod ({ cls := "ModelCounterModel", name := "clauses", desc := "()I" } : Jvm.MethodName)) ∈ lw_all := lw_g (lw_at lw_m2 22 rfl) rfl
theorem q288 : (Jvm.Cond.selects "ModelCounterModel" ({ cls := "ModelCounterModel", name := "clauses", desc := "()I" } : Jvm.MethodName) ({ cls := "ModelCounterModel", name := "clauses", desc := "()I" } : Jvm.MethodName)) ∈ lw_all := lw_g (lw_at lw_m2 23 rfl) rfl
theorem q289 : (Jvm.Cond.code ({ cls := "ModelCounterModel", name := "clauses", desc := "()I" } : Jvm.MethodName) prog_3_method_6_code (1 : Nat) (Option.some Jvm.ClassFile.FieldType.int)) ∈ lw_all := lw_g (lw_at lw_m2 24 rfl) rfl
theorem q291 : (Jvm.Cond.instanceMethod ({ cls := "ModelCounterModel", name := "weight", desc := "(III)I" } : Jvm.MethodName)) ∈ lw_all := lw_g (lw_at lw_m2 26 rfl) rfl
theorem q292 : (Jvm.Cond.selects "ModelCounterModel" ({ cls := "ModelCounterModel", name := "weight", desc := "(III)I" } : Jvm.MethodName) ({ cls := "ModelCounterModel", name := "weight", desc := "(III)I" } : Jvm.MethodName)) ∈ lw_all := lw_g (lw_at lw_m2 27 rfl) rfl
theorem q293 : (Jvm.Cond.code ({ cls := "ModelCounterModel", name := "weight", desc := "(III)I" } : Jvm.MethodName) prog_3_method_7_code (5 : Nat) (Option.some Jvm.ClassFile.FieldType.int)) ∈ lw_all := lw_g (lw_at lw_m2 28 rfl) rfl
theorem q295 : (Jvm.Cond.instanceMethod ({ cls := "ModelCounterModel", name := "count", desc := "()I" } : Jvm.MethodName)) ∈ lw_all := lw_g (lw_at lw_m2 30 rfl) rfl
theorem q296 : (Jvm.Cond.selects "ModelCounterModel" ({ cls := "ModelCounterModel", name := "count", desc := "()I" } : Jvm.MethodName) ({ cls := "ModelCounterModel", name := "count", desc := "()I" } : Jvm.MethodName)) ∈ lw_all := lw_g (lw_at lw_m2 31 rfl) rfl
theorem q297 : (Jvm.Cond.code ({ cls := "ModelCounterModel", name := "count", desc := "()I" } : Jvm.MethodName) prog_3_method_11_code (1 : Nat) (Option.some Jvm.ClassFile.FieldType.int)) ∈ lw_all := lw_g (lw_at lw_m2 32 rfl) rfl
theorem q298 : (Jvm.Cond.methodLink "ModelCounterModel" (31 : Nat) ({ cls := "ModelCounterModel", name := "rank", desc := "(I)I" } : Jvm.MethodName)) ∈ lw_all := lw_g (lw_at lw_m2 33 rfl) rfl
theorem q299 : (Jvm.Cond.instanceMethod ({ cls := "ModelCounterModel", name := "rank", desc := "(I)I" } : Jvm.MethodName)) ∈ lw_all := lw_g (lw_at lw_m2 34 rfl) rfl
theorem q300 : (Jvm.Cond.selects "ModelCounterModel" ({ cls := "ModelCounterModel", name := "rank", desc := "(I)I" } : Jvm.MethodName) ({ cls := "ModelCounterModel", name := "rank", desc := "(I)I" } : Jvm.MethodName)) ∈ lw_all := lw_g (lw_at lw_m2 35 rfl) rfl
theorem q301 : (Jvm.Cond.code ({ cls := "ModelCounterModel", name := "rank", desc := "(I)I" } : Jvm.MethodName) prog_3_method_19_code (4 : Nat) (Option.some Jvm.ClassFile.FieldType.int)) ∈ lw_all := lw_g (lw_at lw_m2 36 rfl) rfl
theorem q302 : (Jvm.Cond.methodLink "ModelCounterModel" (35 : Nat) ({ cls := "ModelCounterModel", name := "makesTrue", desc := "(I)Z" } : Jvm.MethodName)) ∈ lw_all := lw_g (lw_at lw_m2 37 rfl) rfl
theorem q303 : (Jvm.Cond.privateMethod ({ cls := "ModelCounterModel", name := "makesTrue", desc := "(I)Z" } : Jvm.MethodName)) ∈ lw_tbl := lw_at lw_m2 38 rfl
theorem q304 : (Jvm.Cond.instanceMethod ({ cls := "ModelCounterModel", name := "makesTrue", desc := "(I)Z" } : Jvm.MethodName)) ∈ lw_all := lw_g (lw_at lw_m2 39 rfl) rfl
theorem q305 : (Jvm.Cond.code ({ cls := "ModelCounterModel", name := "makesTrue", desc := "(I)Z" } : Jvm.MethodName) prog_3_method_10_code (3 : Nat) (Option.some Jvm.ClassFile.FieldType.boolean)) ∈ lw_all := lw_g (lw_at lw_m2 40 rfl) rfl
theorem q306 : (Jvm.Cond.methodLink "ModelCounterModel" (27 : Nat) ({ cls := "ModelCounterModel", name := "isTrue", desc := "(II)Z" } : Jvm.MethodName)) ∈ lw_all := lw_g (lw_at lw_m2 41 rfl) rfl
theorem q307 : (Jvm.Cond.privateMethod ({ cls := "ModelCounterModel", name := "isTrue", desc := "(II)Z" } : Jvm.MethodName)) ∈ lw_tbl := lw_at lw_m2 42 rfl
theorem q308 : (Jvm.Cond.instanceMethod ({ cls := "ModelCounterModel", name := "isTrue", desc := "(II)Z" } : Jvm.MethodName)) ∈ lw_all := lw_g (lw_at lw_m2 43 rfl) rfl
theorem q309 : (Jvm.Cond.code ({ cls := "ModelCounterModel", name := "isTrue", desc := "(II)Z" } : Jvm.MethodName) prog_3_method_9_code (4 : Nat) (Option.some Jvm.ClassFile.FieldType.boolean)) ∈ lw_all := lw_g (lw_at lw_m2 44 rfl) rfl
theorem q310 : (Jvm.Cond.methodLink "ModelCounterModel" (23 : Nat) ({ cls := "ModelCounterModel", name := "truth", desc := "(II)I" } : Jvm.MethodName)) ∈ lw_all := lw_g (lw_at lw_m2 45 rfl) rfl
theorem q311 : (Jvm.Cond.privateMethod ({ cls := "ModelCounterModel", name := "truth", desc := "(II)I" } : Jvm.MethodName)) ∈ lw_tbl := lw_at lw_m2 46 rfl
theorem q312 : (Jvm.Cond.instanceMethod ({ cls := "ModelCounterModel", name := "truth", desc := "(II)I" } : Jvm.MethodName)) ∈ lw_all := lw_g (lw_at lw_m2 47 rfl) rfl
theorem q313 : (Jvm.Cond.code ({ cls := "ModelCounterModel", name := "truth", desc := "(II)I" } : Jvm.MethodName) prog_3_method_8_code (3 : Nat) (Option.some Jvm.ClassFile.FieldType.int)) ∈ lw_all := lw_g (lw_at lw_m2 48 rfl) rfl
theorem q315 : (Jvm.Cond.instanceMethod ({ cls := "ModelCounterModel", name := "countWith", desc := "(II)I" } : Jvm.MethodName)) ∈ lw_all := lw_g (lw_at lw_m2 50 rfl) rfl
theorem q316 : (Jvm.Cond.selects "ModelCounterModel" ({ cls := "ModelCounterModel", name := "countWith", desc := "(II)I" } : Jvm.MethodName) ({ cls := "ModelCounterModel", name := "countWith", desc := "(II)I" } : Jvm.MethodName)) ∈ lw_all := lw_g (lw_at lw_m2 51 rfl) rfl
theorem q317 : (Jvm.Cond.code ({ cls := "ModelCounterModel", name := "countWith", desc := "(II)I" } : Jvm.MethodName) prog_3_method_12_code (5 : Nat) (Option.some Jvm.ClassFile.FieldType.int)) ∈ lw_all := lw_g (lw_at lw_m2 52 rfl) rfl
theorem q319 : (Jvm.Cond.instanceMethod ({ cls := "ModelCounterModel", name := "countSize", desc := "(I)I" } : Jvm.MethodName)) ∈ lw_all := lw_g (lw_at lw_m2 54 rfl) rfl
theorem q320 : (Jvm.Cond.selects "ModelCounterModel" ({ cls := "ModelCounterModel", name := "countSize", desc := "(I)I" } : Jvm.MethodName) ({ cls := "ModelCounterModel", name := "countSize", desc := "(I)I" } : Jvm.MethodName)) ∈ lw_all := lw_g (lw_at lw_m2 55 rfl) rfl
theorem q321 : (Jvm.Cond.code ({ cls := "ModelCounterModel", name := "countSize", desc := "(I)I" } : Jvm.MethodName) prog_3_method_14_code (4 : Nat) (Option.some Jvm.ClassFile.FieldType.int)) ∈ lw_all := lw_g (lw_at lw_m2 56 rfl) rfl
theorem q322 : (Jvm.Cond.methodLink "ModelCounterModel" (39 : Nat) ({ cls := "ModelCounterModel", name := "sizeOf", desc := "(I)I" } : Jvm.MethodName)) ∈ lw_all := lw_g (lw_at lw_m2 57 rfl) rfl
theorem q323 : (Jvm.Cond.privateMethod ({ cls := "ModelCounterModel", name := "sizeOf", desc := "(I)I" } : Jvm.MethodName)) ∈ lw_tbl := lw_at lw_m2 58 rfl
theorem q324 : (Jvm.Cond.instanceMethod ({ cls := "ModelCounterModel", name := "sizeOf", desc := "(I)I" } : Jvm.MethodName)) ∈ lw_all := lw_g (lw_at lw_m2 59 rfl) rfl
theorem q325 : (Jvm.Cond.code ({ cls := "ModelCounterModel", name := "sizeOf", desc := "(I)I" } : Jvm.MethodName) prog_3_method_13_code (4 : Nat) (Option.some Jvm.ClassFile.FieldType.int)) ∈ lw_all := lw_g (lw_at lw_m2 60 rfl) rfl
theorem q327 : (Jvm.Cond.instanceMethod ({ cls := "ModelCounterModel", name := "weighted", desc := "()I" } : Jvm.MethodName)) ∈ lw_all := lw_g (lw_at lw_m2 62 rfl) rfl
theorem q328 : (Jvm.Cond.selects "ModelCounterModel" ({ cls := "ModelCounterModel", name := "weighted", desc := "()I" } : Jvm.MethodName) ({ cls := "ModelCounterModel", name := "weighted", desc := "()I" } : Jvm.MethodName)) ∈ lw_all := lw_g (lw_at lw_m2 63 rfl) rfl
theorem q329 : (Jvm.Cond.code ({ cls := "ModelCounterModel", name := "weighted", desc := "()I" } : Jvm.MethodName) prog_3_method_16_code (1 : Nat) (Option.some Jvm.ClassFile.FieldType.int)) ∈ lw_all := lw_g (lw_at lw_m2 64 rfl) rfl
theorem q330 : (Jvm.Cond.methodLink "ModelCounterModel" (42 : Nat) ({ cls := "ModelCounterModel", name := "share", desc := "(II)I" } : Jvm.MethodName)) ∈ lw_all := lw_g (lw_at lw_m2 65 rfl) rfl
theorem q331 : (Jvm.Cond.instanceMethod ({ cls := "ModelCounterModel", name := "share", desc := "(II)I" } : Jvm.MethodName)) ∈ lw_all := lw_g (lw_at lw_m2 66 rfl) rfl
theorem q332 : (Jvm.Cond.selects "ModelCounterModel" ({ cls := "ModelCounterModel", name := "share", desc := "(II)I" } : Jvm.MethodName) ({ cls := "ModelCounterModel", name := "share", desc := "(II)I" } : Jvm.MethodName)) ∈ lw_all := lw_g (lw_at lw_m2 67 rfl) rfl
theorem q333 : (Jvm.Cond.code ({ cls := "ModelCounterModel", name := "share", desc := "(II)I" } : Jvm.MethodName) prog_3_method_17_code (5 : Nat) (Option.some Jvm.ClassFile.FieldType.int)) ∈ lw_all := lw_g (lw_at lw_m2 68 rfl) rfl
theorem q334 : (Jvm.Cond.methodLink "ModelCounterModel" (45 : Nat) ({ cls := "ModelCounterModel", name := "weightOf", desc := "(I)I" } : Jvm.MethodName)) ∈ lw_all := lw_g (lw_at lw_m2 69 rfl) rfl
theorem q335 : (Jvm.Cond.privateMethod ({ cls := "ModelCounterModel", name := "weightOf", desc := "(I)I" } : Jvm.MethodName)) ∈ lw_tbl := lw_at lw_m2 70 rfl
theorem q336 : (Jvm.Cond.instanceMethod ({ cls := "ModelCounterModel", name := "weightOf", desc := "(I)I" } : Jvm.MethodName)) ∈ lw_all := lw_g (lw_at lw_m2 71 rfl) rfl
theorem q337 : (Jvm.Cond.code ({ cls := "ModelCounterModel", name := "weightOf", desc := "(I)I" } : Jvm.MethodName) prog_3_method_15_code (4 : Nat) (Option.some Jvm.ClassFile.FieldType.int)) ∈ lw_all := lw_g (lw_at lw_m2 72 rfl) rfl
theorem q340 : (Jvm.Cond.instanceMethod ({ cls := "ModelCounterModel", name := "model", desc := "(I)I" } : Jvm.MethodName)) ∈ lw_all := lw_g (lw_at lw_m2 75 rfl) rfl
theorem q341 : (Jvm.Cond.selects "ModelCounterModel" ({ cls := "ModelCounterModel", name := "model", desc := "(I)I" } : Jvm.MethodName) ({ cls := "ModelCounterModel", name := "model", desc := "(I)I" } : Jvm.MethodName)) ∈ lw_all := lw_g (lw_at lw_m2 76 rfl) rfl
theorem q342 : (Jvm.Cond.code ({ cls := "ModelCounterModel", name := "model", desc := "(I)I" } : Jvm.MethodName) prog_3_method_18_code (4 : Nat) (Option.some Jvm.ClassFile.FieldType.int)) ∈ lw_all := lw_g (lw_at lw_m2 77 rfl) rfl
theorem q345 : (Jvm.Cond.instanceMethod ({ cls := "ModelCounterModel", name := "isModel", desc := "(I)Z" } : Jvm.MethodName)) ∈ lw_all := lw_g (lw_at lw_m2 80 rfl) rfl
theorem q346 : (Jvm.Cond.selects "ModelCounterModel" ({ cls := "ModelCounterModel", name := "isModel", desc := "(I)Z" } : Jvm.MethodName) ({ cls := "ModelCounterModel", name := "isModel", desc := "(I)Z" } : Jvm.MethodName)) ∈ lw_all := lw_g (lw_at lw_m2 81 rfl) rfl
theorem q347 : (Jvm.Cond.code ({ cls := "ModelCounterModel", name := "isModel", desc := "(I)Z" } : Jvm.MethodName) prog_3_method_20_code (2 : Nat) (Option.some Jvm.ClassFile.FieldType.boolean)) ∈ lw_all := lw_g (lw_at lw_m2 82 rfl) rfl
theorem q349 : (Jvm.Cond.instanceMethod ({ cls := "ModelCounterModel", name := "alwaysTrue", desc := "()I" } : Jvm.MethodName)) ∈ lw_all := lw_g (lw_at lw_m2 84 rfl) rfl
theorem q350 : (Jvm.Cond.selects "ModelCounterModel" ({ cls := "ModelCounterModel", name := "alwaysTrue", desc := "()I" } : Jvm.MethodName) ({ cls := "ModelCounterModel", name := "alwaysTrue", desc := "()I" } : Jvm.MethodName)) ∈ lw_all := lw_g (lw_at lw_m2 85 rfl) rfl
theorem q351 : (Jvm.Cond.code ({ cls := "ModelCounterModel", name := "alwaysTrue", desc := "()I" } : Jvm.MethodName) prog_3_method_21_code (4 : Nat) (Option.some Jvm.ClassFile.FieldType.int)) ∈ lw_all := lw_g (lw_at lw_m2 86 rfl) rfl
theorem q353 : (Jvm.Cond.instanceMethod ({ cls := "ModelCounterModel", name := "alwaysFalse", desc := "()I" } : Jvm.MethodName)) ∈ lw_all := lw_g (lw_at lw_m2 88 rfl) rfl
theorem q354 : (Jvm.Cond.selects "ModelCounterModel" ({ cls := "ModelCounterModel", name := "alwaysFalse", desc := "()I" } : Jvm.MethodName) ({ cls := "ModelCounterModel", name := "alwaysFalse", desc := "()I" } : Jvm.MethodName)) ∈ lw_all := lw_g (lw_at lw_m2 89 rfl) rfl
theorem q355 : (Jvm.Cond.code ({ cls := "ModelCounterModel", name := "alwaysFalse", desc := "()I" } : Jvm.MethodName) prog_3_method_22_code (4 : Nat) (Option.some Jvm.ClassFile.FieldType.int)) ∈ lw_all := lw_g (lw_at lw_m2 90 rfl) rfl
theorem q357 : (Jvm.Cond.instanceMethod ({ cls := "ModelCounterModel", name := "idle", desc := "()I" } : Jvm.MethodName)) ∈ lw_all := lw_g (lw_at lw_m2 92 rfl) rfl
theorem q358 : (Jvm.Cond.selects "ModelCounterModel" ({ cls := "ModelCounterModel", name := "idle", desc := "()I" } : Jvm.MethodName) ({ cls := "ModelCounterModel", name := "idle", desc := "()I" } : Jvm.MethodName)) ∈ lw_all := lw_g (lw_at lw_m2 93 rfl) rfl
theorem q359 : (Jvm.Cond.code ({ cls := "ModelCounterModel", name := "idle", desc := "()I" } : Jvm.MethodName) prog_3_method_24_code (3 : Nat) (Option.some Jvm.ClassFile.FieldType.int)) ∈ lw_all := lw_g (lw_at lw_m2 94 rfl) rfl
theorem q360 : (Jvm.Cond.methodLink "ModelCounterModel" (48 : Nat) ({ cls := "ModelCounterModel", name := "isIdle", desc := "(I)Z" } : Jvm.MethodName)) ∈ lw_all := lw_g (lw_at lw_m2 95 rfl) rfl
theorem q361 : (Jvm.Cond.privateMethod ({ cls := "ModelCounterModel", name := "isIdle", desc := "(I)Z" } : Jvm.MethodName)) ∈ lw_tbl := lw_at lw_m2 96 rfl
theorem q362 : (Jvm.Cond.instanceMethod ({ cls := "ModelCounterModel", name := "isIdle", desc := "(I)Z" } : Jvm.MethodName)) ∈ lw_all := lw_g (lw_at lw_m2 97 rfl) rfl
theorem q363 : (Jvm.Cond.code ({ cls := "ModelCounterModel", name := "isIdle", desc := "(I)Z" } : Jvm.MethodName) prog_3_method_23_code (3 : Nat) (Option.some Jvm.ClassFile.FieldType.boolean)) ∈ lw_all := lw_g (lw_at lw_m2 98 rfl) rfl
theorem q365 : (Jvm.Cond.instanceMethod ({ cls := "ModelCounterModel", name := "leastTrue", desc := "()I" } : Jvm.MethodName)) ∈ lw_all := lw_g (lw_at lw_m2 100 rfl) rfl
theorem q366 : (Jvm.Cond.selects "ModelCounterModel" ({ cls := "ModelCounterModel", name := "leastTrue", desc := "()I" } : Jvm.MethodName) ({ cls := "ModelCounterModel", name := "leastTrue", desc := "()I" } : Jvm.MethodName)) ∈ lw_all := lw_g (lw_at lw_m2 101 rfl) rfl
theorem q367 : (Jvm.Cond.code ({ cls := "ModelCounterModel", name := "leastTrue", desc := "()I" } : Jvm.MethodName) prog_3_method_25_code (2 : Nat) (Option.some Jvm.ClassFile.FieldType.int)) ∈ lw_all := lw_g (lw_at lw_m2 102 rfl) rfl
theorem q368 : (Jvm.Cond.methodLink "ModelCounterModel" (51 : Nat) ({ cls := "ModelCounterModel", name := "countSize", desc := "(I)I" } : Jvm.MethodName)) ∈ lw_all := lw_g (lw_at lw_m2 103 rfl) rfl
theorem in_X1 : ∀ w ∈ wsX10, w ∈ lw_all := lw_in wsX10 [261, 263, 265, 267] (by decide +kernel) (by decide +kernel)

theorem q25 : (Jvm.Cond.initialized "ModelCounterLaw") ∈ lw_all := lw_g (lw_at lw_m1 0 rfl) rfl
theorem q28 : (Jvm.Cond.classLink "ModelCounterLaw" (7 : Nat) "ModelCounter") ∈ lw_all := lw_g (lw_at lw_m1 3 rfl) rfl
theorem q30 : (Jvm.Cond.methodLink "ModelCounterLaw" (9 : Nat) ({ cls := "ModelCounter", name := "<init>", desc := "()V" } : Jvm.MethodName)) ∈ lw_all := lw_g (lw_at lw_m1 5 rfl) rfl
theorem q101 : (Jvm.Cond.methodLink "ModelCounterLaw" (13 : Nat) ({ cls := "ModelCounter", name := "literal", desc := "(I)I" } : Jvm.MethodName)) ∈ lw_all := lw_g (lw_at lw_m1 76 rfl) rfl
theorem q105 : (Jvm.Cond.methodLink "ModelCounterLaw" (18 : Nat) ({ cls := "ModelCounter", name := "scrap", desc := "()V" } : Jvm.MethodName)) ∈ lw_all := lw_g (lw_at lw_m1 80 rfl) rfl
theorem q109 : (Jvm.Cond.methodLink "ModelCounterLaw" (22 : Nat) ({ cls := "ModelCounter", name := "clause", desc := "()I" } : Jvm.MethodName)) ∈ lw_all := lw_g (lw_at lw_m1 84 rfl) rfl
theorem q113 : (Jvm.Cond.methodLink "ModelCounterLaw" (27 : Nat) ({ cls := "ModelCounter", name := "unclause", desc := "()I" } : Jvm.MethodName)) ∈ lw_all := lw_g (lw_at lw_m1 88 rfl) rfl
theorem q117 : (Jvm.Cond.methodLink "ModelCounterLaw" (31 : Nat) ({ cls := "ModelCounter", name := "clauses", desc := "()I" } : Jvm.MethodName)) ∈ lw_all := lw_g (lw_at lw_m1 92 rfl) rfl
theorem q121 : (Jvm.Cond.methodLink "ModelCounterLaw" (35 : Nat) ({ cls := "ModelCounter", name := "weight", desc := "(III)I" } : Jvm.MethodName)) ∈ lw_all := lw_g (lw_at lw_m1 96 rfl) rfl
theorem q125 : (Jvm.Cond.methodLink "ModelCounterLaw" (40 : Nat) ({ cls := "ModelCounter", name := "count", desc := "()I" } : Jvm.MethodName)) ∈ lw_all := lw_g (lw_at lw_m1 100 rfl) rfl
theorem q186 : (Jvm.Cond.methodLink "ModelCounterLaw" (44 : Nat) ({ cls := "ModelCounter", name := "countWith", desc := "(II)I" } : Jvm.MethodName)) ∈ lw_all := lw_g (lw_at lw_m1 161 rfl) rfl
theorem q194 : (Jvm.Cond.methodLink "ModelCounterLaw" (49 : Nat) ({ cls := "ModelCounter", name := "countSize", desc := "(I)I" } : Jvm.MethodName)) ∈ lw_all := lw_g (lw_at lw_m1 169 rfl) rfl
theorem q206 : (Jvm.Cond.methodLink "ModelCounterLaw" (53 : Nat) ({ cls := "ModelCounter", name := "weighted", desc := "()I" } : Jvm.MethodName)) ∈ lw_all := lw_g (lw_at lw_m1 181 rfl) rfl
theorem q214 : (Jvm.Cond.methodLink "ModelCounterLaw" (57 : Nat) ({ cls := "ModelCounter", name := "share", desc := "(II)I" } : Jvm.MethodName)) ∈ lw_all := lw_g (lw_at lw_m1 189 rfl) rfl
theorem q218 : (Jvm.Cond.methodLink "ModelCounterLaw" (61 : Nat) ({ cls := "ModelCounter", name := "model", desc := "(I)I" } : Jvm.MethodName)) ∈ lw_all := lw_g (lw_at lw_m1 193 rfl) rfl
theorem q223 : (Jvm.Cond.methodLink "ModelCounterLaw" (65 : Nat) ({ cls := "ModelCounter", name := "rank", desc := "(I)I" } : Jvm.MethodName)) ∈ lw_all := lw_g (lw_at lw_m1 198 rfl) rfl
theorem q227 : (Jvm.Cond.methodLink "ModelCounterLaw" (69 : Nat) ({ cls := "ModelCounter", name := "isModel", desc := "(I)Z" } : Jvm.MethodName)) ∈ lw_all := lw_g (lw_at lw_m1 202 rfl) rfl
theorem q231 : (Jvm.Cond.methodLink "ModelCounterLaw" (74 : Nat) ({ cls := "ModelCounter", name := "alwaysTrue", desc := "()I" } : Jvm.MethodName)) ∈ lw_all := lw_g (lw_at lw_m1 206 rfl) rfl
theorem q235 : (Jvm.Cond.methodLink "ModelCounterLaw" (78 : Nat) ({ cls := "ModelCounter", name := "alwaysFalse", desc := "()I" } : Jvm.MethodName)) ∈ lw_all := lw_g (lw_at lw_m1 210 rfl) rfl
theorem q239 : (Jvm.Cond.methodLink "ModelCounterLaw" (82 : Nat) ({ cls := "ModelCounter", name := "idle", desc := "()I" } : Jvm.MethodName)) ∈ lw_all := lw_g (lw_at lw_m1 214 rfl) rfl
theorem q247 : (Jvm.Cond.methodLink "ModelCounterLaw" (86 : Nat) ({ cls := "ModelCounter", name := "leastTrue", desc := "()I" } : Jvm.MethodName)) ∈ lw_all := lw_g (lw_at lw_m1 222 rfl) rfl
theorem q251 : (Jvm.Cond.classLink "ModelCounterLaw" (10 : Nat) "ModelCounterModel") ∈ lw_all := lw_g (lw_at lw_m1 226 rfl) rfl
theorem q253 : (Jvm.Cond.methodLink "ModelCounterLaw" (12 : Nat) ({ cls := "ModelCounterModel", name := "<init>", desc := "()V" } : Jvm.MethodName)) ∈ lw_all := lw_g (lw_at lw_m1 228 rfl) rfl
theorem q270 : (Jvm.Cond.methodLink "ModelCounterLaw" (17 : Nat) ({ cls := "ModelCounterModel", name := "literal", desc := "(I)I" } : Jvm.MethodName)) ∈ lw_all := lw_g (lw_at lw_m2 5 rfl) rfl
theorem q274 : (Jvm.Cond.methodLink "ModelCounterLaw" (21 : Nat) ({ cls := "ModelCounterModel", name := "scrap", desc := "()V" } : Jvm.MethodName)) ∈ lw_all := lw_g (lw_at lw_m2 9 rfl) rfl
theorem q278 : (Jvm.Cond.methodLink "ModelCounterLaw" (26 : Nat) ({ cls := "ModelCounterModel", name := "clause", desc := "()I" } : Jvm.MethodName)) ∈ lw_all := lw_g (lw_at lw_m2 13 rfl) rfl
theorem q282 : (Jvm.Cond.methodLink "ModelCounterLaw" (30 : Nat) ({ cls := "ModelCounterModel", name := "unclause", desc := "()I" } : Jvm.MethodName)) ∈ lw_all := lw_g (lw_at lw_m2 17 rfl) rfl
theorem q286 : (Jvm.Cond.methodLink "ModelCounterLaw" (34 : Nat) ({ cls := "ModelCounterModel", name := "clauses", desc := "()I" } : Jvm.MethodName)) ∈ lw_all := lw_g (lw_at lw_m2 21 rfl) rfl
theorem q290 : (Jvm.Cond.methodLink "ModelCounterLaw" (39 : Nat) ({ cls := "ModelCounterModel", name := "weight", desc := "(III)I" } : Jvm.MethodName)) ∈ lw_all := lw_g (lw_at lw_m2 25 rfl) rfl
theorem q294 : (Jvm.Cond.methodLink "ModelCounterLaw" (43 : Nat) ({ cls := "ModelCounterModel", name := "count", desc := "()I" } : Jvm.MethodName)) ∈ lw_all := lw_g (lw_at lw_m2 29 rfl) rfl
theorem q314 : (Jvm.Cond.methodLink "ModelCounterLaw" (48 : Nat) ({ cls := "ModelCounterModel", name := "countWith", desc := "(II)I" } : Jvm.MethodName)) ∈ lw_all := lw_g (lw_at lw_m2 49 rfl) rfl
theorem q318 : (Jvm.Cond.methodLink "ModelCounterLaw" (52 : Nat) ({ cls := "ModelCounterModel", name := "countSize", desc := "(I)I" } : Jvm.MethodName)) ∈ lw_all := lw_g (lw_at lw_m2 53 rfl) rfl
theorem q326 : (Jvm.Cond.methodLink "ModelCounterLaw" (56 : Nat) ({ cls := "ModelCounterModel", name := "weighted", desc := "()I" } : Jvm.MethodName)) ∈ lw_all := lw_g (lw_at lw_m2 61 rfl) rfl
theorem q338 : (Jvm.Cond.methodLink "ModelCounterLaw" (60 : Nat) ({ cls := "ModelCounterModel", name := "share", desc := "(II)I" } : Jvm.MethodName)) ∈ lw_all := lw_g (lw_at lw_m2 73 rfl) rfl
theorem q339 : (Jvm.Cond.methodLink "ModelCounterLaw" (64 : Nat) ({ cls := "ModelCounterModel", name := "model", desc := "(I)I" } : Jvm.MethodName)) ∈ lw_all := lw_g (lw_at lw_m2 74 rfl) rfl
theorem q343 : (Jvm.Cond.methodLink "ModelCounterLaw" (68 : Nat) ({ cls := "ModelCounterModel", name := "rank", desc := "(I)I" } : Jvm.MethodName)) ∈ lw_all := lw_g (lw_at lw_m2 78 rfl) rfl
theorem q344 : (Jvm.Cond.methodLink "ModelCounterLaw" (73 : Nat) ({ cls := "ModelCounterModel", name := "isModel", desc := "(I)Z" } : Jvm.MethodName)) ∈ lw_all := lw_g (lw_at lw_m2 79 rfl) rfl
theorem q348 : (Jvm.Cond.methodLink "ModelCounterLaw" (77 : Nat) ({ cls := "ModelCounterModel", name := "alwaysTrue", desc := "()I" } : Jvm.MethodName)) ∈ lw_all := lw_g (lw_at lw_m2 83 rfl) rfl
theorem q352 : (Jvm.Cond.methodLink "ModelCounterLaw" (81 : Nat) ({ cls := "ModelCounterModel", name := "alwaysFalse", desc := "()I" } : Jvm.MethodName)) ∈ lw_all := lw_g (lw_at lw_m2 87 rfl) rfl
theorem q356 : (Jvm.Cond.methodLink "ModelCounterLaw" (85 : Nat) ({ cls := "ModelCounterModel", name := "idle", desc := "()I" } : Jvm.MethodName)) ∈ lw_all := lw_g (lw_at lw_m2 91 rfl) rfl
theorem q364 : (Jvm.Cond.methodLink "ModelCounterLaw" (89 : Nat) ({ cls := "ModelCounterModel", name := "leastTrue", desc := "()I" } : Jvm.MethodName)) ∈ lw_all := lw_g (lw_at lw_m2 99 rfl) rfl

/-! the law's own entry -/
abbrev cL_law : ByteArray := code
end
section
/-! THE WALK LAYER: one object with int fields and int arrays, its state as a function; the judgement V and its rows -/
abbrev AV : Type := Int32 ⊕ Nat
abbrev St : Type := Nat → Nat → Int32
/-- a class' shape: its place in vwCl, how many fields, its int arrays (field, length) -/
abbrev Shp : Type := Nat × Nat × List (Nat × Nat)
abbrev vwCl : List vw_C := [(RX0, TX0, 21), (RX1, TX1, 4)]
def sh_ar (sh : Shp) (k : Nat) : Bool := sh.2.2.any (fun q => q.1 == k)
def lenL : List (Nat × Nat) → Nat → Option Nat
  | [], _ => none
  | (a, n) :: r, k => if a = k then some n else lenL r k
def sh_len (sh : Shp) (k : Nat) : Option Nat := lenL sh.2.2 k
theorem lenL_pos : ∀ (l : List (Nat × Nat)) {k n : Nat}, lenL l k = some n → ∃ p : Nat, l[p]? = some (k, n)
  | [], k, n, h => by cases h
  | (a, m) :: r, k, n, h => by
    unfold lenL at h
    split at h
    · rename_i e
      cases h
      exact ⟨0, by rw [e]; rfl⟩
    · obtain ⟨p, hp⟩ := lenL_pos r h
      exact ⟨p + 1, hp⟩
def vl (h0 : Nat) (ad : Nat → Nat) : AV → Value
  | .inl x => .int x
  | .inr 0 => .ref h0
  | .inr (k + 1) => .ref (ad k)
theorem vl_cat (h0 : Nat) (ad : Nat → Nat) (v : AV) : (vl h0 ad v).category = 1 := by
  rcases v with x | _ | k <;> rfl
def fv (sh : Shp) (ad : Nat → Nat) (σ : St) (k : Nat) : Value := if sh_ar sh k then .ref (ad k) else .int (σ k 0)
def wd (sh : Shp) (h0 : Nat) (ad : Nat → Nat) (dA : ClassId) (σ : St) : va_W :=
  (h0, .inr (sh.1, (List.range sh.2.1).map (fv sh ad σ))) :: sh.2.2.map (fun q => (ad q.1, .inl (dA, q.2, .inl (σ q.1))))
/-- the state with x at place j of field k -/
def su (σ : St) (k j : Nat) (x : Int32) : St := fun k' => if k' = k then upd (σ k) j x else σ k'
theorem su_at (σ : St) (k j : Nat) (x : Int32) : su σ k j x k = upd (σ k) j x := if_pos rfl
theorem su_ne (σ : St) {k k' : Nat} (j : Nat) (x : Int32) (h : k' ≠ k) : su σ k j x k' = σ k' := if_neg h
theorem su_eq (σ : St) (k j : Nat) (x : Int32) : su σ k j x k j = x := by rw [su_at]; exact pk_us
theorem su_off (σ : St) {k j k' j' : Nat} (x : Int32) (h : k' ≠ k ∨ j' ≠ j) : su σ k j x k' j' = σ k' j' := by
  by_cases e : k' = k
  · subst e
    rw [su_at]
    exact pk_un (h.resolve_left (fun q => q rfl))
  · rw [su_ne σ j x e]
theorem sh_len_pos {sh : Shp} {k n : Nat} (h : sh_len sh k = some n) : ∃ p : Nat, sh.2.2[p]? = some (k, n) := lenL_pos _ h
theorem sh_len_ar {sh : Shp} {k n : Nat} (h : sh_len sh k = some n) : sh_ar sh k = true := by
  obtain ⟨p, hp⟩ := sh_len_pos h
  exact List.any_eq_true.mpr ⟨(k, n), List.mem_of_getElem? hp, by simp⟩
theorem wd_arr {sh : Shp} {h0 : Nat} {ad : Nat → Nat} {dA : ClassId} {σ : St} {p k n : Nat} (h : sh.2.2[p]? = some (k, n)) : (wd sh h0 ad dA σ)[p + 1]? = some (ad k, .inl (dA, n, .inl (σ k))) := by
  unfold wd
  rw [List.getElem?_cons_succ, List.getElem?_map, h]
  rfl
theorem fv_at {sh : Shp} {ad : Nat → Nat} {σ : St} {k : Nat} (h : k < sh.2.1) : ((List.range sh.2.1).map (fv sh ad σ))[k]? = some (fv sh ad σ k) := by
  rw [List.getElem?_map, List.getElem?_range h]
  rfl
theorem fv_su_ar {sh : Shp} {ad : Nat → Nat} {σ : St} {k : Nat} (h : sh_ar sh k = true) (j : Nat) (x : Int32) (i : Nat) : fv sh ad (su σ k j x) i = fv sh ad σ i := by
  unfold fv
  by_cases e : i = k
  · subst e
    rw [if_pos h, if_pos h]
  · rw [su_ne σ j x e]
theorem wd_put_arr {sh : Shp} (hn : va_nd (sh.2.2.map (fun q => q.1)) = true) {h0 : Nat} {ad : Nat → Nat} {dA : ClassId} {σ : St} {p k n : Nat} (h : sh.2.2[p]? = some (k, n)) (ha : sh_ar sh k = true) (j : Nat) (x : Int32) :
    (wd sh h0 ad dA σ).set (p + 1) (ad k, .inl (dA, n, .inl (upd (σ k) j x))) = wd sh h0 ad dA (su σ k j x) := by
  unfold wd
  rw [List.set_cons_succ]
  congr 1
  · rw [show (List.range sh.2.1).map (fv sh ad (su σ k j x)) = (List.range sh.2.1).map (fv sh ad σ) from List.map_congr_left (fun i _ => fv_su_ar ha j x i)]
  · apply List.ext_getElem?
    intro i
    by_cases e : i = p
    · subst e
      have hl : i < (sh.2.2.map (fun q : Nat × Nat => ((ad q.1, .inl (dA, q.2, .inl (σ q.1))) : Nat × va_E))).length := by
        rw [List.length_map]; exact (List.getElem?_eq_some_iff.mp h).1
      rw [List.getElem?_set_self hl, List.getElem?_map, h]
      show some _ = some ((ad k, .inl (dA, n, .inl (su σ k j x k))) : Nat × va_E)
      rw [su_at]
    · rw [List.getElem?_set_ne (Ne.symm e), List.getElem?_map, List.getElem?_map]
      cases hi : sh.2.2[i]? with
      | none => rfl
      | some q =>
        have hq : q.1 ≠ k := by
          intro hk
          refine e (va_nd_inj _ hn i p k ?_ ?_)
          · rw [List.getElem?_map, hi, ← hk]; rfl
          · rw [List.getElem?_map, h]; rfl
        show some _ = some ((ad q.1, .inl (dA, q.2, .inl (su σ k j x q.1))) : Nat × va_E)
        rw [su_ne σ j x hq]
theorem wd_put_fld {sh : Shp} {h0 : Nat} {ad : Nat → Nat} {dA : ClassId} {σ : St} {k : Nat} (ha : sh_ar sh k = false) (x : Int32) :
    (wd sh h0 ad dA σ).set 0 (h0, .inr (sh.1, ((List.range sh.2.1).map (fv sh ad σ)).set k (.int x))) = wd sh h0 ad dA (su σ k 0 x) := by
  unfold wd
  rw [List.set_cons_zero]
  have hne : ∀ q ∈ sh.2.2, q.1 ≠ k := by
    intro q hq e
    have : sh_ar sh k = true := List.any_eq_true.mpr ⟨q, hq, by simp [e]⟩
    rw [ha] at this
    cases this
  congr 1
  · congr 2
    congr 1
    apply List.ext_getElem?
    intro i
    by_cases e : i = k
    · subst e
      by_cases hl : i < sh.2.1
      · rw [List.getElem?_set_self (by simpa using hl), List.getElem?_map, List.getElem?_range hl]
        show some _ = some (fv sh ad (su σ i 0 x) i)
        unfold fv
        rw [ha, su_eq]
        rfl
      · rw [List.getElem?_eq_none (by simpa using hl), List.getElem?_eq_none (by simpa using hl)]
    · rw [List.getElem?_set_ne (Ne.symm e), List.getElem?_map, List.getElem?_map]
      have : fv sh ad (su σ k 0 x) i = fv sh ad σ i := by
        unfold fv
        rw [su_ne σ 0 x e]
      cases hi : (List.range sh.2.1)[i]? with
      | none => rfl
      | some v =>
        have hv : v = i := by
          have h1 := (List.getElem?_eq_some_iff.mp hi)
          obtain ⟨h2, h3⟩ := h1
          simpa using h3.symm
        subst hv
        show some _ = some _
        rw [this]
  · exact List.map_congr_left (fun q hq => by rw [su_ne σ 0 x (hne q hq)])
/-! locals -/
def lvL (h0 : Nat) (ad : Nat → Nat) (L : List (Option AV)) : List (Nat × Value) := (List.range L.length).filterMap (fun i => match L[i]? with
  | some (some v) => some (i, vl h0 ad v)
  | _ => none)
theorem mem_lvL {h0 : Nat} {ad : Nat → Nat} {L : List (Option AV)} {i : Nat} {v : AV} (h : L[i]? = some (some v)) : (i, vl h0 ad v) ∈ lvL h0 ad L := by
  unfold lvL
  refine List.mem_filterMap.mpr ⟨i, List.mem_range.mpr (List.getElem?_eq_some_iff.mp h).1, ?_⟩
  rw [h]
theorem lvL_mem {h0 : Nat} {ad : Nat → Nat} {L : List (Option AV)} {q : Nat × Value} (h : q ∈ lvL h0 ad L) : ∃ v, L[q.1]? = some (some v) ∧ q.2 = vl h0 ad v := by
  unfold lvL at h
  obtain ⟨i, -, hi⟩ := List.mem_filterMap.mp h
  split at hi
  · rename_i v hv
    cases hi
    exact ⟨v, hv, rfl⟩
  · cases hi
def LH (ls : Array Slot) (nL : Nat) (h0 : Nat) (ad : Nat → Nat) (L : List (Option AV)) : Prop := ls.size = nL ∧ lv_wf ls ∧ ∀ (i : Nat) (v : AV), L[i]? = some (some v) → ls[i]? = some (.val (vl h0 ad v))
theorem LH.has {ls : Array Slot} {nL h0 : Nat} {ad : Nat → Nat} {L : List (Option AV)} (h : LH ls nL h0 ad L) : lv_has ls nL (lvL h0 ad L) := ⟨h.1, h.2.1, fun q hq => by
  obtain ⟨v, h1, h2⟩ := lvL_mem hq
  rw [h2]
  exact h.2.2 _ _ h1⟩
theorem LH.store {ls' : Array Slot} {nL h0 : Nat} {ad : Nat → Nat} {L : List (Option AV)} {i : Nat} {v : AV} (h : lv_has ls' nL ((i, vl h0 ad v) :: (lvL h0 ad L).filter (fun q => !(q.1 == i) && !(q.1 + 1 == i && q.2.category == 2)))) : LH ls' nL h0 ad (L.set i (some v)) := by
  refine ⟨h.1, h.2.1, fun j w hj => ?_⟩
  by_cases hji : j = i
  · subst hji
    have hl : j < L.length := by
      have := (List.getElem?_eq_some_iff.mp hj).1
      simpa using this
    rw [List.getElem?_set_self hl] at hj
    cases hj
    exact h.2.2 (j, vl h0 ad v) List.mem_cons_self
  · rw [List.getElem?_set_ne (Ne.symm hji)] at hj
    exact h.2.2 (j, vl h0 ad w) (List.mem_cons_of_mem _ (List.mem_filter.mpr ⟨mem_lvL hj, by simp [hji, vl_cat]⟩))
theorem LH.le {ls : Array Slot} {nL h0 : Nat} {ad : Nat → Nat} {L L' : List (Option AV)} (h : LH ls nL h0 ad L) (hl : ∀ (i : Nat) (v : AV), L'[i]? = some (some v) → L[i]? = some (some v)) : LH ls nL h0 ad L' := ⟨h.1, h.2.1, fun i v q => h.2.2 i v (hl i v q)⟩
/-! the judgement -/
def CX (own : String) (cc : ByteArray) (nL d : Nat) (ret : Option FieldType) (p : Program) (R : Room) (s : State) (m : MethodId) (args : Array Value) (meth : Method) (c : Code) (D : va_G) (dA : ClassId) (A : Nat → Prop) (cells slots : Nat) : Prop :=
  CallFix p m c cc nL s args lw_all own ∧ meth.sig.returnType = ret ∧ meth.locks = false ∧ va_K D vwCl [(dA, .int)] s ∧ (∀ q : Nat, s.heap.size ≤ q → A q) ∧ d ≤ R.frames ∧ 40 * d ≤ R.locals ∧ cells ≤ R.cells ∧ slots ≤ R.slots
def qB (sh : Shp) (D : va_G) (h0 : Nat) (ad : Nat → Nat) (dA : ClassId) (A : Nat → Prop) (σ : St) (t : State) : Prop := va_P D vwCl (wd sh h0 ad dA σ) t.heap ∧ va_K D vwCl [(dA, .int)] t ∧ va_D A (wd sh h0 ad dA σ)
def qc (ret : Option FieldType) (post : Int32 → St → Prop) (B : St → State → Prop) (A : Nat → Prop) : Array Value → State → Outcome → State → Prop := match ret with
  | none => va_Qv (fun u => post 0 u) B A
  | some _ => va_Qi post B A
def V (sh : Shp) (own : String) (cc : ByteArray) (nL d : Nat) (ret : Option FieldType) (post : Int32 → St → Prop) (pc : Nat) (L : List (Option AV)) (st : List AV) (σ : St) : Prop :=
  ∀ (p : Program) (l : Launch) (e : Env) (R : Room) (s : State) (m : MethodId) (args : Array Value) (below : List Frame) (meth : Method) (c : Code) (D : va_G) (h0 : Nat) (ad : Nat → Nat) (dA : ClassId) (A : Nat → Prop) (cells slots : Nat),
    CX own cc nL d ret p R s m args meth c D dA A cells slots → ∀ (H : Heap) (locs : List Loc) (ls : Array Slot), va_P D vwCl (wd sh h0 ad dA σ) H → va_D A (wd sh h0 ad dA σ) → va_S A s.heap H locs → LH ls nL h0 ad L →
      W p l e R s m args below meth c H locs cells slots (MQ below (qc ret post (qB sh D h0 ad dA A) A) args s cells slots A) (F0 m pc ls (st.map (vl h0 ad)))
def CK (sh : Shp) (own : String) (T : u_T) : Prop := vwCl[sh.1]? = some (own, T, sh.2.1) ∧ (∀ w ∈ u_ws own T sh.2.1, w ∈ lw_all) ∧ (∃ ty0 : Nat → FieldType, ∀ k, k < sh.2.1 → parseFieldDescriptor (T k).2.2.1 = some (ty0 k)) ∧ (∀ a, a < sh.2.1 → ∀ b, b < sh.2.1 → a ≠ b → (T a).2.1 ≠ (T b).2.1) ∧ va_nd (sh.2.2.map (fun q => q.1)) = true ∧ ∀ q ∈ sh.2.2, q.2 < 2 ^ 31
def MF (own : String) (y : MethodName) (cb : ByteArray) (nL : Nat) (ret : Option FieldType) (n : Nat) : Prop := Cond.instanceMethod y ∈ lw_all ∧ Cond.selects own y y ∈ lw_all ∧ Cond.initialized own ∈ lw_all ∧ Cond.code y cb nL ret ∈ lw_all ∧ (y.cls = own ∧ y.cls ≠ "java/lang/invoke/MethodHandle" ∧ y.cls ≠ "java/lang/invoke/VarHandle" ∧ (parseMethodDescriptor y.desc).map (fun d => d.parameters.length) = some n)
def lvl (d : Nat) : Room := { frames := d, cells := 0, slots := 0, locals := 40 * d }
/-- a method's contract: on an object in state σ, with arguments av, it returns with post; level d of frames -/
def CN (sh : Shp) (y : MethodName) (cb : ByteArray) (nL d : Nat) (ret : Option FieldType) (av : List Int32) (σ : St) (post : Int32 → St → Prop) : Prop :=
  ∀ (l : Launch) (D : va_G) (h0 : Nat) (ad : Nat → Nat) (dA : ClassId) (sz : Nat), Met l y (ws_ y cb nL ret) (lvl d) (va_Pc (.ref h0 :: av.map Value.int) (fun U => U.heap.size = sz ∧ va_P D vwCl (wd sh h0 ad dA σ) U.heap ∧ va_K D vwCl [(dA, .int)] U ∧ va_D (fun _ => True) (wd sh h0 ad dA σ))) (qc ret post (qB sh D h0 ad dA (va_A (wd sh h0 ad dA σ) sz)) (va_A (wd sh h0 ad dA σ) sz)) 0 0 (va_A (wd sh h0 ad dA σ) sz)
theorem lvA_mem : ∀ (vs : List Value), (∀ v ∈ vs, v.category = 1) → ∀ (i j : Nat) (x : Value), vs[j]? = some x → (i + j, x) ∈ lv_args i vs
  | [], _, i, j, x, h => by simp at h
  | v :: vs, hc, i, j, x, h => by
    have h1 : v.category = 1 := hc v List.mem_cons_self
    unfold lv_args
    rw [if_neg (by omega)]
    cases j with
    | zero =>
      rw [List.getElem?_cons_zero] at h
      cases h
      exact List.mem_cons_self
    | succ j =>
      rw [List.getElem?_cons_succ] at h
      have := lvA_mem vs (fun w hw => hc w (List.mem_cons_of_mem _ hw)) (i + 1) j x h
      refine List.mem_cons_of_mem _ ?_
      rw [show i + (j + 1) = i + 1 + j by omega]
      exact this
theorem lgS_len : ∀ (vs : List Value), (∀ v ∈ vs, v.category = 1) → (lg_sl vs).length = vs.length
  | [], _ => rfl
  | v :: vs, hc => by
    have h1 : v.category = 1 := hc v List.mem_cons_self
    have ih := lgS_len vs (fun w hw => hc w (List.mem_cons_of_mem _ hw))
    unfold lg_sl at ih ⊢
    rw [List.flatMap_cons, if_neg (by omega), List.length_append, ih]
    simp
    omega
/-- the locals at a method's entry -/
def L0 (av : List Int32) (nL : Nat) : List (Option AV) := some (.inr 0) :: (av.map (fun x => some (.inl x)) ++ List.replicate (nL - 1 - av.length) none)
theorem vl_args (h0 : Nat) (ad : Nat → Nat) (av : List Int32) : (av.map (fun x => (Sum.inl x : AV))).map (vl h0 ad) = av.map Value.int := by
  rw [List.map_map]
  rfl
theorem L0_LH {h0 : Nat} {ad : Nat → Nat} {av : List Int32} {nL : Nat} (hn : 1 + av.length ≤ nL) : LH ((lg_sl (Value.ref h0 :: av.map Value.int) ++ List.replicate (nL - (lg_sl (Value.ref h0 :: av.map Value.int)).length) Slot.unset).toArray) nL h0 ad (L0 av nL) := by
  have hc : ∀ v ∈ (Value.ref h0 :: av.map Value.int), v.category = 1 := by
    intro v hv
    rcases List.mem_cons.mp hv with e | e
    · rw [e]; rfl
    · obtain ⟨x, -, e2⟩ := List.mem_map.mp e
      rw [← e2]; rfl
  have hl := lv_entry (Value.ref h0 :: av.map Value.int) (n := nL) (by rw [lgS_len _ hc]; simp; omega)
  refine ⟨hl.1, hl.2.1, fun i v hi => ?_⟩
  have key : (Value.ref h0 :: av.map Value.int)[i]? = some (vl h0 ad v) := by
    unfold L0 at hi
    cases i with
    | zero =>
      rw [List.getElem?_cons_zero] at hi ⊢
      cases hi
      rfl
    | succ i =>
      rw [List.getElem?_cons_succ] at hi ⊢
      by_cases hlt : i < av.length
      · rw [List.getElem?_append_left (by simpa using hlt), List.getElem?_map] at hi
        rw [List.getElem?_map]
        cases hx : av[i]? with
        | none => rw [hx] at hi; cases hi
        | some x =>
          rw [hx] at hi
          cases hi
          rfl
      · rw [List.getElem?_append_right (by simpa using hlt), List.getElem?_replicate] at hi
        split at hi
        · cases hi
        · cases hi
  have := hl.2.2 (0 + i, vl h0 ad v) (lvA_mem _ hc 0 i _ key)
  rw [Nat.zero_add] at this
  exact this
set_option maxHeartbeats 1000000 in
theorem CN.ofV {sh : Shp} {own : String} {y : MethodName} {cb : ByteArray} {nL d : Nat} {ret : Option FieldType} {av : List Int32} {σ : St} {post : Int32 → St → Prop} (hy : plainName y.cls = true) (ho : y.cls = own) (hn : 1 + av.length ≤ nL) (h : V sh own cb nL d ret post 0 (L0 av nL) [] σ) : CN sh y cb nL d ret av σ post := by
  intro l D h0 ad dA sz
  refine Met.ofW (cc := cb) (maxL := nL) (ret := ret) hy rfl ?_
  intro p e s m args below meth c s₁ B hml hv
  obtain ⟨rfl, hsz, hP, hK, hD0⟩ := hv
  subst hsz
  have hts := atoms_spec (ws := ws_ y cb nL ret) B.pre
  have hts : ∀ w ∈ lw_all, w.before _ s = true := fun w h => hts w (List.mem_cons_of_mem _ h)
  have hown : s.vm.findClass own = some m.cls := by rw [← ho]; exact findClass_of_methodNamed B.named
  have hD := hD0.self (sz := s.heap.size)
  rw [lg_entry_eq]
  exact h p l e (lvl d) s m _ below meth c D h0 ad dA (va_A (wd sh h0 ad dA σ) s.heap.size) 0 0 ⟨⟨B.exec, B.bytes, hml, hown, hts⟩, B.returns, B.notSynchronized, hK, fun q h => Or.inr h, Nat.le_refl _, Nat.le_refl _, Nat.zero_le _, Nat.zero_le _⟩ s.heap [] _ hP hD va_S.rf (L0_LH hn)
section VROWS
variable {sh : Shp} {own : String} {cc : ByteArray} {nL dl : Nat} {ret : Option FieldType} {post : Int32 → St → Prop} {pc : Nat} {L L' : List (Option AV)} {st : List AV} {σ : St}
theorem r_iconst {n : Int} {v : Int32} (dg : decode cc pc = .ok (.iconst n, 1)) (hv : Int32.ofInt n = v) (k : V sh own cc nL dl ret post (pc + 1) L (.inl v :: st) σ) : V sh own cc nL dl ret post pc L st σ := fun p l e R s m args below meth c D h0 ad dA A cells slots C H locs ls hP hD hS hL => lv_iconst C.1.1 C.1.2.1 dg hv (k p l e R s m args below meth c D h0 ad dA A cells slots C H locs ls hP hD hS hL)
theorem r_bipush {n : Int} {v : Int32} (dg : decode cc pc = .ok (.bipush n, 2)) (hv : (Int8.ofInt n).toInt32 = v) (k : V sh own cc nL dl ret post (pc + 2) L (.inl v :: st) σ) : V sh own cc nL dl ret post pc L st σ := fun p l e R s m args below meth c D h0 ad dA A cells slots C H locs ls hP hD hS hL => lv_bipush C.1.1 C.1.2.1 dg hv (k p l e R s m args below meth c D h0 ad dA A cells slots C H locs ls hP hD hS hL)
theorem r_sipush {n : Int} {v : Int32} (dg : decode cc pc = .ok (.sipush n, 3)) (hv : (Int16.ofInt n).toInt32 = v) (k : V sh own cc nL dl ret post (pc + 3) L (.inl v :: st) σ) : V sh own cc nL dl ret post pc L st σ := fun p l e R s m args below meth c D h0 ad dA A cells slots C H locs ls hP hD hS hL => lv_sipush C.1.1 C.1.2.1 dg hv (k p l e R s m args below meth c D h0 ad dA A cells slots C H locs ls hP hD hS hL)
theorem r_ldc {index : Nat} {v : Int32} (hc : Jvm.Cond.constant own index v ∈ lw_all) (dg : decode cc pc = .ok (.ldc index, 2)) (k : V sh own cc nL dl ret post (pc + 2) L (.inl v :: st) σ) : V sh own cc nL dl ret post pc L st σ := fun p l e R s m args below meth c D h0 ad dA A cells slots C H locs ls hP hD hS hL => lv_ldc C.1.1 C.1.2.1 C.1.2.2.2.1 (C.1.2.2.2.2 _ hc) dg (k p l e R s m args below meth c D h0 ad dA A cells slots C H locs ls hP hD hS hL)
theorem r_iload_n {q : Fin 4} {i : Nat} {x : Int32} (dg : decode cc pc = .ok (.iload_n q, 1)) (hi : (q : Nat) = i) (hl : L[i]? = some (some (.inl x))) (k : V sh own cc nL dl ret post (pc + 1) L (.inl x :: st) σ) : V sh own cc nL dl ret post pc L st σ := fun p l e R s m args below meth c D h0 ad dA A cells slots C H locs ls hP hD hS hL => lv_iload_n C.1.1 C.1.2.1 dg hi (hL.2.2 i (.inl x) hl) (k p l e R s m args below meth c D h0 ad dA A cells slots C H locs ls hP hD hS hL)
theorem r_iload {i : Nat} {x : Int32} (dg : decode cc pc = .ok (.iload i, 2)) (hl : L[i]? = some (some (.inl x))) (k : V sh own cc nL dl ret post (pc + 2) L (.inl x :: st) σ) : V sh own cc nL dl ret post pc L st σ := fun p l e R s m args below meth c D h0 ad dA A cells slots C H locs ls hP hD hS hL => lv_iload C.1.1 C.1.2.1 dg (hL.2.2 i (.inl x) hl) (k p l e R s m args below meth c D h0 ad dA A cells slots C H locs ls hP hD hS hL)
theorem r_aload_n {q : Fin 4} {i : Nat} (dg : decode cc pc = .ok (.aload_n q, 1)) (hi : (q : Nat) = i) (hl : L[i]? = some (some (.inr 0))) (k : V sh own cc nL dl ret post (pc + 1) L (.inr 0 :: st) σ) : V sh own cc nL dl ret post pc L st σ := fun p l e R s m args below meth c D h0 ad dA A cells slots C H locs ls hP hD hS hL => lv_aload_n C.1.1 C.1.2.1 dg hi (hL.2.2 i (.inr 0) hl) (k p l e R s m args below meth c D h0 ad dA A cells slots C H locs ls hP hD hS hL)
theorem r_istore_n {q : Fin 4} {i : Nat} {x : Int32} (dg : decode cc pc = .ok (.istore_n q, 1)) (hi : (q : Nat) = i) (hn : i < nL) (hl : L.set i (some (.inl x)) = L') (k : V sh own cc nL dl ret post (pc + 1) L' st σ) : V sh own cc nL dl ret post pc L (.inl x :: st) σ := fun p l e R s m args below meth c D h0 ad dA A cells slots C H locs ls hP hD hS hL => lv_istore_n C.1.1 C.1.2.1 dg hi hL.has hn rfl (fun ls' h' => k p l e R s m args below meth c D h0 ad dA A cells slots C H locs ls' hP hD hS (hl ▸ LH.store h'))
theorem r_istore {i : Nat} {x : Int32} (dg : decode cc pc = .ok (.istore i, 2)) (hn : i < nL) (hl : L.set i (some (.inl x)) = L') (k : V sh own cc nL dl ret post (pc + 2) L' st σ) : V sh own cc nL dl ret post pc L (.inl x :: st) σ := fun p l e R s m args below meth c D h0 ad dA A cells slots C H locs ls hP hD hS hL => lv_istore C.1.1 C.1.2.1 dg hL.has hn rfl (fun ls' h' => k p l e R s m args below meth c D h0 ad dA A cells slots C H locs ls' hP hD hS (hl ▸ LH.store h'))
theorem r_iinc {i : Nat} {n : Int} {x v : Int32} (dg : decode cc pc = .ok (.iinc i n, 3)) (hx : L[i]? = some (some (.inl x))) (hv : x + Int32.ofInt n = v) (hn : i < nL) (hl : L.set i (some (.inl v)) = L') (k : V sh own cc nL dl ret post (pc + 3) L' st σ) : V sh own cc nL dl ret post pc L st σ := fun p l e R s m args below meth c D h0 ad dA A cells slots C H locs ls hP hD hS hL => by
  obtain ⟨q, hq⟩ := List.getElem?_of_mem (mem_lvL (h0 := h0) (ad := ad) hx)
  exact lv_iinc C.1.1 C.1.2.1 dg hL.has hq hv hn rfl (fun ls' h' => k p l e R s m args below meth c D h0 ad dA A cells slots C H locs ls' hP hD hS (hl ▸ LH.store h'))
theorem r_iadd {x y : Int32} (dg : decode cc pc = .ok (.iadd, 1)) (k : V sh own cc nL dl ret post (pc + 1) L (.inl (x + y) :: st) σ) : V sh own cc nL dl ret post pc L (.inl y :: .inl x :: st) σ := fun p l e R s m args below meth c D h0 ad dA A cells slots C H locs ls hP hD hS hL => lv_iadd C.1.1 C.1.2.1 dg (k p l e R s m args below meth c D h0 ad dA A cells slots C H locs ls hP hD hS hL)
theorem r_isub {x y : Int32} (dg : decode cc pc = .ok (.isub, 1)) (k : V sh own cc nL dl ret post (pc + 1) L (.inl (x - y) :: st) σ) : V sh own cc nL dl ret post pc L (.inl y :: .inl x :: st) σ := fun p l e R s m args below meth c D h0 ad dA A cells slots C H locs ls hP hD hS hL => lv_isub C.1.1 C.1.2.1 dg (k p l e R s m args below meth c D h0 ad dA A cells slots C H locs ls hP hD hS hL)
theorem r_imul {x y : Int32} (dg : decode cc pc = .ok (.imul, 1)) (k : V sh own cc nL dl ret post (pc + 1) L (.inl (x * y) :: st) σ) : V sh own cc nL dl ret post pc L (.inl y :: .inl x :: st) σ := fun p l e R s m args below meth c D h0 ad dA A cells slots C H locs ls hP hD hS hL => lv_imul C.1.1 C.1.2.1 dg (k p l e R s m args below meth c D h0 ad dA A cells slots C H locs ls hP hD hS hL)
theorem r_iand {x y : Int32} (dg : decode cc pc = .ok (.iand, 1)) (k : V sh own cc nL dl ret post (pc + 1) L (.inl (x &&& y) :: st) σ) : V sh own cc nL dl ret post pc L (.inl y :: .inl x :: st) σ := fun p l e R s m args below meth c D h0 ad dA A cells slots C H locs ls hP hD hS hL => lv_iand C.1.1 C.1.2.1 dg (k p l e R s m args below meth c D h0 ad dA A cells slots C H locs ls hP hD hS hL)
theorem r_ior {x y : Int32} (dg : decode cc pc = .ok (.ior, 1)) (k : V sh own cc nL dl ret post (pc + 1) L (.inl (x ||| y) :: st) σ) : V sh own cc nL dl ret post pc L (.inl y :: .inl x :: st) σ := fun p l e R s m args below meth c D h0 ad dA A cells slots C H locs ls hP hD hS hL => lv_ior C.1.1 C.1.2.1 dg (k p l e R s m args below meth c D h0 ad dA A cells slots C H locs ls hP hD hS hL)
theorem r_ixor {x y : Int32} (dg : decode cc pc = .ok (.ixor, 1)) (k : V sh own cc nL dl ret post (pc + 1) L (.inl (x ^^^ y) :: st) σ) : V sh own cc nL dl ret post pc L (.inl y :: .inl x :: st) σ := fun p l e R s m args below meth c D h0 ad dA A cells slots C H locs ls hP hD hS hL => lv_ixor C.1.1 C.1.2.1 dg (k p l e R s m args below meth c D h0 ad dA A cells slots C H locs ls hP hD hS hL)
theorem r_ishl {x y : Int32} (dg : decode cc pc = .ok (.ishl, 1)) (k : V sh own cc nL dl ret post (pc + 1) L (.inl (x <<< (y &&& 31)) :: st) σ) : V sh own cc nL dl ret post pc L (.inl y :: .inl x :: st) σ := fun p l e R s m args below meth c D h0 ad dA A cells slots C H locs ls hP hD hS hL => lv_ishl C.1.1 C.1.2.1 dg (k p l e R s m args below meth c D h0 ad dA A cells slots C H locs ls hP hD hS hL)
theorem r_ishr {x y : Int32} (dg : decode cc pc = .ok (.ishr, 1)) (k : V sh own cc nL dl ret post (pc + 1) L (.inl (x >>> (y &&& 31)) :: st) σ) : V sh own cc nL dl ret post pc L (.inl y :: .inl x :: st) σ := fun p l e R s m args below meth c D h0 ad dA A cells slots C H locs ls hP hD hS hL => lv_ishr C.1.1 C.1.2.1 dg (k p l e R s m args below meth c D h0 ad dA A cells slots C H locs ls hP hD hS hL)
theorem r_idiv {x y : Int32} (dg : decode cc pc = .ok (.idiv, 1)) (hne : ¬ y = 0) (k : V sh own cc nL dl ret post (pc + 1) L (.inl (x / y) :: st) σ) : V sh own cc nL dl ret post pc L (.inl y :: .inl x :: st) σ := fun p l e R s m args below meth c D h0 ad dA A cells slots C H locs ls hP hD hS hL => lv_idiv C.1.1 C.1.2.1 dg hne (k p l e R s m args below meth c D h0 ad dA A cells slots C H locs ls hP hD hS hL)
theorem r_irem {x y : Int32} (dg : decode cc pc = .ok (.irem, 1)) (hne : ¬ y = 0) (k : V sh own cc nL dl ret post (pc + 1) L (.inl (x - x / y * y) :: st) σ) : V sh own cc nL dl ret post pc L (.inl y :: .inl x :: st) σ := fun p l e R s m args below meth c D h0 ad dA A cells slots C H locs ls hP hD hS hL => lv_irem C.1.1 C.1.2.1 dg hne (k p l e R s m args below meth c D h0 ad dA A cells slots C H locs ls hP hD hS hL)
theorem r_dup {v : AV} (dg : decode cc pc = .ok (.dup, 1)) (k : V sh own cc nL dl ret post (pc + 1) L (v :: v :: st) σ) : V sh own cc nL dl ret post pc L (v :: st) σ := fun p l e R s m args below meth c D h0 ad dA A cells slots C H locs ls hP hD hS hL => lv_dup C.1.1 C.1.2.1 dg (vl_cat h0 ad v) (k p l e R s m args below meth c D h0 ad dA A cells slots C H locs ls hP hD hS hL)
theorem r_dup2 {v u : AV} (dg : decode cc pc = .ok (.dup2, 1)) (k : V sh own cc nL dl ret post (pc + 1) L (v :: u :: v :: u :: st) σ) : V sh own cc nL dl ret post pc L (v :: u :: st) σ := fun p l e R s m args below meth c D h0 ad dA A cells slots C H locs ls hP hD hS hL => lv_dup2_11 C.1.1 C.1.2.1 dg (vl_cat h0 ad v) (vl_cat h0 ad u) (k p l e R s m args below meth c D h0 ad dA A cells slots C H locs ls hP hD hS hL)
theorem r_pop {v : AV} (dg : decode cc pc = .ok (.pop, 1)) (k : V sh own cc nL dl ret post (pc + 1) L st σ) : V sh own cc nL dl ret post pc L (v :: st) σ := fun p l e R s m args below meth c D h0 ad dA A cells slots C H locs ls hP hD hS hL => lv_pop C.1.1 C.1.2.1 dg (vl_cat h0 ad v) (k p l e R s m args below meth c D h0 ad dA A cells slots C H locs ls hP hD hS hL)
theorem r_if_eq {x : Int32} {off : Int} {tgt : Nat} (dg : decode cc pc = .ok (.ifCond .eq off, 3)) (ht : (pc : Int) + off = (tgt : Int)) (kt : x = 0 → V sh own cc nL dl ret post tgt L st σ) (kf : ¬ x = 0 → V sh own cc nL dl ret post (pc + 3) L st σ) : V sh own cc nL dl ret post pc L (.inl x :: st) σ := fun p l e R s m args below meth c D h0 ad dA A cells slots C H locs ls hP hD hS hL => lv_if_eq C.1.1 C.1.2.1 dg ht (fun z => kt z p l e R s m args below meth c D h0 ad dA A cells slots C H locs ls hP hD hS hL) (fun z => kf z p l e R s m args below meth c D h0 ad dA A cells slots C H locs ls hP hD hS hL)
theorem r_icmp_eq {x y : Int32} {off : Int} {tgt : Nat} (dg : decode cc pc = .ok (.if_icmp .eq off, 3)) (ht : (pc : Int) + off = (tgt : Int)) (kt : x = y → V sh own cc nL dl ret post tgt L st σ) (kf : ¬ x = y → V sh own cc nL dl ret post (pc + 3) L st σ) : V sh own cc nL dl ret post pc L (.inl y :: .inl x :: st) σ := fun p l e R s m args below meth c D h0 ad dA A cells slots C H locs ls hP hD hS hL => lv_icmp_eq C.1.1 C.1.2.1 dg ht (fun z => kt z p l e R s m args below meth c D h0 ad dA A cells slots C H locs ls hP hD hS hL) (fun z => kf z p l e R s m args below meth c D h0 ad dA A cells slots C H locs ls hP hD hS hL)
theorem r_if_ne {x : Int32} {off : Int} {tgt : Nat} (dg : decode cc pc = .ok (.ifCond .ne off, 3)) (ht : (pc : Int) + off = (tgt : Int)) (kt : ¬ x = 0 → V sh own cc nL dl ret post tgt L st σ) (kf : x = 0 → V sh own cc nL dl ret post (pc + 3) L st σ) : V sh own cc nL dl ret post pc L (.inl x :: st) σ := fun p l e R s m args below meth c D h0 ad dA A cells slots C H locs ls hP hD hS hL => lv_if_ne C.1.1 C.1.2.1 dg ht (fun z => kt z p l e R s m args below meth c D h0 ad dA A cells slots C H locs ls hP hD hS hL) (fun z => kf z p l e R s m args below meth c D h0 ad dA A cells slots C H locs ls hP hD hS hL)
theorem r_icmp_ne {x y : Int32} {off : Int} {tgt : Nat} (dg : decode cc pc = .ok (.if_icmp .ne off, 3)) (ht : (pc : Int) + off = (tgt : Int)) (kt : ¬ x = y → V sh own cc nL dl ret post tgt L st σ) (kf : x = y → V sh own cc nL dl ret post (pc + 3) L st σ) : V sh own cc nL dl ret post pc L (.inl y :: .inl x :: st) σ := fun p l e R s m args below meth c D h0 ad dA A cells slots C H locs ls hP hD hS hL => lv_icmp_ne C.1.1 C.1.2.1 dg ht (fun z => kt z p l e R s m args below meth c D h0 ad dA A cells slots C H locs ls hP hD hS hL) (fun z => kf z p l e R s m args below meth c D h0 ad dA A cells slots C H locs ls hP hD hS hL)
theorem r_if_lt {x : Int32} {off : Int} {tgt : Nat} (dg : decode cc pc = .ok (.ifCond .lt off, 3)) (ht : (pc : Int) + off = (tgt : Int)) (kt : x < 0 → V sh own cc nL dl ret post tgt L st σ) (kf : ¬ x < 0 → V sh own cc nL dl ret post (pc + 3) L st σ) : V sh own cc nL dl ret post pc L (.inl x :: st) σ := fun p l e R s m args below meth c D h0 ad dA A cells slots C H locs ls hP hD hS hL => lv_if_lt C.1.1 C.1.2.1 dg ht (fun z => kt z p l e R s m args below meth c D h0 ad dA A cells slots C H locs ls hP hD hS hL) (fun z => kf z p l e R s m args below meth c D h0 ad dA A cells slots C H locs ls hP hD hS hL)
theorem r_icmp_lt {x y : Int32} {off : Int} {tgt : Nat} (dg : decode cc pc = .ok (.if_icmp .lt off, 3)) (ht : (pc : Int) + off = (tgt : Int)) (kt : x < y → V sh own cc nL dl ret post tgt L st σ) (kf : ¬ x < y → V sh own cc nL dl ret post (pc + 3) L st σ) : V sh own cc nL dl ret post pc L (.inl y :: .inl x :: st) σ := fun p l e R s m args below meth c D h0 ad dA A cells slots C H locs ls hP hD hS hL => lv_icmp_lt C.1.1 C.1.2.1 dg ht (fun z => kt z p l e R s m args below meth c D h0 ad dA A cells slots C H locs ls hP hD hS hL) (fun z => kf z p l e R s m args below meth c D h0 ad dA A cells slots C H locs ls hP hD hS hL)
theorem r_if_ge {x : Int32} {off : Int} {tgt : Nat} (dg : decode cc pc = .ok (.ifCond .ge off, 3)) (ht : (pc : Int) + off = (tgt : Int)) (kt : 0 ≤ x → V sh own cc nL dl ret post tgt L st σ) (kf : ¬ 0 ≤ x → V sh own cc nL dl ret post (pc + 3) L st σ) : V sh own cc nL dl ret post pc L (.inl x :: st) σ := fun p l e R s m args below meth c D h0 ad dA A cells slots C H locs ls hP hD hS hL => lv_if_ge C.1.1 C.1.2.1 dg ht (fun z => kt z p l e R s m args below meth c D h0 ad dA A cells slots C H locs ls hP hD hS hL) (fun z => kf z p l e R s m args below meth c D h0 ad dA A cells slots C H locs ls hP hD hS hL)
theorem r_icmp_ge {x y : Int32} {off : Int} {tgt : Nat} (dg : decode cc pc = .ok (.if_icmp .ge off, 3)) (ht : (pc : Int) + off = (tgt : Int)) (kt : y ≤ x → V sh own cc nL dl ret post tgt L st σ) (kf : ¬ y ≤ x → V sh own cc nL dl ret post (pc + 3) L st σ) : V sh own cc nL dl ret post pc L (.inl y :: .inl x :: st) σ := fun p l e R s m args below meth c D h0 ad dA A cells slots C H locs ls hP hD hS hL => lv_icmp_ge C.1.1 C.1.2.1 dg ht (fun z => kt z p l e R s m args below meth c D h0 ad dA A cells slots C H locs ls hP hD hS hL) (fun z => kf z p l e R s m args below meth c D h0 ad dA A cells slots C H locs ls hP hD hS hL)
theorem r_if_gt {x : Int32} {off : Int} {tgt : Nat} (dg : decode cc pc = .ok (.ifCond .gt off, 3)) (ht : (pc : Int) + off = (tgt : Int)) (kt : 0 < x → V sh own cc nL dl ret post tgt L st σ) (kf : ¬ 0 < x → V sh own cc nL dl ret post (pc + 3) L st σ) : V sh own cc nL dl ret post pc L (.inl x :: st) σ := fun p l e R s m args below meth c D h0 ad dA A cells slots C H locs ls hP hD hS hL => lv_if_gt C.1.1 C.1.2.1 dg ht (fun z => kt z p l e R s m args below meth c D h0 ad dA A cells slots C H locs ls hP hD hS hL) (fun z => kf z p l e R s m args below meth c D h0 ad dA A cells slots C H locs ls hP hD hS hL)
theorem r_icmp_gt {x y : Int32} {off : Int} {tgt : Nat} (dg : decode cc pc = .ok (.if_icmp .gt off, 3)) (ht : (pc : Int) + off = (tgt : Int)) (kt : y < x → V sh own cc nL dl ret post tgt L st σ) (kf : ¬ y < x → V sh own cc nL dl ret post (pc + 3) L st σ) : V sh own cc nL dl ret post pc L (.inl y :: .inl x :: st) σ := fun p l e R s m args below meth c D h0 ad dA A cells slots C H locs ls hP hD hS hL => lv_icmp_gt C.1.1 C.1.2.1 dg ht (fun z => kt z p l e R s m args below meth c D h0 ad dA A cells slots C H locs ls hP hD hS hL) (fun z => kf z p l e R s m args below meth c D h0 ad dA A cells slots C H locs ls hP hD hS hL)
theorem r_if_le {x : Int32} {off : Int} {tgt : Nat} (dg : decode cc pc = .ok (.ifCond .le off, 3)) (ht : (pc : Int) + off = (tgt : Int)) (kt : x ≤ 0 → V sh own cc nL dl ret post tgt L st σ) (kf : ¬ x ≤ 0 → V sh own cc nL dl ret post (pc + 3) L st σ) : V sh own cc nL dl ret post pc L (.inl x :: st) σ := fun p l e R s m args below meth c D h0 ad dA A cells slots C H locs ls hP hD hS hL => lv_if_le C.1.1 C.1.2.1 dg ht (fun z => kt z p l e R s m args below meth c D h0 ad dA A cells slots C H locs ls hP hD hS hL) (fun z => kf z p l e R s m args below meth c D h0 ad dA A cells slots C H locs ls hP hD hS hL)
theorem r_icmp_le {x y : Int32} {off : Int} {tgt : Nat} (dg : decode cc pc = .ok (.if_icmp .le off, 3)) (ht : (pc : Int) + off = (tgt : Int)) (kt : x ≤ y → V sh own cc nL dl ret post tgt L st σ) (kf : ¬ x ≤ y → V sh own cc nL dl ret post (pc + 3) L st σ) : V sh own cc nL dl ret post pc L (.inl y :: .inl x :: st) σ := fun p l e R s m args below meth c D h0 ad dA A cells slots C H locs ls hP hD hS hL => lv_icmp_le C.1.1 C.1.2.1 dg ht (fun z => kt z p l e R s m args below meth c D h0 ad dA A cells slots C H locs ls hP hD hS hL) (fun z => kf z p l e R s m args below meth c D h0 ad dA A cells slots C H locs ls hP hD hS hL)
theorem r_goto {off : Int} {tgt : Nat} (dg : decode cc pc = .ok (.goto off, 3)) (ht : (pc : Int) + off = (tgt : Int)) (k : V sh own cc nL dl ret post tgt L st σ) : V sh own cc nL dl ret post pc L st σ := fun p l e R s m args below meth c D h0 ad dA A cells slots C H locs ls hP hD hS hL => lv_goto C.1.1 C.1.2.1 dg ht (k p l e R s m args below meth c D h0 ad dA A cells slots C H locs ls hP hD hS hL)
theorem r_le (hl : ∀ (i : Nat) (v : AV), L'[i]? = some (some v) → L[i]? = some (some v)) (k : V sh own cc nL dl ret post pc L' st σ) : V sh own cc nL dl ret post pc L st σ := fun p l e R s m args below meth c D h0 ad dA A cells slots C H locs ls hP hD hS hL => k p l e R s m args below meth c D h0 ad dA A cells slots C H locs ls hP hD hS (hL.le hl)
theorem r_getI {T : u_T} (ck : CK sh own T) (f : Nat) {index : Nat} (hf : f < sh.2.1) (ha : sh_ar sh f = false) (hlink : Cond.fieldLink own index (T f).1 (T f).2.1 (T f).2.2.1 ∈ lw_all) (dg : decode cc pc = .ok (.getfield index, 3)) (k : V sh own cc nL dl ret post (pc + 3) L (.inl (σ f 0) :: st) σ) : V sh own cc nL dl ret post pc L (.inr 0 :: st) σ := fun p l e R s m args below meth c D h0 ad dA A cells slots C H locs ls hP hD hS hL => va_get C.1.1 C.1.2.1 C.1.2.2.2.2 ck.2.1 C.1.2.2.2.1 C.2.2.2.1 hP 0 rfl ck.1 f hf (C.1.2.2.2.2 _ hlink) (fun _ h => h) (v := .int (σ f 0)) (by rw [fv_at hf]; unfold fv; rw [ha]; rfl) dg (k p l e R s m args below meth c D h0 ad dA A cells slots C H locs ls hP hD hS hL)
theorem r_getA {T : u_T} (ck : CK sh own T) (f : Nat) {index : Nat} (hf : f < sh.2.1) (ha : sh_ar sh f = true) (hlink : Cond.fieldLink own index (T f).1 (T f).2.1 (T f).2.2.1 ∈ lw_all) (dg : decode cc pc = .ok (.getfield index, 3)) (k : V sh own cc nL dl ret post (pc + 3) L (.inr (f + 1) :: st) σ) : V sh own cc nL dl ret post pc L (.inr 0 :: st) σ := fun p l e R s m args below meth c D h0 ad dA A cells slots C H locs ls hP hD hS hL => va_get C.1.1 C.1.2.1 C.1.2.2.2.2 ck.2.1 C.1.2.2.2.1 C.2.2.2.1 hP 0 rfl ck.1 f hf (C.1.2.2.2.2 _ hlink) (fun _ h => h) (v := .ref (ad f)) (by rw [fv_at hf]; unfold fv; rw [ha]; rfl) dg (k p l e R s m args below meth c D h0 ad dA A cells slots C H locs ls hP hD hS hL)
theorem r_put {T : u_T} (ck : CK sh own T) (f : Nat) {index : Nat} {x : Int32} {ty : FieldType} (hf : f < sh.2.1) (ha : sh_ar sh f = false) (hfin : (T f).2.2.2 = false) (hd : parseFieldDescriptor (T f).2.2.1 = some ty) (hn : narrow ty (.int x) = .int x) (hfit : fits ty (.int x) = true) (hlink : Cond.fieldLink own index (T f).1 (T f).2.1 (T f).2.2.1 ∈ lw_all) (dg : decode cc pc = .ok (.putfield index, 3)) (k : V sh own cc nL dl ret post (pc + 3) L st (su σ f 0 x)) : V sh own cc nL dl ret post pc L (.inl x :: .inr 0 :: st) σ := fun p l e R s m args below meth c D h0 ad dA A cells slots C H locs ls hP hD hS hL => by
  obtain ⟨ty0, hty⟩ := ck.2.2.1
  exact va_put C.1.1 C.1.2.1 C.1.2.2.2.2 ck.2.1 ty0 hty ck.2.2.2.1 C.1.2.2.2.1 C.2.2.2.1 hP hD hS 0 rfl ck.1 f hf (C.1.2.2.2.2 _ hlink) (fun _ h => h) hfin hd hn hfit (by simpa using hf) dg (fun H1 locs1 hP1 hD1 hS1 => k p l e R s m args below meth c D h0 ad dA A cells slots C H1 locs1 ls (wd_put_fld ha x ▸ hP1) (wd_put_fld ha x ▸ hD1) hS1 hL)
theorem r_iald {T : u_T} (ck : CK sh own T) {f n j : Nat} {x : Int32} (hl : sh_len sh f = some n) (dg : decode cc pc = .ok (.iaload, 1)) (hx : x = nI j) (hj : j < n) (k : V sh own cc nL dl ret post (pc + 1) L (.inl (σ f j) :: st) σ) : V sh own cc nL dl ret post pc L (.inl x :: .inr (f + 1) :: st) σ := fun p l e R s m args below meth c D h0 ad dA A cells slots C H locs ls hP hD hS hL => by
  obtain ⟨q, hq⟩ := sh_len_pos hl
  have hn : n < 2 ^ 31 := ck.2.2.2.2.2 _ (List.mem_of_getElem? hq)
  subst hx
  have k := k p l e R s m args below meth c D h0 ad dA A cells slots C H locs ls hP hD hS hL
  refine va_iald C.1.1 C.1.2.1 C.2.2.2.1 hP (q + 1) 0 (wd_arr hq) rfl (vp_in_nI hj hn) dg ?_
  rw [nI_clamp (n := j) (by omega)]
  exact k
theorem r_iast {T : u_T} (ck : CK sh own T) {f n j : Nat} {x v : Int32} (hl : sh_len sh f = some n) (dg : decode cc pc = .ok (.iastore, 1)) (hx : x = nI j) (hj : j < n) (k : V sh own cc nL dl ret post (pc + 1) L st (su σ f j v)) : V sh own cc nL dl ret post pc L (.inl v :: .inl x :: .inr (f + 1) :: st) σ := fun p l e R s m args below meth c D h0 ad dA A cells slots C H locs ls hP hD hS hL => by
  obtain ⟨q, hq⟩ := sh_len_pos hl
  have hn : n < 2 ^ 31 := ck.2.2.2.2.2 _ (List.mem_of_getElem? hq)
  subst hx
  refine va_iast C.1.1 C.1.2.1 C.2.2.2.1 hP hD hS (q + 1) 0 (wd_arr hq) rfl (vp_in_nI hj hn) dg (fun H1 locs1 hP1 hD1 hS1 => ?_)
  rw [nI_clamp (n := j) (by omega), wd_put_arr ck.2.2.2.2.1 hq (sh_len_ar hl)] at hP1 hD1
  exact k p l e R s m args below meth c D h0 ad dA A cells slots C H1 locs1 ls hP1 hD1 hS1 hL
theorem r_iret {x : Int32} (dg : decode cc pc = .ok (.ireturn, 1)) (hq : post x σ) : V sh own cc nL dl (some .int) post pc L [.inl x] σ := fun p l e R s m args below meth c D h0 ad dA A cells slots C H locs ls hP hD hS hL => W.iret (v := x) C.1.1 C.1.2.1 C.2.1 (fun t ht hW => ⟨⟨x, σ, rfl, hq, by rw [ht]; exact hP, va_K.moved hW.alike C.2.2.2.1, hD⟩, hS.F ht⟩) hS.2.2 dg (hlocks := C.2.2.1)
theorem r_zret {x : Int32} (dg : decode cc pc = .ok (.ireturn, 1)) (hn : narrow .boolean (.int x) = .int x) (hq : post x σ) : V sh own cc nL dl (some .boolean) post pc L [.inl x] σ := fun p l e R s m args below meth c D h0 ad dA A cells slots C H locs ls hP hD hS hL => W.zret (v := x) C.1.1 C.1.2.1 C.2.1 hn (fun t ht hW => ⟨⟨x, σ, rfl, hq, by rw [ht]; exact hP, va_K.moved hW.alike C.2.2.2.1, hD⟩, hS.F ht⟩) hS.2.2 dg (hlocks := C.2.2.1)
theorem r_vret (dg : decode cc pc = .ok (.return_, 1)) (hq : post 0 σ) : V sh own cc nL dl none post pc L [] σ := fun p l e R s m args below meth c D h0 ad dA A cells slots C H locs ls hP hD hS hL => W.vret C.1.1 C.1.2.1 C.2.1 (fun t ht hW => ⟨⟨σ, rfl, hq, by rw [ht]; exact hP, va_K.moved hW.alike C.2.2.2.1, hD⟩, hS.F ht⟩) hS.2.2 dg (hlocks := C.2.2.1)
theorem cat_sum (h0 : Nat) (ad : Nat → Nat) : ∀ (rest : List AV), ((rest.map (vl h0 ad)).map fun v => v.category).sum = rest.length
  | [] => rfl
  | v :: rest => by
    rw [List.map_cons, List.map_cons, List.sum_cons, cat_sum h0 ad rest, vl_cat, List.length_cons]
    omega
theorem stk_eq (h0 : Nat) (ad : Nat → Nat) (av : List Int32) (rest : List AV) : ((av.map (fun x => (Sum.inl x : AV))).reverse ++ Sum.inr 0 :: rest).map (vl h0 ad) = (av.map Value.int).reverse ++ Value.ref h0 :: rest.map (vl h0 ad) := by
  rw [List.map_append, List.map_reverse, vl_args]
  rfl
set_option maxHeartbeats 2000000 in
theorem r_callI {T : u_T} (ck : CK sh own T) {y : MethodName} {cb : ByteArray} {nL' d' index : Nat} {rt : FieldType} {av : List Int32} {post' : Int32 → St → Prop} {rest : List AV} (hM : CN sh y cb nL' d' (some rt) av σ post') (mf : MF own y cb nL' (some rt) av.length) (hlink : Cond.methodLink own index y ∈ lw_all) (hd : d' + 1 ≤ dl) (h21 : nL' ≤ 21) (dg : decode cc pc = .ok (.invokevirtual index, 3)) (hst : st = (av.map (fun x => (Sum.inl x : AV))).reverse ++ Sum.inr 0 :: rest) (h8 : rest.length ≤ 8) (kk : ∀ (r : Int32) (σ' : St), post' r σ' → V sh own cc nL dl ret post (pc + 3) L (.inl r :: rest) σ') : V sh own cc nL dl ret post pc L st σ := by
  intro p l e R s m args below meth c D h0 ad dA A cells slots C H locs ls hP hD hS hL
  subst hst
  rw [stk_eq]
  obtain ⟨hC, hr, hlk, hK, hA, hRf, hRl, hRc, hRs⟩ := C
  have hts := hC.2.2.2.2
  have hFc : ∀ q, va_A (wd sh h0 ad dA σ) H.size q → A q := by
    intro q h
    rcases h with ⟨i, w, h⟩ | h
    · exact hD.2 i (q, w) h
    · exact hA q (Nat.le_trans hS.1 h)
  have hM' : Met l y (ws_ y cb nL' (some rt)) (lvl d') (va_Pc (.ref h0 :: av.map Value.int) (fun U => U.heap.size = H.size ∧ va_P D vwCl (wd sh h0 ad dA σ) U.heap ∧ va_K D vwCl [(dA, .int)] U ∧ va_D (fun _ => True) (wd sh h0 ad dA σ))) (va_Qi post' (qB sh D h0 ad dA (va_A (wd sh h0 ad dA σ) H.size)) (va_A (wd sh h0 ad dA σ) H.size)) 0 0 (va_A (wd sh h0 ad dA σ) H.size) := hM l D h0 ad dA H.size
  refine va_calli (va_runV (As := av.map Value.int) (rest := rest.map (vl h0 ad)) hC hM' (cwV av.length hts (lw_V hlink mf.1 mf.2.1 mf.2.2.1 mf.2.2.2.1) rfl rfl rfl mf.2.2.2.2 ⟨by show d' + 1 ≤ R.frames; omega, by show 8 + (nL' + 11) + 40 * d' ≤ R.locals; omega⟩) ⟨fun a U g mk q => by obtain ⟨q0, q1, qP, qK, qD⟩ := q; exact ⟨q0, q1, qP, va_K.moved (u := U) (U := U.calling g mk a) (Vm.Alike.refl U.vm) qK, qD⟩, va_recv hK hP (ci := sh.1) (q0 := 0) ck.1 rfl, fun U hU hW => ⟨rfl, by rw [hU], by rw [hU]; exact hP, va_K.moved hW.alike hK, hD.weaken (fun _ _ _ _ => trivial)⟩⟩ rfl (by simp) hL.1 rfl (lv_room (by rw [cat_sum]; exact h8)) dg ⟨hRc, hRs⟩) hS (fun q _ h => hFc q h) hFc (fun r σ' t H1 locs1 ht hvm hw hB hz1 hk1 hS1 => ?_)
  obtain ⟨hP1, hK1, hD1⟩ := hB
  rw [ht] at hP1
  exact kk r σ' hw p l e R s m args below meth c D h0 ad dA A cells slots ⟨hC, hr, hlk, hK, hA, hRf, hRl, hRc, hRs⟩ H1 locs1 ls hP1 (hD1.weaken (fun i q _ h => hFc q.1 h)) hS1 hL
set_option maxHeartbeats 2000000 in
theorem r_callV {T : u_T} (ck : CK sh own T) {y : MethodName} {cb : ByteArray} {nL' d' index : Nat} {av : List Int32} {post' : Int32 → St → Prop} {rest : List AV} (hM : CN sh y cb nL' d' none av σ post') (mf : MF own y cb nL' none av.length) (hlink : Cond.methodLink own index y ∈ lw_all) (hd : d' + 1 ≤ dl) (h21 : nL' ≤ 21) (dg : decode cc pc = .ok (.invokevirtual index, 3)) (hst : st = (av.map (fun x => (Sum.inl x : AV))).reverse ++ Sum.inr 0 :: rest) (h8 : rest.length ≤ 8) (kk : ∀ (σ' : St), post' 0 σ' → V sh own cc nL dl ret post (pc + 3) L rest σ') : V sh own cc nL dl ret post pc L st σ := by
  intro p l e R s m args below meth c D h0 ad dA A cells slots C H locs ls hP hD hS hL
  subst hst
  rw [stk_eq]
  obtain ⟨hC, hr, hlk, hK, hA, hRf, hRl, hRc, hRs⟩ := C
  have hts := hC.2.2.2.2
  have hFc : ∀ q, va_A (wd sh h0 ad dA σ) H.size q → A q := by
    intro q h
    rcases h with ⟨i, w, h⟩ | h
    · exact hD.2 i (q, w) h
    · exact hA q (Nat.le_trans hS.1 h)
  have hM' : Met l y (ws_ y cb nL' none) (lvl d') (va_Pc (.ref h0 :: av.map Value.int) (fun U => U.heap.size = H.size ∧ va_P D vwCl (wd sh h0 ad dA σ) U.heap ∧ va_K D vwCl [(dA, .int)] U ∧ va_D (fun _ => True) (wd sh h0 ad dA σ))) (va_Qv (fun u => post' 0 u) (qB sh D h0 ad dA (va_A (wd sh h0 ad dA σ) H.size)) (va_A (wd sh h0 ad dA σ) H.size)) 0 0 (va_A (wd sh h0 ad dA σ) H.size) := hM l D h0 ad dA H.size
  refine va_callv (va_runV (As := av.map Value.int) (rest := rest.map (vl h0 ad)) hC hM' (cwV av.length hts (lw_V hlink mf.1 mf.2.1 mf.2.2.1 mf.2.2.2.1) rfl rfl rfl mf.2.2.2.2 ⟨by show d' + 1 ≤ R.frames; omega, by show 8 + (nL' + 11) + 40 * d' ≤ R.locals; omega⟩) ⟨fun a U g mk q => by obtain ⟨q0, q1, qP, qK, qD⟩ := q; exact ⟨q0, q1, qP, va_K.moved (u := U) (U := U.calling g mk a) (Vm.Alike.refl U.vm) qK, qD⟩, va_recv hK hP (ci := sh.1) (q0 := 0) ck.1 rfl, fun U hU hW => ⟨rfl, by rw [hU], by rw [hU]; exact hP, va_K.moved hW.alike hK, hD.weaken (fun _ _ _ _ => trivial)⟩⟩ rfl (by simp) hL.1 rfl (lv_room (by rw [cat_sum]; exact h8)) dg ⟨hRc, hRs⟩) hS (fun q _ h => hFc q h) hFc (fun σ' t H1 locs1 ht hvm hw hB hz1 hk1 hS1 => ?_)
  obtain ⟨hP1, hK1, hD1⟩ := hB
  rw [ht] at hP1
  exact kk σ' hw p l e R s m args below meth c D h0 ad dA A cells slots ⟨hC, hr, hlk, hK, hA, hRf, hRl, hRc, hRs⟩ H1 locs1 ls hP1 (hD1.weaken (fun i q _ h => hFc q.1 h)) hS1 hL
end VROWS
abbrev shX0 : Shp := (0, 21, [(1, 3), (3, 14), (4, 14), (5, 8), (6, 8), (9, 512), (10, 512), (11, 512), (12, 512), (13, 512), (14, 512), (15, 512), (16, 1024), (17, 512), (18, 4608), (19, 8), (20, 8)])
theorem ckX0 : CK shX0 RX0 TX0 := ⟨rfl, in_X0, ⟨tyX0, tyX0_ok⟩, nmX0, by decide, by decide⟩
abbrev shX1 : Shp := (1, 4, [(0, 45), (1, 15), (3, 16)])
theorem ckX1 : CK shX1 RX1 TX1 := ⟨rfl, in_X1, ⟨tyX1, tyX1_ok⟩, nmX1, by decide, by decide⟩
theorem mf_X0_allow : MF RX0 yX0_allow cX0_allow 6 none 2 := ⟨q135, qs1, q26, q136, by decide +kernel⟩
theorem mf_X0_alwaysFalse : MF RX0 yX0_alwaysFalse cX0_alwaysFalse 5 (some .int) 0 := ⟨q236, q237, q26, q238, by decide +kernel⟩
theorem mf_X0_alwaysTrue : MF RX0 yX0_alwaysTrue cX0_alwaysTrue 5 (some .int) 0 := ⟨q232, q233, q26, q234, by decide +kernel⟩
theorem mf_X0_badSet : MF RX0 yX0_badSet cX0_badSet 2 (some .boolean) 1 := ⟨q192, qs14, q26, q193, by decide +kernel⟩
theorem mf_X0_build : MF RX0 yX0_build cX0_build 2 none 0 := ⟨q143, qs3, q26, q144, by decide +kernel⟩
theorem mf_X0_busiest : MF RX0 yX0_busiest cX0_busiest 8 (some .int) 2 := ⟨q176, qs11, q26, q177, by decide +kernel⟩
theorem mf_X0_clause : MF RX0 yX0_clause cX0_clause 2 (some .int) 0 := ⟨q110, q111, q26, q112, by decide +kernel⟩
theorem mf_X0_clauses : MF RX0 yX0_clauses cX0_clauses 1 (some .int) 0 := ⟨q118, q119, q26, q120, by decide +kernel⟩
theorem mf_X0_clausesLeft : MF RX0 yX0_clausesLeft cX0_clausesLeft 7 (some .int) 3 := ⟨q180, qs12, q26, q181, by decide +kernel⟩
theorem mf_X0_clausesWith : MF RX0 yX0_clausesWith cX0_clausesWith 5 (some .int) 2 := ⟨q172, qs10, q26, q173, by decide +kernel⟩
theorem mf_X0_count : MF RX0 yX0_count cX0_count 1 (some .int) 0 := ⟨q126, q127, q26, q128, by decide +kernel⟩
theorem mf_X0_countAllowed : MF RX0 yX0_countAllowed cX0_countAllowed 3 (some .int) 2 := ⟨q131, qs0, q26, q132, by decide +kernel⟩
theorem mf_X0_countSize : MF RX0 yX0_countSize cX0_countSize 2 (some .int) 1 := ⟨q195, q196, q26, q197, by decide +kernel⟩
theorem mf_X0_countWith : MF RX0 yX0_countWith cX0_countWith 3 (some .int) 2 := ⟨q187, q188, q26, q189, by decide +kernel⟩
theorem mf_X0_countWithout : MF RX0 yX0_countWithout cX0_countWithout 7 (some .int) 1 := ⟨q245, qs18, q26, q246, by decide +kernel⟩
theorem mf_X0_evaluated : MF RX0 yX0_evaluated cX0_evaluated 4 (some .int) 1 := ⟨q184, qs13, q26, q185, by decide +kernel⟩
theorem mf_X0_hasEmpty : MF RX0 yX0_hasEmpty cX0_hasEmpty 4 (some .boolean) 2 := ⟨q160, qs7, q26, q161, by decide +kernel⟩
theorem mf_X0_idle : MF RX0 yX0_idle cX0_idle 5 (some .int) 0 := ⟨q240, q241, q26, q242, by decide +kernel⟩
theorem mf_X0_isModel : MF RX0 yX0_isModel cX0_isModel 2 (some .boolean) 1 := ⟨q228, q229, q26, q230, by decide +kernel⟩
theorem mf_X0_leastTrue : MF RX0 yX0_leastTrue cX0_leastTrue 2 (some .int) 0 := ⟨q248, q249, q26, q250, by decide +kernel⟩
theorem mf_X0_literal : MF RX0 yX0_literal cX0_literal 2 (some .int) 1 := ⟨q102, q103, q26, q104, by decide +kernel⟩
theorem mf_X0_literalsOf : MF RX0 yX0_literalsOf cX0_literalsOf 2 (some .int) 1 := ⟨q164, qs8, q26, q165, by decide +kernel⟩
theorem mf_X0_model : MF RX0 yX0_model cX0_model 8 (some .int) 1 := ⟨q219, q220, q26, q221, by decide +kernel⟩
theorem mf_X0_nodeFor : MF RX0 yX0_nodeFor cX0_nodeFor 6 (some .int) 2 := ⟨q147, qs4, q26, q148, by decide +kernel⟩
theorem mf_X0_pass : MF RX0 yX0_pass cX0_pass 3 (some .int) 0 := ⟨q139, qs2, q26, q140, by decide +kernel⟩
theorem mf_X0_passSizes : MF RX0 yX0_passSizes cX0_passSizes 3 none 0 := ⟨q200, qs15, q26, q201, by decide +kernel⟩
theorem mf_X0_rank : MF RX0 yX0_rank cX0_rank 6 (some .int) 1 := ⟨q224, q225, q26, q226, by decide +kernel⟩
theorem mf_X0_scrap : MF RX0 yX0_scrap cX0_scrap 1 none 0 := ⟨q106, q107, q26, q108, by decide +kernel⟩
theorem mf_X0_share : MF RX0 yX0_share cX0_share 3 (some .int) 2 := ⟨q215, q216, q26, q217, by decide +kernel⟩
theorem mf_X0_sizeOf : MF RX0 yX0_sizeOf cX0_sizeOf 4 (some .int) 1 := ⟨q152, qs5, q26, q153, by decide +kernel⟩
theorem mf_X0_sizes : MF RX0 yX0_sizes cX0_sizes 5 none 1 := ⟨q204, qs16, q26, q205, by decide +kernel⟩
theorem mf_X0_together : MF RX0 yX0_together cX0_together 6 (some .int) 2 := ⟨q168, qs9, q26, q169, by decide +kernel⟩
theorem mf_X0_unclause : MF RX0 yX0_unclause cX0_unclause 1 (some .int) 0 := ⟨q114, q115, q26, q116, by decide +kernel⟩
theorem mf_X0_weigh : MF RX0 yX0_weigh cX0_weigh 2 none 0 := ⟨q212, qs17, q26, q213, by decide +kernel⟩
theorem mf_X0_weight : MF RX0 yX0_weight cX0_weight 5 (some .int) 3 := ⟨q122, q123, q26, q124, by decide +kernel⟩
theorem mf_X0_weighted : MF RX0 yX0_weighted cX0_weighted 1 (some .int) 0 := ⟨q207, q208, q26, q209, by decide +kernel⟩
theorem mf_X0_workOut : MF RX0 yX0_workOut cX0_workOut 10 none 1 := ⟨q156, qs6, q26, q157, by decide +kernel⟩
theorem mf_X1_alwaysFalse : MF RX1 yX1_alwaysFalse cX1_alwaysFalse 4 (some .int) 0 := ⟨q353, q354, q27, q355, by decide +kernel⟩
theorem mf_X1_alwaysTrue : MF RX1 yX1_alwaysTrue cX1_alwaysTrue 4 (some .int) 0 := ⟨q349, q350, q27, q351, by decide +kernel⟩
theorem mf_X1_clause : MF RX1 yX1_clause cX1_clause 2 (some .int) 0 := ⟨q279, q280, q27, q281, by decide +kernel⟩
theorem mf_X1_clauses : MF RX1 yX1_clauses cX1_clauses 1 (some .int) 0 := ⟨q287, q288, q27, q289, by decide +kernel⟩
theorem mf_X1_count : MF RX1 yX1_count cX1_count 1 (some .int) 0 := ⟨q295, q296, q27, q297, by decide +kernel⟩
theorem mf_X1_countSize : MF RX1 yX1_countSize cX1_countSize 4 (some .int) 1 := ⟨q319, q320, q27, q321, by decide +kernel⟩
theorem mf_X1_countWith : MF RX1 yX1_countWith cX1_countWith 5 (some .int) 2 := ⟨q315, q316, q27, q317, by decide +kernel⟩
theorem mf_X1_idle : MF RX1 yX1_idle cX1_idle 3 (some .int) 0 := ⟨q357, q358, q27, q359, by decide +kernel⟩
theorem mf_X1_isIdle : MF RX1 yX1_isIdle cX1_isIdle 3 (some .boolean) 1 := ⟨q362, qs24, q27, q363, by decide +kernel⟩
theorem mf_X1_isModel : MF RX1 yX1_isModel cX1_isModel 2 (some .boolean) 1 := ⟨q345, q346, q27, q347, by decide +kernel⟩
theorem mf_X1_isTrue : MF RX1 yX1_isTrue cX1_isTrue 4 (some .boolean) 2 := ⟨q308, qs20, q27, q309, by decide +kernel⟩
theorem mf_X1_leastTrue : MF RX1 yX1_leastTrue cX1_leastTrue 2 (some .int) 0 := ⟨q365, q366, q27, q367, by decide +kernel⟩
theorem mf_X1_literal : MF RX1 yX1_literal cX1_literal 2 (some .int) 1 := ⟨q271, q272, q27, q273, by decide +kernel⟩
theorem mf_X1_makesTrue : MF RX1 yX1_makesTrue cX1_makesTrue 3 (some .boolean) 1 := ⟨q304, qs19, q27, q305, by decide +kernel⟩
theorem mf_X1_model : MF RX1 yX1_model cX1_model 4 (some .int) 1 := ⟨q340, q341, q27, q342, by decide +kernel⟩
theorem mf_X1_rank : MF RX1 yX1_rank cX1_rank 4 (some .int) 1 := ⟨q299, q300, q27, q301, by decide +kernel⟩
theorem mf_X1_scrap : MF RX1 yX1_scrap cX1_scrap 1 none 0 := ⟨q275, q276, q27, q277, by decide +kernel⟩
theorem mf_X1_share : MF RX1 yX1_share cX1_share 5 (some .int) 2 := ⟨q331, q332, q27, q333, by decide +kernel⟩
theorem mf_X1_sizeOf : MF RX1 yX1_sizeOf cX1_sizeOf 4 (some .int) 1 := ⟨q324, qs22, q27, q325, by decide +kernel⟩
theorem mf_X1_truth : MF RX1 yX1_truth cX1_truth 3 (some .int) 2 := ⟨q312, qs21, q27, q313, by decide +kernel⟩
theorem mf_X1_unclause : MF RX1 yX1_unclause cX1_unclause 1 (some .int) 0 := ⟨q283, q284, q27, q285, by decide +kernel⟩
theorem mf_X1_weight : MF RX1 yX1_weight cX1_weight 5 (some .int) 3 := ⟨q291, q292, q27, q293, by decide +kernel⟩
theorem mf_X1_weightOf : MF RX1 yX1_weightOf cX1_weightOf 4 (some .int) 1 := ⟨q336, qs23, q27, q337, by decide +kernel⟩
theorem mf_X1_weighted : MF RX1 yX1_weighted cX1_weighted 1 (some .int) 0 := ⟨q327, q328, q27, q329, by decide +kernel⟩
end
section
set_option maxRecDepth 100000
theorem dX0_init_0 : decode cX0_init 0 = .ok (.aload_n 0, 1) := by decide +kernel
theorem dX0_init_1 : decode cX0_init 1 = .ok (.invokespecial 1, 3) := by decide +kernel
theorem dX0_init_4 : decode cX0_init 4 = .ok (.aload_n 0, 1) := by decide +kernel
theorem dX0_init_5 : decode cX0_init 5 = .ok (.iconst 3, 1) := by decide +kernel
theorem dX0_init_6 : decode cX0_init 6 = .ok (.newarray .int, 2) := by decide +kernel
theorem dX0_init_8 : decode cX0_init 8 = .ok (.putfield 7, 3) := by decide +kernel
theorem dX0_init_11 : decode cX0_init 11 = .ok (.aload_n 0, 1) := by decide +kernel
theorem dX0_init_12 : decode cX0_init 12 = .ok (.bipush 14, 2) := by decide +kernel
theorem dX0_init_14 : decode cX0_init 14 = .ok (.newarray .int, 2) := by decide +kernel
theorem dX0_init_16 : decode cX0_init 16 = .ok (.putfield 13, 3) := by decide +kernel
theorem dX0_init_19 : decode cX0_init 19 = .ok (.aload_n 0, 1) := by decide +kernel
theorem dX0_init_20 : decode cX0_init 20 = .ok (.bipush 14, 2) := by decide +kernel
theorem dX0_init_22 : decode cX0_init 22 = .ok (.newarray .int, 2) := by decide +kernel
theorem dX0_init_24 : decode cX0_init 24 = .ok (.putfield 16, 3) := by decide +kernel
theorem dX0_init_27 : decode cX0_init 27 = .ok (.aload_n 0, 1) := by decide +kernel
theorem dX0_init_28 : decode cX0_init 28 = .ok (.bipush 8, 2) := by decide +kernel
theorem dX0_init_30 : decode cX0_init 30 = .ok (.newarray .int, 2) := by decide +kernel
theorem dX0_init_32 : decode cX0_init 32 = .ok (.putfield 19, 3) := by decide +kernel
theorem dX0_init_35 : decode cX0_init 35 = .ok (.aload_n 0, 1) := by decide +kernel
theorem dX0_init_36 : decode cX0_init 36 = .ok (.bipush 8, 2) := by decide +kernel
theorem dX0_init_38 : decode cX0_init 38 = .ok (.newarray .int, 2) := by decide +kernel
theorem dX0_init_40 : decode cX0_init 40 = .ok (.putfield 22, 3) := by decide +kernel
theorem dX0_init_43 : decode cX0_init 43 = .ok (.aload_n 0, 1) := by decide +kernel
theorem dX0_init_44 : decode cX0_init 44 = .ok (.sipush 512, 3) := by decide +kernel
theorem dX0_init_47 : decode cX0_init 47 = .ok (.newarray .int, 2) := by decide +kernel
theorem dX0_init_49 : decode cX0_init 49 = .ok (.putfield 25, 3) := by decide +kernel
theorem dX0_init_52 : decode cX0_init 52 = .ok (.aload_n 0, 1) := by decide +kernel
theorem dX0_init_53 : decode cX0_init 53 = .ok (.sipush 512, 3) := by decide +kernel
theorem dX0_init_56 : decode cX0_init 56 = .ok (.newarray .int, 2) := by decide +kernel
theorem dX0_init_58 : decode cX0_init 58 = .ok (.putfield 28, 3) := by decide +kernel
theorem dX0_init_61 : decode cX0_init 61 = .ok (.aload_n 0, 1) := by decide +kernel
theorem dX0_init_62 : decode cX0_init 62 = .ok (.sipush 512, 3) := by decide +kernel
theorem dX0_init_65 : decode cX0_init 65 = .ok (.newarray .int, 2) := by decide +kernel
theorem dX0_init_67 : decode cX0_init 67 = .ok (.putfield 31, 3) := by decide +kernel
theorem dX0_init_70 : decode cX0_init 70 = .ok (.aload_n 0, 1) := by decide +kernel
theorem dX0_init_71 : decode cX0_init 71 = .ok (.sipush 512, 3) := by decide +kernel
theorem dX0_init_74 : decode cX0_init 74 = .ok (.newarray .int, 2) := by decide +kernel
theorem dX0_init_76 : decode cX0_init 76 = .ok (.putfield 34, 3) := by decide +kernel
theorem dX0_init_79 : decode cX0_init 79 = .ok (.aload_n 0, 1) := by decide +kernel
theorem dX0_init_80 : decode cX0_init 80 = .ok (.sipush 512, 3) := by decide +kernel
theorem dX0_init_83 : decode cX0_init 83 = .ok (.newarray .int, 2) := by decide +kernel
theorem dX0_init_85 : decode cX0_init 85 = .ok (.putfield 37, 3) := by decide +kernel
theorem dX0_init_88 : decode cX0_init 88 = .ok (.aload_n 0, 1) := by decide +kernel
theorem dX0_init_89 : decode cX0_init 89 = .ok (.sipush 512, 3) := by decide +kernel
theorem dX0_init_92 : decode cX0_init 92 = .ok (.newarray .int, 2) := by decide +kernel
theorem dX0_init_94 : decode cX0_init 94 = .ok (.putfield 40, 3) := by decide +kernel
theorem dX0_init_97 : decode cX0_init 97 = .ok (.aload_n 0, 1) := by decide +kernel
theorem dX0_init_98 : decode cX0_init 98 = .ok (.sipush 512, 3) := by decide +kernel
theorem dX0_init_101 : decode cX0_init 101 = .ok (.newarray .int, 2) := by decide +kernel
theorem dX0_init_103 : decode cX0_init 103 = .ok (.putfield 43, 3) := by decide +kernel
theorem dX0_init_106 : decode cX0_init 106 = .ok (.aload_n 0, 1) := by decide +kernel
theorem dX0_init_107 : decode cX0_init 107 = .ok (.sipush 1024, 3) := by decide +kernel
theorem dX0_init_110 : decode cX0_init 110 = .ok (.newarray .int, 2) := by decide +kernel
theorem dX0_init_112 : decode cX0_init 112 = .ok (.putfield 46, 3) := by decide +kernel
theorem dX0_init_115 : decode cX0_init 115 = .ok (.aload_n 0, 1) := by decide +kernel
theorem dX0_init_116 : decode cX0_init 116 = .ok (.sipush 512, 3) := by decide +kernel
theorem dX0_init_119 : decode cX0_init 119 = .ok (.newarray .int, 2) := by decide +kernel
theorem dX0_init_121 : decode cX0_init 121 = .ok (.putfield 49, 3) := by decide +kernel
theorem dX0_init_124 : decode cX0_init 124 = .ok (.aload_n 0, 1) := by decide +kernel
theorem dX0_init_125 : decode cX0_init 125 = .ok (.sipush 4608, 3) := by decide +kernel
theorem dX0_init_128 : decode cX0_init 128 = .ok (.newarray .int, 2) := by decide +kernel
theorem dX0_init_130 : decode cX0_init 130 = .ok (.putfield 52, 3) := by decide +kernel
theorem dX0_init_133 : decode cX0_init 133 = .ok (.aload_n 0, 1) := by decide +kernel
theorem dX0_init_134 : decode cX0_init 134 = .ok (.bipush 8, 2) := by decide +kernel
theorem dX0_init_136 : decode cX0_init 136 = .ok (.newarray .int, 2) := by decide +kernel
theorem dX0_init_138 : decode cX0_init 138 = .ok (.putfield 55, 3) := by decide +kernel
theorem dX0_init_141 : decode cX0_init 141 = .ok (.aload_n 0, 1) := by decide +kernel
theorem dX0_init_142 : decode cX0_init 142 = .ok (.bipush 8, 2) := by decide +kernel
theorem dX0_init_144 : decode cX0_init 144 = .ok (.newarray .int, 2) := by decide +kernel
theorem dX0_init_146 : decode cX0_init 146 = .ok (.putfield 58, 3) := by decide +kernel
theorem dX0_init_149 : decode cX0_init 149 = .ok (.iconst 0, 1) := by decide +kernel
theorem dX0_init_150 : decode cX0_init 150 = .ok (.istore_n 1, 1) := by decide +kernel
theorem dX0_init_151 : decode cX0_init 151 = .ok (.iload_n 1, 1) := by decide +kernel
theorem dX0_init_152 : decode cX0_init 152 = .ok (.bipush 8, 2) := by decide +kernel
theorem dX0_init_154 : decode cX0_init 154 = .ok (.if_icmp .ge 23, 3) := by decide +kernel
theorem dX0_init_157 : decode cX0_init 157 = .ok (.aload_n 0, 1) := by decide +kernel
theorem dX0_init_158 : decode cX0_init 158 = .ok (.getfield 19, 3) := by decide +kernel
theorem dX0_init_161 : decode cX0_init 161 = .ok (.iload_n 1, 1) := by decide +kernel
theorem dX0_init_162 : decode cX0_init 162 = .ok (.iconst 1, 1) := by decide +kernel
theorem dX0_init_163 : decode cX0_init 163 = .ok (.iastore, 1) := by decide +kernel
theorem dX0_init_164 : decode cX0_init 164 = .ok (.aload_n 0, 1) := by decide +kernel
theorem dX0_init_165 : decode cX0_init 165 = .ok (.getfield 22, 3) := by decide +kernel
theorem dX0_init_168 : decode cX0_init 168 = .ok (.iload_n 1, 1) := by decide +kernel
theorem dX0_init_169 : decode cX0_init 169 = .ok (.iconst 1, 1) := by decide +kernel
theorem dX0_init_170 : decode cX0_init 170 = .ok (.iastore, 1) := by decide +kernel
theorem dX0_init_171 : decode cX0_init 171 = .ok (.iinc 1 1, 3) := by decide +kernel
theorem dX0_init_174 : decode cX0_init 174 = .ok (.goto (-23), 3) := by decide +kernel
theorem dX0_init_177 : decode cX0_init 177 = .ok (.return_, 1) := by decide +kernel
theorem dX0_literal_0 : decode cX0_literal 0 = .ok (.iload_n 1, 1) := by decide +kernel
theorem dX0_literal_1 : decode cX0_literal 1 = .ok (.ifCond .lt 9, 3) := by decide +kernel
theorem dX0_literal_4 : decode cX0_literal 4 = .ok (.iload_n 1, 1) := by decide +kernel
theorem dX0_literal_5 : decode cX0_literal 5 = .ok (.bipush 15, 2) := by decide +kernel
theorem dX0_literal_7 : decode cX0_literal 7 = .ok (.if_icmp .le 5, 3) := by decide +kernel
theorem dX0_literal_10 : decode cX0_literal 10 = .ok (.iconst (-1), 1) := by decide +kernel
theorem dX0_literal_11 : decode cX0_literal 11 = .ok (.ireturn, 1) := by decide +kernel
theorem dX0_literal_12 : decode cX0_literal 12 = .ok (.aload_n 0, 1) := by decide +kernel
theorem dX0_literal_13 : decode cX0_literal 13 = .ok (.getfield 61, 3) := by decide +kernel
theorem dX0_literal_16 : decode cX0_literal 16 = .ok (.iconst 3, 1) := by decide +kernel
theorem dX0_literal_17 : decode cX0_literal 17 = .ok (.if_icmp .ne 6, 3) := by decide +kernel
theorem dX0_literal_20 : decode cX0_literal 20 = .ok (.bipush (-2), 2) := by decide +kernel
theorem dX0_literal_22 : decode cX0_literal 22 = .ok (.ireturn, 1) := by decide +kernel
theorem dX0_literal_23 : decode cX0_literal 23 = .ok (.aload_n 0, 1) := by decide +kernel
theorem dX0_literal_24 : decode cX0_literal 24 = .ok (.getfield 7, 3) := by decide +kernel
theorem dX0_literal_27 : decode cX0_literal 27 = .ok (.aload_n 0, 1) := by decide +kernel
theorem dX0_literal_28 : decode cX0_literal 28 = .ok (.getfield 61, 3) := by decide +kernel
theorem dX0_literal_31 : decode cX0_literal 31 = .ok (.iload_n 1, 1) := by decide +kernel
theorem dX0_literal_32 : decode cX0_literal 32 = .ok (.iastore, 1) := by decide +kernel
theorem dX0_literal_33 : decode cX0_literal 33 = .ok (.aload_n 0, 1) := by decide +kernel
theorem dX0_literal_34 : decode cX0_literal 34 = .ok (.dup, 1) := by decide +kernel
theorem dX0_literal_35 : decode cX0_literal 35 = .ok (.getfield 61, 3) := by decide +kernel
theorem dX0_literal_38 : decode cX0_literal 38 = .ok (.iconst 1, 1) := by decide +kernel
theorem dX0_literal_39 : decode cX0_literal 39 = .ok (.iadd, 1) := by decide +kernel
theorem dX0_literal_40 : decode cX0_literal 40 = .ok (.putfield 61, 3) := by decide +kernel
theorem dX0_literal_43 : decode cX0_literal 43 = .ok (.aload_n 0, 1) := by decide +kernel
theorem dX0_literal_44 : decode cX0_literal 44 = .ok (.getfield 61, 3) := by decide +kernel
theorem dX0_literal_47 : decode cX0_literal 47 = .ok (.ireturn, 1) := by decide +kernel
theorem dX0_scrap_0 : decode cX0_scrap 0 = .ok (.aload_n 0, 1) := by decide +kernel
theorem dX0_scrap_1 : decode cX0_scrap 1 = .ok (.iconst 0, 1) := by decide +kernel
theorem dX0_scrap_2 : decode cX0_scrap 2 = .ok (.putfield 61, 3) := by decide +kernel
theorem dX0_scrap_5 : decode cX0_scrap 5 = .ok (.return_, 1) := by decide +kernel
theorem dX0_clause_0 : decode cX0_clause 0 = .ok (.aload_n 0, 1) := by decide +kernel
theorem dX0_clause_1 : decode cX0_clause 1 = .ok (.getfield 65, 3) := by decide +kernel
theorem dX0_clause_4 : decode cX0_clause 4 = .ok (.bipush 14, 2) := by decide +kernel
theorem dX0_clause_6 : decode cX0_clause 6 = .ok (.if_icmp .ne 6, 3) := by decide +kernel
theorem dX0_clause_9 : decode cX0_clause 9 = .ok (.bipush (-2), 2) := by decide +kernel
theorem dX0_clause_11 : decode cX0_clause 11 = .ok (.ireturn, 1) := by decide +kernel
theorem dX0_clause_12 : decode cX0_clause 12 = .ok (.aload_n 0, 1) := by decide +kernel
theorem dX0_clause_13 : decode cX0_clause 13 = .ok (.getfield 13, 3) := by decide +kernel
theorem dX0_clause_16 : decode cX0_clause 16 = .ok (.aload_n 0, 1) := by decide +kernel
theorem dX0_clause_17 : decode cX0_clause 17 = .ok (.getfield 65, 3) := by decide +kernel
theorem dX0_clause_20 : decode cX0_clause 20 = .ok (.iconst 0, 1) := by decide +kernel
theorem dX0_clause_21 : decode cX0_clause 21 = .ok (.iastore, 1) := by decide +kernel
theorem dX0_clause_22 : decode cX0_clause 22 = .ok (.aload_n 0, 1) := by decide +kernel
theorem dX0_clause_23 : decode cX0_clause 23 = .ok (.getfield 16, 3) := by decide +kernel
theorem dX0_clause_26 : decode cX0_clause 26 = .ok (.aload_n 0, 1) := by decide +kernel
theorem dX0_clause_27 : decode cX0_clause 27 = .ok (.getfield 65, 3) := by decide +kernel
theorem dX0_clause_30 : decode cX0_clause 30 = .ok (.iconst 0, 1) := by decide +kernel
theorem dX0_clause_31 : decode cX0_clause 31 = .ok (.iastore, 1) := by decide +kernel
theorem dX0_clause_32 : decode cX0_clause 32 = .ok (.iconst 0, 1) := by decide +kernel
theorem dX0_clause_33 : decode cX0_clause 33 = .ok (.istore_n 1, 1) := by decide +kernel
theorem dX0_clause_34 : decode cX0_clause 34 = .ok (.iload_n 1, 1) := by decide +kernel
theorem dX0_clause_35 : decode cX0_clause 35 = .ok (.aload_n 0, 1) := by decide +kernel
theorem dX0_clause_36 : decode cX0_clause 36 = .ok (.getfield 61, 3) := by decide +kernel
theorem dX0_clause_39 : decode cX0_clause 39 = .ok (.if_icmp .ge 81, 3) := by decide +kernel
theorem dX0_clause_42 : decode cX0_clause 42 = .ok (.aload_n 0, 1) := by decide +kernel
theorem dX0_clause_43 : decode cX0_clause 43 = .ok (.getfield 7, 3) := by decide +kernel
theorem dX0_clause_46 : decode cX0_clause 46 = .ok (.iload_n 1, 1) := by decide +kernel
theorem dX0_clause_47 : decode cX0_clause 47 = .ok (.iaload, 1) := by decide +kernel
theorem dX0_clause_48 : decode cX0_clause 48 = .ok (.iconst 1, 1) := by decide +kernel
theorem dX0_clause_49 : decode cX0_clause 49 = .ok (.iand, 1) := by decide +kernel
theorem dX0_clause_50 : decode cX0_clause 50 = .ok (.ifCond .ne 35, 3) := by decide +kernel
theorem dX0_clause_53 : decode cX0_clause 53 = .ok (.aload_n 0, 1) := by decide +kernel
theorem dX0_clause_54 : decode cX0_clause 54 = .ok (.getfield 13, 3) := by decide +kernel
theorem dX0_clause_57 : decode cX0_clause 57 = .ok (.aload_n 0, 1) := by decide +kernel
theorem dX0_clause_58 : decode cX0_clause 58 = .ok (.getfield 65, 3) := by decide +kernel
theorem dX0_clause_61 : decode cX0_clause 61 = .ok (.aload_n 0, 1) := by decide +kernel
theorem dX0_clause_62 : decode cX0_clause 62 = .ok (.getfield 13, 3) := by decide +kernel
theorem dX0_clause_65 : decode cX0_clause 65 = .ok (.aload_n 0, 1) := by decide +kernel
theorem dX0_clause_66 : decode cX0_clause 66 = .ok (.getfield 65, 3) := by decide +kernel
theorem dX0_clause_69 : decode cX0_clause 69 = .ok (.iaload, 1) := by decide +kernel
theorem dX0_clause_70 : decode cX0_clause 70 = .ok (.iconst 1, 1) := by decide +kernel
theorem dX0_clause_71 : decode cX0_clause 71 = .ok (.aload_n 0, 1) := by decide +kernel
theorem dX0_clause_72 : decode cX0_clause 72 = .ok (.getfield 7, 3) := by decide +kernel
theorem dX0_clause_75 : decode cX0_clause 75 = .ok (.iload_n 1, 1) := by decide +kernel
theorem dX0_clause_76 : decode cX0_clause 76 = .ok (.iaload, 1) := by decide +kernel
theorem dX0_clause_77 : decode cX0_clause 77 = .ok (.iconst 1, 1) := by decide +kernel
theorem dX0_clause_78 : decode cX0_clause 78 = .ok (.ishr, 1) := by decide +kernel
theorem dX0_clause_79 : decode cX0_clause 79 = .ok (.ishl, 1) := by decide +kernel
theorem dX0_clause_80 : decode cX0_clause 80 = .ok (.ior, 1) := by decide +kernel
theorem dX0_clause_81 : decode cX0_clause 81 = .ok (.iastore, 1) := by decide +kernel
theorem dX0_clause_82 : decode cX0_clause 82 = .ok (.goto 32, 3) := by decide +kernel
theorem dX0_clause_85 : decode cX0_clause 85 = .ok (.aload_n 0, 1) := by decide +kernel
theorem dX0_clause_86 : decode cX0_clause 86 = .ok (.getfield 16, 3) := by decide +kernel
theorem dX0_clause_89 : decode cX0_clause 89 = .ok (.aload_n 0, 1) := by decide +kernel
theorem dX0_clause_90 : decode cX0_clause 90 = .ok (.getfield 65, 3) := by decide +kernel
theorem dX0_clause_93 : decode cX0_clause 93 = .ok (.aload_n 0, 1) := by decide +kernel
theorem dX0_clause_94 : decode cX0_clause 94 = .ok (.getfield 16, 3) := by decide +kernel
theorem dX0_clause_97 : decode cX0_clause 97 = .ok (.aload_n 0, 1) := by decide +kernel
theorem dX0_clause_98 : decode cX0_clause 98 = .ok (.getfield 65, 3) := by decide +kernel
theorem dX0_clause_101 : decode cX0_clause 101 = .ok (.iaload, 1) := by decide +kernel
theorem dX0_clause_102 : decode cX0_clause 102 = .ok (.iconst 1, 1) := by decide +kernel
theorem dX0_clause_103 : decode cX0_clause 103 = .ok (.aload_n 0, 1) := by decide +kernel
theorem dX0_clause_104 : decode cX0_clause 104 = .ok (.getfield 7, 3) := by decide +kernel
theorem dX0_clause_107 : decode cX0_clause 107 = .ok (.iload_n 1, 1) := by decide +kernel
theorem dX0_clause_108 : decode cX0_clause 108 = .ok (.iaload, 1) := by decide +kernel
theorem dX0_clause_109 : decode cX0_clause 109 = .ok (.iconst 1, 1) := by decide +kernel
theorem dX0_clause_110 : decode cX0_clause 110 = .ok (.ishr, 1) := by decide +kernel
theorem dX0_clause_111 : decode cX0_clause 111 = .ok (.ishl, 1) := by decide +kernel
theorem dX0_clause_112 : decode cX0_clause 112 = .ok (.ior, 1) := by decide +kernel
theorem dX0_clause_113 : decode cX0_clause 113 = .ok (.iastore, 1) := by decide +kernel
theorem dX0_clause_114 : decode cX0_clause 114 = .ok (.iinc 1 1, 3) := by decide +kernel
theorem dX0_clause_117 : decode cX0_clause 117 = .ok (.goto (-83), 3) := by decide +kernel
theorem dX0_clause_120 : decode cX0_clause 120 = .ok (.aload_n 0, 1) := by decide +kernel
theorem dX0_clause_121 : decode cX0_clause 121 = .ok (.iconst 0, 1) := by decide +kernel
theorem dX0_clause_122 : decode cX0_clause 122 = .ok (.putfield 61, 3) := by decide +kernel
theorem dX0_clause_125 : decode cX0_clause 125 = .ok (.aload_n 0, 1) := by decide +kernel
theorem dX0_clause_126 : decode cX0_clause 126 = .ok (.dup, 1) := by decide +kernel
theorem dX0_clause_127 : decode cX0_clause 127 = .ok (.getfield 65, 3) := by decide +kernel
theorem dX0_clause_130 : decode cX0_clause 130 = .ok (.iconst 1, 1) := by decide +kernel
theorem dX0_clause_131 : decode cX0_clause 131 = .ok (.iadd, 1) := by decide +kernel
theorem dX0_clause_132 : decode cX0_clause 132 = .ok (.putfield 65, 3) := by decide +kernel
theorem dX0_clause_135 : decode cX0_clause 135 = .ok (.aload_n 0, 1) := by decide +kernel
theorem dX0_clause_136 : decode cX0_clause 136 = .ok (.iconst 0, 1) := by decide +kernel
theorem dX0_clause_137 : decode cX0_clause 137 = .ok (.putfield 68, 3) := by decide +kernel
theorem dX0_clause_140 : decode cX0_clause 140 = .ok (.aload_n 0, 1) := by decide +kernel
theorem dX0_clause_141 : decode cX0_clause 141 = .ok (.getfield 65, 3) := by decide +kernel
theorem dX0_clause_144 : decode cX0_clause 144 = .ok (.iconst 1, 1) := by decide +kernel
theorem dX0_clause_145 : decode cX0_clause 145 = .ok (.isub, 1) := by decide +kernel
theorem dX0_clause_146 : decode cX0_clause 146 = .ok (.ireturn, 1) := by decide +kernel
theorem dX0_unclause_0 : decode cX0_unclause 0 = .ok (.aload_n 0, 1) := by decide +kernel
theorem dX0_unclause_1 : decode cX0_unclause 1 = .ok (.getfield 65, 3) := by decide +kernel
theorem dX0_unclause_4 : decode cX0_unclause 4 = .ok (.ifCond .ne 6, 3) := by decide +kernel
theorem dX0_unclause_7 : decode cX0_unclause 7 = .ok (.bipush (-4), 2) := by decide +kernel
theorem dX0_unclause_9 : decode cX0_unclause 9 = .ok (.ireturn, 1) := by decide +kernel
theorem dX0_unclause_10 : decode cX0_unclause 10 = .ok (.aload_n 0, 1) := by decide +kernel
theorem dX0_unclause_11 : decode cX0_unclause 11 = .ok (.dup, 1) := by decide +kernel
theorem dX0_unclause_12 : decode cX0_unclause 12 = .ok (.getfield 65, 3) := by decide +kernel
theorem dX0_unclause_15 : decode cX0_unclause 15 = .ok (.iconst 1, 1) := by decide +kernel
theorem dX0_unclause_16 : decode cX0_unclause 16 = .ok (.isub, 1) := by decide +kernel
theorem dX0_unclause_17 : decode cX0_unclause 17 = .ok (.putfield 65, 3) := by decide +kernel
theorem dX0_unclause_20 : decode cX0_unclause 20 = .ok (.aload_n 0, 1) := by decide +kernel
theorem dX0_unclause_21 : decode cX0_unclause 21 = .ok (.iconst 0, 1) := by decide +kernel
theorem dX0_unclause_22 : decode cX0_unclause 22 = .ok (.putfield 68, 3) := by decide +kernel
theorem dX0_unclause_25 : decode cX0_unclause 25 = .ok (.aload_n 0, 1) := by decide +kernel
theorem dX0_unclause_26 : decode cX0_unclause 26 = .ok (.getfield 65, 3) := by decide +kernel
theorem dX0_unclause_29 : decode cX0_unclause 29 = .ok (.ireturn, 1) := by decide +kernel
theorem dX0_clauses_0 : decode cX0_clauses 0 = .ok (.aload_n 0, 1) := by decide +kernel
theorem dX0_clauses_1 : decode cX0_clauses 1 = .ok (.getfield 65, 3) := by decide +kernel
theorem dX0_clauses_4 : decode cX0_clauses 4 = .ok (.ireturn, 1) := by decide +kernel
theorem dX0_weight_0 : decode cX0_weight 0 = .ok (.iload_n 1, 1) := by decide +kernel
theorem dX0_weight_1 : decode cX0_weight 1 = .ok (.ifCond .lt 28, 3) := by decide +kernel
theorem dX0_weight_4 : decode cX0_weight 4 = .ok (.iload_n 1, 1) := by decide +kernel
theorem dX0_weight_5 : decode cX0_weight 5 = .ok (.bipush 8, 2) := by decide +kernel
theorem dX0_weight_7 : decode cX0_weight 7 = .ok (.if_icmp .ge 22, 3) := by decide +kernel
theorem dX0_weight_10 : decode cX0_weight 10 = .ok (.iload_n 2, 1) := by decide +kernel
theorem dX0_weight_11 : decode cX0_weight 11 = .ok (.ifCond .lt 18, 3) := by decide +kernel
theorem dX0_weight_14 : decode cX0_weight 14 = .ok (.iload_n 2, 1) := by decide +kernel
theorem dX0_weight_15 : decode cX0_weight 15 = .ok (.iconst 1, 1) := by decide +kernel
theorem dX0_weight_16 : decode cX0_weight 16 = .ok (.if_icmp .gt 13, 3) := by decide +kernel
theorem dX0_weight_19 : decode cX0_weight 19 = .ok (.iload_n 3, 1) := by decide +kernel
theorem dX0_weight_20 : decode cX0_weight 20 = .ok (.ifCond .lt 9, 3) := by decide +kernel
theorem dX0_weight_23 : decode cX0_weight 23 = .ok (.iload_n 3, 1) := by decide +kernel
theorem dX0_weight_24 : decode cX0_weight 24 = .ok (.bipush 9, 2) := by decide +kernel
theorem dX0_weight_26 : decode cX0_weight 26 = .ok (.if_icmp .le 5, 3) := by decide +kernel
theorem dX0_weight_29 : decode cX0_weight 29 = .ok (.iconst (-1), 1) := by decide +kernel
theorem dX0_weight_30 : decode cX0_weight 30 = .ok (.ireturn, 1) := by decide +kernel
theorem dX0_weight_31 : decode cX0_weight 31 = .ok (.iload_n 2, 1) := by decide +kernel
theorem dX0_weight_32 : decode cX0_weight 32 = .ok (.ifCond .ne 12, 3) := by decide +kernel
theorem dX0_weight_35 : decode cX0_weight 35 = .ok (.aload_n 0, 1) := by decide +kernel
theorem dX0_weight_36 : decode cX0_weight 36 = .ok (.getfield 19, 3) := by decide +kernel
theorem dX0_weight_39 : decode cX0_weight 39 = .ok (.iload_n 1, 1) := by decide +kernel
theorem dX0_weight_40 : decode cX0_weight 40 = .ok (.iaload, 1) := by decide +kernel
theorem dX0_weight_41 : decode cX0_weight 41 = .ok (.goto 9, 3) := by decide +kernel
theorem dX0_weight_44 : decode cX0_weight 44 = .ok (.aload_n 0, 1) := by decide +kernel
theorem dX0_weight_45 : decode cX0_weight 45 = .ok (.getfield 22, 3) := by decide +kernel
theorem dX0_weight_48 : decode cX0_weight 48 = .ok (.iload_n 1, 1) := by decide +kernel
theorem dX0_weight_49 : decode cX0_weight 49 = .ok (.iaload, 1) := by decide +kernel
theorem dX0_weight_50 : decode cX0_weight 50 = .ok (.istore 4, 2) := by decide +kernel
theorem dX0_weight_52 : decode cX0_weight 52 = .ok (.iload_n 2, 1) := by decide +kernel
theorem dX0_weight_53 : decode cX0_weight 53 = .ok (.ifCond .ne 13, 3) := by decide +kernel
theorem dX0_weight_56 : decode cX0_weight 56 = .ok (.aload_n 0, 1) := by decide +kernel
theorem dX0_weight_57 : decode cX0_weight 57 = .ok (.getfield 19, 3) := by decide +kernel
theorem dX0_weight_60 : decode cX0_weight 60 = .ok (.iload_n 1, 1) := by decide +kernel
theorem dX0_weight_61 : decode cX0_weight 61 = .ok (.iload_n 3, 1) := by decide +kernel
theorem dX0_weight_62 : decode cX0_weight 62 = .ok (.iastore, 1) := by decide +kernel
theorem dX0_weight_63 : decode cX0_weight 63 = .ok (.goto 10, 3) := by decide +kernel
theorem dX0_weight_66 : decode cX0_weight 66 = .ok (.aload_n 0, 1) := by decide +kernel
theorem dX0_weight_67 : decode cX0_weight 67 = .ok (.getfield 22, 3) := by decide +kernel
theorem dX0_weight_70 : decode cX0_weight 70 = .ok (.iload_n 1, 1) := by decide +kernel
theorem dX0_weight_71 : decode cX0_weight 71 = .ok (.iload_n 3, 1) := by decide +kernel
theorem dX0_weight_72 : decode cX0_weight 72 = .ok (.iastore, 1) := by decide +kernel
theorem dX0_weight_73 : decode cX0_weight 73 = .ok (.iload 4, 2) := by decide +kernel
theorem dX0_weight_75 : decode cX0_weight 75 = .ok (.ireturn, 1) := by decide +kernel
theorem dX0_count_0 : decode cX0_count 0 = .ok (.aload_n 0, 1) := by decide +kernel
theorem dX0_count_1 : decode cX0_count 1 = .ok (.iconst 0, 1) := by decide +kernel
theorem dX0_count_2 : decode cX0_count 2 = .ok (.iconst 0, 1) := by decide +kernel
theorem dX0_count_3 : decode cX0_count 3 = .ok (.invokevirtual 122, 3) := by decide +kernel
theorem dX0_count_6 : decode cX0_count 6 = .ok (.ireturn, 1) := by decide +kernel
theorem dX0_countAllowed_0 : decode cX0_countAllowed 0 = .ok (.aload_n 0, 1) := by decide +kernel
theorem dX0_countAllowed_1 : decode cX0_countAllowed 1 = .ok (.iload_n 1, 1) := by decide +kernel
theorem dX0_countAllowed_2 : decode cX0_countAllowed 2 = .ok (.iload_n 2, 1) := by decide +kernel
theorem dX0_countAllowed_3 : decode cX0_countAllowed 3 = .ok (.invokevirtual 114, 3) := by decide +kernel
theorem dX0_countAllowed_6 : decode cX0_countAllowed 6 = .ok (.aload_n 0, 1) := by decide +kernel
theorem dX0_countAllowed_7 : decode cX0_countAllowed 7 = .ok (.invokevirtual 118, 3) := by decide +kernel
theorem dX0_countAllowed_10 : decode cX0_countAllowed 10 = .ok (.ireturn, 1) := by decide +kernel
theorem dX0_allow_0 : decode cX0_allow 0 = .ok (.iconst 0, 1) := by decide +kernel
theorem dX0_allow_1 : decode cX0_allow 1 = .ok (.istore_n 3, 1) := by decide +kernel
theorem dX0_allow_2 : decode cX0_allow 2 = .ok (.iload_n 3, 1) := by decide +kernel
theorem dX0_allow_3 : decode cX0_allow 3 = .ok (.bipush 8, 2) := by decide +kernel
theorem dX0_allow_5 : decode cX0_allow 5 = .ok (.if_icmp .ge 82, 3) := by decide +kernel
theorem dX0_allow_8 : decode cX0_allow 8 = .ok (.iload_n 1, 1) := by decide +kernel
theorem dX0_allow_9 : decode cX0_allow 9 = .ok (.iload_n 3, 1) := by decide +kernel
theorem dX0_allow_10 : decode cX0_allow 10 = .ok (.ishr, 1) := by decide +kernel
theorem dX0_allow_11 : decode cX0_allow 11 = .ok (.iconst 1, 1) := by decide +kernel
theorem dX0_allow_12 : decode cX0_allow 12 = .ok (.iand, 1) := by decide +kernel
theorem dX0_allow_13 : decode cX0_allow 13 = .ok (.ifCond .ne 7, 3) := by decide +kernel
theorem dX0_allow_16 : decode cX0_allow 16 = .ok (.iconst 1, 1) := by decide +kernel
theorem dX0_allow_17 : decode cX0_allow 17 = .ok (.goto 4, 3) := by decide +kernel
theorem dX0_allow_20 : decode cX0_allow 20 = .ok (.iconst 0, 1) := by decide +kernel
theorem dX0_allow_21 : decode cX0_allow 21 = .ok (.istore 4, 2) := by decide +kernel
theorem dX0_allow_23 : decode cX0_allow 23 = .ok (.iload_n 2, 1) := by decide +kernel
theorem dX0_allow_24 : decode cX0_allow 24 = .ok (.iload_n 3, 1) := by decide +kernel
theorem dX0_allow_25 : decode cX0_allow 25 = .ok (.ishr, 1) := by decide +kernel
theorem dX0_allow_26 : decode cX0_allow 26 = .ok (.iconst 1, 1) := by decide +kernel
theorem dX0_allow_27 : decode cX0_allow 27 = .ok (.iand, 1) := by decide +kernel
theorem dX0_allow_28 : decode cX0_allow 28 = .ok (.iconst 1, 1) := by decide +kernel
theorem dX0_allow_29 : decode cX0_allow 29 = .ok (.if_icmp .ne 7, 3) := by decide +kernel
theorem dX0_allow_32 : decode cX0_allow 32 = .ok (.iconst 1, 1) := by decide +kernel
theorem dX0_allow_33 : decode cX0_allow 33 = .ok (.goto 4, 3) := by decide +kernel
theorem dX0_allow_36 : decode cX0_allow 36 = .ok (.iconst 0, 1) := by decide +kernel
theorem dX0_allow_37 : decode cX0_allow 37 = .ok (.istore 5, 2) := by decide +kernel
theorem dX0_allow_39 : decode cX0_allow 39 = .ok (.aload_n 0, 1) := by decide +kernel
theorem dX0_allow_40 : decode cX0_allow 40 = .ok (.getfield 58, 3) := by decide +kernel
theorem dX0_allow_43 : decode cX0_allow 43 = .ok (.iload_n 3, 1) := by decide +kernel
theorem dX0_allow_44 : decode cX0_allow 44 = .ok (.iload 4, 2) := by decide +kernel
theorem dX0_allow_46 : decode cX0_allow 46 = .ok (.ifCond .ne 8, 3) := by decide +kernel
theorem dX0_allow_49 : decode cX0_allow 49 = .ok (.iload 5, 2) := by decide +kernel
theorem dX0_allow_51 : decode cX0_allow 51 = .ok (.ifCond .eq 7, 3) := by decide +kernel
theorem dX0_allow_54 : decode cX0_allow 54 = .ok (.iconst 1, 1) := by decide +kernel
theorem dX0_allow_55 : decode cX0_allow 55 = .ok (.goto 4, 3) := by decide +kernel
theorem dX0_allow_58 : decode cX0_allow 58 = .ok (.iconst 0, 1) := by decide +kernel
theorem dX0_allow_59 : decode cX0_allow 59 = .ok (.iastore, 1) := by decide +kernel
theorem dX0_allow_60 : decode cX0_allow 60 = .ok (.aload_n 0, 1) := by decide +kernel
theorem dX0_allow_61 : decode cX0_allow 61 = .ok (.getfield 55, 3) := by decide +kernel
theorem dX0_allow_64 : decode cX0_allow 64 = .ok (.iload_n 3, 1) := by decide +kernel
theorem dX0_allow_65 : decode cX0_allow 65 = .ok (.iload 4, 2) := by decide +kernel
theorem dX0_allow_67 : decode cX0_allow 67 = .ok (.ifCond .ne 8, 3) := by decide +kernel
theorem dX0_allow_70 : decode cX0_allow 70 = .ok (.iload 5, 2) := by decide +kernel
theorem dX0_allow_72 : decode cX0_allow 72 = .ok (.ifCond .ne 7, 3) := by decide +kernel
theorem dX0_allow_75 : decode cX0_allow 75 = .ok (.iconst 1, 1) := by decide +kernel
theorem dX0_allow_76 : decode cX0_allow 76 = .ok (.goto 4, 3) := by decide +kernel
theorem dX0_allow_79 : decode cX0_allow 79 = .ok (.iconst 0, 1) := by decide +kernel
theorem dX0_allow_80 : decode cX0_allow 80 = .ok (.iastore, 1) := by decide +kernel
theorem dX0_allow_81 : decode cX0_allow 81 = .ok (.iinc 3 1, 3) := by decide +kernel
theorem dX0_allow_84 : decode cX0_allow 84 = .ok (.goto (-82), 3) := by decide +kernel
theorem dX0_allow_87 : decode cX0_allow 87 = .ok (.return_, 1) := by decide +kernel
theorem dX0_pass_0 : decode cX0_pass 0 = .ok (.aload_n 0, 1) := by decide +kernel
theorem dX0_pass_1 : decode cX0_pass 1 = .ok (.invokevirtual 108, 3) := by decide +kernel
theorem dX0_pass_4 : decode cX0_pass 4 = .ok (.iconst 0, 1) := by decide +kernel
theorem dX0_pass_5 : decode cX0_pass 5 = .ok (.istore_n 1, 1) := by decide +kernel
theorem dX0_pass_6 : decode cX0_pass 6 = .ok (.iload_n 1, 1) := by decide +kernel
theorem dX0_pass_7 : decode cX0_pass 7 = .ok (.bipush 8, 2) := by decide +kernel
theorem dX0_pass_9 : decode cX0_pass 9 = .ok (.if_icmp .gt 46, 3) := by decide +kernel
theorem dX0_pass_12 : decode cX0_pass 12 = .ok (.iconst 0, 1) := by decide +kernel
theorem dX0_pass_13 : decode cX0_pass 13 = .ok (.istore_n 2, 1) := by decide +kernel
theorem dX0_pass_14 : decode cX0_pass 14 = .ok (.iload_n 2, 1) := by decide +kernel
theorem dX0_pass_15 : decode cX0_pass 15 = .ok (.aload_n 0, 1) := by decide +kernel
theorem dX0_pass_16 : decode cX0_pass 16 = .ok (.getfield 73, 3) := by decide +kernel
theorem dX0_pass_19 : decode cX0_pass 19 = .ok (.if_icmp .ge 30, 3) := by decide +kernel
theorem dX0_pass_22 : decode cX0_pass 22 = .ok (.aload_n 0, 1) := by decide +kernel
theorem dX0_pass_23 : decode cX0_pass 23 = .ok (.getfield 31, 3) := by decide +kernel
theorem dX0_pass_26 : decode cX0_pass 26 = .ok (.iload_n 2, 1) := by decide +kernel
theorem dX0_pass_27 : decode cX0_pass 27 = .ok (.iaload, 1) := by decide +kernel
theorem dX0_pass_28 : decode cX0_pass 28 = .ok (.iload_n 1, 1) := by decide +kernel
theorem dX0_pass_29 : decode cX0_pass 29 = .ok (.if_icmp .ne 14, 3) := by decide +kernel
theorem dX0_pass_32 : decode cX0_pass 32 = .ok (.aload_n 0, 1) := by decide +kernel
theorem dX0_pass_33 : decode cX0_pass 33 = .ok (.getfield 49, 3) := by decide +kernel
theorem dX0_pass_36 : decode cX0_pass 36 = .ok (.iload_n 2, 1) := by decide +kernel
theorem dX0_pass_37 : decode cX0_pass 37 = .ok (.aload_n 0, 1) := by decide +kernel
theorem dX0_pass_38 : decode cX0_pass 38 = .ok (.iload_n 2, 1) := by decide +kernel
theorem dX0_pass_39 : decode cX0_pass 39 = .ok (.invokevirtual 111, 3) := by decide +kernel
theorem dX0_pass_42 : decode cX0_pass 42 = .ok (.iastore, 1) := by decide +kernel
theorem dX0_pass_43 : decode cX0_pass 43 = .ok (.iinc 2 1, 3) := by decide +kernel
theorem dX0_pass_46 : decode cX0_pass 46 = .ok (.goto (-32), 3) := by decide +kernel
theorem dX0_pass_49 : decode cX0_pass 49 = .ok (.iinc 1 1, 3) := by decide +kernel
theorem dX0_pass_52 : decode cX0_pass 52 = .ok (.goto (-46), 3) := by decide +kernel
theorem dX0_pass_55 : decode cX0_pass 55 = .ok (.aload_n 0, 1) := by decide +kernel
theorem dX0_pass_56 : decode cX0_pass 56 = .ok (.getfield 49, 3) := by decide +kernel
theorem dX0_pass_59 : decode cX0_pass 59 = .ok (.iconst 0, 1) := by decide +kernel
theorem dX0_pass_60 : decode cX0_pass 60 = .ok (.iaload, 1) := by decide +kernel
theorem dX0_pass_61 : decode cX0_pass 61 = .ok (.ireturn, 1) := by decide +kernel
theorem dX0_build_0 : decode cX0_build 0 = .ok (.aload_n 0, 1) := by decide +kernel
theorem dX0_build_1 : decode cX0_build 1 = .ok (.getfield 68, 3) := by decide +kernel
theorem dX0_build_4 : decode cX0_build 4 = .ok (.ifCond .eq 4, 3) := by decide +kernel
theorem dX0_build_7 : decode cX0_build 7 = .ok (.return_, 1) := by decide +kernel
theorem dX0_build_8 : decode cX0_build 8 = .ok (.iconst 0, 1) := by decide +kernel
theorem dX0_build_9 : decode cX0_build 9 = .ok (.istore_n 1, 1) := by decide +kernel
theorem dX0_build_10 : decode cX0_build 10 = .ok (.iload_n 1, 1) := by decide +kernel
theorem dX0_build_11 : decode cX0_build 11 = .ok (.sipush 1024, 3) := by decide +kernel
theorem dX0_build_14 : decode cX0_build 14 = .ok (.if_icmp .ge 16, 3) := by decide +kernel
theorem dX0_build_17 : decode cX0_build 17 = .ok (.aload_n 0, 1) := by decide +kernel
theorem dX0_build_18 : decode cX0_build 18 = .ok (.getfield 46, 3) := by decide +kernel
theorem dX0_build_21 : decode cX0_build 21 = .ok (.iload_n 1, 1) := by decide +kernel
theorem dX0_build_22 : decode cX0_build 22 = .ok (.iconst (-1), 1) := by decide +kernel
theorem dX0_build_23 : decode cX0_build 23 = .ok (.iastore, 1) := by decide +kernel
theorem dX0_build_24 : decode cX0_build 24 = .ok (.iinc 1 1, 3) := by decide +kernel
theorem dX0_build_27 : decode cX0_build 27 = .ok (.goto (-17), 3) := by decide +kernel
theorem dX0_build_30 : decode cX0_build 30 = .ok (.aload_n 0, 1) := by decide +kernel
theorem dX0_build_31 : decode cX0_build 31 = .ok (.iconst 0, 1) := by decide +kernel
theorem dX0_build_32 : decode cX0_build 32 = .ok (.putfield 73, 3) := by decide +kernel
theorem dX0_build_35 : decode cX0_build 35 = .ok (.aload_n 0, 1) := by decide +kernel
theorem dX0_build_36 : decode cX0_build 36 = .ok (.sipush 255, 3) := by decide +kernel
theorem dX0_build_39 : decode cX0_build 39 = .ok (.iconst 1, 1) := by decide +kernel
theorem dX0_build_40 : decode cX0_build 40 = .ok (.aload_n 0, 1) := by decide +kernel
theorem dX0_build_41 : decode cX0_build 41 = .ok (.getfield 65, 3) := by decide +kernel
theorem dX0_build_44 : decode cX0_build 44 = .ok (.ishl, 1) := by decide +kernel
theorem dX0_build_45 : decode cX0_build 45 = .ok (.iconst 1, 1) := by decide +kernel
theorem dX0_build_46 : decode cX0_build 46 = .ok (.isub, 1) := by decide +kernel
theorem dX0_build_47 : decode cX0_build 47 = .ok (.invokevirtual 94, 3) := by decide +kernel
theorem dX0_build_50 : decode cX0_build 50 = .ok (.pop, 1) := by decide +kernel
theorem dX0_build_51 : decode cX0_build 51 = .ok (.iconst 0, 1) := by decide +kernel
theorem dX0_build_52 : decode cX0_build 52 = .ok (.istore_n 1, 1) := by decide +kernel
theorem dX0_build_53 : decode cX0_build 53 = .ok (.iload_n 1, 1) := by decide +kernel
theorem dX0_build_54 : decode cX0_build 54 = .ok (.aload_n 0, 1) := by decide +kernel
theorem dX0_build_55 : decode cX0_build 55 = .ok (.getfield 73, 3) := by decide +kernel
theorem dX0_build_58 : decode cX0_build 58 = .ok (.if_icmp .ge 21, 3) := by decide +kernel
theorem dX0_build_61 : decode cX0_build 61 = .ok (.iload_n 1, 1) := by decide +kernel
theorem dX0_build_62 : decode cX0_build 62 = .ok (.sipush 512, 3) := by decide +kernel
theorem dX0_build_65 : decode cX0_build 65 = .ok (.if_icmp .ge 14, 3) := by decide +kernel
theorem dX0_build_68 : decode cX0_build 68 = .ok (.aload_n 0, 1) := by decide +kernel
theorem dX0_build_69 : decode cX0_build 69 = .ok (.iload_n 1, 1) := by decide +kernel
theorem dX0_build_70 : decode cX0_build 70 = .ok (.invokevirtual 104, 3) := by decide +kernel
theorem dX0_build_73 : decode cX0_build 73 = .ok (.iinc 1 1, 3) := by decide +kernel
theorem dX0_build_76 : decode cX0_build 76 = .ok (.goto (-23), 3) := by decide +kernel
theorem dX0_build_79 : decode cX0_build 79 = .ok (.aload_n 0, 1) := by decide +kernel
end
section
set_option maxRecDepth 100000
theorem dX0_build_80 : decode cX0_build 80 = .ok (.iconst 1, 1) := by decide +kernel
theorem dX0_build_81 : decode cX0_build 81 = .ok (.putfield 68, 3) := by decide +kernel
theorem dX0_build_84 : decode cX0_build 84 = .ok (.return_, 1) := by decide +kernel
theorem dX0_nodeFor_0 : decode cX0_nodeFor 0 = .ok (.iload_n 1, 1) := by decide +kernel
theorem dX0_nodeFor_1 : decode cX0_nodeFor 1 = .ok (.bipush 37, 2) := by decide +kernel
theorem dX0_nodeFor_3 : decode cX0_nodeFor 3 = .ok (.imul, 1) := by decide +kernel
theorem dX0_nodeFor_4 : decode cX0_nodeFor 4 = .ok (.iload_n 2, 1) := by decide +kernel
theorem dX0_nodeFor_5 : decode cX0_nodeFor 5 = .ok (.bipush 101, 2) := by decide +kernel
theorem dX0_nodeFor_7 : decode cX0_nodeFor 7 = .ok (.imul, 1) := by decide +kernel
theorem dX0_nodeFor_8 : decode cX0_nodeFor 8 = .ok (.iadd, 1) := by decide +kernel
theorem dX0_nodeFor_9 : decode cX0_nodeFor 9 = .ok (.ldc 72, 2) := by decide +kernel
theorem dX0_nodeFor_11 : decode cX0_nodeFor 11 = .ok (.iand, 1) := by decide +kernel
theorem dX0_nodeFor_12 : decode cX0_nodeFor 12 = .ok (.sipush 1024, 3) := by decide +kernel
theorem dX0_nodeFor_15 : decode cX0_nodeFor 15 = .ok (.irem, 1) := by decide +kernel
theorem dX0_nodeFor_16 : decode cX0_nodeFor 16 = .ok (.istore_n 3, 1) := by decide +kernel
theorem dX0_nodeFor_17 : decode cX0_nodeFor 17 = .ok (.iconst 0, 1) := by decide +kernel
theorem dX0_nodeFor_18 : decode cX0_nodeFor 18 = .ok (.istore 4, 2) := by decide +kernel
theorem dX0_nodeFor_20 : decode cX0_nodeFor 20 = .ok (.iload 4, 2) := by decide +kernel
theorem dX0_nodeFor_22 : decode cX0_nodeFor 22 = .ok (.sipush 1024, 3) := by decide +kernel
theorem dX0_nodeFor_25 : decode cX0_nodeFor 25 = .ok (.if_icmp .ge 59, 3) := by decide +kernel
theorem dX0_nodeFor_28 : decode cX0_nodeFor 28 = .ok (.aload_n 0, 1) := by decide +kernel
theorem dX0_nodeFor_29 : decode cX0_nodeFor 29 = .ok (.getfield 46, 3) := by decide +kernel
theorem dX0_nodeFor_32 : decode cX0_nodeFor 32 = .ok (.iload_n 3, 1) := by decide +kernel
theorem dX0_nodeFor_33 : decode cX0_nodeFor 33 = .ok (.iaload, 1) := by decide +kernel
theorem dX0_nodeFor_34 : decode cX0_nodeFor 34 = .ok (.ifCond .lt 50, 3) := by decide +kernel
theorem dX0_nodeFor_37 : decode cX0_nodeFor 37 = .ok (.aload_n 0, 1) := by decide +kernel
theorem dX0_nodeFor_38 : decode cX0_nodeFor 38 = .ok (.getfield 46, 3) := by decide +kernel
theorem dX0_nodeFor_41 : decode cX0_nodeFor 41 = .ok (.iload_n 3, 1) := by decide +kernel
theorem dX0_nodeFor_42 : decode cX0_nodeFor 42 = .ok (.iaload, 1) := by decide +kernel
theorem dX0_nodeFor_43 : decode cX0_nodeFor 43 = .ok (.istore 5, 2) := by decide +kernel
theorem dX0_nodeFor_45 : decode cX0_nodeFor 45 = .ok (.aload_n 0, 1) := by decide +kernel
theorem dX0_nodeFor_46 : decode cX0_nodeFor 46 = .ok (.getfield 25, 3) := by decide +kernel
theorem dX0_nodeFor_49 : decode cX0_nodeFor 49 = .ok (.iload 5, 2) := by decide +kernel
theorem dX0_nodeFor_51 : decode cX0_nodeFor 51 = .ok (.iaload, 1) := by decide +kernel
theorem dX0_nodeFor_52 : decode cX0_nodeFor 52 = .ok (.iload_n 1, 1) := by decide +kernel
theorem dX0_nodeFor_53 : decode cX0_nodeFor 53 = .ok (.if_icmp .ne 17, 3) := by decide +kernel
theorem dX0_nodeFor_56 : decode cX0_nodeFor 56 = .ok (.aload_n 0, 1) := by decide +kernel
theorem dX0_nodeFor_57 : decode cX0_nodeFor 57 = .ok (.getfield 28, 3) := by decide +kernel
theorem dX0_nodeFor_60 : decode cX0_nodeFor 60 = .ok (.iload 5, 2) := by decide +kernel
theorem dX0_nodeFor_62 : decode cX0_nodeFor 62 = .ok (.iaload, 1) := by decide +kernel
theorem dX0_nodeFor_63 : decode cX0_nodeFor 63 = .ok (.iload_n 2, 1) := by decide +kernel
theorem dX0_nodeFor_64 : decode cX0_nodeFor 64 = .ok (.if_icmp .ne 6, 3) := by decide +kernel
theorem dX0_nodeFor_67 : decode cX0_nodeFor 67 = .ok (.iload 5, 2) := by decide +kernel
theorem dX0_nodeFor_69 : decode cX0_nodeFor 69 = .ok (.ireturn, 1) := by decide +kernel
theorem dX0_nodeFor_70 : decode cX0_nodeFor 70 = .ok (.iload_n 3, 1) := by decide +kernel
theorem dX0_nodeFor_71 : decode cX0_nodeFor 71 = .ok (.iconst 1, 1) := by decide +kernel
theorem dX0_nodeFor_72 : decode cX0_nodeFor 72 = .ok (.iadd, 1) := by decide +kernel
theorem dX0_nodeFor_73 : decode cX0_nodeFor 73 = .ok (.sipush 1023, 3) := by decide +kernel
theorem dX0_nodeFor_76 : decode cX0_nodeFor 76 = .ok (.iand, 1) := by decide +kernel
theorem dX0_nodeFor_77 : decode cX0_nodeFor 77 = .ok (.istore_n 3, 1) := by decide +kernel
theorem dX0_nodeFor_78 : decode cX0_nodeFor 78 = .ok (.iinc 4 1, 3) := by decide +kernel
theorem dX0_nodeFor_81 : decode cX0_nodeFor 81 = .ok (.goto (-61), 3) := by decide +kernel
theorem dX0_nodeFor_84 : decode cX0_nodeFor 84 = .ok (.aload_n 0, 1) := by decide +kernel
theorem dX0_nodeFor_85 : decode cX0_nodeFor 85 = .ok (.getfield 46, 3) := by decide +kernel
theorem dX0_nodeFor_88 : decode cX0_nodeFor 88 = .ok (.iload_n 3, 1) := by decide +kernel
theorem dX0_nodeFor_89 : decode cX0_nodeFor 89 = .ok (.aload_n 0, 1) := by decide +kernel
theorem dX0_nodeFor_90 : decode cX0_nodeFor 90 = .ok (.getfield 73, 3) := by decide +kernel
theorem dX0_nodeFor_93 : decode cX0_nodeFor 93 = .ok (.iastore, 1) := by decide +kernel
theorem dX0_nodeFor_94 : decode cX0_nodeFor 94 = .ok (.aload_n 0, 1) := by decide +kernel
theorem dX0_nodeFor_95 : decode cX0_nodeFor 95 = .ok (.getfield 25, 3) := by decide +kernel
theorem dX0_nodeFor_98 : decode cX0_nodeFor 98 = .ok (.aload_n 0, 1) := by decide +kernel
theorem dX0_nodeFor_99 : decode cX0_nodeFor 99 = .ok (.getfield 73, 3) := by decide +kernel
theorem dX0_nodeFor_102 : decode cX0_nodeFor 102 = .ok (.iload_n 1, 1) := by decide +kernel
theorem dX0_nodeFor_103 : decode cX0_nodeFor 103 = .ok (.iastore, 1) := by decide +kernel
theorem dX0_nodeFor_104 : decode cX0_nodeFor 104 = .ok (.aload_n 0, 1) := by decide +kernel
theorem dX0_nodeFor_105 : decode cX0_nodeFor 105 = .ok (.getfield 28, 3) := by decide +kernel
theorem dX0_nodeFor_108 : decode cX0_nodeFor 108 = .ok (.aload_n 0, 1) := by decide +kernel
theorem dX0_nodeFor_109 : decode cX0_nodeFor 109 = .ok (.getfield 73, 3) := by decide +kernel
theorem dX0_nodeFor_112 : decode cX0_nodeFor 112 = .ok (.iload_n 2, 1) := by decide +kernel
theorem dX0_nodeFor_113 : decode cX0_nodeFor 113 = .ok (.iastore, 1) := by decide +kernel
theorem dX0_nodeFor_114 : decode cX0_nodeFor 114 = .ok (.aload_n 0, 1) := by decide +kernel
theorem dX0_nodeFor_115 : decode cX0_nodeFor 115 = .ok (.getfield 31, 3) := by decide +kernel
theorem dX0_nodeFor_118 : decode cX0_nodeFor 118 = .ok (.aload_n 0, 1) := by decide +kernel
theorem dX0_nodeFor_119 : decode cX0_nodeFor 119 = .ok (.getfield 73, 3) := by decide +kernel
theorem dX0_nodeFor_122 : decode cX0_nodeFor 122 = .ok (.aload_n 0, 1) := by decide +kernel
theorem dX0_nodeFor_123 : decode cX0_nodeFor 123 = .ok (.iload_n 1, 1) := by decide +kernel
theorem dX0_nodeFor_124 : decode cX0_nodeFor 124 = .ok (.invokevirtual 76, 3) := by decide +kernel
theorem dX0_nodeFor_127 : decode cX0_nodeFor 127 = .ok (.iastore, 1) := by decide +kernel
theorem dX0_nodeFor_128 : decode cX0_nodeFor 128 = .ok (.aload_n 0, 1) := by decide +kernel
theorem dX0_nodeFor_129 : decode cX0_nodeFor 129 = .ok (.dup, 1) := by decide +kernel
theorem dX0_nodeFor_130 : decode cX0_nodeFor 130 = .ok (.getfield 73, 3) := by decide +kernel
theorem dX0_nodeFor_133 : decode cX0_nodeFor 133 = .ok (.iconst 1, 1) := by decide +kernel
theorem dX0_nodeFor_134 : decode cX0_nodeFor 134 = .ok (.iadd, 1) := by decide +kernel
theorem dX0_nodeFor_135 : decode cX0_nodeFor 135 = .ok (.putfield 73, 3) := by decide +kernel
theorem dX0_nodeFor_138 : decode cX0_nodeFor 138 = .ok (.aload_n 0, 1) := by decide +kernel
theorem dX0_nodeFor_139 : decode cX0_nodeFor 139 = .ok (.getfield 73, 3) := by decide +kernel
theorem dX0_nodeFor_142 : decode cX0_nodeFor 142 = .ok (.iconst 1, 1) := by decide +kernel
theorem dX0_nodeFor_143 : decode cX0_nodeFor 143 = .ok (.isub, 1) := by decide +kernel
theorem dX0_nodeFor_144 : decode cX0_nodeFor 144 = .ok (.ireturn, 1) := by decide +kernel
theorem dX0_sizeOf_0 : decode cX0_sizeOf 0 = .ok (.iconst 0, 1) := by decide +kernel
theorem dX0_sizeOf_1 : decode cX0_sizeOf 1 = .ok (.istore_n 2, 1) := by decide +kernel
theorem dX0_sizeOf_2 : decode cX0_sizeOf 2 = .ok (.iconst 0, 1) := by decide +kernel
theorem dX0_sizeOf_3 : decode cX0_sizeOf 3 = .ok (.istore_n 3, 1) := by decide +kernel
theorem dX0_sizeOf_4 : decode cX0_sizeOf 4 = .ok (.iload_n 3, 1) := by decide +kernel
theorem dX0_sizeOf_5 : decode cX0_sizeOf 5 = .ok (.bipush 8, 2) := by decide +kernel
theorem dX0_sizeOf_7 : decode cX0_sizeOf 7 = .ok (.if_icmp .ge 17, 3) := by decide +kernel
theorem dX0_sizeOf_10 : decode cX0_sizeOf 10 = .ok (.iload_n 2, 1) := by decide +kernel
theorem dX0_sizeOf_11 : decode cX0_sizeOf 11 = .ok (.iload_n 1, 1) := by decide +kernel
theorem dX0_sizeOf_12 : decode cX0_sizeOf 12 = .ok (.iload_n 3, 1) := by decide +kernel
theorem dX0_sizeOf_13 : decode cX0_sizeOf 13 = .ok (.ishr, 1) := by decide +kernel
theorem dX0_sizeOf_14 : decode cX0_sizeOf 14 = .ok (.iconst 1, 1) := by decide +kernel
theorem dX0_sizeOf_15 : decode cX0_sizeOf 15 = .ok (.iand, 1) := by decide +kernel
theorem dX0_sizeOf_16 : decode cX0_sizeOf 16 = .ok (.iadd, 1) := by decide +kernel
theorem dX0_sizeOf_17 : decode cX0_sizeOf 17 = .ok (.istore_n 2, 1) := by decide +kernel
theorem dX0_sizeOf_18 : decode cX0_sizeOf 18 = .ok (.iinc 3 1, 3) := by decide +kernel
theorem dX0_sizeOf_21 : decode cX0_sizeOf 21 = .ok (.goto (-17), 3) := by decide +kernel
theorem dX0_sizeOf_24 : decode cX0_sizeOf 24 = .ok (.iload_n 2, 1) := by decide +kernel
theorem dX0_sizeOf_25 : decode cX0_sizeOf 25 = .ok (.ireturn, 1) := by decide +kernel
theorem dX0_workOut_0 : decode cX0_workOut 0 = .ok (.aload_n 0, 1) := by decide +kernel
theorem dX0_workOut_1 : decode cX0_workOut 1 = .ok (.getfield 25, 3) := by decide +kernel
theorem dX0_workOut_4 : decode cX0_workOut 4 = .ok (.iload_n 1, 1) := by decide +kernel
theorem dX0_workOut_5 : decode cX0_workOut 5 = .ok (.iaload, 1) := by decide +kernel
theorem dX0_workOut_6 : decode cX0_workOut 6 = .ok (.istore_n 2, 1) := by decide +kernel
theorem dX0_workOut_7 : decode cX0_workOut 7 = .ok (.aload_n 0, 1) := by decide +kernel
theorem dX0_workOut_8 : decode cX0_workOut 8 = .ok (.getfield 28, 3) := by decide +kernel
theorem dX0_workOut_11 : decode cX0_workOut 11 = .ok (.iload_n 1, 1) := by decide +kernel
theorem dX0_workOut_12 : decode cX0_workOut 12 = .ok (.iaload, 1) := by decide +kernel
theorem dX0_workOut_13 : decode cX0_workOut 13 = .ok (.istore_n 3, 1) := by decide +kernel
theorem dX0_workOut_14 : decode cX0_workOut 14 = .ok (.aload_n 0, 1) := by decide +kernel
theorem dX0_workOut_15 : decode cX0_workOut 15 = .ok (.iload_n 2, 1) := by decide +kernel
theorem dX0_workOut_16 : decode cX0_workOut 16 = .ok (.iload_n 3, 1) := by decide +kernel
theorem dX0_workOut_17 : decode cX0_workOut 17 = .ok (.invokevirtual 83, 3) := by decide +kernel
theorem dX0_workOut_20 : decode cX0_workOut 20 = .ok (.istore 4, 2) := by decide +kernel
theorem dX0_workOut_22 : decode cX0_workOut 22 = .ok (.iload 4, 2) := by decide +kernel
theorem dX0_workOut_24 : decode cX0_workOut 24 = .ok (.ifCond .eq 11, 3) := by decide +kernel
theorem dX0_workOut_27 : decode cX0_workOut 27 = .ok (.aload_n 0, 1) := by decide +kernel
theorem dX0_workOut_28 : decode cX0_workOut 28 = .ok (.getfield 34, 3) := by decide +kernel
theorem dX0_workOut_31 : decode cX0_workOut 31 = .ok (.iload_n 1, 1) := by decide +kernel
theorem dX0_workOut_32 : decode cX0_workOut 32 = .ok (.iconst 1, 1) := by decide +kernel
theorem dX0_workOut_33 : decode cX0_workOut 33 = .ok (.iastore, 1) := by decide +kernel
theorem dX0_workOut_34 : decode cX0_workOut 34 = .ok (.return_, 1) := by decide +kernel
theorem dX0_workOut_35 : decode cX0_workOut 35 = .ok (.iload_n 3, 1) := by decide +kernel
theorem dX0_workOut_36 : decode cX0_workOut 36 = .ok (.ifCond .ne 11, 3) := by decide +kernel
theorem dX0_workOut_39 : decode cX0_workOut 39 = .ok (.aload_n 0, 1) := by decide +kernel
theorem dX0_workOut_40 : decode cX0_workOut 40 = .ok (.getfield 34, 3) := by decide +kernel
theorem dX0_workOut_43 : decode cX0_workOut 43 = .ok (.iload_n 1, 1) := by decide +kernel
theorem dX0_workOut_44 : decode cX0_workOut 44 = .ok (.iconst 0, 1) := by decide +kernel
theorem dX0_workOut_45 : decode cX0_workOut 45 = .ok (.iastore, 1) := by decide +kernel
theorem dX0_workOut_46 : decode cX0_workOut 46 = .ok (.return_, 1) := by decide +kernel
theorem dX0_workOut_47 : decode cX0_workOut 47 = .ok (.aload_n 0, 1) := by decide +kernel
theorem dX0_workOut_48 : decode cX0_workOut 48 = .ok (.iload_n 2, 1) := by decide +kernel
theorem dX0_workOut_49 : decode cX0_workOut 49 = .ok (.iload_n 3, 1) := by decide +kernel
theorem dX0_workOut_50 : decode cX0_workOut 50 = .ok (.invokevirtual 87, 3) := by decide +kernel
theorem dX0_workOut_53 : decode cX0_workOut 53 = .ok (.istore 5, 2) := by decide +kernel
theorem dX0_workOut_55 : decode cX0_workOut 55 = .ok (.iload 5, 2) := by decide +kernel
theorem dX0_workOut_57 : decode cX0_workOut 57 = .ok (.iload_n 2, 1) := by decide +kernel
theorem dX0_workOut_58 : decode cX0_workOut 58 = .ok (.if_icmp .eq 56, 3) := by decide +kernel
theorem dX0_workOut_61 : decode cX0_workOut 61 = .ok (.aload_n 0, 1) := by decide +kernel
theorem dX0_workOut_62 : decode cX0_workOut 62 = .ok (.iload 5, 2) := by decide +kernel
theorem dX0_workOut_64 : decode cX0_workOut 64 = .ok (.iload_n 3, 1) := by decide +kernel
theorem dX0_workOut_65 : decode cX0_workOut 65 = .ok (.invokevirtual 91, 3) := by decide +kernel
theorem dX0_workOut_68 : decode cX0_workOut 68 = .ok (.istore 6, 2) := by decide +kernel
theorem dX0_workOut_70 : decode cX0_workOut 70 = .ok (.aload_n 0, 1) := by decide +kernel
theorem dX0_workOut_71 : decode cX0_workOut 71 = .ok (.getfield 34, 3) := by decide +kernel
theorem dX0_workOut_74 : decode cX0_workOut 74 = .ok (.iload_n 1, 1) := by decide +kernel
theorem dX0_workOut_75 : decode cX0_workOut 75 = .ok (.iconst 2, 1) := by decide +kernel
theorem dX0_workOut_76 : decode cX0_workOut 76 = .ok (.iastore, 1) := by decide +kernel
theorem dX0_workOut_77 : decode cX0_workOut 77 = .ok (.aload_n 0, 1) := by decide +kernel
theorem dX0_workOut_78 : decode cX0_workOut 78 = .ok (.getfield 40, 3) := by decide +kernel
theorem dX0_workOut_81 : decode cX0_workOut 81 = .ok (.iload_n 1, 1) := by decide +kernel
theorem dX0_workOut_82 : decode cX0_workOut 82 = .ok (.aload_n 0, 1) := by decide +kernel
theorem dX0_workOut_83 : decode cX0_workOut 83 = .ok (.iload 5, 2) := by decide +kernel
theorem dX0_workOut_85 : decode cX0_workOut 85 = .ok (.iload 6, 2) := by decide +kernel
theorem dX0_workOut_87 : decode cX0_workOut 87 = .ok (.invokevirtual 94, 3) := by decide +kernel
theorem dX0_workOut_90 : decode cX0_workOut 90 = .ok (.iastore, 1) := by decide +kernel
theorem dX0_workOut_91 : decode cX0_workOut 91 = .ok (.aload_n 0, 1) := by decide +kernel
theorem dX0_workOut_92 : decode cX0_workOut 92 = .ok (.getfield 43, 3) := by decide +kernel
theorem dX0_workOut_95 : decode cX0_workOut 95 = .ok (.iload_n 1, 1) := by decide +kernel
theorem dX0_workOut_96 : decode cX0_workOut 96 = .ok (.aload_n 0, 1) := by decide +kernel
theorem dX0_workOut_97 : decode cX0_workOut 97 = .ok (.iload_n 2, 1) := by decide +kernel
theorem dX0_workOut_98 : decode cX0_workOut 98 = .ok (.iload 5, 2) := by decide +kernel
theorem dX0_workOut_100 : decode cX0_workOut 100 = .ok (.iconst (-1), 1) := by decide +kernel
theorem dX0_workOut_101 : decode cX0_workOut 101 = .ok (.ixor, 1) := by decide +kernel
theorem dX0_workOut_102 : decode cX0_workOut 102 = .ok (.iand, 1) := by decide +kernel
theorem dX0_workOut_103 : decode cX0_workOut 103 = .ok (.iload_n 3, 1) := by decide +kernel
theorem dX0_workOut_104 : decode cX0_workOut 104 = .ok (.iload 6, 2) := by decide +kernel
theorem dX0_workOut_106 : decode cX0_workOut 106 = .ok (.iconst (-1), 1) := by decide +kernel
theorem dX0_workOut_107 : decode cX0_workOut 107 = .ok (.ixor, 1) := by decide +kernel
theorem dX0_workOut_108 : decode cX0_workOut 108 = .ok (.iand, 1) := by decide +kernel
theorem dX0_workOut_109 : decode cX0_workOut 109 = .ok (.invokevirtual 94, 3) := by decide +kernel
theorem dX0_workOut_112 : decode cX0_workOut 112 = .ok (.iastore, 1) := by decide +kernel
theorem dX0_workOut_113 : decode cX0_workOut 113 = .ok (.return_, 1) := by decide +kernel
theorem dX0_workOut_114 : decode cX0_workOut 114 = .ok (.aload_n 0, 1) := by decide +kernel
theorem dX0_workOut_115 : decode cX0_workOut 115 = .ok (.iload_n 2, 1) := by decide +kernel
theorem dX0_workOut_116 : decode cX0_workOut 116 = .ok (.iload_n 3, 1) := by decide +kernel
theorem dX0_workOut_117 : decode cX0_workOut 117 = .ok (.invokevirtual 97, 3) := by decide +kernel
theorem dX0_workOut_120 : decode cX0_workOut 120 = .ok (.istore 6, 2) := by decide +kernel
theorem dX0_workOut_122 : decode cX0_workOut 122 = .ok (.iload_n 2, 1) := by decide +kernel
theorem dX0_workOut_123 : decode cX0_workOut 123 = .ok (.iconst 1, 1) := by decide +kernel
theorem dX0_workOut_124 : decode cX0_workOut 124 = .ok (.iload 6, 2) := by decide +kernel
theorem dX0_workOut_126 : decode cX0_workOut 126 = .ok (.ishl, 1) := by decide +kernel
theorem dX0_workOut_127 : decode cX0_workOut 127 = .ok (.iconst (-1), 1) := by decide +kernel
theorem dX0_workOut_128 : decode cX0_workOut 128 = .ok (.ixor, 1) := by decide +kernel
theorem dX0_workOut_129 : decode cX0_workOut 129 = .ok (.iand, 1) := by decide +kernel
theorem dX0_workOut_130 : decode cX0_workOut 130 = .ok (.istore 7, 2) := by decide +kernel
theorem dX0_workOut_132 : decode cX0_workOut 132 = .ok (.aload_n 0, 1) := by decide +kernel
theorem dX0_workOut_133 : decode cX0_workOut 133 = .ok (.iload_n 3, 1) := by decide +kernel
theorem dX0_workOut_134 : decode cX0_workOut 134 = .ok (.iload 6, 2) := by decide +kernel
theorem dX0_workOut_136 : decode cX0_workOut 136 = .ok (.iconst 1, 1) := by decide +kernel
theorem dX0_workOut_137 : decode cX0_workOut 137 = .ok (.invokevirtual 100, 3) := by decide +kernel
theorem dX0_workOut_140 : decode cX0_workOut 140 = .ok (.istore 8, 2) := by decide +kernel
theorem dX0_workOut_142 : decode cX0_workOut 142 = .ok (.aload_n 0, 1) := by decide +kernel
theorem dX0_workOut_143 : decode cX0_workOut 143 = .ok (.iload_n 3, 1) := by decide +kernel
theorem dX0_workOut_144 : decode cX0_workOut 144 = .ok (.iload 6, 2) := by decide +kernel
theorem dX0_workOut_146 : decode cX0_workOut 146 = .ok (.iconst 0, 1) := by decide +kernel
theorem dX0_workOut_147 : decode cX0_workOut 147 = .ok (.invokevirtual 100, 3) := by decide +kernel
theorem dX0_workOut_150 : decode cX0_workOut 150 = .ok (.istore 9, 2) := by decide +kernel
theorem dX0_workOut_152 : decode cX0_workOut 152 = .ok (.aload_n 0, 1) := by decide +kernel
theorem dX0_workOut_153 : decode cX0_workOut 153 = .ok (.getfield 34, 3) := by decide +kernel
theorem dX0_workOut_156 : decode cX0_workOut 156 = .ok (.iload_n 1, 1) := by decide +kernel
theorem dX0_workOut_157 : decode cX0_workOut 157 = .ok (.iconst 3, 1) := by decide +kernel
theorem dX0_workOut_158 : decode cX0_workOut 158 = .ok (.iastore, 1) := by decide +kernel
theorem dX0_workOut_159 : decode cX0_workOut 159 = .ok (.aload_n 0, 1) := by decide +kernel
theorem dX0_workOut_160 : decode cX0_workOut 160 = .ok (.getfield 37, 3) := by decide +kernel
theorem dX0_workOut_163 : decode cX0_workOut 163 = .ok (.iload_n 1, 1) := by decide +kernel
theorem dX0_workOut_164 : decode cX0_workOut 164 = .ok (.iload 6, 2) := by decide +kernel
theorem dX0_workOut_166 : decode cX0_workOut 166 = .ok (.iastore, 1) := by decide +kernel
theorem dX0_workOut_167 : decode cX0_workOut 167 = .ok (.aload_n 0, 1) := by decide +kernel
theorem dX0_workOut_168 : decode cX0_workOut 168 = .ok (.getfield 40, 3) := by decide +kernel
theorem dX0_workOut_171 : decode cX0_workOut 171 = .ok (.iload_n 1, 1) := by decide +kernel
theorem dX0_workOut_172 : decode cX0_workOut 172 = .ok (.aload_n 0, 1) := by decide +kernel
theorem dX0_workOut_173 : decode cX0_workOut 173 = .ok (.iload 7, 2) := by decide +kernel
theorem dX0_workOut_175 : decode cX0_workOut 175 = .ok (.iload 8, 2) := by decide +kernel
theorem dX0_workOut_177 : decode cX0_workOut 177 = .ok (.invokevirtual 94, 3) := by decide +kernel
theorem dX0_workOut_180 : decode cX0_workOut 180 = .ok (.iastore, 1) := by decide +kernel
theorem dX0_workOut_181 : decode cX0_workOut 181 = .ok (.aload_n 0, 1) := by decide +kernel
theorem dX0_workOut_182 : decode cX0_workOut 182 = .ok (.getfield 43, 3) := by decide +kernel
theorem dX0_workOut_185 : decode cX0_workOut 185 = .ok (.iload_n 1, 1) := by decide +kernel
theorem dX0_workOut_186 : decode cX0_workOut 186 = .ok (.aload_n 0, 1) := by decide +kernel
theorem dX0_workOut_187 : decode cX0_workOut 187 = .ok (.iload 7, 2) := by decide +kernel
theorem dX0_workOut_189 : decode cX0_workOut 189 = .ok (.iload 9, 2) := by decide +kernel
theorem dX0_workOut_191 : decode cX0_workOut 191 = .ok (.invokevirtual 94, 3) := by decide +kernel
theorem dX0_workOut_194 : decode cX0_workOut 194 = .ok (.iastore, 1) := by decide +kernel
theorem dX0_workOut_195 : decode cX0_workOut 195 = .ok (.return_, 1) := by decide +kernel
theorem dX0_hasEmpty_0 : decode cX0_hasEmpty 0 = .ok (.iconst 0, 1) := by decide +kernel
theorem dX0_hasEmpty_1 : decode cX0_hasEmpty 1 = .ok (.istore_n 3, 1) := by decide +kernel
theorem dX0_hasEmpty_2 : decode cX0_hasEmpty 2 = .ok (.iload_n 3, 1) := by decide +kernel
theorem dX0_hasEmpty_3 : decode cX0_hasEmpty 3 = .ok (.aload_n 0, 1) := by decide +kernel
theorem dX0_hasEmpty_4 : decode cX0_hasEmpty 4 = .ok (.getfield 65, 3) := by decide +kernel
theorem dX0_hasEmpty_7 : decode cX0_hasEmpty 7 = .ok (.if_icmp .ge 30, 3) := by decide +kernel
theorem dX0_hasEmpty_10 : decode cX0_hasEmpty 10 = .ok (.iload_n 2, 1) := by decide +kernel
theorem dX0_hasEmpty_11 : decode cX0_hasEmpty 11 = .ok (.iload_n 3, 1) := by decide +kernel
theorem dX0_hasEmpty_12 : decode cX0_hasEmpty 12 = .ok (.ishr, 1) := by decide +kernel
theorem dX0_hasEmpty_13 : decode cX0_hasEmpty 13 = .ok (.iconst 1, 1) := by decide +kernel
theorem dX0_hasEmpty_14 : decode cX0_hasEmpty 14 = .ok (.iand, 1) := by decide +kernel
theorem dX0_hasEmpty_15 : decode cX0_hasEmpty 15 = .ok (.iconst 1, 1) := by decide +kernel
theorem dX0_hasEmpty_16 : decode cX0_hasEmpty 16 = .ok (.if_icmp .ne 15, 3) := by decide +kernel
theorem dX0_hasEmpty_19 : decode cX0_hasEmpty 19 = .ok (.aload_n 0, 1) := by decide +kernel
theorem dX0_hasEmpty_20 : decode cX0_hasEmpty 20 = .ok (.iload_n 3, 1) := by decide +kernel
theorem dX0_hasEmpty_21 : decode cX0_hasEmpty 21 = .ok (.invokevirtual 80, 3) := by decide +kernel
theorem dX0_hasEmpty_24 : decode cX0_hasEmpty 24 = .ok (.iload_n 1, 1) := by decide +kernel
theorem dX0_hasEmpty_25 : decode cX0_hasEmpty 25 = .ok (.iand, 1) := by decide +kernel
theorem dX0_hasEmpty_26 : decode cX0_hasEmpty 26 = .ok (.ifCond .ne 5, 3) := by decide +kernel
theorem dX0_hasEmpty_29 : decode cX0_hasEmpty 29 = .ok (.iconst 1, 1) := by decide +kernel
theorem dX0_hasEmpty_30 : decode cX0_hasEmpty 30 = .ok (.ireturn, 1) := by decide +kernel
theorem dX0_hasEmpty_31 : decode cX0_hasEmpty 31 = .ok (.iinc 3 1, 3) := by decide +kernel
theorem dX0_hasEmpty_34 : decode cX0_hasEmpty 34 = .ok (.goto (-32), 3) := by decide +kernel
theorem dX0_hasEmpty_37 : decode cX0_hasEmpty 37 = .ok (.iconst 0, 1) := by decide +kernel
theorem dX0_hasEmpty_38 : decode cX0_hasEmpty 38 = .ok (.ireturn, 1) := by decide +kernel
theorem dX0_literalsOf_0 : decode cX0_literalsOf 0 = .ok (.aload_n 0, 1) := by decide +kernel
theorem dX0_literalsOf_1 : decode cX0_literalsOf 1 = .ok (.getfield 13, 3) := by decide +kernel
theorem dX0_literalsOf_4 : decode cX0_literalsOf 4 = .ok (.iload_n 1, 1) := by decide +kernel
theorem dX0_literalsOf_5 : decode cX0_literalsOf 5 = .ok (.iaload, 1) := by decide +kernel
theorem dX0_literalsOf_6 : decode cX0_literalsOf 6 = .ok (.aload_n 0, 1) := by decide +kernel
theorem dX0_literalsOf_7 : decode cX0_literalsOf 7 = .ok (.getfield 16, 3) := by decide +kernel
theorem dX0_literalsOf_10 : decode cX0_literalsOf 10 = .ok (.iload_n 1, 1) := by decide +kernel
theorem dX0_literalsOf_11 : decode cX0_literalsOf 11 = .ok (.iaload, 1) := by decide +kernel
theorem dX0_literalsOf_12 : decode cX0_literalsOf 12 = .ok (.ior, 1) := by decide +kernel
theorem dX0_literalsOf_13 : decode cX0_literalsOf 13 = .ok (.ireturn, 1) := by decide +kernel
theorem dX0_together_0 : decode cX0_together 0 = .ok (.iconst 0, 1) := by decide +kernel
theorem dX0_together_1 : decode cX0_together 1 = .ok (.istore_n 3, 1) := by decide +kernel
theorem dX0_together_2 : decode cX0_together 2 = .ok (.iconst 0, 1) := by decide +kernel
theorem dX0_together_3 : decode cX0_together 3 = .ok (.istore 4, 2) := by decide +kernel
theorem dX0_together_5 : decode cX0_together 5 = .ok (.iload 4, 2) := by decide +kernel
theorem dX0_together_7 : decode cX0_together 7 = .ok (.aload_n 0, 1) := by decide +kernel
theorem dX0_together_8 : decode cX0_together 8 = .ok (.getfield 65, 3) := by decide +kernel
theorem dX0_together_11 : decode cX0_together 11 = .ok (.if_icmp .ge 32, 3) := by decide +kernel
theorem dX0_together_14 : decode cX0_together 14 = .ok (.iload_n 3, 1) := by decide +kernel
theorem dX0_together_15 : decode cX0_together 15 = .ok (.ifCond .ne 28, 3) := by decide +kernel
theorem dX0_together_18 : decode cX0_together 18 = .ok (.iload_n 2, 1) := by decide +kernel
theorem dX0_together_19 : decode cX0_together 19 = .ok (.iload 4, 2) := by decide +kernel
theorem dX0_together_21 : decode cX0_together 21 = .ok (.ishr, 1) := by decide +kernel
theorem dX0_together_22 : decode cX0_together 22 = .ok (.iconst 1, 1) := by decide +kernel
theorem dX0_together_23 : decode cX0_together 23 = .ok (.iand, 1) := by decide +kernel
theorem dX0_together_24 : decode cX0_together 24 = .ok (.iconst 1, 1) := by decide +kernel
theorem dX0_together_25 : decode cX0_together 25 = .ok (.if_icmp .ne 12, 3) := by decide +kernel
theorem dX0_together_28 : decode cX0_together 28 = .ok (.aload_n 0, 1) := by decide +kernel
theorem dX0_together_29 : decode cX0_together 29 = .ok (.iload 4, 2) := by decide +kernel
theorem dX0_together_31 : decode cX0_together 31 = .ok (.invokevirtual 80, 3) := by decide +kernel
theorem dX0_together_34 : decode cX0_together 34 = .ok (.iload_n 1, 1) := by decide +kernel
theorem dX0_together_35 : decode cX0_together 35 = .ok (.iand, 1) := by decide +kernel
theorem dX0_together_36 : decode cX0_together 36 = .ok (.istore_n 3, 1) := by decide +kernel
theorem dX0_together_37 : decode cX0_together 37 = .ok (.iinc 4 1, 3) := by decide +kernel
theorem dX0_together_40 : decode cX0_together 40 = .ok (.goto (-35), 3) := by decide +kernel
theorem dX0_together_43 : decode cX0_together 43 = .ok (.iconst 0, 1) := by decide +kernel
theorem dX0_together_44 : decode cX0_together 44 = .ok (.istore 4, 2) := by decide +kernel
theorem dX0_together_46 : decode cX0_together 46 = .ok (.iload 4, 2) := by decide +kernel
theorem dX0_together_48 : decode cX0_together 48 = .ok (.bipush 8, 2) := by decide +kernel
theorem dX0_together_50 : decode cX0_together 50 = .ok (.if_icmp .ge 59, 3) := by decide +kernel
theorem dX0_together_53 : decode cX0_together 53 = .ok (.iconst 0, 1) := by decide +kernel
theorem dX0_together_54 : decode cX0_together 54 = .ok (.istore 5, 2) := by decide +kernel
theorem dX0_together_56 : decode cX0_together 56 = .ok (.iload 5, 2) := by decide +kernel
theorem dX0_together_58 : decode cX0_together 58 = .ok (.aload_n 0, 1) := by decide +kernel
theorem dX0_together_59 : decode cX0_together 59 = .ok (.getfield 65, 3) := by decide +kernel
theorem dX0_together_62 : decode cX0_together 62 = .ok (.if_icmp .ge 41, 3) := by decide +kernel
theorem dX0_together_65 : decode cX0_together 65 = .ok (.iload_n 2, 1) := by decide +kernel
theorem dX0_together_66 : decode cX0_together 66 = .ok (.iload 5, 2) := by decide +kernel
theorem dX0_together_68 : decode cX0_together 68 = .ok (.ishr, 1) := by decide +kernel
theorem dX0_together_69 : decode cX0_together 69 = .ok (.iconst 1, 1) := by decide +kernel
theorem dX0_together_70 : decode cX0_together 70 = .ok (.iand, 1) := by decide +kernel
theorem dX0_together_71 : decode cX0_together 71 = .ok (.iconst 1, 1) := by decide +kernel
theorem dX0_together_72 : decode cX0_together 72 = .ok (.if_icmp .ne 25, 3) := by decide +kernel
theorem dX0_together_75 : decode cX0_together 75 = .ok (.aload_n 0, 1) := by decide +kernel
theorem dX0_together_76 : decode cX0_together 76 = .ok (.iload 5, 2) := by decide +kernel
theorem dX0_together_78 : decode cX0_together 78 = .ok (.invokevirtual 80, 3) := by decide +kernel
theorem dX0_together_81 : decode cX0_together 81 = .ok (.iload_n 3, 1) := by decide +kernel
theorem dX0_together_82 : decode cX0_together 82 = .ok (.iand, 1) := by decide +kernel
theorem dX0_together_83 : decode cX0_together 83 = .ok (.ifCond .eq 14, 3) := by decide +kernel
theorem dX0_together_86 : decode cX0_together 86 = .ok (.iload_n 3, 1) := by decide +kernel
theorem dX0_together_87 : decode cX0_together 87 = .ok (.aload_n 0, 1) := by decide +kernel
theorem dX0_together_88 : decode cX0_together 88 = .ok (.iload 5, 2) := by decide +kernel
theorem dX0_together_90 : decode cX0_together 90 = .ok (.invokevirtual 80, 3) := by decide +kernel
theorem dX0_together_93 : decode cX0_together 93 = .ok (.iload_n 1, 1) := by decide +kernel
theorem dX0_together_94 : decode cX0_together 94 = .ok (.iand, 1) := by decide +kernel
theorem dX0_together_95 : decode cX0_together 95 = .ok (.ior, 1) := by decide +kernel
theorem dX0_together_96 : decode cX0_together 96 = .ok (.istore_n 3, 1) := by decide +kernel
theorem dX0_together_97 : decode cX0_together 97 = .ok (.iinc 5 1, 3) := by decide +kernel
theorem dX0_together_100 : decode cX0_together 100 = .ok (.goto (-44), 3) := by decide +kernel
theorem dX0_together_103 : decode cX0_together 103 = .ok (.iinc 4 1, 3) := by decide +kernel
theorem dX0_together_106 : decode cX0_together 106 = .ok (.goto (-60), 3) := by decide +kernel
theorem dX0_together_109 : decode cX0_together 109 = .ok (.iload_n 3, 1) := by decide +kernel
theorem dX0_together_110 : decode cX0_together 110 = .ok (.ireturn, 1) := by decide +kernel
theorem dX0_clausesWith_0 : decode cX0_clausesWith 0 = .ok (.iconst 0, 1) := by decide +kernel
theorem dX0_clausesWith_1 : decode cX0_clausesWith 1 = .ok (.istore_n 3, 1) := by decide +kernel
theorem dX0_clausesWith_2 : decode cX0_clausesWith 2 = .ok (.iconst 0, 1) := by decide +kernel
theorem dX0_clausesWith_3 : decode cX0_clausesWith 3 = .ok (.istore 4, 2) := by decide +kernel
theorem dX0_clausesWith_5 : decode cX0_clausesWith 5 = .ok (.iload 4, 2) := by decide +kernel
theorem dX0_clausesWith_7 : decode cX0_clausesWith 7 = .ok (.aload_n 0, 1) := by decide +kernel
theorem dX0_clausesWith_8 : decode cX0_clausesWith 8 = .ok (.getfield 65, 3) := by decide +kernel
theorem dX0_clausesWith_11 : decode cX0_clausesWith 11 = .ok (.if_icmp .ge 37, 3) := by decide +kernel
theorem dX0_clausesWith_14 : decode cX0_clausesWith 14 = .ok (.iload_n 2, 1) := by decide +kernel
theorem dX0_clausesWith_15 : decode cX0_clausesWith 15 = .ok (.iload 4, 2) := by decide +kernel
theorem dX0_clausesWith_17 : decode cX0_clausesWith 17 = .ok (.ishr, 1) := by decide +kernel
theorem dX0_clausesWith_18 : decode cX0_clausesWith 18 = .ok (.iconst 1, 1) := by decide +kernel
theorem dX0_clausesWith_19 : decode cX0_clausesWith 19 = .ok (.iand, 1) := by decide +kernel
theorem dX0_clausesWith_20 : decode cX0_clausesWith 20 = .ok (.iconst 1, 1) := by decide +kernel
theorem dX0_clausesWith_21 : decode cX0_clausesWith 21 = .ok (.if_icmp .ne 21, 3) := by decide +kernel
theorem dX0_clausesWith_24 : decode cX0_clausesWith 24 = .ok (.aload_n 0, 1) := by decide +kernel
theorem dX0_clausesWith_25 : decode cX0_clausesWith 25 = .ok (.iload 4, 2) := by decide +kernel
theorem dX0_clausesWith_27 : decode cX0_clausesWith 27 = .ok (.invokevirtual 80, 3) := by decide +kernel
theorem dX0_clausesWith_30 : decode cX0_clausesWith 30 = .ok (.iload_n 1, 1) := by decide +kernel
theorem dX0_clausesWith_31 : decode cX0_clausesWith 31 = .ok (.iand, 1) := by decide +kernel
theorem dX0_clausesWith_32 : decode cX0_clausesWith 32 = .ok (.ifCond .eq 10, 3) := by decide +kernel
theorem dX0_clausesWith_35 : decode cX0_clausesWith 35 = .ok (.iload_n 3, 1) := by decide +kernel
theorem dX0_clausesWith_36 : decode cX0_clausesWith 36 = .ok (.iconst 1, 1) := by decide +kernel
theorem dX0_clausesWith_37 : decode cX0_clausesWith 37 = .ok (.iload 4, 2) := by decide +kernel
theorem dX0_clausesWith_39 : decode cX0_clausesWith 39 = .ok (.ishl, 1) := by decide +kernel
theorem dX0_clausesWith_40 : decode cX0_clausesWith 40 = .ok (.ior, 1) := by decide +kernel
theorem dX0_clausesWith_41 : decode cX0_clausesWith 41 = .ok (.istore_n 3, 1) := by decide +kernel
theorem dX0_clausesWith_42 : decode cX0_clausesWith 42 = .ok (.iinc 4 1, 3) := by decide +kernel
theorem dX0_clausesWith_45 : decode cX0_clausesWith 45 = .ok (.goto (-40), 3) := by decide +kernel
theorem dX0_clausesWith_48 : decode cX0_clausesWith 48 = .ok (.iload_n 3, 1) := by decide +kernel
theorem dX0_clausesWith_49 : decode cX0_clausesWith 49 = .ok (.ireturn, 1) := by decide +kernel
theorem dX0_busiest_0 : decode cX0_busiest 0 = .ok (.iconst 0, 1) := by decide +kernel
theorem dX0_busiest_1 : decode cX0_busiest 1 = .ok (.istore_n 3, 1) := by decide +kernel
theorem dX0_busiest_2 : decode cX0_busiest 2 = .ok (.iconst (-1), 1) := by decide +kernel
theorem dX0_busiest_3 : decode cX0_busiest 3 = .ok (.istore 4, 2) := by decide +kernel
theorem dX0_busiest_5 : decode cX0_busiest 5 = .ok (.iconst 0, 1) := by decide +kernel
theorem dX0_busiest_6 : decode cX0_busiest 6 = .ok (.istore 5, 2) := by decide +kernel
theorem dX0_busiest_8 : decode cX0_busiest 8 = .ok (.iload 5, 2) := by decide +kernel
theorem dX0_busiest_10 : decode cX0_busiest 10 = .ok (.bipush 8, 2) := by decide +kernel
theorem dX0_busiest_12 : decode cX0_busiest 12 = .ok (.if_icmp .ge 75, 3) := by decide +kernel
theorem dX0_busiest_15 : decode cX0_busiest 15 = .ok (.iconst 0, 1) := by decide +kernel
theorem dX0_busiest_16 : decode cX0_busiest 16 = .ok (.istore 6, 2) := by decide +kernel
theorem dX0_busiest_18 : decode cX0_busiest 18 = .ok (.iconst 0, 1) := by decide +kernel
theorem dX0_busiest_19 : decode cX0_busiest 19 = .ok (.istore 7, 2) := by decide +kernel
theorem dX0_busiest_21 : decode cX0_busiest 21 = .ok (.iload 7, 2) := by decide +kernel
theorem dX0_busiest_23 : decode cX0_busiest 23 = .ok (.aload_n 0, 1) := by decide +kernel
theorem dX0_busiest_24 : decode cX0_busiest 24 = .ok (.getfield 65, 3) := by decide +kernel
theorem dX0_busiest_27 : decode cX0_busiest 27 = .ok (.if_icmp .ge 30, 3) := by decide +kernel
theorem dX0_busiest_30 : decode cX0_busiest 30 = .ok (.iload 6, 2) := by decide +kernel
theorem dX0_busiest_32 : decode cX0_busiest 32 = .ok (.iload_n 2, 1) := by decide +kernel
theorem dX0_busiest_33 : decode cX0_busiest 33 = .ok (.iload 7, 2) := by decide +kernel
theorem dX0_busiest_35 : decode cX0_busiest 35 = .ok (.ishr, 1) := by decide +kernel
theorem dX0_busiest_36 : decode cX0_busiest 36 = .ok (.aload_n 0, 1) := by decide +kernel
theorem dX0_busiest_37 : decode cX0_busiest 37 = .ok (.iload 7, 2) := by decide +kernel
theorem dX0_busiest_39 : decode cX0_busiest 39 = .ok (.invokevirtual 80, 3) := by decide +kernel
theorem dX0_busiest_42 : decode cX0_busiest 42 = .ok (.iload 5, 2) := by decide +kernel
theorem dX0_busiest_44 : decode cX0_busiest 44 = .ok (.ishr, 1) := by decide +kernel
theorem dX0_busiest_45 : decode cX0_busiest 45 = .ok (.iand, 1) := by decide +kernel
theorem dX0_busiest_46 : decode cX0_busiest 46 = .ok (.iconst 1, 1) := by decide +kernel
theorem dX0_busiest_47 : decode cX0_busiest 47 = .ok (.iand, 1) := by decide +kernel
theorem dX0_busiest_48 : decode cX0_busiest 48 = .ok (.iadd, 1) := by decide +kernel
theorem dX0_busiest_49 : decode cX0_busiest 49 = .ok (.istore 6, 2) := by decide +kernel
theorem dX0_busiest_51 : decode cX0_busiest 51 = .ok (.iinc 7 1, 3) := by decide +kernel
theorem dX0_busiest_54 : decode cX0_busiest 54 = .ok (.goto (-33), 3) := by decide +kernel
theorem dX0_busiest_57 : decode cX0_busiest 57 = .ok (.iload_n 1, 1) := by decide +kernel
theorem dX0_busiest_58 : decode cX0_busiest 58 = .ok (.iload 5, 2) := by decide +kernel
theorem dX0_busiest_60 : decode cX0_busiest 60 = .ok (.ishr, 1) := by decide +kernel
theorem dX0_busiest_61 : decode cX0_busiest 61 = .ok (.iconst 1, 1) := by decide +kernel
theorem dX0_busiest_62 : decode cX0_busiest 62 = .ok (.iand, 1) := by decide +kernel
theorem dX0_busiest_63 : decode cX0_busiest 63 = .ok (.iconst 1, 1) := by decide +kernel
theorem dX0_busiest_64 : decode cX0_busiest 64 = .ok (.if_icmp .ne 17, 3) := by decide +kernel
theorem dX0_busiest_67 : decode cX0_busiest 67 = .ok (.iload 6, 2) := by decide +kernel
theorem dX0_busiest_69 : decode cX0_busiest 69 = .ok (.iload 4, 2) := by decide +kernel
theorem dX0_busiest_71 : decode cX0_busiest 71 = .ok (.if_icmp .le 10, 3) := by decide +kernel
theorem dX0_busiest_74 : decode cX0_busiest 74 = .ok (.iload 6, 2) := by decide +kernel
theorem dX0_busiest_76 : decode cX0_busiest 76 = .ok (.istore 4, 2) := by decide +kernel
theorem dX0_busiest_78 : decode cX0_busiest 78 = .ok (.iload 5, 2) := by decide +kernel
theorem dX0_busiest_80 : decode cX0_busiest 80 = .ok (.istore_n 3, 1) := by decide +kernel
theorem dX0_busiest_81 : decode cX0_busiest 81 = .ok (.iinc 5 1, 3) := by decide +kernel
theorem dX0_busiest_84 : decode cX0_busiest 84 = .ok (.goto (-76), 3) := by decide +kernel
theorem dX0_busiest_87 : decode cX0_busiest 87 = .ok (.iload_n 3, 1) := by decide +kernel
theorem dX0_busiest_88 : decode cX0_busiest 88 = .ok (.ireturn, 1) := by decide +kernel
theorem dX0_clausesLeft_0 : decode cX0_clausesLeft 0 = .ok (.iload_n 1, 1) := by decide +kernel
end
section
set_option maxRecDepth 100000
theorem dX0_clausesLeft_1 : decode cX0_clausesLeft 1 = .ok (.istore 4, 2) := by decide +kernel
theorem dX0_clausesLeft_3 : decode cX0_clausesLeft 3 = .ok (.iconst 0, 1) := by decide +kernel
theorem dX0_clausesLeft_4 : decode cX0_clausesLeft 4 = .ok (.istore 5, 2) := by decide +kernel
theorem dX0_clausesLeft_6 : decode cX0_clausesLeft 6 = .ok (.iload 5, 2) := by decide +kernel
theorem dX0_clausesLeft_8 : decode cX0_clausesLeft 8 = .ok (.aload_n 0, 1) := by decide +kernel
theorem dX0_clausesLeft_9 : decode cX0_clausesLeft 9 = .ok (.getfield 65, 3) := by decide +kernel
theorem dX0_clausesLeft_12 : decode cX0_clausesLeft 12 = .ok (.if_icmp .ge 53, 3) := by decide +kernel
theorem dX0_clausesLeft_15 : decode cX0_clausesLeft 15 = .ok (.iload_n 3, 1) := by decide +kernel
theorem dX0_clausesLeft_16 : decode cX0_clausesLeft 16 = .ok (.ifCond .eq 13, 3) := by decide +kernel
theorem dX0_clausesLeft_19 : decode cX0_clausesLeft 19 = .ok (.aload_n 0, 1) := by decide +kernel
theorem dX0_clausesLeft_20 : decode cX0_clausesLeft 20 = .ok (.getfield 13, 3) := by decide +kernel
theorem dX0_clausesLeft_23 : decode cX0_clausesLeft 23 = .ok (.iload 5, 2) := by decide +kernel
theorem dX0_clausesLeft_25 : decode cX0_clausesLeft 25 = .ok (.iaload, 1) := by decide +kernel
theorem dX0_clausesLeft_26 : decode cX0_clausesLeft 26 = .ok (.goto 10, 3) := by decide +kernel
theorem dX0_clausesLeft_29 : decode cX0_clausesLeft 29 = .ok (.aload_n 0, 1) := by decide +kernel
theorem dX0_clausesLeft_30 : decode cX0_clausesLeft 30 = .ok (.getfield 16, 3) := by decide +kernel
theorem dX0_clausesLeft_33 : decode cX0_clausesLeft 33 = .ok (.iload 5, 2) := by decide +kernel
theorem dX0_clausesLeft_35 : decode cX0_clausesLeft 35 = .ok (.iaload, 1) := by decide +kernel
theorem dX0_clausesLeft_36 : decode cX0_clausesLeft 36 = .ok (.istore 6, 2) := by decide +kernel
theorem dX0_clausesLeft_38 : decode cX0_clausesLeft 38 = .ok (.iload 6, 2) := by decide +kernel
theorem dX0_clausesLeft_40 : decode cX0_clausesLeft 40 = .ok (.iload_n 2, 1) := by decide +kernel
theorem dX0_clausesLeft_41 : decode cX0_clausesLeft 41 = .ok (.ishr, 1) := by decide +kernel
theorem dX0_clausesLeft_42 : decode cX0_clausesLeft 42 = .ok (.iconst 1, 1) := by decide +kernel
theorem dX0_clausesLeft_43 : decode cX0_clausesLeft 43 = .ok (.iand, 1) := by decide +kernel
theorem dX0_clausesLeft_44 : decode cX0_clausesLeft 44 = .ok (.iconst 1, 1) := by decide +kernel
theorem dX0_clausesLeft_45 : decode cX0_clausesLeft 45 = .ok (.if_icmp .ne 14, 3) := by decide +kernel
theorem dX0_clausesLeft_48 : decode cX0_clausesLeft 48 = .ok (.iload 4, 2) := by decide +kernel
theorem dX0_clausesLeft_50 : decode cX0_clausesLeft 50 = .ok (.iconst 1, 1) := by decide +kernel
theorem dX0_clausesLeft_51 : decode cX0_clausesLeft 51 = .ok (.iload 5, 2) := by decide +kernel
theorem dX0_clausesLeft_53 : decode cX0_clausesLeft 53 = .ok (.ishl, 1) := by decide +kernel
theorem dX0_clausesLeft_54 : decode cX0_clausesLeft 54 = .ok (.iconst (-1), 1) := by decide +kernel
theorem dX0_clausesLeft_55 : decode cX0_clausesLeft 55 = .ok (.ixor, 1) := by decide +kernel
theorem dX0_clausesLeft_56 : decode cX0_clausesLeft 56 = .ok (.iand, 1) := by decide +kernel
theorem dX0_clausesLeft_57 : decode cX0_clausesLeft 57 = .ok (.istore 4, 2) := by decide +kernel
theorem dX0_clausesLeft_59 : decode cX0_clausesLeft 59 = .ok (.iinc 5 1, 3) := by decide +kernel
theorem dX0_clausesLeft_62 : decode cX0_clausesLeft 62 = .ok (.goto (-56), 3) := by decide +kernel
theorem dX0_clausesLeft_65 : decode cX0_clausesLeft 65 = .ok (.iload 4, 2) := by decide +kernel
theorem dX0_clausesLeft_67 : decode cX0_clausesLeft 67 = .ok (.ireturn, 1) := by decide +kernel
theorem dX0_evaluated_0 : decode cX0_evaluated 0 = .ok (.aload_n 0, 1) := by decide +kernel
theorem dX0_evaluated_1 : decode cX0_evaluated 1 = .ok (.getfield 34, 3) := by decide +kernel
theorem dX0_evaluated_4 : decode cX0_evaluated 4 = .ok (.iload_n 1, 1) := by decide +kernel
theorem dX0_evaluated_5 : decode cX0_evaluated 5 = .ok (.iaload, 1) := by decide +kernel
theorem dX0_evaluated_6 : decode cX0_evaluated 6 = .ok (.iconst 1, 1) := by decide +kernel
theorem dX0_evaluated_7 : decode cX0_evaluated 7 = .ok (.if_icmp .ne 5, 3) := by decide +kernel
theorem dX0_evaluated_10 : decode cX0_evaluated 10 = .ok (.iconst 0, 1) := by decide +kernel
theorem dX0_evaluated_11 : decode cX0_evaluated 11 = .ok (.ireturn, 1) := by decide +kernel
theorem dX0_evaluated_12 : decode cX0_evaluated 12 = .ok (.aload_n 0, 1) := by decide +kernel
theorem dX0_evaluated_13 : decode cX0_evaluated 13 = .ok (.getfield 34, 3) := by decide +kernel
theorem dX0_evaluated_16 : decode cX0_evaluated 16 = .ok (.iload_n 1, 1) := by decide +kernel
theorem dX0_evaluated_17 : decode cX0_evaluated 17 = .ok (.iaload, 1) := by decide +kernel
theorem dX0_evaluated_18 : decode cX0_evaluated 18 = .ok (.iconst 2, 1) := by decide +kernel
theorem dX0_evaluated_19 : decode cX0_evaluated 19 = .ok (.if_icmp .ne 27, 3) := by decide +kernel
theorem dX0_evaluated_22 : decode cX0_evaluated 22 = .ok (.aload_n 0, 1) := by decide +kernel
theorem dX0_evaluated_23 : decode cX0_evaluated 23 = .ok (.getfield 49, 3) := by decide +kernel
theorem dX0_evaluated_26 : decode cX0_evaluated 26 = .ok (.aload_n 0, 1) := by decide +kernel
theorem dX0_evaluated_27 : decode cX0_evaluated 27 = .ok (.getfield 40, 3) := by decide +kernel
theorem dX0_evaluated_30 : decode cX0_evaluated 30 = .ok (.iload_n 1, 1) := by decide +kernel
theorem dX0_evaluated_31 : decode cX0_evaluated 31 = .ok (.iaload, 1) := by decide +kernel
theorem dX0_evaluated_32 : decode cX0_evaluated 32 = .ok (.iaload, 1) := by decide +kernel
theorem dX0_evaluated_33 : decode cX0_evaluated 33 = .ok (.aload_n 0, 1) := by decide +kernel
theorem dX0_evaluated_34 : decode cX0_evaluated 34 = .ok (.getfield 49, 3) := by decide +kernel
theorem dX0_evaluated_37 : decode cX0_evaluated 37 = .ok (.aload_n 0, 1) := by decide +kernel
theorem dX0_evaluated_38 : decode cX0_evaluated 38 = .ok (.getfield 43, 3) := by decide +kernel
theorem dX0_evaluated_41 : decode cX0_evaluated 41 = .ok (.iload_n 1, 1) := by decide +kernel
theorem dX0_evaluated_42 : decode cX0_evaluated 42 = .ok (.iaload, 1) := by decide +kernel
theorem dX0_evaluated_43 : decode cX0_evaluated 43 = .ok (.iaload, 1) := by decide +kernel
theorem dX0_evaluated_44 : decode cX0_evaluated 44 = .ok (.imul, 1) := by decide +kernel
theorem dX0_evaluated_45 : decode cX0_evaluated 45 = .ok (.ireturn, 1) := by decide +kernel
theorem dX0_evaluated_46 : decode cX0_evaluated 46 = .ok (.aload_n 0, 1) := by decide +kernel
theorem dX0_evaluated_47 : decode cX0_evaluated 47 = .ok (.getfield 34, 3) := by decide +kernel
theorem dX0_evaluated_50 : decode cX0_evaluated 50 = .ok (.iload_n 1, 1) := by decide +kernel
theorem dX0_evaluated_51 : decode cX0_evaluated 51 = .ok (.iaload, 1) := by decide +kernel
theorem dX0_evaluated_52 : decode cX0_evaluated 52 = .ok (.iconst 3, 1) := by decide +kernel
theorem dX0_evaluated_53 : decode cX0_evaluated 53 = .ok (.if_icmp .ne 48, 3) := by decide +kernel
theorem dX0_evaluated_56 : decode cX0_evaluated 56 = .ok (.aload_n 0, 1) := by decide +kernel
theorem dX0_evaluated_57 : decode cX0_evaluated 57 = .ok (.getfield 37, 3) := by decide +kernel
theorem dX0_evaluated_60 : decode cX0_evaluated 60 = .ok (.iload_n 1, 1) := by decide +kernel
theorem dX0_evaluated_61 : decode cX0_evaluated 61 = .ok (.iaload, 1) := by decide +kernel
theorem dX0_evaluated_62 : decode cX0_evaluated 62 = .ok (.istore_n 2, 1) := by decide +kernel
theorem dX0_evaluated_63 : decode cX0_evaluated 63 = .ok (.aload_n 0, 1) := by decide +kernel
theorem dX0_evaluated_64 : decode cX0_evaluated 64 = .ok (.getfield 58, 3) := by decide +kernel
theorem dX0_evaluated_67 : decode cX0_evaluated 67 = .ok (.iload_n 2, 1) := by decide +kernel
theorem dX0_evaluated_68 : decode cX0_evaluated 68 = .ok (.iaload, 1) := by decide +kernel
theorem dX0_evaluated_69 : decode cX0_evaluated 69 = .ok (.aload_n 0, 1) := by decide +kernel
theorem dX0_evaluated_70 : decode cX0_evaluated 70 = .ok (.getfield 49, 3) := by decide +kernel
theorem dX0_evaluated_73 : decode cX0_evaluated 73 = .ok (.aload_n 0, 1) := by decide +kernel
theorem dX0_evaluated_74 : decode cX0_evaluated 74 = .ok (.getfield 40, 3) := by decide +kernel
theorem dX0_evaluated_77 : decode cX0_evaluated 77 = .ok (.iload_n 1, 1) := by decide +kernel
theorem dX0_evaluated_78 : decode cX0_evaluated 78 = .ok (.iaload, 1) := by decide +kernel
theorem dX0_evaluated_79 : decode cX0_evaluated 79 = .ok (.iaload, 1) := by decide +kernel
theorem dX0_evaluated_80 : decode cX0_evaluated 80 = .ok (.imul, 1) := by decide +kernel
theorem dX0_evaluated_81 : decode cX0_evaluated 81 = .ok (.aload_n 0, 1) := by decide +kernel
theorem dX0_evaluated_82 : decode cX0_evaluated 82 = .ok (.getfield 55, 3) := by decide +kernel
theorem dX0_evaluated_85 : decode cX0_evaluated 85 = .ok (.iload_n 2, 1) := by decide +kernel
theorem dX0_evaluated_86 : decode cX0_evaluated 86 = .ok (.iaload, 1) := by decide +kernel
theorem dX0_evaluated_87 : decode cX0_evaluated 87 = .ok (.aload_n 0, 1) := by decide +kernel
theorem dX0_evaluated_88 : decode cX0_evaluated 88 = .ok (.getfield 49, 3) := by decide +kernel
theorem dX0_evaluated_91 : decode cX0_evaluated 91 = .ok (.aload_n 0, 1) := by decide +kernel
theorem dX0_evaluated_92 : decode cX0_evaluated 92 = .ok (.getfield 43, 3) := by decide +kernel
theorem dX0_evaluated_95 : decode cX0_evaluated 95 = .ok (.iload_n 1, 1) := by decide +kernel
theorem dX0_evaluated_96 : decode cX0_evaluated 96 = .ok (.iaload, 1) := by decide +kernel
theorem dX0_evaluated_97 : decode cX0_evaluated 97 = .ok (.iaload, 1) := by decide +kernel
theorem dX0_evaluated_98 : decode cX0_evaluated 98 = .ok (.imul, 1) := by decide +kernel
theorem dX0_evaluated_99 : decode cX0_evaluated 99 = .ok (.iadd, 1) := by decide +kernel
theorem dX0_evaluated_100 : decode cX0_evaluated 100 = .ok (.ireturn, 1) := by decide +kernel
theorem dX0_evaluated_101 : decode cX0_evaluated 101 = .ok (.iconst 1, 1) := by decide +kernel
theorem dX0_evaluated_102 : decode cX0_evaluated 102 = .ok (.istore_n 2, 1) := by decide +kernel
theorem dX0_evaluated_103 : decode cX0_evaluated 103 = .ok (.iconst 0, 1) := by decide +kernel
theorem dX0_evaluated_104 : decode cX0_evaluated 104 = .ok (.istore_n 3, 1) := by decide +kernel
theorem dX0_evaluated_105 : decode cX0_evaluated 105 = .ok (.iload_n 3, 1) := by decide +kernel
theorem dX0_evaluated_106 : decode cX0_evaluated 106 = .ok (.bipush 8, 2) := by decide +kernel
theorem dX0_evaluated_108 : decode cX0_evaluated 108 = .ok (.if_icmp .ge 39, 3) := by decide +kernel
theorem dX0_evaluated_111 : decode cX0_evaluated 111 = .ok (.aload_n 0, 1) := by decide +kernel
theorem dX0_evaluated_112 : decode cX0_evaluated 112 = .ok (.getfield 25, 3) := by decide +kernel
theorem dX0_evaluated_115 : decode cX0_evaluated 115 = .ok (.iload_n 1, 1) := by decide +kernel
theorem dX0_evaluated_116 : decode cX0_evaluated 116 = .ok (.iaload, 1) := by decide +kernel
theorem dX0_evaluated_117 : decode cX0_evaluated 117 = .ok (.iload_n 3, 1) := by decide +kernel
theorem dX0_evaluated_118 : decode cX0_evaluated 118 = .ok (.ishr, 1) := by decide +kernel
theorem dX0_evaluated_119 : decode cX0_evaluated 119 = .ok (.iconst 1, 1) := by decide +kernel
theorem dX0_evaluated_120 : decode cX0_evaluated 120 = .ok (.iand, 1) := by decide +kernel
theorem dX0_evaluated_121 : decode cX0_evaluated 121 = .ok (.iconst 1, 1) := by decide +kernel
theorem dX0_evaluated_122 : decode cX0_evaluated 122 = .ok (.if_icmp .ne 19, 3) := by decide +kernel
theorem dX0_evaluated_125 : decode cX0_evaluated 125 = .ok (.iload_n 2, 1) := by decide +kernel
theorem dX0_evaluated_126 : decode cX0_evaluated 126 = .ok (.aload_n 0, 1) := by decide +kernel
theorem dX0_evaluated_127 : decode cX0_evaluated 127 = .ok (.getfield 58, 3) := by decide +kernel
theorem dX0_evaluated_130 : decode cX0_evaluated 130 = .ok (.iload_n 3, 1) := by decide +kernel
theorem dX0_evaluated_131 : decode cX0_evaluated 131 = .ok (.iaload, 1) := by decide +kernel
theorem dX0_evaluated_132 : decode cX0_evaluated 132 = .ok (.aload_n 0, 1) := by decide +kernel
theorem dX0_evaluated_133 : decode cX0_evaluated 133 = .ok (.getfield 55, 3) := by decide +kernel
theorem dX0_evaluated_136 : decode cX0_evaluated 136 = .ok (.iload_n 3, 1) := by decide +kernel
theorem dX0_evaluated_137 : decode cX0_evaluated 137 = .ok (.iaload, 1) := by decide +kernel
theorem dX0_evaluated_138 : decode cX0_evaluated 138 = .ok (.iadd, 1) := by decide +kernel
theorem dX0_evaluated_139 : decode cX0_evaluated 139 = .ok (.imul, 1) := by decide +kernel
theorem dX0_evaluated_140 : decode cX0_evaluated 140 = .ok (.istore_n 2, 1) := by decide +kernel
theorem dX0_evaluated_141 : decode cX0_evaluated 141 = .ok (.iinc 3 1, 3) := by decide +kernel
theorem dX0_evaluated_144 : decode cX0_evaluated 144 = .ok (.goto (-39), 3) := by decide +kernel
theorem dX0_evaluated_147 : decode cX0_evaluated 147 = .ok (.iload_n 2, 1) := by decide +kernel
theorem dX0_evaluated_148 : decode cX0_evaluated 148 = .ok (.ireturn, 1) := by decide +kernel
theorem dX0_countWith_0 : decode cX0_countWith 0 = .ok (.aload_n 0, 1) := by decide +kernel
theorem dX0_countWith_1 : decode cX0_countWith 1 = .ok (.iload_n 1, 1) := by decide +kernel
theorem dX0_countWith_2 : decode cX0_countWith 2 = .ok (.invokevirtual 125, 3) := by decide +kernel
theorem dX0_countWith_5 : decode cX0_countWith 5 = .ok (.ifCond .ne 11, 3) := by decide +kernel
theorem dX0_countWith_8 : decode cX0_countWith 8 = .ok (.aload_n 0, 1) := by decide +kernel
theorem dX0_countWith_9 : decode cX0_countWith 9 = .ok (.iload_n 2, 1) := by decide +kernel
theorem dX0_countWith_10 : decode cX0_countWith 10 = .ok (.invokevirtual 125, 3) := by decide +kernel
theorem dX0_countWith_13 : decode cX0_countWith 13 = .ok (.ifCond .eq 5, 3) := by decide +kernel
theorem dX0_countWith_16 : decode cX0_countWith 16 = .ok (.iconst (-1), 1) := by decide +kernel
theorem dX0_countWith_17 : decode cX0_countWith 17 = .ok (.ireturn, 1) := by decide +kernel
theorem dX0_countWith_18 : decode cX0_countWith 18 = .ok (.aload_n 0, 1) := by decide +kernel
theorem dX0_countWith_19 : decode cX0_countWith 19 = .ok (.iload_n 1, 1) := by decide +kernel
theorem dX0_countWith_20 : decode cX0_countWith 20 = .ok (.iload_n 2, 1) := by decide +kernel
theorem dX0_countWith_21 : decode cX0_countWith 21 = .ok (.invokevirtual 122, 3) := by decide +kernel
theorem dX0_countWith_24 : decode cX0_countWith 24 = .ok (.ireturn, 1) := by decide +kernel
theorem dX0_badSet_0 : decode cX0_badSet 0 = .ok (.iload_n 1, 1) := by decide +kernel
theorem dX0_badSet_1 : decode cX0_badSet 1 = .ok (.ifCond .lt 10, 3) := by decide +kernel
theorem dX0_badSet_4 : decode cX0_badSet 4 = .ok (.iload_n 1, 1) := by decide +kernel
theorem dX0_badSet_5 : decode cX0_badSet 5 = .ok (.sipush 255, 3) := by decide +kernel
theorem dX0_badSet_8 : decode cX0_badSet 8 = .ok (.if_icmp .le 7, 3) := by decide +kernel
theorem dX0_badSet_11 : decode cX0_badSet 11 = .ok (.iconst 1, 1) := by decide +kernel
theorem dX0_badSet_12 : decode cX0_badSet 12 = .ok (.goto 4, 3) := by decide +kernel
theorem dX0_badSet_15 : decode cX0_badSet 15 = .ok (.iconst 0, 1) := by decide +kernel
theorem dX0_badSet_16 : decode cX0_badSet 16 = .ok (.ireturn, 1) := by decide +kernel
theorem dX0_countSize_0 : decode cX0_countSize 0 = .ok (.iload_n 1, 1) := by decide +kernel
theorem dX0_countSize_1 : decode cX0_countSize 1 = .ok (.ifCond .lt 9, 3) := by decide +kernel
theorem dX0_countSize_4 : decode cX0_countSize 4 = .ok (.iload_n 1, 1) := by decide +kernel
theorem dX0_countSize_5 : decode cX0_countSize 5 = .ok (.bipush 8, 2) := by decide +kernel
theorem dX0_countSize_7 : decode cX0_countSize 7 = .ok (.if_icmp .le 5, 3) := by decide +kernel
theorem dX0_countSize_10 : decode cX0_countSize 10 = .ok (.iconst 0, 1) := by decide +kernel
theorem dX0_countSize_11 : decode cX0_countSize 11 = .ok (.ireturn, 1) := by decide +kernel
theorem dX0_countSize_12 : decode cX0_countSize 12 = .ok (.aload_n 0, 1) := by decide +kernel
theorem dX0_countSize_13 : decode cX0_countSize 13 = .ok (.invokevirtual 132, 3) := by decide +kernel
theorem dX0_countSize_16 : decode cX0_countSize 16 = .ok (.aload_n 0, 1) := by decide +kernel
theorem dX0_countSize_17 : decode cX0_countSize 17 = .ok (.getfield 52, 3) := by decide +kernel
theorem dX0_countSize_20 : decode cX0_countSize 20 = .ok (.iload_n 1, 1) := by decide +kernel
theorem dX0_countSize_21 : decode cX0_countSize 21 = .ok (.iaload, 1) := by decide +kernel
theorem dX0_countSize_22 : decode cX0_countSize 22 = .ok (.ireturn, 1) := by decide +kernel
theorem dX0_passSizes_0 : decode cX0_passSizes 0 = .ok (.aload_n 0, 1) := by decide +kernel
theorem dX0_passSizes_1 : decode cX0_passSizes 1 = .ok (.invokevirtual 108, 3) := by decide +kernel
theorem dX0_passSizes_4 : decode cX0_passSizes 4 = .ok (.iconst 0, 1) := by decide +kernel
theorem dX0_passSizes_5 : decode cX0_passSizes 5 = .ok (.istore_n 1, 1) := by decide +kernel
theorem dX0_passSizes_6 : decode cX0_passSizes 6 = .ok (.iload_n 1, 1) := by decide +kernel
theorem dX0_passSizes_7 : decode cX0_passSizes 7 = .ok (.bipush 8, 2) := by decide +kernel
theorem dX0_passSizes_9 : decode cX0_passSizes 9 = .ok (.if_icmp .gt 40, 3) := by decide +kernel
theorem dX0_passSizes_12 : decode cX0_passSizes 12 = .ok (.iconst 0, 1) := by decide +kernel
theorem dX0_passSizes_13 : decode cX0_passSizes 13 = .ok (.istore_n 2, 1) := by decide +kernel
theorem dX0_passSizes_14 : decode cX0_passSizes 14 = .ok (.iload_n 2, 1) := by decide +kernel
theorem dX0_passSizes_15 : decode cX0_passSizes 15 = .ok (.aload_n 0, 1) := by decide +kernel
theorem dX0_passSizes_16 : decode cX0_passSizes 16 = .ok (.getfield 73, 3) := by decide +kernel
theorem dX0_passSizes_19 : decode cX0_passSizes 19 = .ok (.if_icmp .ge 24, 3) := by decide +kernel
theorem dX0_passSizes_22 : decode cX0_passSizes 22 = .ok (.aload_n 0, 1) := by decide +kernel
theorem dX0_passSizes_23 : decode cX0_passSizes 23 = .ok (.getfield 31, 3) := by decide +kernel
theorem dX0_passSizes_26 : decode cX0_passSizes 26 = .ok (.iload_n 2, 1) := by decide +kernel
theorem dX0_passSizes_27 : decode cX0_passSizes 27 = .ok (.iaload, 1) := by decide +kernel
theorem dX0_passSizes_28 : decode cX0_passSizes 28 = .ok (.iload_n 1, 1) := by decide +kernel
theorem dX0_passSizes_29 : decode cX0_passSizes 29 = .ok (.if_icmp .ne 8, 3) := by decide +kernel
theorem dX0_passSizes_32 : decode cX0_passSizes 32 = .ok (.aload_n 0, 1) := by decide +kernel
theorem dX0_passSizes_33 : decode cX0_passSizes 33 = .ok (.iload_n 2, 1) := by decide +kernel
theorem dX0_passSizes_34 : decode cX0_passSizes 34 = .ok (.invokevirtual 129, 3) := by decide +kernel
theorem dX0_passSizes_37 : decode cX0_passSizes 37 = .ok (.iinc 2 1, 3) := by decide +kernel
theorem dX0_passSizes_40 : decode cX0_passSizes 40 = .ok (.goto (-26), 3) := by decide +kernel
theorem dX0_passSizes_43 : decode cX0_passSizes 43 = .ok (.iinc 1 1, 3) := by decide +kernel
theorem dX0_passSizes_46 : decode cX0_passSizes 46 = .ok (.goto (-40), 3) := by decide +kernel
theorem dX0_passSizes_49 : decode cX0_passSizes 49 = .ok (.return_, 1) := by decide +kernel
theorem dX0_sizes_0 : decode cX0_sizes 0 = .ok (.iconst 0, 1) := by decide +kernel
theorem dX0_sizes_1 : decode cX0_sizes 1 = .ok (.istore_n 2, 1) := by decide +kernel
theorem dX0_sizes_2 : decode cX0_sizes 2 = .ok (.iload_n 2, 1) := by decide +kernel
theorem dX0_sizes_3 : decode cX0_sizes 3 = .ok (.bipush 8, 2) := by decide +kernel
theorem dX0_sizes_5 : decode cX0_sizes 5 = .ok (.if_icmp .gt 21, 3) := by decide +kernel
theorem dX0_sizes_8 : decode cX0_sizes 8 = .ok (.aload_n 0, 1) := by decide +kernel
theorem dX0_sizes_9 : decode cX0_sizes 9 = .ok (.getfield 52, 3) := by decide +kernel
theorem dX0_sizes_12 : decode cX0_sizes 12 = .ok (.iload_n 1, 1) := by decide +kernel
theorem dX0_sizes_13 : decode cX0_sizes 13 = .ok (.bipush 9, 2) := by decide +kernel
theorem dX0_sizes_15 : decode cX0_sizes 15 = .ok (.imul, 1) := by decide +kernel
theorem dX0_sizes_16 : decode cX0_sizes 16 = .ok (.iload_n 2, 1) := by decide +kernel
theorem dX0_sizes_17 : decode cX0_sizes 17 = .ok (.iadd, 1) := by decide +kernel
theorem dX0_sizes_18 : decode cX0_sizes 18 = .ok (.iconst 0, 1) := by decide +kernel
theorem dX0_sizes_19 : decode cX0_sizes 19 = .ok (.iastore, 1) := by decide +kernel
theorem dX0_sizes_20 : decode cX0_sizes 20 = .ok (.iinc 2 1, 3) := by decide +kernel
theorem dX0_sizes_23 : decode cX0_sizes 23 = .ok (.goto (-21), 3) := by decide +kernel
theorem dX0_sizes_26 : decode cX0_sizes 26 = .ok (.aload_n 0, 1) := by decide +kernel
theorem dX0_sizes_27 : decode cX0_sizes 27 = .ok (.getfield 34, 3) := by decide +kernel
theorem dX0_sizes_30 : decode cX0_sizes 30 = .ok (.iload_n 1, 1) := by decide +kernel
theorem dX0_sizes_31 : decode cX0_sizes 31 = .ok (.iaload, 1) := by decide +kernel
theorem dX0_sizes_32 : decode cX0_sizes 32 = .ok (.ifCond .ne 94, 3) := by decide +kernel
theorem dX0_sizes_35 : decode cX0_sizes 35 = .ok (.aload_n 0, 1) := by decide +kernel
theorem dX0_sizes_36 : decode cX0_sizes 36 = .ok (.getfield 52, 3) := by decide +kernel
theorem dX0_sizes_39 : decode cX0_sizes 39 = .ok (.iload_n 1, 1) := by decide +kernel
theorem dX0_sizes_40 : decode cX0_sizes 40 = .ok (.bipush 9, 2) := by decide +kernel
theorem dX0_sizes_42 : decode cX0_sizes 42 = .ok (.imul, 1) := by decide +kernel
theorem dX0_sizes_43 : decode cX0_sizes 43 = .ok (.iconst 1, 1) := by decide +kernel
theorem dX0_sizes_44 : decode cX0_sizes 44 = .ok (.iastore, 1) := by decide +kernel
theorem dX0_sizes_45 : decode cX0_sizes 45 = .ok (.aload_n 0, 1) := by decide +kernel
theorem dX0_sizes_46 : decode cX0_sizes 46 = .ok (.aload_n 0, 1) := by decide +kernel
theorem dX0_sizes_47 : decode cX0_sizes 47 = .ok (.getfield 25, 3) := by decide +kernel
theorem dX0_sizes_50 : decode cX0_sizes 50 = .ok (.iload_n 1, 1) := by decide +kernel
theorem dX0_sizes_51 : decode cX0_sizes 51 = .ok (.iaload, 1) := by decide +kernel
theorem dX0_sizes_52 : decode cX0_sizes 52 = .ok (.invokevirtual 76, 3) := by decide +kernel
theorem dX0_sizes_55 : decode cX0_sizes 55 = .ok (.istore_n 2, 1) := by decide +kernel
theorem dX0_sizes_56 : decode cX0_sizes 56 = .ok (.iconst 0, 1) := by decide +kernel
theorem dX0_sizes_57 : decode cX0_sizes 57 = .ok (.istore_n 3, 1) := by decide +kernel
theorem dX0_sizes_58 : decode cX0_sizes 58 = .ok (.iload_n 3, 1) := by decide +kernel
theorem dX0_sizes_59 : decode cX0_sizes 59 = .ok (.iload_n 2, 1) := by decide +kernel
theorem dX0_sizes_60 : decode cX0_sizes 60 = .ok (.if_icmp .ge 63, 3) := by decide +kernel
theorem dX0_sizes_63 : decode cX0_sizes 63 = .ok (.bipush 8, 2) := by decide +kernel
theorem dX0_sizes_65 : decode cX0_sizes 65 = .ok (.istore 4, 2) := by decide +kernel
theorem dX0_sizes_67 : decode cX0_sizes 67 = .ok (.iload 4, 2) := by decide +kernel
theorem dX0_sizes_69 : decode cX0_sizes 69 = .ok (.ifCond .le 48, 3) := by decide +kernel
theorem dX0_sizes_72 : decode cX0_sizes 72 = .ok (.aload_n 0, 1) := by decide +kernel
theorem dX0_sizes_73 : decode cX0_sizes 73 = .ok (.getfield 52, 3) := by decide +kernel
theorem dX0_sizes_76 : decode cX0_sizes 76 = .ok (.iload_n 1, 1) := by decide +kernel
theorem dX0_sizes_77 : decode cX0_sizes 77 = .ok (.bipush 9, 2) := by decide +kernel
theorem dX0_sizes_79 : decode cX0_sizes 79 = .ok (.imul, 1) := by decide +kernel
theorem dX0_sizes_80 : decode cX0_sizes 80 = .ok (.iload 4, 2) := by decide +kernel
theorem dX0_sizes_82 : decode cX0_sizes 82 = .ok (.iadd, 1) := by decide +kernel
theorem dX0_sizes_83 : decode cX0_sizes 83 = .ok (.aload_n 0, 1) := by decide +kernel
theorem dX0_sizes_84 : decode cX0_sizes 84 = .ok (.getfield 52, 3) := by decide +kernel
theorem dX0_sizes_87 : decode cX0_sizes 87 = .ok (.iload_n 1, 1) := by decide +kernel
theorem dX0_sizes_88 : decode cX0_sizes 88 = .ok (.bipush 9, 2) := by decide +kernel
theorem dX0_sizes_90 : decode cX0_sizes 90 = .ok (.imul, 1) := by decide +kernel
theorem dX0_sizes_91 : decode cX0_sizes 91 = .ok (.iload 4, 2) := by decide +kernel
theorem dX0_sizes_93 : decode cX0_sizes 93 = .ok (.iadd, 1) := by decide +kernel
theorem dX0_sizes_94 : decode cX0_sizes 94 = .ok (.iaload, 1) := by decide +kernel
theorem dX0_sizes_95 : decode cX0_sizes 95 = .ok (.aload_n 0, 1) := by decide +kernel
theorem dX0_sizes_96 : decode cX0_sizes 96 = .ok (.getfield 52, 3) := by decide +kernel
theorem dX0_sizes_99 : decode cX0_sizes 99 = .ok (.iload_n 1, 1) := by decide +kernel
theorem dX0_sizes_100 : decode cX0_sizes 100 = .ok (.bipush 9, 2) := by decide +kernel
theorem dX0_sizes_102 : decode cX0_sizes 102 = .ok (.imul, 1) := by decide +kernel
theorem dX0_sizes_103 : decode cX0_sizes 103 = .ok (.iload 4, 2) := by decide +kernel
theorem dX0_sizes_105 : decode cX0_sizes 105 = .ok (.iadd, 1) := by decide +kernel
theorem dX0_sizes_106 : decode cX0_sizes 106 = .ok (.iconst 1, 1) := by decide +kernel
theorem dX0_sizes_107 : decode cX0_sizes 107 = .ok (.isub, 1) := by decide +kernel
theorem dX0_sizes_108 : decode cX0_sizes 108 = .ok (.iaload, 1) := by decide +kernel
theorem dX0_sizes_109 : decode cX0_sizes 109 = .ok (.iadd, 1) := by decide +kernel
theorem dX0_sizes_110 : decode cX0_sizes 110 = .ok (.iastore, 1) := by decide +kernel
theorem dX0_sizes_111 : decode cX0_sizes 111 = .ok (.iinc 4 (-1), 3) := by decide +kernel
theorem dX0_sizes_114 : decode cX0_sizes 114 = .ok (.goto (-47), 3) := by decide +kernel
theorem dX0_sizes_117 : decode cX0_sizes 117 = .ok (.iinc 3 1, 3) := by decide +kernel
theorem dX0_sizes_120 : decode cX0_sizes 120 = .ok (.goto (-62), 3) := by decide +kernel
theorem dX0_sizes_123 : decode cX0_sizes 123 = .ok (.goto 190, 3) := by decide +kernel
theorem dX0_sizes_126 : decode cX0_sizes 126 = .ok (.aload_n 0, 1) := by decide +kernel
theorem dX0_sizes_127 : decode cX0_sizes 127 = .ok (.getfield 34, 3) := by decide +kernel
theorem dX0_sizes_130 : decode cX0_sizes 130 = .ok (.iload_n 1, 1) := by decide +kernel
theorem dX0_sizes_131 : decode cX0_sizes 131 = .ok (.iaload, 1) := by decide +kernel
theorem dX0_sizes_132 : decode cX0_sizes 132 = .ok (.iconst 2, 1) := by decide +kernel
theorem dX0_sizes_133 : decode cX0_sizes 133 = .ok (.if_icmp .ne 100, 3) := by decide +kernel
theorem dX0_sizes_136 : decode cX0_sizes 136 = .ok (.iconst 0, 1) := by decide +kernel
theorem dX0_sizes_137 : decode cX0_sizes 137 = .ok (.istore_n 2, 1) := by decide +kernel
theorem dX0_sizes_138 : decode cX0_sizes 138 = .ok (.iload_n 2, 1) := by decide +kernel
theorem dX0_sizes_139 : decode cX0_sizes 139 = .ok (.bipush 8, 2) := by decide +kernel
theorem dX0_sizes_141 : decode cX0_sizes 141 = .ok (.if_icmp .gt 89, 3) := by decide +kernel
theorem dX0_sizes_144 : decode cX0_sizes 144 = .ok (.iconst 0, 1) := by decide +kernel
theorem dX0_sizes_145 : decode cX0_sizes 145 = .ok (.istore_n 3, 1) := by decide +kernel
theorem dX0_sizes_146 : decode cX0_sizes 146 = .ok (.iload_n 2, 1) := by decide +kernel
theorem dX0_sizes_147 : decode cX0_sizes 147 = .ok (.iload_n 3, 1) := by decide +kernel
theorem dX0_sizes_148 : decode cX0_sizes 148 = .ok (.iadd, 1) := by decide +kernel
theorem dX0_sizes_149 : decode cX0_sizes 149 = .ok (.bipush 8, 2) := by decide +kernel
theorem dX0_sizes_151 : decode cX0_sizes 151 = .ok (.if_icmp .gt 73, 3) := by decide +kernel
theorem dX0_sizes_154 : decode cX0_sizes 154 = .ok (.aload_n 0, 1) := by decide +kernel
theorem dX0_sizes_155 : decode cX0_sizes 155 = .ok (.getfield 52, 3) := by decide +kernel
theorem dX0_sizes_158 : decode cX0_sizes 158 = .ok (.aload_n 0, 1) := by decide +kernel
theorem dX0_sizes_159 : decode cX0_sizes 159 = .ok (.getfield 40, 3) := by decide +kernel
theorem dX0_sizes_162 : decode cX0_sizes 162 = .ok (.iload_n 1, 1) := by decide +kernel
theorem dX0_sizes_163 : decode cX0_sizes 163 = .ok (.iaload, 1) := by decide +kernel
theorem dX0_sizes_164 : decode cX0_sizes 164 = .ok (.bipush 9, 2) := by decide +kernel
theorem dX0_sizes_166 : decode cX0_sizes 166 = .ok (.imul, 1) := by decide +kernel
theorem dX0_sizes_167 : decode cX0_sizes 167 = .ok (.iload_n 2, 1) := by decide +kernel
theorem dX0_sizes_168 : decode cX0_sizes 168 = .ok (.iadd, 1) := by decide +kernel
theorem dX0_sizes_169 : decode cX0_sizes 169 = .ok (.iaload, 1) := by decide +kernel
theorem dX0_sizes_170 : decode cX0_sizes 170 = .ok (.aload_n 0, 1) := by decide +kernel
theorem dX0_sizes_171 : decode cX0_sizes 171 = .ok (.getfield 52, 3) := by decide +kernel
theorem dX0_sizes_174 : decode cX0_sizes 174 = .ok (.aload_n 0, 1) := by decide +kernel
theorem dX0_sizes_175 : decode cX0_sizes 175 = .ok (.getfield 43, 3) := by decide +kernel
theorem dX0_sizes_178 : decode cX0_sizes 178 = .ok (.iload_n 1, 1) := by decide +kernel
theorem dX0_sizes_179 : decode cX0_sizes 179 = .ok (.iaload, 1) := by decide +kernel
theorem dX0_sizes_180 : decode cX0_sizes 180 = .ok (.bipush 9, 2) := by decide +kernel
theorem dX0_sizes_182 : decode cX0_sizes 182 = .ok (.imul, 1) := by decide +kernel
theorem dX0_sizes_183 : decode cX0_sizes 183 = .ok (.iload_n 3, 1) := by decide +kernel
theorem dX0_sizes_184 : decode cX0_sizes 184 = .ok (.iadd, 1) := by decide +kernel
theorem dX0_sizes_185 : decode cX0_sizes 185 = .ok (.iaload, 1) := by decide +kernel
theorem dX0_sizes_186 : decode cX0_sizes 186 = .ok (.imul, 1) := by decide +kernel
theorem dX0_sizes_187 : decode cX0_sizes 187 = .ok (.istore 4, 2) := by decide +kernel
theorem dX0_sizes_189 : decode cX0_sizes 189 = .ok (.aload_n 0, 1) := by decide +kernel
theorem dX0_sizes_190 : decode cX0_sizes 190 = .ok (.getfield 52, 3) := by decide +kernel
theorem dX0_sizes_193 : decode cX0_sizes 193 = .ok (.iload_n 1, 1) := by decide +kernel
theorem dX0_sizes_194 : decode cX0_sizes 194 = .ok (.bipush 9, 2) := by decide +kernel
theorem dX0_sizes_196 : decode cX0_sizes 196 = .ok (.imul, 1) := by decide +kernel
theorem dX0_sizes_197 : decode cX0_sizes 197 = .ok (.iload_n 2, 1) := by decide +kernel
theorem dX0_sizes_198 : decode cX0_sizes 198 = .ok (.iadd, 1) := by decide +kernel
theorem dX0_sizes_199 : decode cX0_sizes 199 = .ok (.iload_n 3, 1) := by decide +kernel
theorem dX0_sizes_200 : decode cX0_sizes 200 = .ok (.iadd, 1) := by decide +kernel
theorem dX0_sizes_201 : decode cX0_sizes 201 = .ok (.aload_n 0, 1) := by decide +kernel
theorem dX0_sizes_202 : decode cX0_sizes 202 = .ok (.getfield 52, 3) := by decide +kernel
theorem dX0_sizes_205 : decode cX0_sizes 205 = .ok (.iload_n 1, 1) := by decide +kernel
theorem dX0_sizes_206 : decode cX0_sizes 206 = .ok (.bipush 9, 2) := by decide +kernel
theorem dX0_sizes_208 : decode cX0_sizes 208 = .ok (.imul, 1) := by decide +kernel
theorem dX0_sizes_209 : decode cX0_sizes 209 = .ok (.iload_n 2, 1) := by decide +kernel
theorem dX0_sizes_210 : decode cX0_sizes 210 = .ok (.iadd, 1) := by decide +kernel
theorem dX0_sizes_211 : decode cX0_sizes 211 = .ok (.iload_n 3, 1) := by decide +kernel
theorem dX0_sizes_212 : decode cX0_sizes 212 = .ok (.iadd, 1) := by decide +kernel
theorem dX0_sizes_213 : decode cX0_sizes 213 = .ok (.iaload, 1) := by decide +kernel
theorem dX0_sizes_214 : decode cX0_sizes 214 = .ok (.iload 4, 2) := by decide +kernel
theorem dX0_sizes_216 : decode cX0_sizes 216 = .ok (.iadd, 1) := by decide +kernel
theorem dX0_sizes_217 : decode cX0_sizes 217 = .ok (.iastore, 1) := by decide +kernel
theorem dX0_sizes_218 : decode cX0_sizes 218 = .ok (.iinc 3 1, 3) := by decide +kernel
theorem dX0_sizes_221 : decode cX0_sizes 221 = .ok (.goto (-75), 3) := by decide +kernel
theorem dX0_sizes_224 : decode cX0_sizes 224 = .ok (.iinc 2 1, 3) := by decide +kernel
theorem dX0_sizes_227 : decode cX0_sizes 227 = .ok (.goto (-89), 3) := by decide +kernel
theorem dX0_sizes_230 : decode cX0_sizes 230 = .ok (.goto 83, 3) := by decide +kernel
theorem dX0_sizes_233 : decode cX0_sizes 233 = .ok (.aload_n 0, 1) := by decide +kernel
theorem dX0_sizes_234 : decode cX0_sizes 234 = .ok (.getfield 34, 3) := by decide +kernel
theorem dX0_sizes_237 : decode cX0_sizes 237 = .ok (.iload_n 1, 1) := by decide +kernel
theorem dX0_sizes_238 : decode cX0_sizes 238 = .ok (.iaload, 1) := by decide +kernel
theorem dX0_sizes_239 : decode cX0_sizes 239 = .ok (.iconst 3, 1) := by decide +kernel
theorem dX0_sizes_240 : decode cX0_sizes 240 = .ok (.if_icmp .ne 73, 3) := by decide +kernel
theorem dX0_sizes_243 : decode cX0_sizes 243 = .ok (.iconst 0, 1) := by decide +kernel
theorem dX0_sizes_244 : decode cX0_sizes 244 = .ok (.istore_n 2, 1) := by decide +kernel
theorem dX0_sizes_245 : decode cX0_sizes 245 = .ok (.iload_n 2, 1) := by decide +kernel
theorem dX0_sizes_246 : decode cX0_sizes 246 = .ok (.bipush 8, 2) := by decide +kernel
theorem dX0_sizes_248 : decode cX0_sizes 248 = .ok (.if_icmp .gt 65, 3) := by decide +kernel
theorem dX0_sizes_251 : decode cX0_sizes 251 = .ok (.iload_n 2, 1) := by decide +kernel
theorem dX0_sizes_252 : decode cX0_sizes 252 = .ok (.ifCond .le 24, 3) := by decide +kernel
theorem dX0_sizes_255 : decode cX0_sizes 255 = .ok (.aload_n 0, 1) := by decide +kernel
theorem dX0_sizes_256 : decode cX0_sizes 256 = .ok (.getfield 52, 3) := by decide +kernel
theorem dX0_sizes_259 : decode cX0_sizes 259 = .ok (.aload_n 0, 1) := by decide +kernel
theorem dX0_sizes_260 : decode cX0_sizes 260 = .ok (.getfield 40, 3) := by decide +kernel
theorem dX0_sizes_263 : decode cX0_sizes 263 = .ok (.iload_n 1, 1) := by decide +kernel
theorem dX0_sizes_264 : decode cX0_sizes 264 = .ok (.iaload, 1) := by decide +kernel
theorem dX0_sizes_265 : decode cX0_sizes 265 = .ok (.bipush 9, 2) := by decide +kernel
theorem dX0_sizes_267 : decode cX0_sizes 267 = .ok (.imul, 1) := by decide +kernel
theorem dX0_sizes_268 : decode cX0_sizes 268 = .ok (.iload_n 2, 1) := by decide +kernel
theorem dX0_sizes_269 : decode cX0_sizes 269 = .ok (.iadd, 1) := by decide +kernel
theorem dX0_sizes_270 : decode cX0_sizes 270 = .ok (.iconst 1, 1) := by decide +kernel
theorem dX0_sizes_271 : decode cX0_sizes 271 = .ok (.isub, 1) := by decide +kernel
theorem dX0_sizes_272 : decode cX0_sizes 272 = .ok (.iaload, 1) := by decide +kernel
theorem dX0_sizes_273 : decode cX0_sizes 273 = .ok (.goto 4, 3) := by decide +kernel
theorem dX0_sizes_276 : decode cX0_sizes 276 = .ok (.iconst 0, 1) := by decide +kernel
theorem dX0_sizes_277 : decode cX0_sizes 277 = .ok (.istore_n 3, 1) := by decide +kernel
theorem dX0_sizes_278 : decode cX0_sizes 278 = .ok (.aload_n 0, 1) := by decide +kernel
theorem dX0_sizes_279 : decode cX0_sizes 279 = .ok (.getfield 52, 3) := by decide +kernel
theorem dX0_sizes_282 : decode cX0_sizes 282 = .ok (.iload_n 1, 1) := by decide +kernel
theorem dX0_sizes_283 : decode cX0_sizes 283 = .ok (.bipush 9, 2) := by decide +kernel
theorem dX0_sizes_285 : decode cX0_sizes 285 = .ok (.imul, 1) := by decide +kernel
theorem dX0_sizes_286 : decode cX0_sizes 286 = .ok (.iload_n 2, 1) := by decide +kernel
theorem dX0_sizes_287 : decode cX0_sizes 287 = .ok (.iadd, 1) := by decide +kernel
theorem dX0_sizes_288 : decode cX0_sizes 288 = .ok (.aload_n 0, 1) := by decide +kernel
theorem dX0_sizes_289 : decode cX0_sizes 289 = .ok (.getfield 52, 3) := by decide +kernel
theorem dX0_sizes_292 : decode cX0_sizes 292 = .ok (.aload_n 0, 1) := by decide +kernel
theorem dX0_sizes_293 : decode cX0_sizes 293 = .ok (.getfield 43, 3) := by decide +kernel
theorem dX0_sizes_296 : decode cX0_sizes 296 = .ok (.iload_n 1, 1) := by decide +kernel
theorem dX0_sizes_297 : decode cX0_sizes 297 = .ok (.iaload, 1) := by decide +kernel
theorem dX0_sizes_298 : decode cX0_sizes 298 = .ok (.bipush 9, 2) := by decide +kernel
theorem dX0_sizes_300 : decode cX0_sizes 300 = .ok (.imul, 1) := by decide +kernel
theorem dX0_sizes_301 : decode cX0_sizes 301 = .ok (.iload_n 2, 1) := by decide +kernel
theorem dX0_sizes_302 : decode cX0_sizes 302 = .ok (.iadd, 1) := by decide +kernel
theorem dX0_sizes_303 : decode cX0_sizes 303 = .ok (.iaload, 1) := by decide +kernel
theorem dX0_sizes_304 : decode cX0_sizes 304 = .ok (.iload_n 3, 1) := by decide +kernel
theorem dX0_sizes_305 : decode cX0_sizes 305 = .ok (.iadd, 1) := by decide +kernel
theorem dX0_sizes_306 : decode cX0_sizes 306 = .ok (.iastore, 1) := by decide +kernel
theorem dX0_sizes_307 : decode cX0_sizes 307 = .ok (.iinc 2 1, 3) := by decide +kernel
theorem dX0_sizes_310 : decode cX0_sizes 310 = .ok (.goto (-65), 3) := by decide +kernel
theorem dX0_sizes_313 : decode cX0_sizes 313 = .ok (.return_, 1) := by decide +kernel
theorem dX0_weighted_0 : decode cX0_weighted 0 = .ok (.aload_n 0, 1) := by decide +kernel
theorem dX0_weighted_1 : decode cX0_weighted 1 = .ok (.invokevirtual 135, 3) := by decide +kernel
theorem dX0_weighted_4 : decode cX0_weighted 4 = .ok (.aload_n 0, 1) := by decide +kernel
theorem dX0_weighted_5 : decode cX0_weighted 5 = .ok (.invokevirtual 118, 3) := by decide +kernel
theorem dX0_weighted_8 : decode cX0_weighted 8 = .ok (.ireturn, 1) := by decide +kernel
theorem dX0_weigh_0 : decode cX0_weigh 0 = .ok (.iconst 0, 1) := by decide +kernel
theorem dX0_weigh_1 : decode cX0_weigh 1 = .ok (.istore_n 1, 1) := by decide +kernel
theorem dX0_weigh_2 : decode cX0_weigh 2 = .ok (.iload_n 1, 1) := by decide +kernel
theorem dX0_weigh_3 : decode cX0_weigh 3 = .ok (.bipush 8, 2) := by decide +kernel
theorem dX0_weigh_5 : decode cX0_weigh 5 = .ok (.if_icmp .ge 33, 3) := by decide +kernel
theorem dX0_weigh_8 : decode cX0_weigh 8 = .ok (.aload_n 0, 1) := by decide +kernel
theorem dX0_weigh_9 : decode cX0_weigh 9 = .ok (.getfield 58, 3) := by decide +kernel
theorem dX0_weigh_12 : decode cX0_weigh 12 = .ok (.iload_n 1, 1) := by decide +kernel
theorem dX0_weigh_13 : decode cX0_weigh 13 = .ok (.aload_n 0, 1) := by decide +kernel
end
section
set_option maxRecDepth 100000
theorem dX0_weigh_14 : decode cX0_weigh 14 = .ok (.getfield 22, 3) := by decide +kernel
theorem dX0_weigh_17 : decode cX0_weigh 17 = .ok (.iload_n 1, 1) := by decide +kernel
theorem dX0_weigh_18 : decode cX0_weigh 18 = .ok (.iaload, 1) := by decide +kernel
theorem dX0_weigh_19 : decode cX0_weigh 19 = .ok (.iastore, 1) := by decide +kernel
theorem dX0_weigh_20 : decode cX0_weigh 20 = .ok (.aload_n 0, 1) := by decide +kernel
theorem dX0_weigh_21 : decode cX0_weigh 21 = .ok (.getfield 55, 3) := by decide +kernel
theorem dX0_weigh_24 : decode cX0_weigh 24 = .ok (.iload_n 1, 1) := by decide +kernel
theorem dX0_weigh_25 : decode cX0_weigh 25 = .ok (.aload_n 0, 1) := by decide +kernel
theorem dX0_weigh_26 : decode cX0_weigh 26 = .ok (.getfield 19, 3) := by decide +kernel
theorem dX0_weigh_29 : decode cX0_weigh 29 = .ok (.iload_n 1, 1) := by decide +kernel
theorem dX0_weigh_30 : decode cX0_weigh 30 = .ok (.iaload, 1) := by decide +kernel
theorem dX0_weigh_31 : decode cX0_weigh 31 = .ok (.iastore, 1) := by decide +kernel
theorem dX0_weigh_32 : decode cX0_weigh 32 = .ok (.iinc 1 1, 3) := by decide +kernel
theorem dX0_weigh_35 : decode cX0_weigh 35 = .ok (.goto (-33), 3) := by decide +kernel
theorem dX0_weigh_38 : decode cX0_weigh 38 = .ok (.return_, 1) := by decide +kernel
theorem dX0_share_0 : decode cX0_share 0 = .ok (.iload_n 1, 1) := by decide +kernel
theorem dX0_share_1 : decode cX0_share 1 = .ok (.ifCond .lt 18, 3) := by decide +kernel
theorem dX0_share_4 : decode cX0_share 4 = .ok (.iload_n 1, 1) := by decide +kernel
theorem dX0_share_5 : decode cX0_share 5 = .ok (.bipush 8, 2) := by decide +kernel
theorem dX0_share_7 : decode cX0_share 7 = .ok (.if_icmp .ge 12, 3) := by decide +kernel
theorem dX0_share_10 : decode cX0_share 10 = .ok (.iload_n 2, 1) := by decide +kernel
theorem dX0_share_11 : decode cX0_share 11 = .ok (.ifCond .lt 8, 3) := by decide +kernel
theorem dX0_share_14 : decode cX0_share 14 = .ok (.iload_n 2, 1) := by decide +kernel
theorem dX0_share_15 : decode cX0_share 15 = .ok (.iconst 1, 1) := by decide +kernel
theorem dX0_share_16 : decode cX0_share 16 = .ok (.if_icmp .le 5, 3) := by decide +kernel
theorem dX0_share_19 : decode cX0_share 19 = .ok (.iconst 0, 1) := by decide +kernel
theorem dX0_share_20 : decode cX0_share 20 = .ok (.ireturn, 1) := by decide +kernel
theorem dX0_share_21 : decode cX0_share 21 = .ok (.aload_n 0, 1) := by decide +kernel
theorem dX0_share_22 : decode cX0_share 22 = .ok (.invokevirtual 135, 3) := by decide +kernel
theorem dX0_share_25 : decode cX0_share 25 = .ok (.iload_n 2, 1) := by decide +kernel
theorem dX0_share_26 : decode cX0_share 26 = .ok (.ifCond .ne 13, 3) := by decide +kernel
theorem dX0_share_29 : decode cX0_share 29 = .ok (.aload_n 0, 1) := by decide +kernel
theorem dX0_share_30 : decode cX0_share 30 = .ok (.getfield 58, 3) := by decide +kernel
theorem dX0_share_33 : decode cX0_share 33 = .ok (.iload_n 1, 1) := by decide +kernel
theorem dX0_share_34 : decode cX0_share 34 = .ok (.iconst 0, 1) := by decide +kernel
theorem dX0_share_35 : decode cX0_share 35 = .ok (.iastore, 1) := by decide +kernel
theorem dX0_share_36 : decode cX0_share 36 = .ok (.goto 10, 3) := by decide +kernel
theorem dX0_share_39 : decode cX0_share 39 = .ok (.aload_n 0, 1) := by decide +kernel
theorem dX0_share_40 : decode cX0_share 40 = .ok (.getfield 55, 3) := by decide +kernel
theorem dX0_share_43 : decode cX0_share 43 = .ok (.iload_n 1, 1) := by decide +kernel
theorem dX0_share_44 : decode cX0_share 44 = .ok (.iconst 0, 1) := by decide +kernel
theorem dX0_share_45 : decode cX0_share 45 = .ok (.iastore, 1) := by decide +kernel
theorem dX0_share_46 : decode cX0_share 46 = .ok (.aload_n 0, 1) := by decide +kernel
theorem dX0_share_47 : decode cX0_share 47 = .ok (.invokevirtual 118, 3) := by decide +kernel
theorem dX0_share_50 : decode cX0_share 50 = .ok (.ireturn, 1) := by decide +kernel
theorem dX0_model_0 : decode cX0_model 0 = .ok (.iload_n 1, 1) := by decide +kernel
theorem dX0_model_1 : decode cX0_model 1 = .ok (.istore_n 2, 1) := by decide +kernel
theorem dX0_model_2 : decode cX0_model 2 = .ok (.aload_n 0, 1) := by decide +kernel
theorem dX0_model_3 : decode cX0_model 3 = .ok (.invokevirtual 138, 3) := by decide +kernel
theorem dX0_model_6 : decode cX0_model 6 = .ok (.istore_n 3, 1) := by decide +kernel
theorem dX0_model_7 : decode cX0_model 7 = .ok (.iload_n 1, 1) := by decide +kernel
theorem dX0_model_8 : decode cX0_model 8 = .ok (.ifCond .lt 8, 3) := by decide +kernel
theorem dX0_model_11 : decode cX0_model 11 = .ok (.iload_n 1, 1) := by decide +kernel
theorem dX0_model_12 : decode cX0_model 12 = .ok (.iload_n 3, 1) := by decide +kernel
theorem dX0_model_13 : decode cX0_model 13 = .ok (.if_icmp .lt 6, 3) := by decide +kernel
theorem dX0_model_16 : decode cX0_model 16 = .ok (.bipush (-4), 2) := by decide +kernel
theorem dX0_model_18 : decode cX0_model 18 = .ok (.ireturn, 1) := by decide +kernel
theorem dX0_model_19 : decode cX0_model 19 = .ok (.iconst 0, 1) := by decide +kernel
theorem dX0_model_20 : decode cX0_model 20 = .ok (.istore 4, 2) := by decide +kernel
theorem dX0_model_22 : decode cX0_model 22 = .ok (.iconst 0, 1) := by decide +kernel
theorem dX0_model_23 : decode cX0_model 23 = .ok (.istore 5, 2) := by decide +kernel
theorem dX0_model_25 : decode cX0_model 25 = .ok (.bipush 7, 2) := by decide +kernel
theorem dX0_model_27 : decode cX0_model 27 = .ok (.istore 6, 2) := by decide +kernel
theorem dX0_model_29 : decode cX0_model 29 = .ok (.iload 6, 2) := by decide +kernel
theorem dX0_model_31 : decode cX0_model 31 = .ok (.ifCond .lt 48, 3) := by decide +kernel
theorem dX0_model_34 : decode cX0_model 34 = .ok (.iload 4, 2) := by decide +kernel
theorem dX0_model_36 : decode cX0_model 36 = .ok (.iconst 1, 1) := by decide +kernel
theorem dX0_model_37 : decode cX0_model 37 = .ok (.iload 6, 2) := by decide +kernel
theorem dX0_model_39 : decode cX0_model 39 = .ok (.ishl, 1) := by decide +kernel
theorem dX0_model_40 : decode cX0_model 40 = .ok (.ior, 1) := by decide +kernel
theorem dX0_model_41 : decode cX0_model 41 = .ok (.istore 4, 2) := by decide +kernel
theorem dX0_model_43 : decode cX0_model 43 = .ok (.aload_n 0, 1) := by decide +kernel
theorem dX0_model_44 : decode cX0_model 44 = .ok (.iload 4, 2) := by decide +kernel
theorem dX0_model_46 : decode cX0_model 46 = .ok (.iload 5, 2) := by decide +kernel
theorem dX0_model_48 : decode cX0_model 48 = .ok (.invokevirtual 122, 3) := by decide +kernel
theorem dX0_model_51 : decode cX0_model 51 = .ok (.istore 7, 2) := by decide +kernel
theorem dX0_model_53 : decode cX0_model 53 = .ok (.iload_n 2, 1) := by decide +kernel
theorem dX0_model_54 : decode cX0_model 54 = .ok (.iload 7, 2) := by decide +kernel
theorem dX0_model_56 : decode cX0_model 56 = .ok (.if_icmp .lt 17, 3) := by decide +kernel
theorem dX0_model_59 : decode cX0_model 59 = .ok (.iload_n 2, 1) := by decide +kernel
theorem dX0_model_60 : decode cX0_model 60 = .ok (.iload 7, 2) := by decide +kernel
theorem dX0_model_62 : decode cX0_model 62 = .ok (.isub, 1) := by decide +kernel
theorem dX0_model_63 : decode cX0_model 63 = .ok (.istore_n 2, 1) := by decide +kernel
theorem dX0_model_64 : decode cX0_model 64 = .ok (.iload 5, 2) := by decide +kernel
theorem dX0_model_66 : decode cX0_model 66 = .ok (.iconst 1, 1) := by decide +kernel
theorem dX0_model_67 : decode cX0_model 67 = .ok (.iload 6, 2) := by decide +kernel
theorem dX0_model_69 : decode cX0_model 69 = .ok (.ishl, 1) := by decide +kernel
theorem dX0_model_70 : decode cX0_model 70 = .ok (.ior, 1) := by decide +kernel
theorem dX0_model_71 : decode cX0_model 71 = .ok (.istore 5, 2) := by decide +kernel
theorem dX0_model_73 : decode cX0_model 73 = .ok (.iinc 6 (-1), 3) := by decide +kernel
theorem dX0_model_76 : decode cX0_model 76 = .ok (.goto (-47), 3) := by decide +kernel
theorem dX0_model_79 : decode cX0_model 79 = .ok (.iload 5, 2) := by decide +kernel
theorem dX0_model_81 : decode cX0_model 81 = .ok (.ireturn, 1) := by decide +kernel
theorem dX0_rank_0 : decode cX0_rank 0 = .ok (.iload_n 1, 1) := by decide +kernel
theorem dX0_rank_1 : decode cX0_rank 1 = .ok (.ifCond .lt 10, 3) := by decide +kernel
theorem dX0_rank_4 : decode cX0_rank 4 = .ok (.iload_n 1, 1) := by decide +kernel
theorem dX0_rank_5 : decode cX0_rank 5 = .ok (.sipush 256, 3) := by decide +kernel
theorem dX0_rank_8 : decode cX0_rank 8 = .ok (.if_icmp .le 5, 3) := by decide +kernel
theorem dX0_rank_11 : decode cX0_rank 11 = .ok (.iconst (-1), 1) := by decide +kernel
theorem dX0_rank_12 : decode cX0_rank 12 = .ok (.ireturn, 1) := by decide +kernel
theorem dX0_rank_13 : decode cX0_rank 13 = .ok (.iload_n 1, 1) := by decide +kernel
theorem dX0_rank_14 : decode cX0_rank 14 = .ok (.sipush 256, 3) := by decide +kernel
theorem dX0_rank_17 : decode cX0_rank 17 = .ok (.if_icmp .ne 8, 3) := by decide +kernel
theorem dX0_rank_20 : decode cX0_rank 20 = .ok (.aload_n 0, 1) := by decide +kernel
theorem dX0_rank_21 : decode cX0_rank 21 = .ok (.invokevirtual 138, 3) := by decide +kernel
theorem dX0_rank_24 : decode cX0_rank 24 = .ok (.ireturn, 1) := by decide +kernel
theorem dX0_rank_25 : decode cX0_rank 25 = .ok (.iconst 0, 1) := by decide +kernel
theorem dX0_rank_26 : decode cX0_rank 26 = .ok (.istore_n 2, 1) := by decide +kernel
theorem dX0_rank_27 : decode cX0_rank 27 = .ok (.iconst 0, 1) := by decide +kernel
theorem dX0_rank_28 : decode cX0_rank 28 = .ok (.istore_n 3, 1) := by decide +kernel
theorem dX0_rank_29 : decode cX0_rank 29 = .ok (.bipush 7, 2) := by decide +kernel
theorem dX0_rank_31 : decode cX0_rank 31 = .ok (.istore 4, 2) := by decide +kernel
theorem dX0_rank_33 : decode cX0_rank 33 = .ok (.iload 4, 2) := by decide +kernel
theorem dX0_rank_35 : decode cX0_rank 35 = .ok (.ifCond .lt 46, 3) := by decide +kernel
theorem dX0_rank_38 : decode cX0_rank 38 = .ok (.iload_n 3, 1) := by decide +kernel
theorem dX0_rank_39 : decode cX0_rank 39 = .ok (.iconst 1, 1) := by decide +kernel
theorem dX0_rank_40 : decode cX0_rank 40 = .ok (.iload 4, 2) := by decide +kernel
theorem dX0_rank_42 : decode cX0_rank 42 = .ok (.ishl, 1) := by decide +kernel
theorem dX0_rank_43 : decode cX0_rank 43 = .ok (.ior, 1) := by decide +kernel
theorem dX0_rank_44 : decode cX0_rank 44 = .ok (.istore_n 3, 1) := by decide +kernel
theorem dX0_rank_45 : decode cX0_rank 45 = .ok (.iload_n 1, 1) := by decide +kernel
theorem dX0_rank_46 : decode cX0_rank 46 = .ok (.iload 4, 2) := by decide +kernel
theorem dX0_rank_48 : decode cX0_rank 48 = .ok (.ishr, 1) := by decide +kernel
theorem dX0_rank_49 : decode cX0_rank 49 = .ok (.iconst 1, 1) := by decide +kernel
theorem dX0_rank_50 : decode cX0_rank 50 = .ok (.iand, 1) := by decide +kernel
theorem dX0_rank_51 : decode cX0_rank 51 = .ok (.iconst 1, 1) := by decide +kernel
theorem dX0_rank_52 : decode cX0_rank 52 = .ok (.if_icmp .ne 23, 3) := by decide +kernel
theorem dX0_rank_55 : decode cX0_rank 55 = .ok (.aload_n 0, 1) := by decide +kernel
theorem dX0_rank_56 : decode cX0_rank 56 = .ok (.iload_n 3, 1) := by decide +kernel
theorem dX0_rank_57 : decode cX0_rank 57 = .ok (.iload_n 1, 1) := by decide +kernel
theorem dX0_rank_58 : decode cX0_rank 58 = .ok (.iconst 1, 1) := by decide +kernel
theorem dX0_rank_59 : decode cX0_rank 59 = .ok (.iload 4, 2) := by decide +kernel
theorem dX0_rank_61 : decode cX0_rank 61 = .ok (.ishl, 1) := by decide +kernel
theorem dX0_rank_62 : decode cX0_rank 62 = .ok (.iconst (-1), 1) := by decide +kernel
theorem dX0_rank_63 : decode cX0_rank 63 = .ok (.ixor, 1) := by decide +kernel
theorem dX0_rank_64 : decode cX0_rank 64 = .ok (.iand, 1) := by decide +kernel
theorem dX0_rank_65 : decode cX0_rank 65 = .ok (.invokevirtual 122, 3) := by decide +kernel
theorem dX0_rank_68 : decode cX0_rank 68 = .ok (.istore 5, 2) := by decide +kernel
theorem dX0_rank_70 : decode cX0_rank 70 = .ok (.iload_n 2, 1) := by decide +kernel
theorem dX0_rank_71 : decode cX0_rank 71 = .ok (.iload 5, 2) := by decide +kernel
theorem dX0_rank_73 : decode cX0_rank 73 = .ok (.iadd, 1) := by decide +kernel
theorem dX0_rank_74 : decode cX0_rank 74 = .ok (.istore_n 2, 1) := by decide +kernel
theorem dX0_rank_75 : decode cX0_rank 75 = .ok (.iinc 4 (-1), 3) := by decide +kernel
theorem dX0_rank_78 : decode cX0_rank 78 = .ok (.goto (-45), 3) := by decide +kernel
theorem dX0_rank_81 : decode cX0_rank 81 = .ok (.iload_n 2, 1) := by decide +kernel
theorem dX0_rank_82 : decode cX0_rank 82 = .ok (.ireturn, 1) := by decide +kernel
theorem dX0_isModel_0 : decode cX0_isModel 0 = .ok (.aload_n 0, 1) := by decide +kernel
theorem dX0_isModel_1 : decode cX0_isModel 1 = .ok (.iload_n 1, 1) := by decide +kernel
theorem dX0_isModel_2 : decode cX0_isModel 2 = .ok (.invokevirtual 125, 3) := by decide +kernel
theorem dX0_isModel_5 : decode cX0_isModel 5 = .ok (.ifCond .ne 19, 3) := by decide +kernel
theorem dX0_isModel_8 : decode cX0_isModel 8 = .ok (.aload_n 0, 1) := by decide +kernel
theorem dX0_isModel_9 : decode cX0_isModel 9 = .ok (.sipush 255, 3) := by decide +kernel
theorem dX0_isModel_12 : decode cX0_isModel 12 = .ok (.iload_n 1, 1) := by decide +kernel
theorem dX0_isModel_13 : decode cX0_isModel 13 = .ok (.invokevirtual 122, 3) := by decide +kernel
theorem dX0_isModel_16 : decode cX0_isModel 16 = .ok (.iconst 1, 1) := by decide +kernel
theorem dX0_isModel_17 : decode cX0_isModel 17 = .ok (.if_icmp .ne 7, 3) := by decide +kernel
theorem dX0_isModel_20 : decode cX0_isModel 20 = .ok (.iconst 1, 1) := by decide +kernel
theorem dX0_isModel_21 : decode cX0_isModel 21 = .ok (.goto 4, 3) := by decide +kernel
theorem dX0_isModel_24 : decode cX0_isModel 24 = .ok (.iconst 0, 1) := by decide +kernel
theorem dX0_isModel_25 : decode cX0_isModel 25 = .ok (.ireturn, 1) := by decide +kernel
theorem dX0_alwaysTrue_0 : decode cX0_alwaysTrue 0 = .ok (.aload_n 0, 1) := by decide +kernel
theorem dX0_alwaysTrue_1 : decode cX0_alwaysTrue 1 = .ok (.invokevirtual 138, 3) := by decide +kernel
theorem dX0_alwaysTrue_4 : decode cX0_alwaysTrue 4 = .ok (.istore_n 1, 1) := by decide +kernel
theorem dX0_alwaysTrue_5 : decode cX0_alwaysTrue 5 = .ok (.iload_n 1, 1) := by decide +kernel
theorem dX0_alwaysTrue_6 : decode cX0_alwaysTrue 6 = .ok (.ifCond .ne 6, 3) := by decide +kernel
theorem dX0_alwaysTrue_9 : decode cX0_alwaysTrue 9 = .ok (.bipush (-4), 2) := by decide +kernel
theorem dX0_alwaysTrue_11 : decode cX0_alwaysTrue 11 = .ok (.ireturn, 1) := by decide +kernel
theorem dX0_alwaysTrue_12 : decode cX0_alwaysTrue 12 = .ok (.iconst 0, 1) := by decide +kernel
theorem dX0_alwaysTrue_13 : decode cX0_alwaysTrue 13 = .ok (.istore_n 2, 1) := by decide +kernel
theorem dX0_alwaysTrue_14 : decode cX0_alwaysTrue 14 = .ok (.iconst 0, 1) := by decide +kernel
theorem dX0_alwaysTrue_15 : decode cX0_alwaysTrue 15 = .ok (.istore_n 3, 1) := by decide +kernel
theorem dX0_alwaysTrue_16 : decode cX0_alwaysTrue 16 = .ok (.iload_n 3, 1) := by decide +kernel
theorem dX0_alwaysTrue_17 : decode cX0_alwaysTrue 17 = .ok (.bipush 8, 2) := by decide +kernel
theorem dX0_alwaysTrue_19 : decode cX0_alwaysTrue 19 = .ok (.if_icmp .ge 30, 3) := by decide +kernel
theorem dX0_alwaysTrue_22 : decode cX0_alwaysTrue 22 = .ok (.aload_n 0, 1) := by decide +kernel
theorem dX0_alwaysTrue_23 : decode cX0_alwaysTrue 23 = .ok (.iconst 1, 1) := by decide +kernel
theorem dX0_alwaysTrue_24 : decode cX0_alwaysTrue 24 = .ok (.iload_n 3, 1) := by decide +kernel
theorem dX0_alwaysTrue_25 : decode cX0_alwaysTrue 25 = .ok (.ishl, 1) := by decide +kernel
theorem dX0_alwaysTrue_26 : decode cX0_alwaysTrue 26 = .ok (.iconst 0, 1) := by decide +kernel
theorem dX0_alwaysTrue_27 : decode cX0_alwaysTrue 27 = .ok (.invokevirtual 122, 3) := by decide +kernel
theorem dX0_alwaysTrue_30 : decode cX0_alwaysTrue 30 = .ok (.istore 4, 2) := by decide +kernel
theorem dX0_alwaysTrue_32 : decode cX0_alwaysTrue 32 = .ok (.iload 4, 2) := by decide +kernel
theorem dX0_alwaysTrue_34 : decode cX0_alwaysTrue 34 = .ok (.ifCond .ne 9, 3) := by decide +kernel
theorem dX0_alwaysTrue_37 : decode cX0_alwaysTrue 37 = .ok (.iload_n 2, 1) := by decide +kernel
theorem dX0_alwaysTrue_38 : decode cX0_alwaysTrue 38 = .ok (.iconst 1, 1) := by decide +kernel
theorem dX0_alwaysTrue_39 : decode cX0_alwaysTrue 39 = .ok (.iload_n 3, 1) := by decide +kernel
theorem dX0_alwaysTrue_40 : decode cX0_alwaysTrue 40 = .ok (.ishl, 1) := by decide +kernel
theorem dX0_alwaysTrue_41 : decode cX0_alwaysTrue 41 = .ok (.ior, 1) := by decide +kernel
theorem dX0_alwaysTrue_42 : decode cX0_alwaysTrue 42 = .ok (.istore_n 2, 1) := by decide +kernel
theorem dX0_alwaysTrue_43 : decode cX0_alwaysTrue 43 = .ok (.iinc 3 1, 3) := by decide +kernel
theorem dX0_alwaysTrue_46 : decode cX0_alwaysTrue 46 = .ok (.goto (-30), 3) := by decide +kernel
theorem dX0_alwaysTrue_49 : decode cX0_alwaysTrue 49 = .ok (.iload_n 2, 1) := by decide +kernel
theorem dX0_alwaysTrue_50 : decode cX0_alwaysTrue 50 = .ok (.ireturn, 1) := by decide +kernel
theorem dX0_alwaysFalse_0 : decode cX0_alwaysFalse 0 = .ok (.aload_n 0, 1) := by decide +kernel
theorem dX0_alwaysFalse_1 : decode cX0_alwaysFalse 1 = .ok (.invokevirtual 138, 3) := by decide +kernel
theorem dX0_alwaysFalse_4 : decode cX0_alwaysFalse 4 = .ok (.istore_n 1, 1) := by decide +kernel
theorem dX0_alwaysFalse_5 : decode cX0_alwaysFalse 5 = .ok (.iload_n 1, 1) := by decide +kernel
theorem dX0_alwaysFalse_6 : decode cX0_alwaysFalse 6 = .ok (.ifCond .ne 6, 3) := by decide +kernel
theorem dX0_alwaysFalse_9 : decode cX0_alwaysFalse 9 = .ok (.bipush (-4), 2) := by decide +kernel
theorem dX0_alwaysFalse_11 : decode cX0_alwaysFalse 11 = .ok (.ireturn, 1) := by decide +kernel
theorem dX0_alwaysFalse_12 : decode cX0_alwaysFalse 12 = .ok (.iconst 0, 1) := by decide +kernel
theorem dX0_alwaysFalse_13 : decode cX0_alwaysFalse 13 = .ok (.istore_n 2, 1) := by decide +kernel
theorem dX0_alwaysFalse_14 : decode cX0_alwaysFalse 14 = .ok (.iconst 0, 1) := by decide +kernel
theorem dX0_alwaysFalse_15 : decode cX0_alwaysFalse 15 = .ok (.istore_n 3, 1) := by decide +kernel
theorem dX0_alwaysFalse_16 : decode cX0_alwaysFalse 16 = .ok (.iload_n 3, 1) := by decide +kernel
theorem dX0_alwaysFalse_17 : decode cX0_alwaysFalse 17 = .ok (.bipush 8, 2) := by decide +kernel
theorem dX0_alwaysFalse_19 : decode cX0_alwaysFalse 19 = .ok (.if_icmp .ge 32, 3) := by decide +kernel
theorem dX0_alwaysFalse_22 : decode cX0_alwaysFalse 22 = .ok (.aload_n 0, 1) := by decide +kernel
theorem dX0_alwaysFalse_23 : decode cX0_alwaysFalse 23 = .ok (.iconst 1, 1) := by decide +kernel
theorem dX0_alwaysFalse_24 : decode cX0_alwaysFalse 24 = .ok (.iload_n 3, 1) := by decide +kernel
theorem dX0_alwaysFalse_25 : decode cX0_alwaysFalse 25 = .ok (.ishl, 1) := by decide +kernel
theorem dX0_alwaysFalse_26 : decode cX0_alwaysFalse 26 = .ok (.iconst 1, 1) := by decide +kernel
theorem dX0_alwaysFalse_27 : decode cX0_alwaysFalse 27 = .ok (.iload_n 3, 1) := by decide +kernel
theorem dX0_alwaysFalse_28 : decode cX0_alwaysFalse 28 = .ok (.ishl, 1) := by decide +kernel
theorem dX0_alwaysFalse_29 : decode cX0_alwaysFalse 29 = .ok (.invokevirtual 122, 3) := by decide +kernel
theorem dX0_alwaysFalse_32 : decode cX0_alwaysFalse 32 = .ok (.istore 4, 2) := by decide +kernel
theorem dX0_alwaysFalse_34 : decode cX0_alwaysFalse 34 = .ok (.iload 4, 2) := by decide +kernel
theorem dX0_alwaysFalse_36 : decode cX0_alwaysFalse 36 = .ok (.ifCond .ne 9, 3) := by decide +kernel
theorem dX0_alwaysFalse_39 : decode cX0_alwaysFalse 39 = .ok (.iload_n 2, 1) := by decide +kernel
theorem dX0_alwaysFalse_40 : decode cX0_alwaysFalse 40 = .ok (.iconst 1, 1) := by decide +kernel
theorem dX0_alwaysFalse_41 : decode cX0_alwaysFalse 41 = .ok (.iload_n 3, 1) := by decide +kernel
theorem dX0_alwaysFalse_42 : decode cX0_alwaysFalse 42 = .ok (.ishl, 1) := by decide +kernel
theorem dX0_alwaysFalse_43 : decode cX0_alwaysFalse 43 = .ok (.ior, 1) := by decide +kernel
theorem dX0_alwaysFalse_44 : decode cX0_alwaysFalse 44 = .ok (.istore_n 2, 1) := by decide +kernel
theorem dX0_alwaysFalse_45 : decode cX0_alwaysFalse 45 = .ok (.iinc 3 1, 3) := by decide +kernel
theorem dX0_alwaysFalse_48 : decode cX0_alwaysFalse 48 = .ok (.goto (-32), 3) := by decide +kernel
theorem dX0_alwaysFalse_51 : decode cX0_alwaysFalse 51 = .ok (.iload_n 2, 1) := by decide +kernel
theorem dX0_alwaysFalse_52 : decode cX0_alwaysFalse 52 = .ok (.ireturn, 1) := by decide +kernel
theorem dX0_idle_0 : decode cX0_idle 0 = .ok (.aload_n 0, 1) := by decide +kernel
theorem dX0_idle_1 : decode cX0_idle 1 = .ok (.invokevirtual 138, 3) := by decide +kernel
theorem dX0_idle_4 : decode cX0_idle 4 = .ok (.istore_n 1, 1) := by decide +kernel
theorem dX0_idle_5 : decode cX0_idle 5 = .ok (.iconst 0, 1) := by decide +kernel
theorem dX0_idle_6 : decode cX0_idle 6 = .ok (.istore_n 2, 1) := by decide +kernel
theorem dX0_idle_7 : decode cX0_idle 7 = .ok (.iconst 0, 1) := by decide +kernel
theorem dX0_idle_8 : decode cX0_idle 8 = .ok (.istore_n 3, 1) := by decide +kernel
theorem dX0_idle_9 : decode cX0_idle 9 = .ok (.iload_n 3, 1) := by decide +kernel
theorem dX0_idle_10 : decode cX0_idle 10 = .ok (.bipush 8, 2) := by decide +kernel
theorem dX0_idle_12 : decode cX0_idle 12 = .ok (.if_icmp .ge 28, 3) := by decide +kernel
theorem dX0_idle_15 : decode cX0_idle 15 = .ok (.aload_n 0, 1) := by decide +kernel
theorem dX0_idle_16 : decode cX0_idle 16 = .ok (.iload_n 3, 1) := by decide +kernel
theorem dX0_idle_17 : decode cX0_idle 17 = .ok (.invokevirtual 140, 3) := by decide +kernel
theorem dX0_idle_20 : decode cX0_idle 20 = .ok (.istore 4, 2) := by decide +kernel
theorem dX0_idle_22 : decode cX0_idle 22 = .ok (.iload 4, 2) := by decide +kernel
theorem dX0_idle_24 : decode cX0_idle 24 = .ok (.iload_n 1, 1) := by decide +kernel
theorem dX0_idle_25 : decode cX0_idle 25 = .ok (.if_icmp .ne 9, 3) := by decide +kernel
theorem dX0_idle_28 : decode cX0_idle 28 = .ok (.iload_n 2, 1) := by decide +kernel
theorem dX0_idle_29 : decode cX0_idle 29 = .ok (.iconst 1, 1) := by decide +kernel
theorem dX0_idle_30 : decode cX0_idle 30 = .ok (.iload_n 3, 1) := by decide +kernel
theorem dX0_idle_31 : decode cX0_idle 31 = .ok (.ishl, 1) := by decide +kernel
theorem dX0_idle_32 : decode cX0_idle 32 = .ok (.ior, 1) := by decide +kernel
theorem dX0_idle_33 : decode cX0_idle 33 = .ok (.istore_n 2, 1) := by decide +kernel
theorem dX0_idle_34 : decode cX0_idle 34 = .ok (.iinc 3 1, 3) := by decide +kernel
theorem dX0_idle_37 : decode cX0_idle 37 = .ok (.goto (-28), 3) := by decide +kernel
theorem dX0_idle_40 : decode cX0_idle 40 = .ok (.iload_n 2, 1) := by decide +kernel
theorem dX0_idle_41 : decode cX0_idle 41 = .ok (.ireturn, 1) := by decide +kernel
theorem dX0_countWithout_0 : decode cX0_countWithout 0 = .ok (.iconst 1, 1) := by decide +kernel
theorem dX0_countWithout_1 : decode cX0_countWithout 1 = .ok (.iload_n 1, 1) := by decide +kernel
theorem dX0_countWithout_2 : decode cX0_countWithout 2 = .ok (.ishl, 1) := by decide +kernel
theorem dX0_countWithout_3 : decode cX0_countWithout 3 = .ok (.istore_n 2, 1) := by decide +kernel
theorem dX0_countWithout_4 : decode cX0_countWithout 4 = .ok (.iconst 0, 1) := by decide +kernel
theorem dX0_countWithout_5 : decode cX0_countWithout 5 = .ok (.istore_n 3, 1) := by decide +kernel
theorem dX0_countWithout_6 : decode cX0_countWithout 6 = .ok (.iconst 0, 1) := by decide +kernel
theorem dX0_countWithout_7 : decode cX0_countWithout 7 = .ok (.istore 4, 2) := by decide +kernel
theorem dX0_countWithout_9 : decode cX0_countWithout 9 = .ok (.iconst 0, 1) := by decide +kernel
theorem dX0_countWithout_10 : decode cX0_countWithout 10 = .ok (.istore 5, 2) := by decide +kernel
theorem dX0_countWithout_12 : decode cX0_countWithout 12 = .ok (.iload 5, 2) := by decide +kernel
theorem dX0_countWithout_14 : decode cX0_countWithout 14 = .ok (.aload_n 0, 1) := by decide +kernel
theorem dX0_countWithout_15 : decode cX0_countWithout 15 = .ok (.getfield 65, 3) := by decide +kernel
theorem dX0_countWithout_18 : decode cX0_countWithout 18 = .ok (.if_icmp .ge 45, 3) := by decide +kernel
theorem dX0_countWithout_21 : decode cX0_countWithout 21 = .ok (.iload_n 3, 1) := by decide +kernel
theorem dX0_countWithout_22 : decode cX0_countWithout 22 = .ok (.aload_n 0, 1) := by decide +kernel
theorem dX0_countWithout_23 : decode cX0_countWithout 23 = .ok (.getfield 13, 3) := by decide +kernel
theorem dX0_countWithout_26 : decode cX0_countWithout 26 = .ok (.iload 5, 2) := by decide +kernel
theorem dX0_countWithout_28 : decode cX0_countWithout 28 = .ok (.iaload, 1) := by decide +kernel
theorem dX0_countWithout_29 : decode cX0_countWithout 29 = .ok (.iload_n 1, 1) := by decide +kernel
theorem dX0_countWithout_30 : decode cX0_countWithout 30 = .ok (.ishr, 1) := by decide +kernel
theorem dX0_countWithout_31 : decode cX0_countWithout 31 = .ok (.iconst 1, 1) := by decide +kernel
theorem dX0_countWithout_32 : decode cX0_countWithout 32 = .ok (.iand, 1) := by decide +kernel
theorem dX0_countWithout_33 : decode cX0_countWithout 33 = .ok (.iload 5, 2) := by decide +kernel
theorem dX0_countWithout_35 : decode cX0_countWithout 35 = .ok (.ishl, 1) := by decide +kernel
theorem dX0_countWithout_36 : decode cX0_countWithout 36 = .ok (.ior, 1) := by decide +kernel
theorem dX0_countWithout_37 : decode cX0_countWithout 37 = .ok (.istore_n 3, 1) := by decide +kernel
theorem dX0_countWithout_38 : decode cX0_countWithout 38 = .ok (.iload 4, 2) := by decide +kernel
theorem dX0_countWithout_40 : decode cX0_countWithout 40 = .ok (.aload_n 0, 1) := by decide +kernel
theorem dX0_countWithout_41 : decode cX0_countWithout 41 = .ok (.getfield 16, 3) := by decide +kernel
theorem dX0_countWithout_44 : decode cX0_countWithout 44 = .ok (.iload 5, 2) := by decide +kernel
theorem dX0_countWithout_46 : decode cX0_countWithout 46 = .ok (.iaload, 1) := by decide +kernel
theorem dX0_countWithout_47 : decode cX0_countWithout 47 = .ok (.iload_n 1, 1) := by decide +kernel
theorem dX0_countWithout_48 : decode cX0_countWithout 48 = .ok (.ishr, 1) := by decide +kernel
theorem dX0_countWithout_49 : decode cX0_countWithout 49 = .ok (.iconst 1, 1) := by decide +kernel
theorem dX0_countWithout_50 : decode cX0_countWithout 50 = .ok (.iand, 1) := by decide +kernel
theorem dX0_countWithout_51 : decode cX0_countWithout 51 = .ok (.iload 5, 2) := by decide +kernel
theorem dX0_countWithout_53 : decode cX0_countWithout 53 = .ok (.ishl, 1) := by decide +kernel
theorem dX0_countWithout_54 : decode cX0_countWithout 54 = .ok (.ior, 1) := by decide +kernel
theorem dX0_countWithout_55 : decode cX0_countWithout 55 = .ok (.istore 4, 2) := by decide +kernel
theorem dX0_countWithout_57 : decode cX0_countWithout 57 = .ok (.iinc 5 1, 3) := by decide +kernel
theorem dX0_countWithout_60 : decode cX0_countWithout 60 = .ok (.goto (-48), 3) := by decide +kernel
theorem dX0_countWithout_63 : decode cX0_countWithout 63 = .ok (.iconst 0, 1) := by decide +kernel
theorem dX0_countWithout_64 : decode cX0_countWithout 64 = .ok (.istore 5, 2) := by decide +kernel
theorem dX0_countWithout_66 : decode cX0_countWithout 66 = .ok (.iload 5, 2) := by decide +kernel
theorem dX0_countWithout_68 : decode cX0_countWithout 68 = .ok (.aload_n 0, 1) := by decide +kernel
theorem dX0_countWithout_69 : decode cX0_countWithout 69 = .ok (.getfield 65, 3) := by decide +kernel
theorem dX0_countWithout_72 : decode cX0_countWithout 72 = .ok (.if_icmp .ge 70, 3) := by decide +kernel
theorem dX0_countWithout_75 : decode cX0_countWithout 75 = .ok (.iload_n 3, 1) := by decide +kernel
theorem dX0_countWithout_76 : decode cX0_countWithout 76 = .ok (.iload 4, 2) := by decide +kernel
theorem dX0_countWithout_78 : decode cX0_countWithout 78 = .ok (.iand, 1) := by decide +kernel
theorem dX0_countWithout_79 : decode cX0_countWithout 79 = .ok (.iload 5, 2) := by decide +kernel
theorem dX0_countWithout_81 : decode cX0_countWithout 81 = .ok (.ishr, 1) := by decide +kernel
theorem dX0_countWithout_82 : decode cX0_countWithout 82 = .ok (.bipush 31, 2) := by decide +kernel
theorem dX0_countWithout_84 : decode cX0_countWithout 84 = .ok (.ishl, 1) := by decide +kernel
theorem dX0_countWithout_85 : decode cX0_countWithout 85 = .ok (.ifCond .eq 7, 3) := by decide +kernel
theorem dX0_countWithout_88 : decode cX0_countWithout 88 = .ok (.iconst 1, 1) := by decide +kernel
theorem dX0_countWithout_89 : decode cX0_countWithout 89 = .ok (.goto 4, 3) := by decide +kernel
theorem dX0_countWithout_92 : decode cX0_countWithout 92 = .ok (.iconst 0, 1) := by decide +kernel
theorem dX0_countWithout_93 : decode cX0_countWithout 93 = .ok (.istore 6, 2) := by decide +kernel
theorem dX0_countWithout_95 : decode cX0_countWithout 95 = .ok (.iload 6, 2) := by decide +kernel
theorem dX0_countWithout_97 : decode cX0_countWithout 97 = .ok (.ifCond .ne 39, 3) := by decide +kernel
theorem dX0_countWithout_100 : decode cX0_countWithout 100 = .ok (.aload_n 0, 1) := by decide +kernel
theorem dX0_countWithout_101 : decode cX0_countWithout 101 = .ok (.getfield 13, 3) := by decide +kernel
theorem dX0_countWithout_104 : decode cX0_countWithout 104 = .ok (.iload 5, 2) := by decide +kernel
theorem dX0_countWithout_106 : decode cX0_countWithout 106 = .ok (.aload_n 0, 1) := by decide +kernel
theorem dX0_countWithout_107 : decode cX0_countWithout 107 = .ok (.getfield 13, 3) := by decide +kernel
theorem dX0_countWithout_110 : decode cX0_countWithout 110 = .ok (.iload 5, 2) := by decide +kernel
theorem dX0_countWithout_112 : decode cX0_countWithout 112 = .ok (.iaload, 1) := by decide +kernel
theorem dX0_countWithout_113 : decode cX0_countWithout 113 = .ok (.iload_n 2, 1) := by decide +kernel
theorem dX0_countWithout_114 : decode cX0_countWithout 114 = .ok (.iconst (-1), 1) := by decide +kernel
theorem dX0_countWithout_115 : decode cX0_countWithout 115 = .ok (.ixor, 1) := by decide +kernel
theorem dX0_countWithout_116 : decode cX0_countWithout 116 = .ok (.iand, 1) := by decide +kernel
theorem dX0_countWithout_117 : decode cX0_countWithout 117 = .ok (.iastore, 1) := by decide +kernel
theorem dX0_countWithout_118 : decode cX0_countWithout 118 = .ok (.aload_n 0, 1) := by decide +kernel
theorem dX0_countWithout_119 : decode cX0_countWithout 119 = .ok (.getfield 16, 3) := by decide +kernel
theorem dX0_countWithout_122 : decode cX0_countWithout 122 = .ok (.iload 5, 2) := by decide +kernel
theorem dX0_countWithout_124 : decode cX0_countWithout 124 = .ok (.aload_n 0, 1) := by decide +kernel
theorem dX0_countWithout_125 : decode cX0_countWithout 125 = .ok (.getfield 16, 3) := by decide +kernel
theorem dX0_countWithout_128 : decode cX0_countWithout 128 = .ok (.iload 5, 2) := by decide +kernel
theorem dX0_countWithout_130 : decode cX0_countWithout 130 = .ok (.iaload, 1) := by decide +kernel
theorem dX0_countWithout_131 : decode cX0_countWithout 131 = .ok (.iload_n 2, 1) := by decide +kernel
theorem dX0_countWithout_132 : decode cX0_countWithout 132 = .ok (.iconst (-1), 1) := by decide +kernel
theorem dX0_countWithout_133 : decode cX0_countWithout 133 = .ok (.ixor, 1) := by decide +kernel
theorem dX0_countWithout_134 : decode cX0_countWithout 134 = .ok (.iand, 1) := by decide +kernel
theorem dX0_countWithout_135 : decode cX0_countWithout 135 = .ok (.iastore, 1) := by decide +kernel
theorem dX0_countWithout_136 : decode cX0_countWithout 136 = .ok (.iinc 5 1, 3) := by decide +kernel
theorem dX0_countWithout_139 : decode cX0_countWithout 139 = .ok (.goto (-73), 3) := by decide +kernel
theorem dX0_countWithout_142 : decode cX0_countWithout 142 = .ok (.aload_n 0, 1) := by decide +kernel
theorem dX0_countWithout_143 : decode cX0_countWithout 143 = .ok (.iconst 0, 1) := by decide +kernel
theorem dX0_countWithout_144 : decode cX0_countWithout 144 = .ok (.putfield 68, 3) := by decide +kernel
theorem dX0_countWithout_147 : decode cX0_countWithout 147 = .ok (.aload_n 0, 1) := by decide +kernel
theorem dX0_countWithout_148 : decode cX0_countWithout 148 = .ok (.iconst 0, 1) := by decide +kernel
theorem dX0_countWithout_149 : decode cX0_countWithout 149 = .ok (.iconst 0, 1) := by decide +kernel
theorem dX0_countWithout_150 : decode cX0_countWithout 150 = .ok (.invokevirtual 122, 3) := by decide +kernel
theorem dX0_countWithout_153 : decode cX0_countWithout 153 = .ok (.istore 5, 2) := by decide +kernel
theorem dX0_countWithout_155 : decode cX0_countWithout 155 = .ok (.iconst 0, 1) := by decide +kernel
theorem dX0_countWithout_156 : decode cX0_countWithout 156 = .ok (.istore 6, 2) := by decide +kernel
theorem dX0_countWithout_158 : decode cX0_countWithout 158 = .ok (.iload 6, 2) := by decide +kernel
theorem dX0_countWithout_160 : decode cX0_countWithout 160 = .ok (.aload_n 0, 1) := by decide +kernel
theorem dX0_countWithout_161 : decode cX0_countWithout 161 = .ok (.getfield 65, 3) := by decide +kernel
theorem dX0_countWithout_164 : decode cX0_countWithout 164 = .ok (.if_icmp .ge 56, 3) := by decide +kernel
theorem dX0_countWithout_167 : decode cX0_countWithout 167 = .ok (.aload_n 0, 1) := by decide +kernel
theorem dX0_countWithout_168 : decode cX0_countWithout 168 = .ok (.getfield 13, 3) := by decide +kernel
theorem dX0_countWithout_171 : decode cX0_countWithout 171 = .ok (.iload 6, 2) := by decide +kernel
theorem dX0_countWithout_173 : decode cX0_countWithout 173 = .ok (.aload_n 0, 1) := by decide +kernel
theorem dX0_countWithout_174 : decode cX0_countWithout 174 = .ok (.getfield 13, 3) := by decide +kernel
theorem dX0_countWithout_177 : decode cX0_countWithout 177 = .ok (.iload 6, 2) := by decide +kernel
theorem dX0_countWithout_179 : decode cX0_countWithout 179 = .ok (.iaload, 1) := by decide +kernel
theorem dX0_countWithout_180 : decode cX0_countWithout 180 = .ok (.iload_n 3, 1) := by decide +kernel
theorem dX0_countWithout_181 : decode cX0_countWithout 181 = .ok (.iload 6, 2) := by decide +kernel
theorem dX0_countWithout_183 : decode cX0_countWithout 183 = .ok (.ishr, 1) := by decide +kernel
theorem dX0_countWithout_184 : decode cX0_countWithout 184 = .ok (.iconst 1, 1) := by decide +kernel
theorem dX0_countWithout_185 : decode cX0_countWithout 185 = .ok (.iand, 1) := by decide +kernel
theorem dX0_countWithout_186 : decode cX0_countWithout 186 = .ok (.iload_n 1, 1) := by decide +kernel
theorem dX0_countWithout_187 : decode cX0_countWithout 187 = .ok (.ishl, 1) := by decide +kernel
theorem dX0_countWithout_188 : decode cX0_countWithout 188 = .ok (.ior, 1) := by decide +kernel
theorem dX0_countWithout_189 : decode cX0_countWithout 189 = .ok (.iastore, 1) := by decide +kernel
theorem dX0_countWithout_190 : decode cX0_countWithout 190 = .ok (.aload_n 0, 1) := by decide +kernel
theorem dX0_countWithout_191 : decode cX0_countWithout 191 = .ok (.getfield 16, 3) := by decide +kernel
theorem dX0_countWithout_194 : decode cX0_countWithout 194 = .ok (.iload 6, 2) := by decide +kernel
theorem dX0_countWithout_196 : decode cX0_countWithout 196 = .ok (.aload_n 0, 1) := by decide +kernel
theorem dX0_countWithout_197 : decode cX0_countWithout 197 = .ok (.getfield 16, 3) := by decide +kernel
theorem dX0_countWithout_200 : decode cX0_countWithout 200 = .ok (.iload 6, 2) := by decide +kernel
theorem dX0_countWithout_202 : decode cX0_countWithout 202 = .ok (.iaload, 1) := by decide +kernel
theorem dX0_countWithout_203 : decode cX0_countWithout 203 = .ok (.iload 4, 2) := by decide +kernel
theorem dX0_countWithout_205 : decode cX0_countWithout 205 = .ok (.iload 6, 2) := by decide +kernel
theorem dX0_countWithout_207 : decode cX0_countWithout 207 = .ok (.ishr, 1) := by decide +kernel
theorem dX0_countWithout_208 : decode cX0_countWithout 208 = .ok (.iconst 1, 1) := by decide +kernel
theorem dX0_countWithout_209 : decode cX0_countWithout 209 = .ok (.iand, 1) := by decide +kernel
theorem dX0_countWithout_210 : decode cX0_countWithout 210 = .ok (.iload_n 1, 1) := by decide +kernel
theorem dX0_countWithout_211 : decode cX0_countWithout 211 = .ok (.ishl, 1) := by decide +kernel
theorem dX0_countWithout_212 : decode cX0_countWithout 212 = .ok (.ior, 1) := by decide +kernel
theorem dX0_countWithout_213 : decode cX0_countWithout 213 = .ok (.iastore, 1) := by decide +kernel
theorem dX0_countWithout_214 : decode cX0_countWithout 214 = .ok (.iinc 6 1, 3) := by decide +kernel
theorem dX0_countWithout_217 : decode cX0_countWithout 217 = .ok (.goto (-59), 3) := by decide +kernel
theorem dX0_countWithout_220 : decode cX0_countWithout 220 = .ok (.aload_n 0, 1) := by decide +kernel
theorem dX0_countWithout_221 : decode cX0_countWithout 221 = .ok (.iconst 0, 1) := by decide +kernel
theorem dX0_countWithout_222 : decode cX0_countWithout 222 = .ok (.putfield 68, 3) := by decide +kernel
theorem dX0_countWithout_225 : decode cX0_countWithout 225 = .ok (.iload 5, 2) := by decide +kernel
theorem dX0_countWithout_227 : decode cX0_countWithout 227 = .ok (.ireturn, 1) := by decide +kernel
theorem dX0_leastTrue_0 : decode cX0_leastTrue 0 = .ok (.aload_n 0, 1) := by decide +kernel
theorem dX0_leastTrue_1 : decode cX0_leastTrue 1 = .ok (.invokevirtual 132, 3) := by decide +kernel
theorem dX0_leastTrue_4 : decode cX0_leastTrue 4 = .ok (.iconst 0, 1) := by decide +kernel
theorem dX0_leastTrue_5 : decode cX0_leastTrue 5 = .ok (.istore_n 1, 1) := by decide +kernel
theorem dX0_leastTrue_6 : decode cX0_leastTrue 6 = .ok (.iload_n 1, 1) := by decide +kernel
theorem dX0_leastTrue_7 : decode cX0_leastTrue 7 = .ok (.bipush 8, 2) := by decide +kernel
theorem dX0_leastTrue_9 : decode cX0_leastTrue 9 = .ok (.if_icmp .gt 20, 3) := by decide +kernel
theorem dX0_leastTrue_12 : decode cX0_leastTrue 12 = .ok (.aload_n 0, 1) := by decide +kernel
theorem dX0_leastTrue_13 : decode cX0_leastTrue 13 = .ok (.getfield 52, 3) := by decide +kernel
theorem dX0_leastTrue_16 : decode cX0_leastTrue 16 = .ok (.iload_n 1, 1) := by decide +kernel
theorem dX0_leastTrue_17 : decode cX0_leastTrue 17 = .ok (.iaload, 1) := by decide +kernel
theorem dX0_leastTrue_18 : decode cX0_leastTrue 18 = .ok (.ifCond .le 5, 3) := by decide +kernel
theorem dX0_leastTrue_21 : decode cX0_leastTrue 21 = .ok (.iload_n 1, 1) := by decide +kernel
theorem dX0_leastTrue_22 : decode cX0_leastTrue 22 = .ok (.ireturn, 1) := by decide +kernel
theorem dX0_leastTrue_23 : decode cX0_leastTrue 23 = .ok (.iinc 1 1, 3) := by decide +kernel
theorem dX0_leastTrue_26 : decode cX0_leastTrue 26 = .ok (.goto (-20), 3) := by decide +kernel
theorem dX0_leastTrue_29 : decode cX0_leastTrue 29 = .ok (.bipush (-4), 2) := by decide +kernel
theorem dX0_leastTrue_31 : decode cX0_leastTrue 31 = .ok (.ireturn, 1) := by decide +kernel
end
section
set_option maxRecDepth 100000
theorem dX1_init_0 : decode cX1_init 0 = .ok (.aload_n 0, 1) := by decide +kernel
theorem dX1_init_1 : decode cX1_init 1 = .ok (.invokespecial 1, 3) := by decide +kernel
theorem dX1_init_4 : decode cX1_init 4 = .ok (.aload_n 0, 1) := by decide +kernel
theorem dX1_init_5 : decode cX1_init 5 = .ok (.bipush 45, 2) := by decide +kernel
theorem dX1_init_7 : decode cX1_init 7 = .ok (.newarray .int, 2) := by decide +kernel
theorem dX1_init_9 : decode cX1_init 9 = .ok (.putfield 7, 3) := by decide +kernel
theorem dX1_init_12 : decode cX1_init 12 = .ok (.aload_n 0, 1) := by decide +kernel
theorem dX1_init_13 : decode cX1_init 13 = .ok (.bipush 15, 2) := by decide +kernel
theorem dX1_init_15 : decode cX1_init 15 = .ok (.newarray .int, 2) := by decide +kernel
theorem dX1_init_17 : decode cX1_init 17 = .ok (.putfield 13, 3) := by decide +kernel
theorem dX1_init_20 : decode cX1_init 20 = .ok (.aload_n 0, 1) := by decide +kernel
theorem dX1_init_21 : decode cX1_init 21 = .ok (.bipush 16, 2) := by decide +kernel
theorem dX1_init_23 : decode cX1_init 23 = .ok (.newarray .int, 2) := by decide +kernel
theorem dX1_init_25 : decode cX1_init 25 = .ok (.putfield 16, 3) := by decide +kernel
theorem dX1_init_28 : decode cX1_init 28 = .ok (.iconst 0, 1) := by decide +kernel
theorem dX1_init_29 : decode cX1_init 29 = .ok (.istore_n 1, 1) := by decide +kernel
theorem dX1_init_30 : decode cX1_init 30 = .ok (.iload_n 1, 1) := by decide +kernel
theorem dX1_init_31 : decode cX1_init 31 = .ok (.bipush 16, 2) := by decide +kernel
theorem dX1_init_33 : decode cX1_init 33 = .ok (.if_icmp .ge 16, 3) := by decide +kernel
theorem dX1_init_36 : decode cX1_init 36 = .ok (.aload_n 0, 1) := by decide +kernel
theorem dX1_init_37 : decode cX1_init 37 = .ok (.getfield 16, 3) := by decide +kernel
theorem dX1_init_40 : decode cX1_init 40 = .ok (.iload_n 1, 1) := by decide +kernel
theorem dX1_init_41 : decode cX1_init 41 = .ok (.iconst 1, 1) := by decide +kernel
theorem dX1_init_42 : decode cX1_init 42 = .ok (.iastore, 1) := by decide +kernel
theorem dX1_init_43 : decode cX1_init 43 = .ok (.iinc 1 1, 3) := by decide +kernel
theorem dX1_init_46 : decode cX1_init 46 = .ok (.goto (-16), 3) := by decide +kernel
theorem dX1_init_49 : decode cX1_init 49 = .ok (.return_, 1) := by decide +kernel
theorem dX1_literal_0 : decode cX1_literal 0 = .ok (.iload_n 1, 1) := by decide +kernel
theorem dX1_literal_1 : decode cX1_literal 1 = .ok (.ifCond .lt 9, 3) := by decide +kernel
theorem dX1_literal_4 : decode cX1_literal 4 = .ok (.iload_n 1, 1) := by decide +kernel
theorem dX1_literal_5 : decode cX1_literal 5 = .ok (.bipush 15, 2) := by decide +kernel
theorem dX1_literal_7 : decode cX1_literal 7 = .ok (.if_icmp .le 5, 3) := by decide +kernel
theorem dX1_literal_10 : decode cX1_literal 10 = .ok (.iconst (-1), 1) := by decide +kernel
theorem dX1_literal_11 : decode cX1_literal 11 = .ok (.ireturn, 1) := by decide +kernel
theorem dX1_literal_12 : decode cX1_literal 12 = .ok (.aload_n 0, 1) := by decide +kernel
theorem dX1_literal_13 : decode cX1_literal 13 = .ok (.getfield 13, 3) := by decide +kernel
theorem dX1_literal_16 : decode cX1_literal 16 = .ok (.bipush 14, 2) := by decide +kernel
theorem dX1_literal_18 : decode cX1_literal 18 = .ok (.iaload, 1) := by decide +kernel
theorem dX1_literal_19 : decode cX1_literal 19 = .ok (.iconst 3, 1) := by decide +kernel
theorem dX1_literal_20 : decode cX1_literal 20 = .ok (.if_icmp .ne 6, 3) := by decide +kernel
theorem dX1_literal_23 : decode cX1_literal 23 = .ok (.bipush (-2), 2) := by decide +kernel
theorem dX1_literal_25 : decode cX1_literal 25 = .ok (.ireturn, 1) := by decide +kernel
theorem dX1_literal_26 : decode cX1_literal 26 = .ok (.aload_n 0, 1) := by decide +kernel
theorem dX1_literal_27 : decode cX1_literal 27 = .ok (.getfield 7, 3) := by decide +kernel
theorem dX1_literal_30 : decode cX1_literal 30 = .ok (.bipush 42, 2) := by decide +kernel
theorem dX1_literal_32 : decode cX1_literal 32 = .ok (.aload_n 0, 1) := by decide +kernel
theorem dX1_literal_33 : decode cX1_literal 33 = .ok (.getfield 13, 3) := by decide +kernel
theorem dX1_literal_36 : decode cX1_literal 36 = .ok (.bipush 14, 2) := by decide +kernel
theorem dX1_literal_38 : decode cX1_literal 38 = .ok (.iaload, 1) := by decide +kernel
theorem dX1_literal_39 : decode cX1_literal 39 = .ok (.iadd, 1) := by decide +kernel
theorem dX1_literal_40 : decode cX1_literal 40 = .ok (.iload_n 1, 1) := by decide +kernel
theorem dX1_literal_41 : decode cX1_literal 41 = .ok (.iastore, 1) := by decide +kernel
theorem dX1_literal_42 : decode cX1_literal 42 = .ok (.aload_n 0, 1) := by decide +kernel
theorem dX1_literal_43 : decode cX1_literal 43 = .ok (.getfield 13, 3) := by decide +kernel
theorem dX1_literal_46 : decode cX1_literal 46 = .ok (.bipush 14, 2) := by decide +kernel
theorem dX1_literal_48 : decode cX1_literal 48 = .ok (.dup2, 1) := by decide +kernel
theorem dX1_literal_49 : decode cX1_literal 49 = .ok (.iaload, 1) := by decide +kernel
theorem dX1_literal_50 : decode cX1_literal 50 = .ok (.iconst 1, 1) := by decide +kernel
theorem dX1_literal_51 : decode cX1_literal 51 = .ok (.iadd, 1) := by decide +kernel
theorem dX1_literal_52 : decode cX1_literal 52 = .ok (.iastore, 1) := by decide +kernel
theorem dX1_literal_53 : decode cX1_literal 53 = .ok (.aload_n 0, 1) := by decide +kernel
theorem dX1_literal_54 : decode cX1_literal 54 = .ok (.getfield 13, 3) := by decide +kernel
theorem dX1_literal_57 : decode cX1_literal 57 = .ok (.bipush 14, 2) := by decide +kernel
theorem dX1_literal_59 : decode cX1_literal 59 = .ok (.iaload, 1) := by decide +kernel
theorem dX1_literal_60 : decode cX1_literal 60 = .ok (.ireturn, 1) := by decide +kernel
theorem dX1_scrap_0 : decode cX1_scrap 0 = .ok (.aload_n 0, 1) := by decide +kernel
theorem dX1_scrap_1 : decode cX1_scrap 1 = .ok (.getfield 13, 3) := by decide +kernel
theorem dX1_scrap_4 : decode cX1_scrap 4 = .ok (.bipush 14, 2) := by decide +kernel
theorem dX1_scrap_6 : decode cX1_scrap 6 = .ok (.iconst 0, 1) := by decide +kernel
theorem dX1_scrap_7 : decode cX1_scrap 7 = .ok (.iastore, 1) := by decide +kernel
theorem dX1_scrap_8 : decode cX1_scrap 8 = .ok (.return_, 1) := by decide +kernel
theorem dX1_clause_0 : decode cX1_clause 0 = .ok (.aload_n 0, 1) := by decide +kernel
theorem dX1_clause_1 : decode cX1_clause 1 = .ok (.getfield 19, 3) := by decide +kernel
theorem dX1_clause_4 : decode cX1_clause 4 = .ok (.bipush 14, 2) := by decide +kernel
theorem dX1_clause_6 : decode cX1_clause 6 = .ok (.if_icmp .ne 6, 3) := by decide +kernel
theorem dX1_clause_9 : decode cX1_clause 9 = .ok (.bipush (-2), 2) := by decide +kernel
theorem dX1_clause_11 : decode cX1_clause 11 = .ok (.ireturn, 1) := by decide +kernel
theorem dX1_clause_12 : decode cX1_clause 12 = .ok (.iconst 0, 1) := by decide +kernel
theorem dX1_clause_13 : decode cX1_clause 13 = .ok (.istore_n 1, 1) := by decide +kernel
theorem dX1_clause_14 : decode cX1_clause 14 = .ok (.iload_n 1, 1) := by decide +kernel
theorem dX1_clause_15 : decode cX1_clause 15 = .ok (.aload_n 0, 1) := by decide +kernel
theorem dX1_clause_16 : decode cX1_clause 16 = .ok (.getfield 13, 3) := by decide +kernel
theorem dX1_clause_19 : decode cX1_clause 19 = .ok (.bipush 14, 2) := by decide +kernel
theorem dX1_clause_21 : decode cX1_clause 21 = .ok (.iaload, 1) := by decide +kernel
theorem dX1_clause_22 : decode cX1_clause 22 = .ok (.if_icmp .ge 31, 3) := by decide +kernel
theorem dX1_clause_25 : decode cX1_clause 25 = .ok (.aload_n 0, 1) := by decide +kernel
theorem dX1_clause_26 : decode cX1_clause 26 = .ok (.getfield 7, 3) := by decide +kernel
theorem dX1_clause_29 : decode cX1_clause 29 = .ok (.iconst 3, 1) := by decide +kernel
theorem dX1_clause_30 : decode cX1_clause 30 = .ok (.aload_n 0, 1) := by decide +kernel
theorem dX1_clause_31 : decode cX1_clause 31 = .ok (.getfield 19, 3) := by decide +kernel
theorem dX1_clause_34 : decode cX1_clause 34 = .ok (.imul, 1) := by decide +kernel
theorem dX1_clause_35 : decode cX1_clause 35 = .ok (.iload_n 1, 1) := by decide +kernel
theorem dX1_clause_36 : decode cX1_clause 36 = .ok (.iadd, 1) := by decide +kernel
theorem dX1_clause_37 : decode cX1_clause 37 = .ok (.aload_n 0, 1) := by decide +kernel
theorem dX1_clause_38 : decode cX1_clause 38 = .ok (.getfield 7, 3) := by decide +kernel
theorem dX1_clause_41 : decode cX1_clause 41 = .ok (.bipush 42, 2) := by decide +kernel
theorem dX1_clause_43 : decode cX1_clause 43 = .ok (.iload_n 1, 1) := by decide +kernel
theorem dX1_clause_44 : decode cX1_clause 44 = .ok (.iadd, 1) := by decide +kernel
theorem dX1_clause_45 : decode cX1_clause 45 = .ok (.iaload, 1) := by decide +kernel
theorem dX1_clause_46 : decode cX1_clause 46 = .ok (.iastore, 1) := by decide +kernel
theorem dX1_clause_47 : decode cX1_clause 47 = .ok (.iinc 1 1, 3) := by decide +kernel
theorem dX1_clause_50 : decode cX1_clause 50 = .ok (.goto (-36), 3) := by decide +kernel
theorem dX1_clause_53 : decode cX1_clause 53 = .ok (.aload_n 0, 1) := by decide +kernel
theorem dX1_clause_54 : decode cX1_clause 54 = .ok (.getfield 13, 3) := by decide +kernel
theorem dX1_clause_57 : decode cX1_clause 57 = .ok (.aload_n 0, 1) := by decide +kernel
theorem dX1_clause_58 : decode cX1_clause 58 = .ok (.getfield 19, 3) := by decide +kernel
theorem dX1_clause_61 : decode cX1_clause 61 = .ok (.aload_n 0, 1) := by decide +kernel
theorem dX1_clause_62 : decode cX1_clause 62 = .ok (.getfield 13, 3) := by decide +kernel
theorem dX1_clause_65 : decode cX1_clause 65 = .ok (.bipush 14, 2) := by decide +kernel
theorem dX1_clause_67 : decode cX1_clause 67 = .ok (.iaload, 1) := by decide +kernel
theorem dX1_clause_68 : decode cX1_clause 68 = .ok (.iastore, 1) := by decide +kernel
theorem dX1_clause_69 : decode cX1_clause 69 = .ok (.aload_n 0, 1) := by decide +kernel
theorem dX1_clause_70 : decode cX1_clause 70 = .ok (.getfield 13, 3) := by decide +kernel
theorem dX1_clause_73 : decode cX1_clause 73 = .ok (.bipush 14, 2) := by decide +kernel
theorem dX1_clause_75 : decode cX1_clause 75 = .ok (.iconst 0, 1) := by decide +kernel
theorem dX1_clause_76 : decode cX1_clause 76 = .ok (.iastore, 1) := by decide +kernel
theorem dX1_clause_77 : decode cX1_clause 77 = .ok (.aload_n 0, 1) := by decide +kernel
theorem dX1_clause_78 : decode cX1_clause 78 = .ok (.dup, 1) := by decide +kernel
theorem dX1_clause_79 : decode cX1_clause 79 = .ok (.getfield 19, 3) := by decide +kernel
theorem dX1_clause_82 : decode cX1_clause 82 = .ok (.iconst 1, 1) := by decide +kernel
theorem dX1_clause_83 : decode cX1_clause 83 = .ok (.iadd, 1) := by decide +kernel
theorem dX1_clause_84 : decode cX1_clause 84 = .ok (.putfield 19, 3) := by decide +kernel
theorem dX1_clause_87 : decode cX1_clause 87 = .ok (.aload_n 0, 1) := by decide +kernel
theorem dX1_clause_88 : decode cX1_clause 88 = .ok (.getfield 19, 3) := by decide +kernel
theorem dX1_clause_91 : decode cX1_clause 91 = .ok (.iconst 1, 1) := by decide +kernel
theorem dX1_clause_92 : decode cX1_clause 92 = .ok (.isub, 1) := by decide +kernel
theorem dX1_clause_93 : decode cX1_clause 93 = .ok (.ireturn, 1) := by decide +kernel
theorem dX1_unclause_0 : decode cX1_unclause 0 = .ok (.aload_n 0, 1) := by decide +kernel
theorem dX1_unclause_1 : decode cX1_unclause 1 = .ok (.getfield 19, 3) := by decide +kernel
theorem dX1_unclause_4 : decode cX1_unclause 4 = .ok (.ifCond .ne 6, 3) := by decide +kernel
theorem dX1_unclause_7 : decode cX1_unclause 7 = .ok (.bipush (-4), 2) := by decide +kernel
theorem dX1_unclause_9 : decode cX1_unclause 9 = .ok (.ireturn, 1) := by decide +kernel
theorem dX1_unclause_10 : decode cX1_unclause 10 = .ok (.aload_n 0, 1) := by decide +kernel
theorem dX1_unclause_11 : decode cX1_unclause 11 = .ok (.dup, 1) := by decide +kernel
theorem dX1_unclause_12 : decode cX1_unclause 12 = .ok (.getfield 19, 3) := by decide +kernel
theorem dX1_unclause_15 : decode cX1_unclause 15 = .ok (.iconst 1, 1) := by decide +kernel
theorem dX1_unclause_16 : decode cX1_unclause 16 = .ok (.isub, 1) := by decide +kernel
theorem dX1_unclause_17 : decode cX1_unclause 17 = .ok (.putfield 19, 3) := by decide +kernel
theorem dX1_unclause_20 : decode cX1_unclause 20 = .ok (.aload_n 0, 1) := by decide +kernel
theorem dX1_unclause_21 : decode cX1_unclause 21 = .ok (.getfield 19, 3) := by decide +kernel
theorem dX1_unclause_24 : decode cX1_unclause 24 = .ok (.ireturn, 1) := by decide +kernel
theorem dX1_clauses_0 : decode cX1_clauses 0 = .ok (.aload_n 0, 1) := by decide +kernel
theorem dX1_clauses_1 : decode cX1_clauses 1 = .ok (.getfield 19, 3) := by decide +kernel
theorem dX1_clauses_4 : decode cX1_clauses 4 = .ok (.ireturn, 1) := by decide +kernel
theorem dX1_weight_0 : decode cX1_weight 0 = .ok (.iload_n 1, 1) := by decide +kernel
theorem dX1_weight_1 : decode cX1_weight 1 = .ok (.ifCond .lt 28, 3) := by decide +kernel
theorem dX1_weight_4 : decode cX1_weight 4 = .ok (.iload_n 1, 1) := by decide +kernel
theorem dX1_weight_5 : decode cX1_weight 5 = .ok (.bipush 7, 2) := by decide +kernel
theorem dX1_weight_7 : decode cX1_weight 7 = .ok (.if_icmp .gt 22, 3) := by decide +kernel
theorem dX1_weight_10 : decode cX1_weight 10 = .ok (.iload_n 2, 1) := by decide +kernel
theorem dX1_weight_11 : decode cX1_weight 11 = .ok (.ifCond .lt 18, 3) := by decide +kernel
theorem dX1_weight_14 : decode cX1_weight 14 = .ok (.iload_n 2, 1) := by decide +kernel
theorem dX1_weight_15 : decode cX1_weight 15 = .ok (.iconst 1, 1) := by decide +kernel
theorem dX1_weight_16 : decode cX1_weight 16 = .ok (.if_icmp .gt 13, 3) := by decide +kernel
theorem dX1_weight_19 : decode cX1_weight 19 = .ok (.iload_n 3, 1) := by decide +kernel
theorem dX1_weight_20 : decode cX1_weight 20 = .ok (.ifCond .lt 9, 3) := by decide +kernel
theorem dX1_weight_23 : decode cX1_weight 23 = .ok (.iload_n 3, 1) := by decide +kernel
theorem dX1_weight_24 : decode cX1_weight 24 = .ok (.bipush 9, 2) := by decide +kernel
theorem dX1_weight_26 : decode cX1_weight 26 = .ok (.if_icmp .le 5, 3) := by decide +kernel
theorem dX1_weight_29 : decode cX1_weight 29 = .ok (.iconst (-1), 1) := by decide +kernel
theorem dX1_weight_30 : decode cX1_weight 30 = .ok (.ireturn, 1) := by decide +kernel
theorem dX1_weight_31 : decode cX1_weight 31 = .ok (.aload_n 0, 1) := by decide +kernel
theorem dX1_weight_32 : decode cX1_weight 32 = .ok (.getfield 16, 3) := by decide +kernel
theorem dX1_weight_35 : decode cX1_weight 35 = .ok (.iconst 2, 1) := by decide +kernel
theorem dX1_weight_36 : decode cX1_weight 36 = .ok (.iload_n 1, 1) := by decide +kernel
theorem dX1_weight_37 : decode cX1_weight 37 = .ok (.imul, 1) := by decide +kernel
theorem dX1_weight_38 : decode cX1_weight 38 = .ok (.iload_n 2, 1) := by decide +kernel
theorem dX1_weight_39 : decode cX1_weight 39 = .ok (.iadd, 1) := by decide +kernel
theorem dX1_weight_40 : decode cX1_weight 40 = .ok (.iaload, 1) := by decide +kernel
theorem dX1_weight_41 : decode cX1_weight 41 = .ok (.istore 4, 2) := by decide +kernel
theorem dX1_weight_43 : decode cX1_weight 43 = .ok (.aload_n 0, 1) := by decide +kernel
theorem dX1_weight_44 : decode cX1_weight 44 = .ok (.getfield 16, 3) := by decide +kernel
theorem dX1_weight_47 : decode cX1_weight 47 = .ok (.iconst 2, 1) := by decide +kernel
theorem dX1_weight_48 : decode cX1_weight 48 = .ok (.iload_n 1, 1) := by decide +kernel
theorem dX1_weight_49 : decode cX1_weight 49 = .ok (.imul, 1) := by decide +kernel
theorem dX1_weight_50 : decode cX1_weight 50 = .ok (.iload_n 2, 1) := by decide +kernel
theorem dX1_weight_51 : decode cX1_weight 51 = .ok (.iadd, 1) := by decide +kernel
theorem dX1_weight_52 : decode cX1_weight 52 = .ok (.iload_n 3, 1) := by decide +kernel
theorem dX1_weight_53 : decode cX1_weight 53 = .ok (.iastore, 1) := by decide +kernel
theorem dX1_weight_54 : decode cX1_weight 54 = .ok (.iload 4, 2) := by decide +kernel
theorem dX1_weight_56 : decode cX1_weight 56 = .ok (.ireturn, 1) := by decide +kernel
theorem dX1_count_0 : decode cX1_count 0 = .ok (.aload_n 0, 1) := by decide +kernel
theorem dX1_count_1 : decode cX1_count 1 = .ok (.sipush 256, 3) := by decide +kernel
theorem dX1_count_4 : decode cX1_count 4 = .ok (.invokevirtual 31, 3) := by decide +kernel
theorem dX1_count_7 : decode cX1_count 7 = .ok (.ireturn, 1) := by decide +kernel
theorem dX1_rank_0 : decode cX1_rank 0 = .ok (.iload_n 1, 1) := by decide +kernel
theorem dX1_rank_1 : decode cX1_rank 1 = .ok (.ifCond .lt 10, 3) := by decide +kernel
theorem dX1_rank_4 : decode cX1_rank 4 = .ok (.iload_n 1, 1) := by decide +kernel
theorem dX1_rank_5 : decode cX1_rank 5 = .ok (.sipush 256, 3) := by decide +kernel
theorem dX1_rank_8 : decode cX1_rank 8 = .ok (.if_icmp .le 5, 3) := by decide +kernel
theorem dX1_rank_11 : decode cX1_rank 11 = .ok (.iconst (-1), 1) := by decide +kernel
theorem dX1_rank_12 : decode cX1_rank 12 = .ok (.ireturn, 1) := by decide +kernel
theorem dX1_rank_13 : decode cX1_rank 13 = .ok (.iconst 0, 1) := by decide +kernel
theorem dX1_rank_14 : decode cX1_rank 14 = .ok (.istore_n 2, 1) := by decide +kernel
theorem dX1_rank_15 : decode cX1_rank 15 = .ok (.iconst 0, 1) := by decide +kernel
theorem dX1_rank_16 : decode cX1_rank 16 = .ok (.istore_n 3, 1) := by decide +kernel
theorem dX1_rank_17 : decode cX1_rank 17 = .ok (.iload_n 3, 1) := by decide +kernel
theorem dX1_rank_18 : decode cX1_rank 18 = .ok (.iload_n 1, 1) := by decide +kernel
theorem dX1_rank_19 : decode cX1_rank 19 = .ok (.if_icmp .ge 25, 3) := by decide +kernel
theorem dX1_rank_22 : decode cX1_rank 22 = .ok (.aload_n 0, 1) := by decide +kernel
theorem dX1_rank_23 : decode cX1_rank 23 = .ok (.iload_n 3, 1) := by decide +kernel
theorem dX1_rank_24 : decode cX1_rank 24 = .ok (.invokevirtual 35, 3) := by decide +kernel
theorem dX1_rank_27 : decode cX1_rank 27 = .ok (.ifCond .eq 9, 3) := by decide +kernel
theorem dX1_rank_30 : decode cX1_rank 30 = .ok (.iload_n 2, 1) := by decide +kernel
theorem dX1_rank_31 : decode cX1_rank 31 = .ok (.iconst 1, 1) := by decide +kernel
theorem dX1_rank_32 : decode cX1_rank 32 = .ok (.iadd, 1) := by decide +kernel
theorem dX1_rank_33 : decode cX1_rank 33 = .ok (.goto 4, 3) := by decide +kernel
theorem dX1_rank_36 : decode cX1_rank 36 = .ok (.iload_n 2, 1) := by decide +kernel
theorem dX1_rank_37 : decode cX1_rank 37 = .ok (.istore_n 2, 1) := by decide +kernel
theorem dX1_rank_38 : decode cX1_rank 38 = .ok (.iinc 3 1, 3) := by decide +kernel
theorem dX1_rank_41 : decode cX1_rank 41 = .ok (.goto (-24), 3) := by decide +kernel
theorem dX1_rank_44 : decode cX1_rank 44 = .ok (.iload_n 2, 1) := by decide +kernel
theorem dX1_rank_45 : decode cX1_rank 45 = .ok (.ireturn, 1) := by decide +kernel
theorem dX1_makesTrue_0 : decode cX1_makesTrue 0 = .ok (.iconst 0, 1) := by decide +kernel
theorem dX1_makesTrue_1 : decode cX1_makesTrue 1 = .ok (.istore_n 2, 1) := by decide +kernel
theorem dX1_makesTrue_2 : decode cX1_makesTrue 2 = .ok (.iload_n 2, 1) := by decide +kernel
theorem dX1_makesTrue_3 : decode cX1_makesTrue 3 = .ok (.aload_n 0, 1) := by decide +kernel
theorem dX1_makesTrue_4 : decode cX1_makesTrue 4 = .ok (.getfield 19, 3) := by decide +kernel
theorem dX1_makesTrue_7 : decode cX1_makesTrue 7 = .ok (.if_icmp .ge 20, 3) := by decide +kernel
theorem dX1_makesTrue_10 : decode cX1_makesTrue 10 = .ok (.aload_n 0, 1) := by decide +kernel
theorem dX1_makesTrue_11 : decode cX1_makesTrue 11 = .ok (.iload_n 2, 1) := by decide +kernel
theorem dX1_makesTrue_12 : decode cX1_makesTrue 12 = .ok (.iload_n 1, 1) := by decide +kernel
theorem dX1_makesTrue_13 : decode cX1_makesTrue 13 = .ok (.invokevirtual 27, 3) := by decide +kernel
theorem dX1_makesTrue_16 : decode cX1_makesTrue 16 = .ok (.ifCond .ne 5, 3) := by decide +kernel
theorem dX1_makesTrue_19 : decode cX1_makesTrue 19 = .ok (.iconst 0, 1) := by decide +kernel
theorem dX1_makesTrue_20 : decode cX1_makesTrue 20 = .ok (.ireturn, 1) := by decide +kernel
theorem dX1_makesTrue_21 : decode cX1_makesTrue 21 = .ok (.iinc 2 1, 3) := by decide +kernel
theorem dX1_makesTrue_24 : decode cX1_makesTrue 24 = .ok (.goto (-22), 3) := by decide +kernel
theorem dX1_makesTrue_27 : decode cX1_makesTrue 27 = .ok (.iconst 1, 1) := by decide +kernel
theorem dX1_makesTrue_28 : decode cX1_makesTrue 28 = .ok (.ireturn, 1) := by decide +kernel
theorem dX1_isTrue_0 : decode cX1_isTrue 0 = .ok (.iconst 3, 1) := by decide +kernel
theorem dX1_isTrue_1 : decode cX1_isTrue 1 = .ok (.iload_n 1, 1) := by decide +kernel
theorem dX1_isTrue_2 : decode cX1_isTrue 2 = .ok (.imul, 1) := by decide +kernel
theorem dX1_isTrue_3 : decode cX1_isTrue 3 = .ok (.istore_n 3, 1) := by decide +kernel
theorem dX1_isTrue_4 : decode cX1_isTrue 4 = .ok (.iload_n 3, 1) := by decide +kernel
theorem dX1_isTrue_5 : decode cX1_isTrue 5 = .ok (.iconst 3, 1) := by decide +kernel
theorem dX1_isTrue_6 : decode cX1_isTrue 6 = .ok (.iload_n 1, 1) := by decide +kernel
theorem dX1_isTrue_7 : decode cX1_isTrue 7 = .ok (.imul, 1) := by decide +kernel
theorem dX1_isTrue_8 : decode cX1_isTrue 8 = .ok (.aload_n 0, 1) := by decide +kernel
theorem dX1_isTrue_9 : decode cX1_isTrue 9 = .ok (.getfield 13, 3) := by decide +kernel
theorem dX1_isTrue_12 : decode cX1_isTrue 12 = .ok (.iload_n 1, 1) := by decide +kernel
theorem dX1_isTrue_13 : decode cX1_isTrue 13 = .ok (.iaload, 1) := by decide +kernel
theorem dX1_isTrue_14 : decode cX1_isTrue 14 = .ok (.iadd, 1) := by decide +kernel
theorem dX1_isTrue_15 : decode cX1_isTrue 15 = .ok (.if_icmp .ge 35, 3) := by decide +kernel
theorem dX1_isTrue_18 : decode cX1_isTrue 18 = .ok (.aload_n 0, 1) := by decide +kernel
theorem dX1_isTrue_19 : decode cX1_isTrue 19 = .ok (.iload_n 2, 1) := by decide +kernel
theorem dX1_isTrue_20 : decode cX1_isTrue 20 = .ok (.aload_n 0, 1) := by decide +kernel
theorem dX1_isTrue_21 : decode cX1_isTrue 21 = .ok (.getfield 7, 3) := by decide +kernel
theorem dX1_isTrue_24 : decode cX1_isTrue 24 = .ok (.iload_n 3, 1) := by decide +kernel
theorem dX1_isTrue_25 : decode cX1_isTrue 25 = .ok (.iaload, 1) := by decide +kernel
theorem dX1_isTrue_26 : decode cX1_isTrue 26 = .ok (.iconst 2, 1) := by decide +kernel
theorem dX1_isTrue_27 : decode cX1_isTrue 27 = .ok (.idiv, 1) := by decide +kernel
theorem dX1_isTrue_28 : decode cX1_isTrue 28 = .ok (.invokevirtual 23, 3) := by decide +kernel
theorem dX1_isTrue_31 : decode cX1_isTrue 31 = .ok (.aload_n 0, 1) := by decide +kernel
theorem dX1_isTrue_32 : decode cX1_isTrue 32 = .ok (.getfield 7, 3) := by decide +kernel
theorem dX1_isTrue_35 : decode cX1_isTrue 35 = .ok (.iload_n 3, 1) := by decide +kernel
theorem dX1_isTrue_36 : decode cX1_isTrue 36 = .ok (.iaload, 1) := by decide +kernel
theorem dX1_isTrue_37 : decode cX1_isTrue 37 = .ok (.iconst 2, 1) := by decide +kernel
theorem dX1_isTrue_38 : decode cX1_isTrue 38 = .ok (.irem, 1) := by decide +kernel
theorem dX1_isTrue_39 : decode cX1_isTrue 39 = .ok (.if_icmp .eq 5, 3) := by decide +kernel
theorem dX1_isTrue_42 : decode cX1_isTrue 42 = .ok (.iconst 1, 1) := by decide +kernel
theorem dX1_isTrue_43 : decode cX1_isTrue 43 = .ok (.ireturn, 1) := by decide +kernel
theorem dX1_isTrue_44 : decode cX1_isTrue 44 = .ok (.iinc 3 1, 3) := by decide +kernel
theorem dX1_isTrue_47 : decode cX1_isTrue 47 = .ok (.goto (-43), 3) := by decide +kernel
theorem dX1_isTrue_50 : decode cX1_isTrue 50 = .ok (.iconst 0, 1) := by decide +kernel
theorem dX1_isTrue_51 : decode cX1_isTrue 51 = .ok (.ireturn, 1) := by decide +kernel
theorem dX1_truth_0 : decode cX1_truth 0 = .ok (.iload_n 1, 1) := by decide +kernel
theorem dX1_truth_1 : decode cX1_truth 1 = .ok (.iload_n 2, 1) := by decide +kernel
theorem dX1_truth_2 : decode cX1_truth 2 = .ok (.ishr, 1) := by decide +kernel
theorem dX1_truth_3 : decode cX1_truth 3 = .ok (.iconst 1, 1) := by decide +kernel
theorem dX1_truth_4 : decode cX1_truth 4 = .ok (.iand, 1) := by decide +kernel
theorem dX1_truth_5 : decode cX1_truth 5 = .ok (.ireturn, 1) := by decide +kernel
theorem dX1_countWith_0 : decode cX1_countWith 0 = .ok (.iload_n 1, 1) := by decide +kernel
theorem dX1_countWith_1 : decode cX1_countWith 1 = .ok (.ifCond .lt 21, 3) := by decide +kernel
theorem dX1_countWith_4 : decode cX1_countWith 4 = .ok (.iload_n 1, 1) := by decide +kernel
theorem dX1_countWith_5 : decode cX1_countWith 5 = .ok (.sipush 255, 3) := by decide +kernel
theorem dX1_countWith_8 : decode cX1_countWith 8 = .ok (.if_icmp .gt 14, 3) := by decide +kernel
theorem dX1_countWith_11 : decode cX1_countWith 11 = .ok (.iload_n 2, 1) := by decide +kernel
theorem dX1_countWith_12 : decode cX1_countWith 12 = .ok (.ifCond .lt 10, 3) := by decide +kernel
theorem dX1_countWith_15 : decode cX1_countWith 15 = .ok (.iload_n 2, 1) := by decide +kernel
theorem dX1_countWith_16 : decode cX1_countWith 16 = .ok (.sipush 255, 3) := by decide +kernel
theorem dX1_countWith_19 : decode cX1_countWith 19 = .ok (.if_icmp .le 5, 3) := by decide +kernel
theorem dX1_countWith_22 : decode cX1_countWith 22 = .ok (.iconst (-1), 1) := by decide +kernel
theorem dX1_countWith_23 : decode cX1_countWith 23 = .ok (.ireturn, 1) := by decide +kernel
theorem dX1_countWith_24 : decode cX1_countWith 24 = .ok (.iconst 0, 1) := by decide +kernel
theorem dX1_countWith_25 : decode cX1_countWith 25 = .ok (.istore_n 3, 1) := by decide +kernel
theorem dX1_countWith_26 : decode cX1_countWith 26 = .ok (.iconst 0, 1) := by decide +kernel
theorem dX1_countWith_27 : decode cX1_countWith 27 = .ok (.istore 4, 2) := by decide +kernel
theorem dX1_countWith_29 : decode cX1_countWith 29 = .ok (.iload 4, 2) := by decide +kernel
theorem dX1_countWith_31 : decode cX1_countWith 31 = .ok (.sipush 256, 3) := by decide +kernel
theorem dX1_countWith_34 : decode cX1_countWith 34 = .ok (.if_icmp .ge 36, 3) := by decide +kernel
theorem dX1_countWith_37 : decode cX1_countWith 37 = .ok (.iload 4, 2) := by decide +kernel
end
section
set_option maxRecDepth 100000
theorem dX1_countWith_39 : decode cX1_countWith 39 = .ok (.iload_n 1, 1) := by decide +kernel
theorem dX1_countWith_40 : decode cX1_countWith 40 = .ok (.iand, 1) := by decide +kernel
theorem dX1_countWith_41 : decode cX1_countWith 41 = .ok (.iload_n 2, 1) := by decide +kernel
theorem dX1_countWith_42 : decode cX1_countWith 42 = .ok (.iload_n 1, 1) := by decide +kernel
theorem dX1_countWith_43 : decode cX1_countWith 43 = .ok (.iand, 1) := by decide +kernel
theorem dX1_countWith_44 : decode cX1_countWith 44 = .ok (.if_icmp .ne 18, 3) := by decide +kernel
theorem dX1_countWith_47 : decode cX1_countWith 47 = .ok (.aload_n 0, 1) := by decide +kernel
theorem dX1_countWith_48 : decode cX1_countWith 48 = .ok (.iload 4, 2) := by decide +kernel
theorem dX1_countWith_50 : decode cX1_countWith 50 = .ok (.invokevirtual 35, 3) := by decide +kernel
theorem dX1_countWith_53 : decode cX1_countWith 53 = .ok (.ifCond .eq 9, 3) := by decide +kernel
theorem dX1_countWith_56 : decode cX1_countWith 56 = .ok (.iload_n 3, 1) := by decide +kernel
theorem dX1_countWith_57 : decode cX1_countWith 57 = .ok (.iconst 1, 1) := by decide +kernel
theorem dX1_countWith_58 : decode cX1_countWith 58 = .ok (.iadd, 1) := by decide +kernel
theorem dX1_countWith_59 : decode cX1_countWith 59 = .ok (.goto 4, 3) := by decide +kernel
theorem dX1_countWith_62 : decode cX1_countWith 62 = .ok (.iload_n 3, 1) := by decide +kernel
theorem dX1_countWith_63 : decode cX1_countWith 63 = .ok (.istore_n 3, 1) := by decide +kernel
theorem dX1_countWith_64 : decode cX1_countWith 64 = .ok (.iinc 4 1, 3) := by decide +kernel
theorem dX1_countWith_67 : decode cX1_countWith 67 = .ok (.goto (-38), 3) := by decide +kernel
theorem dX1_countWith_70 : decode cX1_countWith 70 = .ok (.iload_n 3, 1) := by decide +kernel
theorem dX1_countWith_71 : decode cX1_countWith 71 = .ok (.ireturn, 1) := by decide +kernel
theorem dX1_countSize_0 : decode cX1_countSize 0 = .ok (.iconst 0, 1) := by decide +kernel
theorem dX1_countSize_1 : decode cX1_countSize 1 = .ok (.istore_n 2, 1) := by decide +kernel
theorem dX1_countSize_2 : decode cX1_countSize 2 = .ok (.iconst 0, 1) := by decide +kernel
theorem dX1_countSize_3 : decode cX1_countSize 3 = .ok (.istore_n 3, 1) := by decide +kernel
theorem dX1_countSize_4 : decode cX1_countSize 4 = .ok (.iload_n 3, 1) := by decide +kernel
theorem dX1_countSize_5 : decode cX1_countSize 5 = .ok (.sipush 256, 3) := by decide +kernel
theorem dX1_countSize_8 : decode cX1_countSize 8 = .ok (.if_icmp .ge 34, 3) := by decide +kernel
theorem dX1_countSize_11 : decode cX1_countSize 11 = .ok (.aload_n 0, 1) := by decide +kernel
theorem dX1_countSize_12 : decode cX1_countSize 12 = .ok (.iload_n 3, 1) := by decide +kernel
theorem dX1_countSize_13 : decode cX1_countSize 13 = .ok (.invokevirtual 39, 3) := by decide +kernel
theorem dX1_countSize_16 : decode cX1_countSize 16 = .ok (.iload_n 1, 1) := by decide +kernel
theorem dX1_countSize_17 : decode cX1_countSize 17 = .ok (.if_icmp .ne 17, 3) := by decide +kernel
theorem dX1_countSize_20 : decode cX1_countSize 20 = .ok (.aload_n 0, 1) := by decide +kernel
theorem dX1_countSize_21 : decode cX1_countSize 21 = .ok (.iload_n 3, 1) := by decide +kernel
theorem dX1_countSize_22 : decode cX1_countSize 22 = .ok (.invokevirtual 35, 3) := by decide +kernel
theorem dX1_countSize_25 : decode cX1_countSize 25 = .ok (.ifCond .eq 9, 3) := by decide +kernel
theorem dX1_countSize_28 : decode cX1_countSize 28 = .ok (.iload_n 2, 1) := by decide +kernel
theorem dX1_countSize_29 : decode cX1_countSize 29 = .ok (.iconst 1, 1) := by decide +kernel
theorem dX1_countSize_30 : decode cX1_countSize 30 = .ok (.iadd, 1) := by decide +kernel
theorem dX1_countSize_31 : decode cX1_countSize 31 = .ok (.goto 4, 3) := by decide +kernel
theorem dX1_countSize_34 : decode cX1_countSize 34 = .ok (.iload_n 2, 1) := by decide +kernel
theorem dX1_countSize_35 : decode cX1_countSize 35 = .ok (.istore_n 2, 1) := by decide +kernel
theorem dX1_countSize_36 : decode cX1_countSize 36 = .ok (.iinc 3 1, 3) := by decide +kernel
theorem dX1_countSize_39 : decode cX1_countSize 39 = .ok (.goto (-35), 3) := by decide +kernel
theorem dX1_countSize_42 : decode cX1_countSize 42 = .ok (.iload_n 2, 1) := by decide +kernel
theorem dX1_countSize_43 : decode cX1_countSize 43 = .ok (.ireturn, 1) := by decide +kernel
theorem dX1_sizeOf_0 : decode cX1_sizeOf 0 = .ok (.iconst 0, 1) := by decide +kernel
theorem dX1_sizeOf_1 : decode cX1_sizeOf 1 = .ok (.istore_n 2, 1) := by decide +kernel
theorem dX1_sizeOf_2 : decode cX1_sizeOf 2 = .ok (.iconst 0, 1) := by decide +kernel
theorem dX1_sizeOf_3 : decode cX1_sizeOf 3 = .ok (.istore_n 3, 1) := by decide +kernel
theorem dX1_sizeOf_4 : decode cX1_sizeOf 4 = .ok (.iload_n 3, 1) := by decide +kernel
theorem dX1_sizeOf_5 : decode cX1_sizeOf 5 = .ok (.bipush 8, 2) := by decide +kernel
theorem dX1_sizeOf_7 : decode cX1_sizeOf 7 = .ok (.if_icmp .ge 18, 3) := by decide +kernel
theorem dX1_sizeOf_10 : decode cX1_sizeOf 10 = .ok (.iload_n 2, 1) := by decide +kernel
theorem dX1_sizeOf_11 : decode cX1_sizeOf 11 = .ok (.aload_n 0, 1) := by decide +kernel
theorem dX1_sizeOf_12 : decode cX1_sizeOf 12 = .ok (.iload_n 1, 1) := by decide +kernel
theorem dX1_sizeOf_13 : decode cX1_sizeOf 13 = .ok (.iload_n 3, 1) := by decide +kernel
theorem dX1_sizeOf_14 : decode cX1_sizeOf 14 = .ok (.invokevirtual 23, 3) := by decide +kernel
theorem dX1_sizeOf_17 : decode cX1_sizeOf 17 = .ok (.iadd, 1) := by decide +kernel
theorem dX1_sizeOf_18 : decode cX1_sizeOf 18 = .ok (.istore_n 2, 1) := by decide +kernel
theorem dX1_sizeOf_19 : decode cX1_sizeOf 19 = .ok (.iinc 3 1, 3) := by decide +kernel
theorem dX1_sizeOf_22 : decode cX1_sizeOf 22 = .ok (.goto (-18), 3) := by decide +kernel
theorem dX1_sizeOf_25 : decode cX1_sizeOf 25 = .ok (.iload_n 2, 1) := by decide +kernel
theorem dX1_sizeOf_26 : decode cX1_sizeOf 26 = .ok (.ireturn, 1) := by decide +kernel
theorem dX1_weighted_0 : decode cX1_weighted 0 = .ok (.aload_n 0, 1) := by decide +kernel
theorem dX1_weighted_1 : decode cX1_weighted 1 = .ok (.iconst 0, 1) := by decide +kernel
theorem dX1_weighted_2 : decode cX1_weighted 2 = .ok (.iconst 0, 1) := by decide +kernel
theorem dX1_weighted_3 : decode cX1_weighted 3 = .ok (.invokevirtual 42, 3) := by decide +kernel
theorem dX1_weighted_6 : decode cX1_weighted 6 = .ok (.aload_n 0, 1) := by decide +kernel
theorem dX1_weighted_7 : decode cX1_weighted 7 = .ok (.iconst 0, 1) := by decide +kernel
theorem dX1_weighted_8 : decode cX1_weighted 8 = .ok (.iconst 1, 1) := by decide +kernel
theorem dX1_weighted_9 : decode cX1_weighted 9 = .ok (.invokevirtual 42, 3) := by decide +kernel
theorem dX1_weighted_12 : decode cX1_weighted 12 = .ok (.iadd, 1) := by decide +kernel
theorem dX1_weighted_13 : decode cX1_weighted 13 = .ok (.ireturn, 1) := by decide +kernel
theorem dX1_share_0 : decode cX1_share 0 = .ok (.iload_n 1, 1) := by decide +kernel
theorem dX1_share_1 : decode cX1_share 1 = .ok (.ifCond .lt 18, 3) := by decide +kernel
theorem dX1_share_4 : decode cX1_share 4 = .ok (.iload_n 1, 1) := by decide +kernel
theorem dX1_share_5 : decode cX1_share 5 = .ok (.bipush 7, 2) := by decide +kernel
theorem dX1_share_7 : decode cX1_share 7 = .ok (.if_icmp .gt 12, 3) := by decide +kernel
theorem dX1_share_10 : decode cX1_share 10 = .ok (.iload_n 2, 1) := by decide +kernel
theorem dX1_share_11 : decode cX1_share 11 = .ok (.ifCond .lt 8, 3) := by decide +kernel
theorem dX1_share_14 : decode cX1_share 14 = .ok (.iload_n 2, 1) := by decide +kernel
theorem dX1_share_15 : decode cX1_share 15 = .ok (.iconst 1, 1) := by decide +kernel
theorem dX1_share_16 : decode cX1_share 16 = .ok (.if_icmp .le 5, 3) := by decide +kernel
theorem dX1_share_19 : decode cX1_share 19 = .ok (.iconst 0, 1) := by decide +kernel
theorem dX1_share_20 : decode cX1_share 20 = .ok (.ireturn, 1) := by decide +kernel
theorem dX1_share_21 : decode cX1_share 21 = .ok (.iconst 0, 1) := by decide +kernel
theorem dX1_share_22 : decode cX1_share 22 = .ok (.istore_n 3, 1) := by decide +kernel
theorem dX1_share_23 : decode cX1_share 23 = .ok (.iconst 0, 1) := by decide +kernel
theorem dX1_share_24 : decode cX1_share 24 = .ok (.istore 4, 2) := by decide +kernel
theorem dX1_share_26 : decode cX1_share 26 = .ok (.iload 4, 2) := by decide +kernel
theorem dX1_share_28 : decode cX1_share 28 = .ok (.sipush 256, 3) := by decide +kernel
theorem dX1_share_31 : decode cX1_share 31 = .ok (.if_icmp .ge 42, 3) := by decide +kernel
theorem dX1_share_34 : decode cX1_share 34 = .ok (.aload_n 0, 1) := by decide +kernel
theorem dX1_share_35 : decode cX1_share 35 = .ok (.iload 4, 2) := by decide +kernel
theorem dX1_share_37 : decode cX1_share 37 = .ok (.iload_n 1, 1) := by decide +kernel
theorem dX1_share_38 : decode cX1_share 38 = .ok (.invokevirtual 23, 3) := by decide +kernel
theorem dX1_share_41 : decode cX1_share 41 = .ok (.iload_n 2, 1) := by decide +kernel
theorem dX1_share_42 : decode cX1_share 42 = .ok (.if_icmp .ne 23, 3) := by decide +kernel
theorem dX1_share_45 : decode cX1_share 45 = .ok (.aload_n 0, 1) := by decide +kernel
theorem dX1_share_46 : decode cX1_share 46 = .ok (.iload 4, 2) := by decide +kernel
theorem dX1_share_48 : decode cX1_share 48 = .ok (.invokevirtual 35, 3) := by decide +kernel
theorem dX1_share_51 : decode cX1_share 51 = .ok (.ifCond .eq 14, 3) := by decide +kernel
theorem dX1_share_54 : decode cX1_share 54 = .ok (.iload_n 3, 1) := by decide +kernel
theorem dX1_share_55 : decode cX1_share 55 = .ok (.aload_n 0, 1) := by decide +kernel
theorem dX1_share_56 : decode cX1_share 56 = .ok (.iload 4, 2) := by decide +kernel
theorem dX1_share_58 : decode cX1_share 58 = .ok (.invokevirtual 45, 3) := by decide +kernel
theorem dX1_share_61 : decode cX1_share 61 = .ok (.iadd, 1) := by decide +kernel
theorem dX1_share_62 : decode cX1_share 62 = .ok (.goto 4, 3) := by decide +kernel
theorem dX1_share_65 : decode cX1_share 65 = .ok (.iload_n 3, 1) := by decide +kernel
theorem dX1_share_66 : decode cX1_share 66 = .ok (.istore_n 3, 1) := by decide +kernel
theorem dX1_share_67 : decode cX1_share 67 = .ok (.iinc 4 1, 3) := by decide +kernel
theorem dX1_share_70 : decode cX1_share 70 = .ok (.goto (-44), 3) := by decide +kernel
theorem dX1_share_73 : decode cX1_share 73 = .ok (.iload_n 3, 1) := by decide +kernel
theorem dX1_share_74 : decode cX1_share 74 = .ok (.ireturn, 1) := by decide +kernel
theorem dX1_weightOf_0 : decode cX1_weightOf 0 = .ok (.iconst 1, 1) := by decide +kernel
theorem dX1_weightOf_1 : decode cX1_weightOf 1 = .ok (.istore_n 2, 1) := by decide +kernel
theorem dX1_weightOf_2 : decode cX1_weightOf 2 = .ok (.iconst 0, 1) := by decide +kernel
theorem dX1_weightOf_3 : decode cX1_weightOf 3 = .ok (.istore_n 3, 1) := by decide +kernel
theorem dX1_weightOf_4 : decode cX1_weightOf 4 = .ok (.iload_n 3, 1) := by decide +kernel
theorem dX1_weightOf_5 : decode cX1_weightOf 5 = .ok (.bipush 8, 2) := by decide +kernel
theorem dX1_weightOf_7 : decode cX1_weightOf 7 = .ok (.if_icmp .ge 27, 3) := by decide +kernel
theorem dX1_weightOf_10 : decode cX1_weightOf 10 = .ok (.iload_n 2, 1) := by decide +kernel
theorem dX1_weightOf_11 : decode cX1_weightOf 11 = .ok (.aload_n 0, 1) := by decide +kernel
theorem dX1_weightOf_12 : decode cX1_weightOf 12 = .ok (.getfield 16, 3) := by decide +kernel
theorem dX1_weightOf_15 : decode cX1_weightOf 15 = .ok (.iconst 2, 1) := by decide +kernel
theorem dX1_weightOf_16 : decode cX1_weightOf 16 = .ok (.iload_n 3, 1) := by decide +kernel
theorem dX1_weightOf_17 : decode cX1_weightOf 17 = .ok (.imul, 1) := by decide +kernel
theorem dX1_weightOf_18 : decode cX1_weightOf 18 = .ok (.aload_n 0, 1) := by decide +kernel
theorem dX1_weightOf_19 : decode cX1_weightOf 19 = .ok (.iload_n 1, 1) := by decide +kernel
theorem dX1_weightOf_20 : decode cX1_weightOf 20 = .ok (.iload_n 3, 1) := by decide +kernel
theorem dX1_weightOf_21 : decode cX1_weightOf 21 = .ok (.invokevirtual 23, 3) := by decide +kernel
theorem dX1_weightOf_24 : decode cX1_weightOf 24 = .ok (.iadd, 1) := by decide +kernel
theorem dX1_weightOf_25 : decode cX1_weightOf 25 = .ok (.iaload, 1) := by decide +kernel
theorem dX1_weightOf_26 : decode cX1_weightOf 26 = .ok (.imul, 1) := by decide +kernel
theorem dX1_weightOf_27 : decode cX1_weightOf 27 = .ok (.istore_n 2, 1) := by decide +kernel
theorem dX1_weightOf_28 : decode cX1_weightOf 28 = .ok (.iinc 3 1, 3) := by decide +kernel
theorem dX1_weightOf_31 : decode cX1_weightOf 31 = .ok (.goto (-27), 3) := by decide +kernel
theorem dX1_weightOf_34 : decode cX1_weightOf 34 = .ok (.iload_n 2, 1) := by decide +kernel
theorem dX1_weightOf_35 : decode cX1_weightOf 35 = .ok (.ireturn, 1) := by decide +kernel
theorem dX1_model_0 : decode cX1_model 0 = .ok (.iconst 0, 1) := by decide +kernel
theorem dX1_model_1 : decode cX1_model 1 = .ok (.istore_n 2, 1) := by decide +kernel
theorem dX1_model_2 : decode cX1_model 2 = .ok (.iconst 0, 1) := by decide +kernel
theorem dX1_model_3 : decode cX1_model 3 = .ok (.istore_n 3, 1) := by decide +kernel
theorem dX1_model_4 : decode cX1_model 4 = .ok (.iload_n 3, 1) := by decide +kernel
theorem dX1_model_5 : decode cX1_model 5 = .ok (.sipush 256, 3) := by decide +kernel
theorem dX1_model_8 : decode cX1_model 8 = .ok (.if_icmp .ge 27, 3) := by decide +kernel
theorem dX1_model_11 : decode cX1_model 11 = .ok (.aload_n 0, 1) := by decide +kernel
theorem dX1_model_12 : decode cX1_model 12 = .ok (.iload_n 3, 1) := by decide +kernel
theorem dX1_model_13 : decode cX1_model 13 = .ok (.invokevirtual 35, 3) := by decide +kernel
theorem dX1_model_16 : decode cX1_model 16 = .ok (.ifCond .eq 13, 3) := by decide +kernel
theorem dX1_model_19 : decode cX1_model 19 = .ok (.iload_n 2, 1) := by decide +kernel
theorem dX1_model_20 : decode cX1_model 20 = .ok (.iload_n 1, 1) := by decide +kernel
theorem dX1_model_21 : decode cX1_model 21 = .ok (.if_icmp .ne 5, 3) := by decide +kernel
theorem dX1_model_24 : decode cX1_model 24 = .ok (.iload_n 3, 1) := by decide +kernel
theorem dX1_model_25 : decode cX1_model 25 = .ok (.ireturn, 1) := by decide +kernel
theorem dX1_model_26 : decode cX1_model 26 = .ok (.iinc 2 1, 3) := by decide +kernel
theorem dX1_model_29 : decode cX1_model 29 = .ok (.iinc 3 1, 3) := by decide +kernel
theorem dX1_model_32 : decode cX1_model 32 = .ok (.goto (-28), 3) := by decide +kernel
theorem dX1_model_35 : decode cX1_model 35 = .ok (.bipush (-4), 2) := by decide +kernel
theorem dX1_model_37 : decode cX1_model 37 = .ok (.ireturn, 1) := by decide +kernel
theorem dX1_isModel_0 : decode cX1_isModel 0 = .ok (.iload_n 1, 1) := by decide +kernel
theorem dX1_isModel_1 : decode cX1_isModel 1 = .ok (.ifCond .lt 22, 3) := by decide +kernel
theorem dX1_isModel_4 : decode cX1_isModel 4 = .ok (.iload_n 1, 1) := by decide +kernel
theorem dX1_isModel_5 : decode cX1_isModel 5 = .ok (.sipush 255, 3) := by decide +kernel
theorem dX1_isModel_8 : decode cX1_isModel 8 = .ok (.if_icmp .gt 15, 3) := by decide +kernel
theorem dX1_isModel_11 : decode cX1_isModel 11 = .ok (.aload_n 0, 1) := by decide +kernel
theorem dX1_isModel_12 : decode cX1_isModel 12 = .ok (.iload_n 1, 1) := by decide +kernel
theorem dX1_isModel_13 : decode cX1_isModel 13 = .ok (.invokevirtual 35, 3) := by decide +kernel
theorem dX1_isModel_16 : decode cX1_isModel 16 = .ok (.ifCond .eq 7, 3) := by decide +kernel
theorem dX1_isModel_19 : decode cX1_isModel 19 = .ok (.iconst 1, 1) := by decide +kernel
theorem dX1_isModel_20 : decode cX1_isModel 20 = .ok (.goto 4, 3) := by decide +kernel
theorem dX1_isModel_23 : decode cX1_isModel 23 = .ok (.iconst 0, 1) := by decide +kernel
theorem dX1_isModel_24 : decode cX1_isModel 24 = .ok (.ireturn, 1) := by decide +kernel
theorem dX1_alwaysTrue_0 : decode cX1_alwaysTrue 0 = .ok (.sipush 255, 3) := by decide +kernel
theorem dX1_alwaysTrue_3 : decode cX1_alwaysTrue 3 = .ok (.istore_n 1, 1) := by decide +kernel
theorem dX1_alwaysTrue_4 : decode cX1_alwaysTrue 4 = .ok (.iconst 0, 1) := by decide +kernel
theorem dX1_alwaysTrue_5 : decode cX1_alwaysTrue 5 = .ok (.istore_n 2, 1) := by decide +kernel
theorem dX1_alwaysTrue_6 : decode cX1_alwaysTrue 6 = .ok (.iconst 0, 1) := by decide +kernel
theorem dX1_alwaysTrue_7 : decode cX1_alwaysTrue 7 = .ok (.istore_n 3, 1) := by decide +kernel
theorem dX1_alwaysTrue_8 : decode cX1_alwaysTrue 8 = .ok (.iload_n 3, 1) := by decide +kernel
theorem dX1_alwaysTrue_9 : decode cX1_alwaysTrue 9 = .ok (.sipush 256, 3) := by decide +kernel
theorem dX1_alwaysTrue_12 : decode cX1_alwaysTrue 12 = .ok (.if_icmp .ge 23, 3) := by decide +kernel
theorem dX1_alwaysTrue_15 : decode cX1_alwaysTrue 15 = .ok (.aload_n 0, 1) := by decide +kernel
theorem dX1_alwaysTrue_16 : decode cX1_alwaysTrue 16 = .ok (.iload_n 3, 1) := by decide +kernel
theorem dX1_alwaysTrue_17 : decode cX1_alwaysTrue 17 = .ok (.invokevirtual 35, 3) := by decide +kernel
theorem dX1_alwaysTrue_20 : decode cX1_alwaysTrue 20 = .ok (.ifCond .eq 9, 3) := by decide +kernel
theorem dX1_alwaysTrue_23 : decode cX1_alwaysTrue 23 = .ok (.iload_n 1, 1) := by decide +kernel
theorem dX1_alwaysTrue_24 : decode cX1_alwaysTrue 24 = .ok (.iload_n 3, 1) := by decide +kernel
theorem dX1_alwaysTrue_25 : decode cX1_alwaysTrue 25 = .ok (.iand, 1) := by decide +kernel
theorem dX1_alwaysTrue_26 : decode cX1_alwaysTrue 26 = .ok (.istore_n 1, 1) := by decide +kernel
theorem dX1_alwaysTrue_27 : decode cX1_alwaysTrue 27 = .ok (.iconst 1, 1) := by decide +kernel
theorem dX1_alwaysTrue_28 : decode cX1_alwaysTrue 28 = .ok (.istore_n 2, 1) := by decide +kernel
theorem dX1_alwaysTrue_29 : decode cX1_alwaysTrue 29 = .ok (.iinc 3 1, 3) := by decide +kernel
theorem dX1_alwaysTrue_32 : decode cX1_alwaysTrue 32 = .ok (.goto (-24), 3) := by decide +kernel
theorem dX1_alwaysTrue_35 : decode cX1_alwaysTrue 35 = .ok (.iload_n 2, 1) := by decide +kernel
theorem dX1_alwaysTrue_36 : decode cX1_alwaysTrue 36 = .ok (.ifCond .eq 7, 3) := by decide +kernel
theorem dX1_alwaysTrue_39 : decode cX1_alwaysTrue 39 = .ok (.iload_n 1, 1) := by decide +kernel
theorem dX1_alwaysTrue_40 : decode cX1_alwaysTrue 40 = .ok (.goto 5, 3) := by decide +kernel
theorem dX1_alwaysTrue_43 : decode cX1_alwaysTrue 43 = .ok (.bipush (-4), 2) := by decide +kernel
theorem dX1_alwaysTrue_45 : decode cX1_alwaysTrue 45 = .ok (.ireturn, 1) := by decide +kernel
theorem dX1_alwaysFalse_0 : decode cX1_alwaysFalse 0 = .ok (.iconst 0, 1) := by decide +kernel
theorem dX1_alwaysFalse_1 : decode cX1_alwaysFalse 1 = .ok (.istore_n 1, 1) := by decide +kernel
theorem dX1_alwaysFalse_2 : decode cX1_alwaysFalse 2 = .ok (.iconst 0, 1) := by decide +kernel
theorem dX1_alwaysFalse_3 : decode cX1_alwaysFalse 3 = .ok (.istore_n 2, 1) := by decide +kernel
theorem dX1_alwaysFalse_4 : decode cX1_alwaysFalse 4 = .ok (.iconst 0, 1) := by decide +kernel
theorem dX1_alwaysFalse_5 : decode cX1_alwaysFalse 5 = .ok (.istore_n 3, 1) := by decide +kernel
theorem dX1_alwaysFalse_6 : decode cX1_alwaysFalse 6 = .ok (.iload_n 3, 1) := by decide +kernel
theorem dX1_alwaysFalse_7 : decode cX1_alwaysFalse 7 = .ok (.sipush 256, 3) := by decide +kernel
theorem dX1_alwaysFalse_10 : decode cX1_alwaysFalse 10 = .ok (.if_icmp .ge 23, 3) := by decide +kernel
theorem dX1_alwaysFalse_13 : decode cX1_alwaysFalse 13 = .ok (.aload_n 0, 1) := by decide +kernel
theorem dX1_alwaysFalse_14 : decode cX1_alwaysFalse 14 = .ok (.iload_n 3, 1) := by decide +kernel
theorem dX1_alwaysFalse_15 : decode cX1_alwaysFalse 15 = .ok (.invokevirtual 35, 3) := by decide +kernel
theorem dX1_alwaysFalse_18 : decode cX1_alwaysFalse 18 = .ok (.ifCond .eq 9, 3) := by decide +kernel
theorem dX1_alwaysFalse_21 : decode cX1_alwaysFalse 21 = .ok (.iload_n 1, 1) := by decide +kernel
theorem dX1_alwaysFalse_22 : decode cX1_alwaysFalse 22 = .ok (.iload_n 3, 1) := by decide +kernel
theorem dX1_alwaysFalse_23 : decode cX1_alwaysFalse 23 = .ok (.ior, 1) := by decide +kernel
theorem dX1_alwaysFalse_24 : decode cX1_alwaysFalse 24 = .ok (.istore_n 1, 1) := by decide +kernel
theorem dX1_alwaysFalse_25 : decode cX1_alwaysFalse 25 = .ok (.iconst 1, 1) := by decide +kernel
theorem dX1_alwaysFalse_26 : decode cX1_alwaysFalse 26 = .ok (.istore_n 2, 1) := by decide +kernel
theorem dX1_alwaysFalse_27 : decode cX1_alwaysFalse 27 = .ok (.iinc 3 1, 3) := by decide +kernel
theorem dX1_alwaysFalse_30 : decode cX1_alwaysFalse 30 = .ok (.goto (-24), 3) := by decide +kernel
theorem dX1_alwaysFalse_33 : decode cX1_alwaysFalse 33 = .ok (.iload_n 2, 1) := by decide +kernel
theorem dX1_alwaysFalse_34 : decode cX1_alwaysFalse 34 = .ok (.ifCond .eq 11, 3) := by decide +kernel
theorem dX1_alwaysFalse_37 : decode cX1_alwaysFalse 37 = .ok (.sipush 255, 3) := by decide +kernel
theorem dX1_alwaysFalse_40 : decode cX1_alwaysFalse 40 = .ok (.iload_n 1, 1) := by decide +kernel
theorem dX1_alwaysFalse_41 : decode cX1_alwaysFalse 41 = .ok (.isub, 1) := by decide +kernel
theorem dX1_alwaysFalse_42 : decode cX1_alwaysFalse 42 = .ok (.goto 5, 3) := by decide +kernel
theorem dX1_alwaysFalse_45 : decode cX1_alwaysFalse 45 = .ok (.bipush (-4), 2) := by decide +kernel
theorem dX1_alwaysFalse_47 : decode cX1_alwaysFalse 47 = .ok (.ireturn, 1) := by decide +kernel
theorem dX1_idle_0 : decode cX1_idle 0 = .ok (.iconst 0, 1) := by decide +kernel
theorem dX1_idle_1 : decode cX1_idle 1 = .ok (.istore_n 1, 1) := by decide +kernel
theorem dX1_idle_2 : decode cX1_idle 2 = .ok (.iconst 0, 1) := by decide +kernel
theorem dX1_idle_3 : decode cX1_idle 3 = .ok (.istore_n 2, 1) := by decide +kernel
theorem dX1_idle_4 : decode cX1_idle 4 = .ok (.iload_n 2, 1) := by decide +kernel
theorem dX1_idle_5 : decode cX1_idle 5 = .ok (.bipush 8, 2) := by decide +kernel
theorem dX1_idle_7 : decode cX1_idle 7 = .ok (.if_icmp .ge 27, 3) := by decide +kernel
theorem dX1_idle_10 : decode cX1_idle 10 = .ok (.aload_n 0, 1) := by decide +kernel
theorem dX1_idle_11 : decode cX1_idle 11 = .ok (.iload_n 2, 1) := by decide +kernel
theorem dX1_idle_12 : decode cX1_idle 12 = .ok (.invokevirtual 48, 3) := by decide +kernel
theorem dX1_idle_15 : decode cX1_idle 15 = .ok (.ifCond .eq 11, 3) := by decide +kernel
theorem dX1_idle_18 : decode cX1_idle 18 = .ok (.iload_n 1, 1) := by decide +kernel
theorem dX1_idle_19 : decode cX1_idle 19 = .ok (.iconst 1, 1) := by decide +kernel
theorem dX1_idle_20 : decode cX1_idle 20 = .ok (.iload_n 2, 1) := by decide +kernel
theorem dX1_idle_21 : decode cX1_idle 21 = .ok (.ishl, 1) := by decide +kernel
theorem dX1_idle_22 : decode cX1_idle 22 = .ok (.ior, 1) := by decide +kernel
theorem dX1_idle_23 : decode cX1_idle 23 = .ok (.goto 4, 3) := by decide +kernel
theorem dX1_idle_26 : decode cX1_idle 26 = .ok (.iload_n 1, 1) := by decide +kernel
theorem dX1_idle_27 : decode cX1_idle 27 = .ok (.istore_n 1, 1) := by decide +kernel
theorem dX1_idle_28 : decode cX1_idle 28 = .ok (.iinc 2 1, 3) := by decide +kernel
theorem dX1_idle_31 : decode cX1_idle 31 = .ok (.goto (-27), 3) := by decide +kernel
theorem dX1_idle_34 : decode cX1_idle 34 = .ok (.iload_n 1, 1) := by decide +kernel
theorem dX1_idle_35 : decode cX1_idle 35 = .ok (.ireturn, 1) := by decide +kernel
theorem dX1_isIdle_0 : decode cX1_isIdle 0 = .ok (.iconst 0, 1) := by decide +kernel
theorem dX1_isIdle_1 : decode cX1_isIdle 1 = .ok (.istore_n 2, 1) := by decide +kernel
theorem dX1_isIdle_2 : decode cX1_isIdle 2 = .ok (.iload_n 2, 1) := by decide +kernel
theorem dX1_isIdle_3 : decode cX1_isIdle 3 = .ok (.sipush 256, 3) := by decide +kernel
theorem dX1_isIdle_6 : decode cX1_isIdle 6 = .ok (.if_icmp .ge 31, 3) := by decide +kernel
theorem dX1_isIdle_9 : decode cX1_isIdle 9 = .ok (.aload_n 0, 1) := by decide +kernel
theorem dX1_isIdle_10 : decode cX1_isIdle 10 = .ok (.iload_n 2, 1) := by decide +kernel
theorem dX1_isIdle_11 : decode cX1_isIdle 11 = .ok (.invokevirtual 35, 3) := by decide +kernel
theorem dX1_isIdle_14 : decode cX1_isIdle 14 = .ok (.ifCond .eq 17, 3) := by decide +kernel
theorem dX1_isIdle_17 : decode cX1_isIdle 17 = .ok (.aload_n 0, 1) := by decide +kernel
theorem dX1_isIdle_18 : decode cX1_isIdle 18 = .ok (.iload_n 2, 1) := by decide +kernel
theorem dX1_isIdle_19 : decode cX1_isIdle 19 = .ok (.iconst 1, 1) := by decide +kernel
theorem dX1_isIdle_20 : decode cX1_isIdle 20 = .ok (.iload_n 1, 1) := by decide +kernel
theorem dX1_isIdle_21 : decode cX1_isIdle 21 = .ok (.ishl, 1) := by decide +kernel
theorem dX1_isIdle_22 : decode cX1_isIdle 22 = .ok (.ixor, 1) := by decide +kernel
theorem dX1_isIdle_23 : decode cX1_isIdle 23 = .ok (.invokevirtual 35, 3) := by decide +kernel
theorem dX1_isIdle_26 : decode cX1_isIdle 26 = .ok (.ifCond .ne 5, 3) := by decide +kernel
theorem dX1_isIdle_29 : decode cX1_isIdle 29 = .ok (.iconst 0, 1) := by decide +kernel
theorem dX1_isIdle_30 : decode cX1_isIdle 30 = .ok (.ireturn, 1) := by decide +kernel
theorem dX1_isIdle_31 : decode cX1_isIdle 31 = .ok (.iinc 2 1, 3) := by decide +kernel
theorem dX1_isIdle_34 : decode cX1_isIdle 34 = .ok (.goto (-32), 3) := by decide +kernel
theorem dX1_isIdle_37 : decode cX1_isIdle 37 = .ok (.iconst 1, 1) := by decide +kernel
theorem dX1_isIdle_38 : decode cX1_isIdle 38 = .ok (.ireturn, 1) := by decide +kernel
theorem dX1_leastTrue_0 : decode cX1_leastTrue 0 = .ok (.iconst 0, 1) := by decide +kernel
theorem dX1_leastTrue_1 : decode cX1_leastTrue 1 = .ok (.istore_n 1, 1) := by decide +kernel
theorem dX1_leastTrue_2 : decode cX1_leastTrue 2 = .ok (.iload_n 1, 1) := by decide +kernel
theorem dX1_leastTrue_3 : decode cX1_leastTrue 3 = .ok (.bipush 9, 2) := by decide +kernel
theorem dX1_leastTrue_5 : decode cX1_leastTrue 5 = .ok (.if_icmp .ge 19, 3) := by decide +kernel
theorem dX1_leastTrue_8 : decode cX1_leastTrue 8 = .ok (.aload_n 0, 1) := by decide +kernel
theorem dX1_leastTrue_9 : decode cX1_leastTrue 9 = .ok (.iload_n 1, 1) := by decide +kernel
theorem dX1_leastTrue_10 : decode cX1_leastTrue 10 = .ok (.invokevirtual 51, 3) := by decide +kernel
theorem dX1_leastTrue_13 : decode cX1_leastTrue 13 = .ok (.ifCond .le 5, 3) := by decide +kernel
theorem dX1_leastTrue_16 : decode cX1_leastTrue 16 = .ok (.iload_n 1, 1) := by decide +kernel
theorem dX1_leastTrue_17 : decode cX1_leastTrue 17 = .ok (.ireturn, 1) := by decide +kernel
theorem dX1_leastTrue_18 : decode cX1_leastTrue 18 = .ok (.iinc 1 1, 3) := by decide +kernel
theorem dX1_leastTrue_21 : decode cX1_leastTrue 21 = .ok (.goto (-19), 3) := by decide +kernel
theorem dX1_leastTrue_24 : decode cX1_leastTrue 24 = .ok (.bipush (-4), 2) := by decide +kernel
theorem dX1_leastTrue_26 : decode cX1_leastTrue 26 = .ok (.ireturn, 1) := by decide +kernel
end
section
set_option maxRecDepth 100000
theorem dL_law_0 : decode cL_law 0 = .ok (.new 7, 3) := by decide +kernel
theorem dL_law_3 : decode cL_law 3 = .ok (.dup, 1) := by decide +kernel
theorem dL_law_4 : decode cL_law 4 = .ok (.invokespecial 9, 3) := by decide +kernel
theorem dL_law_7 : decode cL_law 7 = .ok (.astore_n 1, 1) := by decide +kernel
theorem dL_law_8 : decode cL_law 8 = .ok (.new 10, 3) := by decide +kernel
theorem dL_law_11 : decode cL_law 11 = .ok (.dup, 1) := by decide +kernel
theorem dL_law_12 : decode cL_law 12 = .ok (.invokespecial 12, 3) := by decide +kernel
theorem dL_law_15 : decode cL_law 15 = .ok (.astore_n 2, 1) := by decide +kernel
theorem dL_law_16 : decode cL_law 16 = .ok (.iconst 0, 1) := by decide +kernel
theorem dL_law_17 : decode cL_law 17 = .ok (.istore_n 3, 1) := by decide +kernel
theorem dL_law_18 : decode cL_law 18 = .ok (.iload_n 3, 1) := by decide +kernel
theorem dL_law_19 : decode cL_law 19 = .ok (.aload_n 0, 1) := by decide +kernel
theorem dL_law_20 : decode cL_law 20 = .ok (.arraylength, 1) := by decide +kernel
theorem dL_law_21 : decode cL_law 21 = .ok (.iconst 4, 1) := by decide +kernel
theorem dL_law_22 : decode cL_law 22 = .ok (.isub, 1) := by decide +kernel
theorem dL_law_23 : decode cL_law 23 = .ok (.if_icmp .gt 455, 3) := by decide +kernel
theorem dL_law_26 : decode cL_law 26 = .ok (.aload_n 0, 1) := by decide +kernel
theorem dL_law_27 : decode cL_law 27 = .ok (.iload_n 3, 1) := by decide +kernel
theorem dL_law_28 : decode cL_law 28 = .ok (.iaload, 1) := by decide +kernel
theorem dL_law_29 : decode cL_law 29 = .ok (.bipush 31, 2) := by decide +kernel
theorem dL_law_31 : decode cL_law 31 = .ok (.iand, 1) := by decide +kernel
theorem dL_law_32 : decode cL_law 32 = .ok (.tableswitch 440 0 17 #[88, 111, 122, 135, 148, 161, 204, 217, 250, 273, 286, 319, 342, 365, 388, 401, 414, 427], 88) := by decide +kernel
theorem dL_law_120 : decode cL_law 120 = .ok (.aload_n 1, 1) := by decide +kernel
theorem dL_law_121 : decode cL_law 121 = .ok (.aload_n 0, 1) := by decide +kernel
theorem dL_law_122 : decode cL_law 122 = .ok (.iload_n 3, 1) := by decide +kernel
theorem dL_law_123 : decode cL_law 123 = .ok (.iconst 1, 1) := by decide +kernel
theorem dL_law_124 : decode cL_law 124 = .ok (.iadd, 1) := by decide +kernel
theorem dL_law_125 : decode cL_law 125 = .ok (.iaload, 1) := by decide +kernel
theorem dL_law_126 : decode cL_law 126 = .ok (.invokevirtual 13, 3) := by decide +kernel
theorem dL_law_129 : decode cL_law 129 = .ok (.aload_n 2, 1) := by decide +kernel
theorem dL_law_130 : decode cL_law 130 = .ok (.aload_n 0, 1) := by decide +kernel
theorem dL_law_131 : decode cL_law 131 = .ok (.iload_n 3, 1) := by decide +kernel
theorem dL_law_132 : decode cL_law 132 = .ok (.iconst 1, 1) := by decide +kernel
theorem dL_law_133 : decode cL_law 133 = .ok (.iadd, 1) := by decide +kernel
theorem dL_law_134 : decode cL_law 134 = .ok (.iaload, 1) := by decide +kernel
theorem dL_law_135 : decode cL_law 135 = .ok (.invokevirtual 17, 3) := by decide +kernel
theorem dL_law_138 : decode cL_law 138 = .ok (.if_icmp .eq 334, 3) := by decide +kernel
theorem dL_law_141 : decode cL_law 141 = .ok (.iconst 0, 1) := by decide +kernel
theorem dL_law_142 : decode cL_law 142 = .ok (.ireturn, 1) := by decide +kernel
theorem dL_law_143 : decode cL_law 143 = .ok (.aload_n 1, 1) := by decide +kernel
theorem dL_law_144 : decode cL_law 144 = .ok (.invokevirtual 18, 3) := by decide +kernel
theorem dL_law_147 : decode cL_law 147 = .ok (.aload_n 2, 1) := by decide +kernel
theorem dL_law_148 : decode cL_law 148 = .ok (.invokevirtual 21, 3) := by decide +kernel
theorem dL_law_151 : decode cL_law 151 = .ok (.goto 321, 3) := by decide +kernel
theorem dL_law_154 : decode cL_law 154 = .ok (.aload_n 1, 1) := by decide +kernel
theorem dL_law_155 : decode cL_law 155 = .ok (.invokevirtual 22, 3) := by decide +kernel
theorem dL_law_158 : decode cL_law 158 = .ok (.aload_n 2, 1) := by decide +kernel
theorem dL_law_159 : decode cL_law 159 = .ok (.invokevirtual 26, 3) := by decide +kernel
theorem dL_law_162 : decode cL_law 162 = .ok (.if_icmp .eq 310, 3) := by decide +kernel
theorem dL_law_165 : decode cL_law 165 = .ok (.iconst 0, 1) := by decide +kernel
theorem dL_law_166 : decode cL_law 166 = .ok (.ireturn, 1) := by decide +kernel
theorem dL_law_167 : decode cL_law 167 = .ok (.aload_n 1, 1) := by decide +kernel
theorem dL_law_168 : decode cL_law 168 = .ok (.invokevirtual 27, 3) := by decide +kernel
theorem dL_law_171 : decode cL_law 171 = .ok (.aload_n 2, 1) := by decide +kernel
theorem dL_law_172 : decode cL_law 172 = .ok (.invokevirtual 30, 3) := by decide +kernel
theorem dL_law_175 : decode cL_law 175 = .ok (.if_icmp .eq 297, 3) := by decide +kernel
theorem dL_law_178 : decode cL_law 178 = .ok (.iconst 0, 1) := by decide +kernel
theorem dL_law_179 : decode cL_law 179 = .ok (.ireturn, 1) := by decide +kernel
theorem dL_law_180 : decode cL_law 180 = .ok (.aload_n 1, 1) := by decide +kernel
theorem dL_law_181 : decode cL_law 181 = .ok (.invokevirtual 31, 3) := by decide +kernel
theorem dL_law_184 : decode cL_law 184 = .ok (.aload_n 2, 1) := by decide +kernel
theorem dL_law_185 : decode cL_law 185 = .ok (.invokevirtual 34, 3) := by decide +kernel
theorem dL_law_188 : decode cL_law 188 = .ok (.if_icmp .eq 284, 3) := by decide +kernel
theorem dL_law_191 : decode cL_law 191 = .ok (.iconst 0, 1) := by decide +kernel
theorem dL_law_192 : decode cL_law 192 = .ok (.ireturn, 1) := by decide +kernel
theorem dL_law_193 : decode cL_law 193 = .ok (.aload_n 1, 1) := by decide +kernel
theorem dL_law_194 : decode cL_law 194 = .ok (.aload_n 0, 1) := by decide +kernel
theorem dL_law_195 : decode cL_law 195 = .ok (.iload_n 3, 1) := by decide +kernel
theorem dL_law_196 : decode cL_law 196 = .ok (.iconst 1, 1) := by decide +kernel
theorem dL_law_197 : decode cL_law 197 = .ok (.iadd, 1) := by decide +kernel
theorem dL_law_198 : decode cL_law 198 = .ok (.iaload, 1) := by decide +kernel
theorem dL_law_199 : decode cL_law 199 = .ok (.aload_n 0, 1) := by decide +kernel
theorem dL_law_200 : decode cL_law 200 = .ok (.iload_n 3, 1) := by decide +kernel
theorem dL_law_201 : decode cL_law 201 = .ok (.iconst 2, 1) := by decide +kernel
theorem dL_law_202 : decode cL_law 202 = .ok (.iadd, 1) := by decide +kernel
theorem dL_law_203 : decode cL_law 203 = .ok (.iaload, 1) := by decide +kernel
theorem dL_law_204 : decode cL_law 204 = .ok (.aload_n 0, 1) := by decide +kernel
theorem dL_law_205 : decode cL_law 205 = .ok (.iload_n 3, 1) := by decide +kernel
theorem dL_law_206 : decode cL_law 206 = .ok (.iconst 3, 1) := by decide +kernel
theorem dL_law_207 : decode cL_law 207 = .ok (.iadd, 1) := by decide +kernel
theorem dL_law_208 : decode cL_law 208 = .ok (.iaload, 1) := by decide +kernel
theorem dL_law_209 : decode cL_law 209 = .ok (.invokevirtual 35, 3) := by decide +kernel
theorem dL_law_212 : decode cL_law 212 = .ok (.aload_n 2, 1) := by decide +kernel
theorem dL_law_213 : decode cL_law 213 = .ok (.aload_n 0, 1) := by decide +kernel
theorem dL_law_214 : decode cL_law 214 = .ok (.iload_n 3, 1) := by decide +kernel
theorem dL_law_215 : decode cL_law 215 = .ok (.iconst 1, 1) := by decide +kernel
theorem dL_law_216 : decode cL_law 216 = .ok (.iadd, 1) := by decide +kernel
theorem dL_law_217 : decode cL_law 217 = .ok (.iaload, 1) := by decide +kernel
theorem dL_law_218 : decode cL_law 218 = .ok (.aload_n 0, 1) := by decide +kernel
theorem dL_law_219 : decode cL_law 219 = .ok (.iload_n 3, 1) := by decide +kernel
theorem dL_law_220 : decode cL_law 220 = .ok (.iconst 2, 1) := by decide +kernel
theorem dL_law_221 : decode cL_law 221 = .ok (.iadd, 1) := by decide +kernel
theorem dL_law_222 : decode cL_law 222 = .ok (.iaload, 1) := by decide +kernel
theorem dL_law_223 : decode cL_law 223 = .ok (.aload_n 0, 1) := by decide +kernel
theorem dL_law_224 : decode cL_law 224 = .ok (.iload_n 3, 1) := by decide +kernel
theorem dL_law_225 : decode cL_law 225 = .ok (.iconst 3, 1) := by decide +kernel
theorem dL_law_226 : decode cL_law 226 = .ok (.iadd, 1) := by decide +kernel
theorem dL_law_227 : decode cL_law 227 = .ok (.iaload, 1) := by decide +kernel
theorem dL_law_228 : decode cL_law 228 = .ok (.invokevirtual 39, 3) := by decide +kernel
theorem dL_law_231 : decode cL_law 231 = .ok (.if_icmp .eq 241, 3) := by decide +kernel
theorem dL_law_234 : decode cL_law 234 = .ok (.iconst 0, 1) := by decide +kernel
theorem dL_law_235 : decode cL_law 235 = .ok (.ireturn, 1) := by decide +kernel
theorem dL_law_236 : decode cL_law 236 = .ok (.aload_n 1, 1) := by decide +kernel
theorem dL_law_237 : decode cL_law 237 = .ok (.invokevirtual 40, 3) := by decide +kernel
theorem dL_law_240 : decode cL_law 240 = .ok (.aload_n 2, 1) := by decide +kernel
theorem dL_law_241 : decode cL_law 241 = .ok (.invokevirtual 43, 3) := by decide +kernel
theorem dL_law_244 : decode cL_law 244 = .ok (.if_icmp .eq 228, 3) := by decide +kernel
theorem dL_law_247 : decode cL_law 247 = .ok (.iconst 0, 1) := by decide +kernel
theorem dL_law_248 : decode cL_law 248 = .ok (.ireturn, 1) := by decide +kernel
theorem dL_law_249 : decode cL_law 249 = .ok (.aload_n 1, 1) := by decide +kernel
theorem dL_law_250 : decode cL_law 250 = .ok (.aload_n 0, 1) := by decide +kernel
theorem dL_law_251 : decode cL_law 251 = .ok (.iload_n 3, 1) := by decide +kernel
theorem dL_law_252 : decode cL_law 252 = .ok (.iconst 1, 1) := by decide +kernel
theorem dL_law_253 : decode cL_law 253 = .ok (.iadd, 1) := by decide +kernel
theorem dL_law_254 : decode cL_law 254 = .ok (.iaload, 1) := by decide +kernel
theorem dL_law_255 : decode cL_law 255 = .ok (.aload_n 0, 1) := by decide +kernel
theorem dL_law_256 : decode cL_law 256 = .ok (.iload_n 3, 1) := by decide +kernel
theorem dL_law_257 : decode cL_law 257 = .ok (.iconst 2, 1) := by decide +kernel
theorem dL_law_258 : decode cL_law 258 = .ok (.iadd, 1) := by decide +kernel
theorem dL_law_259 : decode cL_law 259 = .ok (.iaload, 1) := by decide +kernel
theorem dL_law_260 : decode cL_law 260 = .ok (.invokevirtual 44, 3) := by decide +kernel
theorem dL_law_263 : decode cL_law 263 = .ok (.aload_n 2, 1) := by decide +kernel
theorem dL_law_264 : decode cL_law 264 = .ok (.aload_n 0, 1) := by decide +kernel
theorem dL_law_265 : decode cL_law 265 = .ok (.iload_n 3, 1) := by decide +kernel
theorem dL_law_266 : decode cL_law 266 = .ok (.iconst 1, 1) := by decide +kernel
theorem dL_law_267 : decode cL_law 267 = .ok (.iadd, 1) := by decide +kernel
theorem dL_law_268 : decode cL_law 268 = .ok (.iaload, 1) := by decide +kernel
theorem dL_law_269 : decode cL_law 269 = .ok (.aload_n 0, 1) := by decide +kernel
theorem dL_law_270 : decode cL_law 270 = .ok (.iload_n 3, 1) := by decide +kernel
theorem dL_law_271 : decode cL_law 271 = .ok (.iconst 2, 1) := by decide +kernel
theorem dL_law_272 : decode cL_law 272 = .ok (.iadd, 1) := by decide +kernel
theorem dL_law_273 : decode cL_law 273 = .ok (.iaload, 1) := by decide +kernel
theorem dL_law_274 : decode cL_law 274 = .ok (.invokevirtual 48, 3) := by decide +kernel
theorem dL_law_277 : decode cL_law 277 = .ok (.if_icmp .eq 195, 3) := by decide +kernel
theorem dL_law_280 : decode cL_law 280 = .ok (.iconst 0, 1) := by decide +kernel
theorem dL_law_281 : decode cL_law 281 = .ok (.ireturn, 1) := by decide +kernel
theorem dL_law_282 : decode cL_law 282 = .ok (.aload_n 1, 1) := by decide +kernel
theorem dL_law_283 : decode cL_law 283 = .ok (.aload_n 0, 1) := by decide +kernel
theorem dL_law_284 : decode cL_law 284 = .ok (.iload_n 3, 1) := by decide +kernel
theorem dL_law_285 : decode cL_law 285 = .ok (.iconst 1, 1) := by decide +kernel
theorem dL_law_286 : decode cL_law 286 = .ok (.iadd, 1) := by decide +kernel
theorem dL_law_287 : decode cL_law 287 = .ok (.iaload, 1) := by decide +kernel
theorem dL_law_288 : decode cL_law 288 = .ok (.invokevirtual 49, 3) := by decide +kernel
theorem dL_law_291 : decode cL_law 291 = .ok (.aload_n 2, 1) := by decide +kernel
theorem dL_law_292 : decode cL_law 292 = .ok (.aload_n 0, 1) := by decide +kernel
theorem dL_law_293 : decode cL_law 293 = .ok (.iload_n 3, 1) := by decide +kernel
theorem dL_law_294 : decode cL_law 294 = .ok (.iconst 1, 1) := by decide +kernel
theorem dL_law_295 : decode cL_law 295 = .ok (.iadd, 1) := by decide +kernel
theorem dL_law_296 : decode cL_law 296 = .ok (.iaload, 1) := by decide +kernel
theorem dL_law_297 : decode cL_law 297 = .ok (.invokevirtual 52, 3) := by decide +kernel
theorem dL_law_300 : decode cL_law 300 = .ok (.if_icmp .eq 172, 3) := by decide +kernel
theorem dL_law_303 : decode cL_law 303 = .ok (.iconst 0, 1) := by decide +kernel
theorem dL_law_304 : decode cL_law 304 = .ok (.ireturn, 1) := by decide +kernel
theorem dL_law_305 : decode cL_law 305 = .ok (.aload_n 1, 1) := by decide +kernel
theorem dL_law_306 : decode cL_law 306 = .ok (.invokevirtual 53, 3) := by decide +kernel
theorem dL_law_309 : decode cL_law 309 = .ok (.aload_n 2, 1) := by decide +kernel
theorem dL_law_310 : decode cL_law 310 = .ok (.invokevirtual 56, 3) := by decide +kernel
theorem dL_law_313 : decode cL_law 313 = .ok (.if_icmp .eq 159, 3) := by decide +kernel
theorem dL_law_316 : decode cL_law 316 = .ok (.iconst 0, 1) := by decide +kernel
theorem dL_law_317 : decode cL_law 317 = .ok (.ireturn, 1) := by decide +kernel
theorem dL_law_318 : decode cL_law 318 = .ok (.aload_n 1, 1) := by decide +kernel
theorem dL_law_319 : decode cL_law 319 = .ok (.aload_n 0, 1) := by decide +kernel
theorem dL_law_320 : decode cL_law 320 = .ok (.iload_n 3, 1) := by decide +kernel
theorem dL_law_321 : decode cL_law 321 = .ok (.iconst 1, 1) := by decide +kernel
theorem dL_law_322 : decode cL_law 322 = .ok (.iadd, 1) := by decide +kernel
theorem dL_law_323 : decode cL_law 323 = .ok (.iaload, 1) := by decide +kernel
theorem dL_law_324 : decode cL_law 324 = .ok (.aload_n 0, 1) := by decide +kernel
theorem dL_law_325 : decode cL_law 325 = .ok (.iload_n 3, 1) := by decide +kernel
theorem dL_law_326 : decode cL_law 326 = .ok (.iconst 2, 1) := by decide +kernel
theorem dL_law_327 : decode cL_law 327 = .ok (.iadd, 1) := by decide +kernel
theorem dL_law_328 : decode cL_law 328 = .ok (.iaload, 1) := by decide +kernel
theorem dL_law_329 : decode cL_law 329 = .ok (.invokevirtual 57, 3) := by decide +kernel
theorem dL_law_332 : decode cL_law 332 = .ok (.aload_n 2, 1) := by decide +kernel
theorem dL_law_333 : decode cL_law 333 = .ok (.aload_n 0, 1) := by decide +kernel
theorem dL_law_334 : decode cL_law 334 = .ok (.iload_n 3, 1) := by decide +kernel
theorem dL_law_335 : decode cL_law 335 = .ok (.iconst 1, 1) := by decide +kernel
theorem dL_law_336 : decode cL_law 336 = .ok (.iadd, 1) := by decide +kernel
theorem dL_law_337 : decode cL_law 337 = .ok (.iaload, 1) := by decide +kernel
theorem dL_law_338 : decode cL_law 338 = .ok (.aload_n 0, 1) := by decide +kernel
theorem dL_law_339 : decode cL_law 339 = .ok (.iload_n 3, 1) := by decide +kernel
theorem dL_law_340 : decode cL_law 340 = .ok (.iconst 2, 1) := by decide +kernel
theorem dL_law_341 : decode cL_law 341 = .ok (.iadd, 1) := by decide +kernel
theorem dL_law_342 : decode cL_law 342 = .ok (.iaload, 1) := by decide +kernel
theorem dL_law_343 : decode cL_law 343 = .ok (.invokevirtual 60, 3) := by decide +kernel
theorem dL_law_346 : decode cL_law 346 = .ok (.if_icmp .eq 126, 3) := by decide +kernel
theorem dL_law_349 : decode cL_law 349 = .ok (.iconst 0, 1) := by decide +kernel
theorem dL_law_350 : decode cL_law 350 = .ok (.ireturn, 1) := by decide +kernel
theorem dL_law_351 : decode cL_law 351 = .ok (.aload_n 1, 1) := by decide +kernel
theorem dL_law_352 : decode cL_law 352 = .ok (.aload_n 0, 1) := by decide +kernel
theorem dL_law_353 : decode cL_law 353 = .ok (.iload_n 3, 1) := by decide +kernel
theorem dL_law_354 : decode cL_law 354 = .ok (.iconst 1, 1) := by decide +kernel
theorem dL_law_355 : decode cL_law 355 = .ok (.iadd, 1) := by decide +kernel
theorem dL_law_356 : decode cL_law 356 = .ok (.iaload, 1) := by decide +kernel
theorem dL_law_357 : decode cL_law 357 = .ok (.invokevirtual 61, 3) := by decide +kernel
theorem dL_law_360 : decode cL_law 360 = .ok (.aload_n 2, 1) := by decide +kernel
theorem dL_law_361 : decode cL_law 361 = .ok (.aload_n 0, 1) := by decide +kernel
theorem dL_law_362 : decode cL_law 362 = .ok (.iload_n 3, 1) := by decide +kernel
theorem dL_law_363 : decode cL_law 363 = .ok (.iconst 1, 1) := by decide +kernel
theorem dL_law_364 : decode cL_law 364 = .ok (.iadd, 1) := by decide +kernel
theorem dL_law_365 : decode cL_law 365 = .ok (.iaload, 1) := by decide +kernel
theorem dL_law_366 : decode cL_law 366 = .ok (.invokevirtual 64, 3) := by decide +kernel
theorem dL_law_369 : decode cL_law 369 = .ok (.if_icmp .eq 103, 3) := by decide +kernel
theorem dL_law_372 : decode cL_law 372 = .ok (.iconst 0, 1) := by decide +kernel
theorem dL_law_373 : decode cL_law 373 = .ok (.ireturn, 1) := by decide +kernel
theorem dL_law_374 : decode cL_law 374 = .ok (.aload_n 1, 1) := by decide +kernel
theorem dL_law_375 : decode cL_law 375 = .ok (.aload_n 0, 1) := by decide +kernel
theorem dL_law_376 : decode cL_law 376 = .ok (.iload_n 3, 1) := by decide +kernel
theorem dL_law_377 : decode cL_law 377 = .ok (.iconst 1, 1) := by decide +kernel
theorem dL_law_378 : decode cL_law 378 = .ok (.iadd, 1) := by decide +kernel
theorem dL_law_379 : decode cL_law 379 = .ok (.iaload, 1) := by decide +kernel
theorem dL_law_380 : decode cL_law 380 = .ok (.invokevirtual 65, 3) := by decide +kernel
theorem dL_law_383 : decode cL_law 383 = .ok (.aload_n 2, 1) := by decide +kernel
theorem dL_law_384 : decode cL_law 384 = .ok (.aload_n 0, 1) := by decide +kernel
theorem dL_law_385 : decode cL_law 385 = .ok (.iload_n 3, 1) := by decide +kernel
theorem dL_law_386 : decode cL_law 386 = .ok (.iconst 1, 1) := by decide +kernel
theorem dL_law_387 : decode cL_law 387 = .ok (.iadd, 1) := by decide +kernel
theorem dL_law_388 : decode cL_law 388 = .ok (.iaload, 1) := by decide +kernel
theorem dL_law_389 : decode cL_law 389 = .ok (.invokevirtual 68, 3) := by decide +kernel
theorem dL_law_392 : decode cL_law 392 = .ok (.if_icmp .eq 80, 3) := by decide +kernel
theorem dL_law_395 : decode cL_law 395 = .ok (.iconst 0, 1) := by decide +kernel
theorem dL_law_396 : decode cL_law 396 = .ok (.ireturn, 1) := by decide +kernel
theorem dL_law_397 : decode cL_law 397 = .ok (.aload_n 1, 1) := by decide +kernel
theorem dL_law_398 : decode cL_law 398 = .ok (.aload_n 0, 1) := by decide +kernel
theorem dL_law_399 : decode cL_law 399 = .ok (.iload_n 3, 1) := by decide +kernel
theorem dL_law_400 : decode cL_law 400 = .ok (.iconst 1, 1) := by decide +kernel
theorem dL_law_401 : decode cL_law 401 = .ok (.iadd, 1) := by decide +kernel
theorem dL_law_402 : decode cL_law 402 = .ok (.iaload, 1) := by decide +kernel
theorem dL_law_403 : decode cL_law 403 = .ok (.invokevirtual 69, 3) := by decide +kernel
theorem dL_law_406 : decode cL_law 406 = .ok (.aload_n 2, 1) := by decide +kernel
theorem dL_law_407 : decode cL_law 407 = .ok (.aload_n 0, 1) := by decide +kernel
theorem dL_law_408 : decode cL_law 408 = .ok (.iload_n 3, 1) := by decide +kernel
theorem dL_law_409 : decode cL_law 409 = .ok (.iconst 1, 1) := by decide +kernel
theorem dL_law_410 : decode cL_law 410 = .ok (.iadd, 1) := by decide +kernel
theorem dL_law_411 : decode cL_law 411 = .ok (.iaload, 1) := by decide +kernel
theorem dL_law_412 : decode cL_law 412 = .ok (.invokevirtual 73, 3) := by decide +kernel
theorem dL_law_415 : decode cL_law 415 = .ok (.if_icmp .eq 57, 3) := by decide +kernel
theorem dL_law_418 : decode cL_law 418 = .ok (.iconst 0, 1) := by decide +kernel
theorem dL_law_419 : decode cL_law 419 = .ok (.ireturn, 1) := by decide +kernel
theorem dL_law_420 : decode cL_law 420 = .ok (.aload_n 1, 1) := by decide +kernel
theorem dL_law_421 : decode cL_law 421 = .ok (.invokevirtual 74, 3) := by decide +kernel
theorem dL_law_424 : decode cL_law 424 = .ok (.aload_n 2, 1) := by decide +kernel
theorem dL_law_425 : decode cL_law 425 = .ok (.invokevirtual 77, 3) := by decide +kernel
theorem dL_law_428 : decode cL_law 428 = .ok (.if_icmp .eq 44, 3) := by decide +kernel
theorem dL_law_431 : decode cL_law 431 = .ok (.iconst 0, 1) := by decide +kernel
theorem dL_law_432 : decode cL_law 432 = .ok (.ireturn, 1) := by decide +kernel
theorem dL_law_433 : decode cL_law 433 = .ok (.aload_n 1, 1) := by decide +kernel
theorem dL_law_434 : decode cL_law 434 = .ok (.invokevirtual 78, 3) := by decide +kernel
theorem dL_law_437 : decode cL_law 437 = .ok (.aload_n 2, 1) := by decide +kernel
theorem dL_law_438 : decode cL_law 438 = .ok (.invokevirtual 81, 3) := by decide +kernel
theorem dL_law_441 : decode cL_law 441 = .ok (.if_icmp .eq 31, 3) := by decide +kernel
theorem dL_law_444 : decode cL_law 444 = .ok (.iconst 0, 1) := by decide +kernel
theorem dL_law_445 : decode cL_law 445 = .ok (.ireturn, 1) := by decide +kernel
theorem dL_law_446 : decode cL_law 446 = .ok (.aload_n 1, 1) := by decide +kernel
theorem dL_law_447 : decode cL_law 447 = .ok (.invokevirtual 82, 3) := by decide +kernel
theorem dL_law_450 : decode cL_law 450 = .ok (.aload_n 2, 1) := by decide +kernel
theorem dL_law_451 : decode cL_law 451 = .ok (.invokevirtual 85, 3) := by decide +kernel
theorem dL_law_454 : decode cL_law 454 = .ok (.if_icmp .eq 18, 3) := by decide +kernel
theorem dL_law_457 : decode cL_law 457 = .ok (.iconst 0, 1) := by decide +kernel
theorem dL_law_458 : decode cL_law 458 = .ok (.ireturn, 1) := by decide +kernel
theorem dL_law_459 : decode cL_law 459 = .ok (.aload_n 1, 1) := by decide +kernel
theorem dL_law_460 : decode cL_law 460 = .ok (.invokevirtual 86, 3) := by decide +kernel
theorem dL_law_463 : decode cL_law 463 = .ok (.aload_n 2, 1) := by decide +kernel
theorem dL_law_464 : decode cL_law 464 = .ok (.invokevirtual 89, 3) := by decide +kernel
theorem dL_law_467 : decode cL_law 467 = .ok (.if_icmp .eq 5, 3) := by decide +kernel
theorem dL_law_470 : decode cL_law 470 = .ok (.iconst 0, 1) := by decide +kernel
theorem dL_law_471 : decode cL_law 471 = .ok (.ireturn, 1) := by decide +kernel
theorem dL_law_472 : decode cL_law 472 = .ok (.iinc 3 4, 3) := by decide +kernel
theorem dL_law_475 : decode cL_law 475 = .ok (.goto (-457), 3) := by decide +kernel
theorem dL_law_478 : decode cL_law 478 = .ok (.iconst 1, 1) := by decide +kernel
theorem dL_law_479 : decode cL_law 479 = .ok (.ireturn, 1) := by decide +kernel
end
section
/-! STARTING TEXT: pasted from kit/laws (BITS, COUNTS, NUMBERS) -/
/-! ===== Int32 by its bits: bt x i ===== -/
def bt (x : Int32) (i : Nat) : Bool := x.toBitVec.getLsbD i
theorem b_ext {x y : Int32} (h : ∀ i, i < 32 → bt x i = bt y i) : x = y := Int32.toBitVec_inj.mp (BitVec.eq_of_getLsbD_eq (fun i hi => h i hi))
theorem b_or (x y : Int32) (i : Nat) : bt (x ||| y) i = (bt x i || bt y i) := by unfold bt; rw [Int32.toBitVec_or, BitVec.getLsbD_or]
theorem b_and (x y : Int32) (i : Nat) : bt (x &&& y) i = (bt x i && bt y i) := by unfold bt; rw [Int32.toBitVec_and, BitVec.getLsbD_and]
theorem b_xor (x y : Int32) (i : Nat) : bt (x ^^^ y) i = (bt x i ^^ bt y i) := by unfold bt; rw [Int32.toBitVec_xor, BitVec.getLsbD_xor]
theorem b_big {x : Int32} {i : Nat} (h : 32 ≤ i) : bt x i = false := BitVec.getLsbD_of_ge _ _ h
theorem b_255 (i : Nat) : bt 255 i = decide (i < 8) := by
  rcases Nat.lt_or_ge i 32 with h | h
  · exact (by decide +kernel : ∀ i, i < 32 → bt 255 i = decide (i < 8)) i h
  · rw [b_big h, decide_eq_false (by omega)]
theorem b_65535 (i : Nat) : bt 65535 i = decide (i < 16) := by
  rcases Nat.lt_or_ge i 32 with h | h
  · exact (by decide +kernel : ∀ i, i < 32 → bt 65535 i = decide (i < 16)) i h
  · rw [b_big h, decide_eq_false (by omega)]
theorem b_m1 : ∀ i, i < 32 → bt (-1) i = true := by decide +kernel
theorem b_0 (i : Nat) : bt 0 i = false := BitVec.getLsbD_zero
theorem s_l : ∀ n, n < 32 → ((nI n &&& 31).toBitVec.smod 32).toNat = n := by decide +kernel
theorem s_u : ∀ n, n < 32 → (((nI n).toUInt32 &&& Int32.toUInt32 31).toBitVec % 32).toNat = n := by decide +kernel
theorem b_shl (n : Nat) (hn : n < 32) (x : Int32) {i : Nat} (hi : i < 32) : bt (x <<< (nI n &&& 31)) i = (decide (n ≤ i) && bt x (i - n)) := by
  unfold bt
  rw [Int32.toBitVec_shiftLeft]
  show (x.toBitVec <<< ((nI n &&& 31).toBitVec.smod 32).toNat).getLsbD i = _
  rw [s_l n hn, BitVec.getLsbD_shiftLeft]
  rcases Nat.lt_or_ge i n with h | h
  · simp [h, Nat.not_le.mpr h]
  · simp [hi, h, Nat.not_lt.mpr h]
theorem b_ushr (n : Nat) (hn : n < 32) (x : Int32) (i : Nat) : bt ((x.toUInt32 >>> ((nI n).toUInt32 &&& Int32.toUInt32 31)).toInt32) i = bt x (n + i) := by
  show (x.toUInt32 >>> ((nI n).toUInt32 &&& Int32.toUInt32 31)).toBitVec.getLsbD i = x.toUInt32.toBitVec.getLsbD (n + i)
  rw [UInt32.toBitVec_shiftRight]
  show (x.toUInt32.toBitVec >>> (((nI n).toUInt32 &&& Int32.toUInt32 31).toBitVec % 32).toNat).getLsbD i = _
  rw [s_u n hn, BitVec.getLsbD_ushiftRight]
theorem b_sshr (n : Nat) (hn : n < 32) (x : Int32) {i : Nat} (hi : i < 32) : bt (x >>> (nI n &&& 31)) i = if n + i < 32 then bt x (n + i) else bt x 31 := by
  unfold bt
  rw [Int32.toBitVec_shiftRight]
  show (x.toBitVec.sshiftRight ((nI n &&& 31).toBitVec.smod 32).toNat).getLsbD i = _
  rw [s_l n hn, BitVec.getLsbD_sshiftRight, BitVec.msb_eq_getLsbD_last]
  simp [hi]
theorem b_shl8 (x : Int32) {i : Nat} (hi : i < 32) : bt (x <<< ((8 : Int32) &&& 31)) i = (decide (8 ≤ i) && bt x (i - 8)) := b_shl 8 (by omega) x hi
theorem b_shl16 (x : Int32) {i : Nat} (hi : i < 32) : bt (x <<< ((16 : Int32) &&& 31)) i = (decide (16 ≤ i) && bt x (i - 16)) := b_shl 16 (by omega) x hi
theorem b_shl24 (x : Int32) {i : Nat} (hi : i < 32) : bt (x <<< ((24 : Int32) &&& 31)) i = (decide (24 ≤ i) && bt x (i - 24)) := b_shl 24 (by omega) x hi
theorem b_sshr8 (x : Int32) {i : Nat} (hi : i < 32) : bt (x >>> ((8 : Int32) &&& 31)) i = if 8 + i < 32 then bt x (8 + i) else bt x 31 := b_sshr 8 (by omega) x hi
/-! ===== how many places have a property ===== -/
def fb_ct (p : Nat → Bool) : Nat → Nat
  | 0 => 0
  | n + 1 => fb_ct p n + (if p n then 1 else 0)
theorem fb_ct_succ (p : Nat → Bool) (n : Nat) : fb_ct p (n + 1) = fb_ct p n + (if p n then 1 else 0) := rfl
theorem fb_ct_le (p : Nat → Bool) : ∀ n, fb_ct p n ≤ n
  | 0 => Nat.le_refl _
  | n + 1 => by
    have h := fb_ct_le p n
    rw [fb_ct_succ]
    split <;> omega
theorem fb_ct_step (p : Nat → Bool) (m : Nat) : ∀ n, fb_ct p m ≤ fb_ct p (m + n)
  | 0 => Nat.le_refl _
  | n + 1 => by
    have h := fb_ct_step p m n
    show fb_ct p m ≤ fb_ct p (m + n + 1)
    rw [fb_ct_succ]
    omega
theorem fb_ct_mono (p : Nat → Bool) {m n : Nat} (h : m ≤ n) : fb_ct p m ≤ fb_ct p n := by
  have := fb_ct_step p m (n - m)
  rwa [Nat.add_sub_cancel' h] at this
theorem fb_ct_cong {p q : Nat → Bool} : ∀ {n : Nat}, (∀ k, k < n → p k = q k) → fb_ct p n = fb_ct q n
  | 0, _ => rfl
  | n + 1, h => by
    rw [fb_ct_succ, fb_ct_succ, fb_ct_cong (fun k hk => h k (by omega)), h n (by omega)]
/-- one place changed -/
theorem fb_ct_out (p : Nat → Bool) (b : Bool) {i n : Nat} (h : n ≤ i) : fb_ct (fun k => if k = i then b else p k) n = fb_ct p n :=
  fb_ct_cong fun k hk => if_neg (by omega)
theorem fb_ct_upd (p : Nat → Bool) (b : Bool) {i : Nat} : ∀ {n : Nat}, i < n → fb_ct (fun k => if k = i then b else p k) n + (if p i then 1 else 0) = fb_ct p n + (if b then 1 else 0)
  | 0, h => absurd h (Nat.not_lt_zero i)
  | n + 1, h => by
    rw [fb_ct_succ, fb_ct_succ]
    rcases Nat.lt_or_ge i n with q | q
    · have := fb_ct_upd p b q
      have e : (if n = i then b else p n) = p n := if_neg (by omega)
      rw [e]
      omega
    · have e : i = n := by omega
      subst e
      rw [fb_ct_out p b (Nat.le_refl _)]
      simp only [if_true]
      omega
theorem fb_ct_sub {p q : Nat → Bool} : ∀ {n : Nat}, (∀ k, k < n → p k = true → q k = true) → fb_ct p n ≤ fb_ct q n
  | 0, _ => Nat.le_refl _
  | n + 1, h => by
    have h1 := fb_ct_sub (n := n) (p := p) (q := q) (fun k hk => h k (by omega))
    have h2 := h n (by omega)
    rw [fb_ct_succ, fb_ct_succ]
    cases hp : p n <;> cases hq : q n <;> simp_all <;> omega
theorem fb_ct_or {p q : Nat → Bool} : ∀ {n : Nat}, (∀ k, k < n → ¬ (p k = true ∧ q k = true)) → fb_ct (fun k => p k || q k) n = fb_ct p n + fb_ct q n
  | 0, _ => rfl
  | n + 1, h => by
    have h1 := fb_ct_or (n := n) (p := p) (q := q) (fun k hk => h k (by omega))
    have h2 := h n (by omega)
    rw [fb_ct_succ, fb_ct_succ, fb_ct_succ, h1]
    cases hp : p n <;> cases hq : q n <;> simp_all <;> omega
theorem fb_ct_not (p : Nat → Bool) : ∀ n, fb_ct p n + fb_ct (fun k => !p k) n = n
  | 0 => rfl
  | n + 1 => by
    have h := fb_ct_not p n
    rw [fb_ct_succ, fb_ct_succ]
    cases p n <;> simp <;> omega
theorem fb_ct_split (p : Nat → Bool) (m : Nat) : ∀ n, fb_ct p (m + n) = fb_ct p m + fb_ct (fun k => p (m + k)) n
  | 0 => rfl
  | n + 1 => by
    have h := fb_ct_split p m n
    show fb_ct p (m + n + 1) = _
    rw [fb_ct_succ, fb_ct_succ, h, Nat.add_assoc]
theorem fb_ct_zero {p : Nat → Bool} : ∀ {n : Nat}, fb_ct p n = 0 ↔ ∀ k, k < n → p k = false
  | 0 => ⟨fun _ k hk => absurd hk (Nat.not_lt_zero k), fun _ => rfl⟩
  | n + 1 => by
    have h := fb_ct_zero (p := p) (n := n)
    rw [fb_ct_succ]
    constructor
    · intro e k hk
      have e1 : fb_ct p n = 0 := by omega
      rcases Nat.lt_or_ge k n with q | q
      · exact h.mp e1 k q
      · have ek : k = n := by omega
        subst ek
        cases hp : p k
        · rfl
        · simp [hp] at e
    · intro a
      rw [h.mpr (fun k hk => a k (by omega)), a n (by omega)]
      rfl
theorem fb_ct_pos {p : Nat → Bool} {n : Nat} : 0 < fb_ct p n ↔ ∃ k, k < n ∧ p k = true := by
  constructor
  · intro h
    refine Classical.byContradiction fun hx => ?_
    have := fb_ct_zero.mpr (fun k hk => by
      cases hp : p k
      · rfl
      · exact absurd ⟨k, hk, hp⟩ hx : ∀ k, k < n → p k = false)
    omega
  · rintro ⟨k, hk, hp⟩
    rcases Nat.eq_zero_or_pos (fb_ct p n) with e | e
    · have := fb_ct_zero.mp e k hk
      rw [this] at hp
      cases hp
    · exact e
theorem fb_ct_all {p : Nat → Bool} {n : Nat} : fb_ct p n = n ↔ ∀ k, k < n → p k = true := by
  have h := fb_ct_not p n
  constructor
  · intro e k hk
    have z : fb_ct (fun k => !p k) n = 0 := by omega
    have := fb_ct_zero.mp z k hk
    cases hp : p k
    · simp [hp] at this
    · rfl
  · intro a
    have z : fb_ct (fun k => !p k) n = 0 := fb_ct_zero.mpr (fun k hk => by simp [a k hk])
    omega
/-- the k-th place with the property -/
theorem fb_ct_kth {p : Nat → Bool} {k : Nat} : ∀ {n : Nat}, k < fb_ct p n → ∃ i, i < n ∧ p i = true ∧ fb_ct p i = k
  | 0, h => absurd h (Nat.not_lt_zero k)
  | n + 1, h => by
    rcases Nat.lt_or_ge k (fb_ct p n) with q | q
    · obtain ⟨i, h1, h2⟩ := fb_ct_kth q
      exact ⟨i, by omega, h2⟩
    · rw [fb_ct_succ] at h
      cases hp : p n
      · simp [hp] at h; omega
      · simp [hp] at h
        exact ⟨n, by omega, hp, by omega⟩
theorem fb_ct_kth_one {p : Nat → Bool} {i j : Nat} (hi : p i = true) (hj : p j = true) (e : fb_ct p i = fb_ct p j) : i = j := by
  have key : ∀ a b : Nat, a < b → p a = true → fb_ct p a < fb_ct p b := by
    intro a b hab ha
    have h := fb_ct_mono p (show a + 1 ≤ b from hab)
    rw [fb_ct_succ, ha] at h
    simp at h
    omega
  rcases Nat.lt_trichotomy i j with q | q | q
  · have := key i j q hi; omega
  · exact q
  · have := key j i q hj; omega
/-! ===== sums over a range: one place changed, parts, bounds ===== -/
def fb_sm (f : Nat → Nat) : Nat → Nat
  | 0 => 0
  | n + 1 => fb_sm f n + f n
theorem fb_sm_succ (f : Nat → Nat) (n : Nat) : fb_sm f (n + 1) = fb_sm f n + f n := rfl
theorem fb_sm_cong {f g : Nat → Nat} : ∀ {n : Nat}, (∀ k, k < n → f k = g k) → fb_sm f n = fb_sm g n
  | 0, _ => rfl
  | n + 1, h => by rw [fb_sm_succ, fb_sm_succ, fb_sm_cong (fun k hk => h k (by omega)), h n (by omega)]
theorem fb_sm_out (f : Nat → Nat) (v : Nat) {i n : Nat} (h : n ≤ i) : fb_sm (fun k => if k = i then v else f k) n = fb_sm f n :=
  fb_sm_cong fun k hk => if_neg (by omega)
theorem fb_sm_upd (f : Nat → Nat) (v : Nat) {i : Nat} : ∀ {n : Nat}, i < n → fb_sm (fun k => if k = i then v else f k) n + f i = fb_sm f n + v
  | 0, h => absurd h (Nat.not_lt_zero i)
  | n + 1, h => by
    rw [fb_sm_succ, fb_sm_succ]
    rcases Nat.lt_or_ge i n with q | q
    · have := fb_sm_upd f v q
      have e : (if n = i then v else f n) = f n := if_neg (by omega)
      rw [e]
      omega
    · have e : i = n := by omega
      subst e
      rw [fb_sm_out f v (Nat.le_refl _)]
      simp only [if_true]
      omega
theorem fb_sm_add (f g : Nat → Nat) : ∀ n, fb_sm (fun k => f k + g k) n = fb_sm f n + fb_sm g n
  | 0 => rfl
  | n + 1 => by
    have h := fb_sm_add f g n
    rw [fb_sm_succ, fb_sm_succ, fb_sm_succ, h]
    omega
theorem fb_sm_le {f g : Nat → Nat} : ∀ {n : Nat}, (∀ k, k < n → f k ≤ g k) → fb_sm f n ≤ fb_sm g n
  | 0, _ => Nat.le_refl _
  | n + 1, h => by
    have h1 := fb_sm_le (n := n) (f := f) (g := g) (fun k hk => h k (by omega))
    have h2 := h n (by omega)
    rw [fb_sm_succ, fb_sm_succ]
    omega
theorem fb_sm_const (c : Nat) : ∀ n, fb_sm (fun _ => c) n = n * c
  | 0 => by rw [Nat.zero_mul]; rfl
  | n + 1 => by rw [fb_sm_succ, fb_sm_const c n, Nat.succ_mul]
theorem fb_sm_bound {f : Nat → Nat} {c n : Nat} (h : ∀ k, k < n → f k ≤ c) : fb_sm f n ≤ n * c := by
  rw [← fb_sm_const c n]
  exact fb_sm_le h
theorem fb_sm_mono (f : Nat → Nat) (m : Nat) : ∀ n, fb_sm f m ≤ fb_sm f (m + n)
  | 0 => Nat.le_refl _
  | n + 1 => by
    have h := fb_sm_mono f m n
    show fb_sm f m ≤ fb_sm f (m + n + 1)
    rw [fb_sm_succ]
    omega
theorem fb_sm_part (f : Nat → Nat) {i n : Nat} (h : i < n) : fb_sm f i + f i ≤ fb_sm f n := by
  have := fb_sm_mono f (i + 1) (n - (i + 1))
  rw [fb_sm_succ, show i + 1 + (n - (i + 1)) = n by omega] at this
  exact this
theorem fb_sm_split (f : Nat → Nat) (m : Nat) : ∀ n, fb_sm f (m + n) = fb_sm f m + fb_sm (fun k => f (m + k)) n
  | 0 => rfl
  | n + 1 => by
    have h := fb_sm_split f m n
    show fb_sm f (m + n + 1) = _
    rw [fb_sm_succ, fb_sm_succ, h, Nat.add_assoc]
theorem fb_sm_zero {f : Nat → Nat} {n : Nat} (h : fb_sm f n = 0) : ∀ k, k < n → f k = 0 := fun k hk => by
  have := fb_sm_part f hk
  omega
/-! ===== order of ints, in all its forms, and through longs ===== -/
theorem fa_lt (a b : Int32) : a < b ↔ a.toInt < b.toInt := Int32.lt_iff_toInt_lt
theorem fa_le (a b : Int32) : a ≤ b ↔ a.toInt ≤ b.toInt := Int32.le_iff_toInt_le
theorem fa_eq (a b : Int32) : a = b ↔ a.toInt = b.toInt := Int32.toInt_inj.symm
theorem fa_lt64 (a b : Int64) : a < b ↔ a.toInt < b.toInt := Int64.lt_iff_toInt_lt
theorem fa_le64 (a b : Int64) : a ≤ b ↔ a.toInt ≤ b.toInt := Int64.le_iff_toInt_le
theorem fa_eq64 (a b : Int64) : a = b ↔ a.toInt = b.toInt := Int64.toInt_inj.symm
/-- a comparison of two ints taken as longs -/
theorem fa_wide_lt (a b : Int32) : a.toInt64 < b.toInt64 ↔ a < b := by rw [fa_lt64, fa_lt, Int32.toInt_toInt64, Int32.toInt_toInt64]
theorem fa_wide_le (a b : Int32) : a.toInt64 ≤ b.toInt64 ↔ a ≤ b := by rw [fa_le64, fa_le, Int32.toInt_toInt64, Int32.toInt_toInt64]
theorem fa_wide_eq (a b : Int32) : a.toInt64 = b.toInt64 ↔ a = b := by rw [fa_eq64, fa_eq, Int32.toInt_toInt64, Int32.toInt_toInt64]
/-- one strict comparison gives all the others -/
theorem fa_of_lt {a b : Int32} (h : a < b) : a ≤ b ∧ ¬ b ≤ a ∧ ¬ b < a ∧ a ≠ b ∧ b ≠ a := by
  rw [fa_lt] at h
  refine ⟨?_, ?_, ?_, ?_, ?_⟩
  · rw [fa_le]; omega
  · rw [fa_le]; omega
  · rw [fa_lt]; omega
  · intro e; rw [fa_eq] at e; omega
  · intro e; rw [fa_eq] at e; omega
theorem fa_of_nlt {a b : Int32} (h : ¬ a < b) : b ≤ a := by
  rw [fa_lt] at h
  rw [fa_le]
  omega
theorem fa_of_nle {a b : Int32} (h : ¬ a ≤ b) : b < a := by
  rw [fa_le] at h
  rw [fa_lt]
  omega
theorem fa_le_ne {a b : Int32} (h : a ≤ b) (h2 : a ≠ b) : a < b := by
  rw [fa_le] at h
  rw [fa_lt]
  have h3 : a.toInt ≠ b.toInt := fun e => h2 ((fa_eq a b).mpr e)
  omega
theorem fa_three (a b : Int32) : a < b ∨ a = b ∨ b < a := by
  rw [fa_lt, fa_lt, fa_eq]
  omega
theorem fa_trans {a b c : Int32} (h : a < b) (h2 : b ≤ c) : a < c := by
  rw [fa_lt] at *
  rw [fa_le] at h2
  omega
/-! ===== small literals as numbers ===== -/
theorem fa_lit (n : Nat) : (OfNat.ofNat n : Int32) = nI n := rfl
theorem fa_litL (n : Nat) : (OfNat.ofNat n : Int64) = lN n := rfl
/-! ===== bits of a number: 'or', masks, one bit ===== -/
theorem fa_and (a b : Nat) : nI a &&& nI b = nI (a &&& b) := by
  apply Int32.toBitVec_inj.1
  show BitVec.ofNat 32 a &&& BitVec.ofNat 32 b = BitVec.ofNat 32 (a &&& b)
  apply BitVec.eq_of_getLsbD_eq
  intro i hi
  simp [hi]
theorem fa_or (a b : Nat) : nI a ||| nI b = nI (a ||| b) := by
  apply Int32.toBitVec_inj.1
  show BitVec.ofNat 32 a ||| BitVec.ofNat 32 b = BitVec.ofNat 32 (a ||| b)
  apply BitVec.eq_of_getLsbD_eq
  intro i hi
  simp [hi]
/-- a remainder by a power of two, as a mask -/
theorem fa_mask (n k : Nat) : nI n &&& nI (2 ^ k - 1) = nI (n % 2 ^ k) := by rw [fa_and, Nat.and_two_pow_sub_one_eq_mod]
/-- 'or' of a high part and a low one that don't meet is their sum -/
theorem fa_or_sum {a k : Nat} (b : Nat) (h : a < 2 ^ k) : nI (2 ^ k * b) ||| nI a = nI (2 ^ k * b + a) := by rw [fa_or, Nat.two_pow_add_eq_or_of_lt h]
/-! OWN: bits of nI, single bits, masks -/
theorem inc1 (a : Nat) : nI a + Int32.ofInt 1 = nI (a + 1) := nI_1 a
theorem bt_nI (n : Nat) {i : Nat} (hi : i < 32) : bt (nI n) i = n.testBit i := by
  show (BitVec.ofNat 32 n).getLsbD i = _
  rw [BitVec.getLsbD_ofNat]
  simp [hi]
theorem bt_one {i : Nat} (hi : i < 32) : bt (nI 1) i = decide (i = 0) := (by decide +kernel : ∀ i, i < 32 → bt (nI 1) i = decide (i = 0)) i hi
theorem bt_b2 (b : Bool) {i : Nat} (hi : i < 32) : bt (nI b.toNat) i = (b && decide (i = 0)) := by
  cases b
  · show bt 0 i = _
    rw [b_0]; rfl
  · exact (bt_one hi).trans (Bool.true_and _).symm
theorem m31 : (nI 31 : Int32) = 31 := rfl
/-- one bit cut out -/
theorem shr_bit (x : Int32) {c : Nat} (hc : c < 32) : (x >>> (nI c &&& 31)) &&& nI 1 = nI (bt x c).toNat := by
  apply b_ext
  intro i hi
  rw [b_and, b_sshr c hc x hi, bt_one hi, bt_b2 _ hi]
  by_cases h : i = 0
  · subst h
    simp [hc]
  · simp [h]
theorem b2_one {b : Bool} : nI b.toNat = nI 1 ↔ b = true := by
  cases b
  · exact ⟨fun h => absurd h (by decide), fun h => by cases h⟩
  · exact ⟨fun _ => rfl, fun _ => rfl⟩
theorem b2_zero {b : Bool} : nI b.toNat = nI 0 ↔ b = false := by
  cases b
  · exact ⟨fun _ => rfl, fun _ => rfl⟩
  · exact ⟨fun h => absurd h (by decide), fun h => by cases h⟩
theorem bit_one (x : Int32) {c : Nat} (hc : c < 32) : (x >>> (nI c &&& 31)) &&& nI 1 = nI 1 ↔ bt x c = true := by
  rw [shr_bit x hc]; exact b2_one
theorem bit_zero (x : Int32) {c : Nat} (hc : c < 32) : (x >>> (nI c &&& 31)) &&& nI 1 = nI 0 ↔ bt x c = false := by
  rw [shr_bit x hc]; exact b2_zero
/-- 1 << v -/
theorem bt_pow {v : Nat} (hv : v < 32) {i : Nat} (hi : i < 32) : bt (nI 1 <<< (nI v &&& 31)) i = decide (i = v) := by
  rw [b_shl v hv _ hi]
  by_cases h : v ≤ i
  · rw [bt_one (by omega)]
    by_cases h2 : i = v
    · subst h2; simp
    · rw [decide_eq_true h, decide_eq_false (show ¬ i - v = 0 by omega), decide_eq_false h2]; rfl
  · rw [decide_eq_false h, decide_eq_false (show ¬ i = v by omega)]; rfl
theorem bt_not (x : Int32) {i : Nat} (hi : i < 32) : bt (x ^^^ (-1)) i = !bt x i := by
  rw [b_xor, b_m1 i hi]; simp
theorem b_zero_iff (x : Int32) : x = nI 0 ↔ ∀ i, i < 32 → bt x i = false := by
  constructor
  · intro h i _
    rw [h]; exact b_0 i
  · intro h
    apply b_ext
    intro i hi
    rw [h i hi]; exact (b_0 i).symm
/-- within the low n bits -/
def lowB (n : Nat) (x : Int32) : Prop := ∀ i, n ≤ i → bt x i = false
theorem lowB_and {n : Nat} {x : Int32} (h : lowB n x) (y : Int32) : lowB n (x &&& y) := fun i hi => by rw [b_and, h i hi]; rfl
theorem lowB_and' {n : Nat} {y : Int32} (x : Int32) (h : lowB n y) : lowB n (x &&& y) := fun i hi => by rw [b_and, h i hi]; simp
theorem lowB_or {n : Nat} {x y : Int32} (h : lowB n x) (h2 : lowB n y) : lowB n (x ||| y) := fun i hi => by rw [b_or, h i hi, h2 i hi]; rfl
theorem lowB_0 (n : Nat) : lowB n (nI 0) := fun i _ => b_0 i
theorem lowB_ext {n : Nat} {x y : Int32} (hx : lowB n x) (hy : lowB n y) (h : ∀ i, i < n → bt x i = bt y i) : x = y := by
  apply b_ext
  intro i _
  by_cases hn : i < n
  · exact h i hn
  · rw [hx i (by omega), hy i (by omega)]
theorem lowB_zero {n : Nat} {x : Int32} (hx : lowB n x) : x = nI 0 ↔ ∀ i, i < n → bt x i = false := by
  constructor
  · intro h i _
    rw [h]; exact b_0 i
  · intro h
    exact lowB_ext hx (lowB_0 n) (fun i hi => (h i hi).trans (b_0 i).symm)
theorem lowB_nI {n m : Nat} (h : m < 2 ^ n) : lowB n (nI m) := by
  intro i hi
  by_cases h32 : i < 32
  · rw [bt_nI m h32]
    exact Nat.testBit_lt_two_pow (Nat.lt_of_lt_of_le h (Nat.pow_le_pow_right (by decide) hi))
  · exact b_big (by omega)
theorem lowB_pow {n v : Nat} (hv : v < n) (hn : n ≤ 32) : lowB n (nI 1 <<< (nI v &&& 31)) := by
  intro i hi
  by_cases h32 : i < 32
  · rw [bt_pow (by omega) h32, decide_eq_false (by omega)]
  · exact b_big (by omega)
theorem bt_255 {i : Nat} (hi : i < 8) : bt (nI 255) i = true := (b_255 i).trans (decide_eq_true hi)
end
section
/-! X0: leaves that change nothing: literalsOf, sizeOf, hasEmpty, clausesWith, together, busiest, clausesLeft -/
theorem r_drop {sh : Shp} {own : String} {cc : ByteArray} {nL dl : Nat} {ret : Option FieldType} {post : Int32 → St → Prop} {pc : Nat} {L L' : List (Option AV)} {st : List AV} {σ : St} (q : Nat) (hl : L.set q none = L') (k : V sh own cc nL dl ret post pc L' st σ) : V sh own cc nL dl ret post pc L st σ := by
  refine r_le ?_ k
  intro i v hi
  rw [← hl] at hi
  by_cases h : i = q
  · subst h
    by_cases hlt : i < L.length
    · rw [List.getElem?_set_self hlt] at hi; cases hi
    · rw [List.getElem?_eq_none (by simpa using hlt)] at hi; cases hi
  · rw [List.getElem?_set_ne (Ne.symm h)] at hi
    exact hi
theorem ct_b (p : Nat → Bool) (n : Nat) : fb_ct p n + (p n).toNat = fb_ct p (n + 1) := by
  rw [fb_ct_succ]
  cases p n <;> rfl
theorem ct_strict {p q : Nat → Bool} : ∀ {n : Nat}, (∀ k, k < n → p k = true → q k = true) → (∃ k, k < n ∧ q k = true ∧ p k = false) → fb_ct p n < fb_ct q n
  | 0, _, ⟨k, hk, _⟩ => absurd hk (by omega)
  | n + 1, hs, ⟨k, hk, hq, hp⟩ => by
    have hle : fb_ct p n ≤ fb_ct q n := fb_ct_sub (fun j hj => hs j (by omega))
    rw [fb_ct_succ, fb_ct_succ]
    by_cases e : k = n
    · subst e
      rw [hq, hp]
      simp
      omega
    · have ih := ct_strict (n := n) (fun j hj => hs j (by omega)) ⟨k, by omega, hq, hp⟩
      have h2 := hs n (by omega)
      cases hpn : p n
      · simp; split <;> omega
      · rw [h2 hpn]; simp; omega
def pop8 (x : Int32) : Nat := fb_ct (bt x) 8
theorem pop8_le (x : Int32) : pop8 x ≤ 8 := fb_ct_le _ 8
theorem and_one (x : Int32) : x &&& nI 1 = nI (bt x 0).toNat := by
  apply b_ext
  intro i hi
  rw [b_and, bt_one hi, bt_b2 _ hi]
  by_cases h : i = 0
  · subst h; rfl
  · simp [h]
abbrev lit (σ : St) (c : Nat) : Int32 := σ 3 c ||| σ 4 c
theorem m_literalsOf (σ : St) (c : Nat) (hc : c < 14) : CN shX0 yX0_literalsOf cX0_literalsOf 2 0 (some .int) [nI c] σ (fun r σ' => σ' = σ ∧ r = lit σ c) := by
  refine CN.ofV (own := RX0) (by decide) rfl (Nat.le_of_ble_eq_true rfl) ?_
  show V shX0 RX0 cX0_literalsOf 2 0 (some .int) _ 0 [some (.inr 0), some (.inl (nI c))] [] _
  refine r_aload_n (pc := 0) (i := 0) dX0_literalsOf_0 rfl rfl ?_
  refine r_getA (pc := 1) ckX0 3 (by decide) rfl q39 dX0_literalsOf_1 ?_
  refine r_iload_n (pc := 4) (i := 1) dX0_literalsOf_4 rfl rfl ?_
  refine r_iald (pc := 5) ckX0 rfl dX0_literalsOf_5 (rfl) (by omega) ?_
  refine r_aload_n (pc := 6) (i := 0) dX0_literalsOf_6 rfl rfl ?_
  refine r_getA (pc := 7) ckX0 4 (by decide) rfl q40 dX0_literalsOf_7 ?_
  refine r_iload_n (pc := 10) (i := 1) dX0_literalsOf_10 rfl rfl ?_
  refine r_iald (pc := 11) ckX0 rfl dX0_literalsOf_11 (rfl) (by omega) ?_
  refine r_ior (pc := 12) dX0_literalsOf_12 ?_
  refine r_iret (pc := 13) dX0_literalsOf_13 ?_
  exact ⟨rfl, rfl⟩
theorem m_sizeOf (σ : St) (x : Int32) : CN shX0 yX0_sizeOf cX0_sizeOf 4 0 (some .int) [x] σ (fun r σ' => σ' = σ ∧ r = nI (pop8 x)) := by
  refine CN.ofV (own := RX0) (by decide) rfl (Nat.le_of_ble_eq_true rfl) ?_
  show V shX0 RX0 cX0_sizeOf 4 0 (some .int) _ 0 [some (.inr 0), some (.inl x), none, none] [] _
  refine r_iconst (pc := 0) (v := nI 0) dX0_sizeOf_0 (by decide) ?_
  refine r_istore_n (pc := 1) (i := 2) (L' := [_, _, _, _]) dX0_sizeOf_1 rfl (by decide) rfl ?_
  refine r_iconst (pc := 2) (v := nI 0) dX0_sizeOf_2 (by decide) ?_
  refine r_istore_n (pc := 3) (i := 3) (L' := [_, _, _, _]) dX0_sizeOf_3 rfl (by decide) rfl ?_
  suffices h : ∀ k i, i + k = 8 → V shX0 RX0 cX0_sizeOf 4 0 (some .int) (fun r σ' => σ' = σ ∧ r = nI (pop8 x)) 4 [some (.inr 0), some (.inl (x)), some (.inl (nI (fb_ct (bt x) i))), some (.inl (nI i))] [] σ from h 8 0 (by omega)
  intro k
  induction k with
  | zero =>
    intro i hi
    refine r_iload_n (pc := 4) (i := 3) dX0_sizeOf_4 rfl rfl ?_
    refine r_bipush (pc := 5) (v := nI 8) dX0_sizeOf_5 (by decide) ?_
    refine r_icmp_ge (pc := 7) (tgt := 24) dX0_sizeOf_7 (by decide) (fun _ => ?_) (fun z => absurd (nI_le (by omega) (by omega)) z)
    refine r_iload_n (pc := 24) (i := 2) dX0_sizeOf_24 rfl rfl ?_
    refine r_iret (pc := 25) dX0_sizeOf_25 ?_
    exact ⟨rfl, by rw [show i = 8 by omega]; rfl⟩
  | succ k ih =>
    intro i hi
    refine r_iload_n (pc := 4) (i := 3) dX0_sizeOf_4 rfl rfl ?_
    refine r_bipush (pc := 5) (v := nI 8) dX0_sizeOf_5 (by decide) ?_
    refine r_icmp_ge (pc := 7) (tgt := 24) dX0_sizeOf_7 (by decide) (fun z => absurd z (nI_ge (by omega) (by omega))) (fun _ => ?_)
    refine r_iload_n (pc := 10) (i := 2) dX0_sizeOf_10 rfl rfl ?_
    refine r_iload_n (pc := 11) (i := 1) dX0_sizeOf_11 rfl rfl ?_
    refine r_iload_n (pc := 12) (i := 3) dX0_sizeOf_12 rfl rfl ?_
    refine r_ishr (pc := 13) dX0_sizeOf_13 ?_
    refine r_iconst (pc := 14) (v := nI 1) dX0_sizeOf_14 (by decide) ?_
    refine r_iand (pc := 15) dX0_sizeOf_15 ?_
    refine r_iadd (pc := 16) dX0_sizeOf_16 ?_
    rw [shr_bit x (by omega), nI_add, ct_b]
    refine r_istore_n (pc := 17) (i := 2) (L' := [_, _, _, _]) dX0_sizeOf_17 rfl (by decide) rfl ?_
    refine r_iinc (pc := 18) (v := _) (L' := [_, _, _, _]) dX0_sizeOf_18 rfl (inc1 _) (by decide) rfl ?_
    refine r_goto (pc := 21) (tgt := 4) dX0_sizeOf_21 (by decide) ?_
    exact ih (i + 1) (by omega)
abbrev P_hasEmpty (σ : St) (N : Nat) (vs cs : Int32) : Int32 → St → Prop := fun r σ' => σ' = σ ∧ ((r = nI 1 ∧ ∃ c, c < N ∧ bt cs c = true ∧ lit σ c &&& vs = 0) ∨ (r = nI 0 ∧ ∀ c, c < N → bt cs c = true → ¬ lit σ c &&& vs = 0))
theorem m_hasEmpty (σ : St) (N : Nat) (hN : N ≤ 14) (hc : σ 2 0 = nI N) (vs cs : Int32) : CN shX0 yX0_hasEmpty cX0_hasEmpty 4 1 (some .boolean) [vs, cs] σ (P_hasEmpty σ N vs cs) := by
  refine CN.ofV (own := RX0) (by decide) rfl (Nat.le_of_ble_eq_true rfl) ?_
  show V shX0 RX0 cX0_hasEmpty 4 1 (some .boolean) _ 0 [some (.inr 0), some (.inl vs), some (.inl cs), none] [] _
  refine r_iconst (pc := 0) (v := nI 0) dX0_hasEmpty_0 (by decide) ?_
  refine r_istore_n (pc := 1) (i := 3) (L' := [_, _, _, _]) dX0_hasEmpty_1 rfl (by decide) rfl ?_
  suffices h : ∀ k i, i + k = N → (∀ c, c < i → bt cs c = true → ¬ lit σ c &&& vs = 0) → V shX0 RX0 cX0_hasEmpty 4 1 (some .boolean) (P_hasEmpty σ N vs cs) 2 [some (.inr 0), some (.inl (vs)), some (.inl (cs)), some (.inl (nI i))] [] σ from h N 0 (by omega) (fun c h => absurd h (by omega))
  intro k
  induction k with
  | zero =>
    intro i hi hp
    refine r_iload_n (pc := 2) (i := 3) dX0_hasEmpty_2 rfl rfl ?_
    refine r_aload_n (pc := 3) (i := 0) dX0_hasEmpty_3 rfl rfl ?_
    refine r_getI (pc := 4) ckX0 2 (by decide) rfl q38 dX0_hasEmpty_4 ?_
    refine r_icmp_ge (pc := 7) (tgt := 37) dX0_hasEmpty_7 (by decide) (fun _ => ?_) (fun z => absurd (by rw [hc]; exact nI_le (by omega) (by omega)) z)
    refine r_iconst (pc := 37) (v := nI 0) dX0_hasEmpty_37 (by decide) ?_
    refine r_zret (pc := 38) dX0_hasEmpty_38 (by decide) ?_
    exact ⟨rfl, Or.inr ⟨rfl, fun c h => hp c (by omega)⟩⟩
  | succ k ih =>
    intro i hi hp
    refine r_iload_n (pc := 2) (i := 3) dX0_hasEmpty_2 rfl rfl ?_
    refine r_aload_n (pc := 3) (i := 0) dX0_hasEmpty_3 rfl rfl ?_
    refine r_getI (pc := 4) ckX0 2 (by decide) rfl q38 dX0_hasEmpty_4 ?_
    refine r_icmp_ge (pc := 7) (tgt := 37) dX0_hasEmpty_7 (by decide) (fun z => absurd z (by rw [hc]; exact nI_ge (by omega) (by omega))) (fun _ => ?_)
    refine r_iload_n (pc := 10) (i := 2) dX0_hasEmpty_10 rfl rfl ?_
    refine r_iload_n (pc := 11) (i := 3) dX0_hasEmpty_11 rfl rfl ?_
    refine r_ishr (pc := 12) dX0_hasEmpty_12 ?_
    refine r_iconst (pc := 13) (v := nI 1) dX0_hasEmpty_13 (by decide) ?_
    refine r_iand (pc := 14) dX0_hasEmpty_14 ?_
    refine r_iconst (pc := 15) (v := nI 1) dX0_hasEmpty_15 (by decide) ?_
    refine r_icmp_ne (pc := 16) (tgt := 31) dX0_hasEmpty_16 (by decide) (fun h1 => ?_) (fun h1 => ?_)
    · refine r_iinc (pc := 31) (v := _) (L' := [_, _, _, _]) dX0_hasEmpty_31 rfl (inc1 _) (by decide) rfl ?_
      refine r_goto (pc := 34) (tgt := 2) dX0_hasEmpty_34 (by decide) ?_
      refine ih (i + 1) (by omega) (fun c h hb => ?_)
      by_cases e : c = i
      · subst e
        exact absurd ((bit_one cs (by omega)).mpr hb) h1
      · exact hp c (by omega) hb
    · refine r_aload_n (pc := 19) (i := 0) dX0_hasEmpty_19 rfl rfl ?_
      refine r_iload_n (pc := 20) (i := 3) dX0_hasEmpty_20 rfl rfl ?_
      refine r_callI (pc := 21) ckX0 (m_literalsOf σ i (by omega)) mf_X0_literalsOf q162 (by decide) (by decide) dX0_hasEmpty_21 rfl (Nat.le_of_ble_eq_true rfl) (fun r σ hr => ?_)
      obtain ⟨rfl, rfl⟩ := hr
      refine r_iload_n (pc := 24) (i := 1) dX0_hasEmpty_24 rfl rfl ?_
      refine r_iand (pc := 25) dX0_hasEmpty_25 ?_
      refine r_if_ne (pc := 26) (tgt := 31) dX0_hasEmpty_26 (by decide) (fun h2 => ?_) (fun h2 => ?_)
      · refine r_iinc (pc := 31) (v := _) (L' := [_, _, _, _]) dX0_hasEmpty_31 rfl (inc1 _) (by decide) rfl ?_
        refine r_goto (pc := 34) (tgt := 2) dX0_hasEmpty_34 (by decide) ?_
        refine ih (i + 1) (by omega) (fun c h hb => ?_)
        by_cases e : c = i
        · subst e
          exact h2
        · exact hp c (by omega) hb
      · refine r_iconst (pc := 29) (v := nI 1) dX0_hasEmpty_29 (by decide) ?_
        refine r_zret (pc := 30) dX0_hasEmpty_30 (by decide) ?_
        exact ⟨rfl, Or.inl ⟨rfl, i, by omega, (bit_one cs (by omega)).mp h1, h2⟩⟩
abbrev touch (σ : St) (set : Int32) (c : Nat) : Bool := !decide (lit σ c &&& set = 0)
abbrev P_clausesWith (σ : St) (N : Nat) (set cs : Int32) : Int32 → St → Prop := fun r σ' => σ' = σ ∧ ∀ c, c < 32 → bt r c = (decide (c < N) && (bt cs c && touch σ set c))
theorem m_clausesWith (σ : St) (N : Nat) (hN : N ≤ 14) (hc : σ 2 0 = nI N) (set cs : Int32) : CN shX0 yX0_clausesWith cX0_clausesWith 5 1 (some .int) [set, cs] σ (P_clausesWith σ N set cs) := by
  refine CN.ofV (own := RX0) (by decide) rfl (Nat.le_of_ble_eq_true rfl) ?_
  show V shX0 RX0 cX0_clausesWith 5 1 (some .int) _ 0 [some (.inr 0), some (.inl set), some (.inl cs), none, none] [] _
  refine r_iconst (pc := 0) (v := nI 0) dX0_clausesWith_0 (by decide) ?_
  refine r_istore_n (pc := 1) (i := 3) (L' := [_, _, _, _, _]) dX0_clausesWith_1 rfl (by decide) rfl ?_
  refine r_iconst (pc := 2) (v := nI 0) dX0_clausesWith_2 (by decide) ?_
  refine r_istore (pc := 3) (L' := [_, _, _, _, _]) dX0_clausesWith_3 (by decide) rfl ?_
  suffices h : ∀ k i o, i + k = N → (∀ c, c < 32 → bt o c = (decide (c < i) && (bt cs c && touch σ set c))) → V shX0 RX0 cX0_clausesWith 5 1 (some .int) (P_clausesWith σ N set cs) 5 [some (.inr 0), some (.inl (set)), some (.inl (cs)), some (.inl (o)), some (.inl (nI i))] [] σ from h N 0 (nI 0) (by omega) (fun c _ => by rw [show bt (nI 0) c = false from b_0 c]; simp)
  intro k
  induction k with
  | zero =>
    intro i o hi hp
    refine r_iload (pc := 5) dX0_clausesWith_5 rfl ?_
    refine r_aload_n (pc := 7) (i := 0) dX0_clausesWith_7 rfl rfl ?_
    refine r_getI (pc := 8) ckX0 2 (by decide) rfl q38 dX0_clausesWith_8 ?_
    refine r_icmp_ge (pc := 11) (tgt := 48) dX0_clausesWith_11 (by decide) (fun _ => ?_) (fun z => absurd (by rw [hc]; exact nI_le (by omega) (by omega)) z)
    refine r_iload_n (pc := 48) (i := 3) dX0_clausesWith_48 rfl rfl ?_
    refine r_iret (pc := 49) dX0_clausesWith_49 ?_
    exact ⟨rfl, by rw [show N = i by omega]; exact hp⟩
  | succ k ih =>
    intro i o hi hp
    refine r_iload (pc := 5) dX0_clausesWith_5 rfl ?_
    refine r_aload_n (pc := 7) (i := 0) dX0_clausesWith_7 rfl rfl ?_
    refine r_getI (pc := 8) ckX0 2 (by decide) rfl q38 dX0_clausesWith_8 ?_
    refine r_icmp_ge (pc := 11) (tgt := 48) dX0_clausesWith_11 (by decide) (fun z => absurd z (by rw [hc]; exact nI_ge (by omega) (by omega))) (fun _ => ?_)
    have skip : (bt cs i && touch σ set i) = false → ∀ c, c < 32 → bt o c = (decide (c < i + 1) && (bt cs c && touch σ set c)) := by
      intro hz c hc32
      rw [hp c hc32]
      by_cases e : c = i
      · subst e
        rw [hz]; simp
      · rw [show decide (c < i + 1) = decide (c < i) from decide_eq_decide.mpr (by omega)]
    refine r_iload_n (pc := 14) (i := 2) dX0_clausesWith_14 rfl rfl ?_
    refine r_iload (pc := 15) dX0_clausesWith_15 rfl ?_
    refine r_ishr (pc := 17) dX0_clausesWith_17 ?_
    refine r_iconst (pc := 18) (v := nI 1) dX0_clausesWith_18 (by decide) ?_
    refine r_iand (pc := 19) dX0_clausesWith_19 ?_
    refine r_iconst (pc := 20) (v := nI 1) dX0_clausesWith_20 (by decide) ?_
    refine r_icmp_ne (pc := 21) (tgt := 42) dX0_clausesWith_21 (by decide) (fun h1 => ?_) (fun h1 => ?_)
    · refine r_iinc (pc := 42) (v := _) (L' := [_, _, _, _, _]) dX0_clausesWith_42 rfl (inc1 _) (by decide) rfl ?_
      refine r_goto (pc := 45) (tgt := 5) dX0_clausesWith_45 (by decide) ?_
      refine ih (i + 1) o (by omega) (skip ?_)
      rw [show bt cs i = false by rw [bit_one cs (by omega)] at h1; simpa using h1]
      rfl
    · refine r_aload_n (pc := 24) (i := 0) dX0_clausesWith_24 rfl rfl ?_
      refine r_iload (pc := 25) dX0_clausesWith_25 rfl ?_
      refine r_callI (pc := 27) ckX0 (m_literalsOf σ i (by omega)) mf_X0_literalsOf q162 (by decide) (by decide) dX0_clausesWith_27 rfl (Nat.le_of_ble_eq_true rfl) (fun r σ hr => ?_)
      obtain ⟨rfl, rfl⟩ := hr
      refine r_iload_n (pc := 30) (i := 1) dX0_clausesWith_30 rfl rfl ?_
      refine r_iand (pc := 31) dX0_clausesWith_31 ?_
      refine r_if_eq (pc := 32) (tgt := 42) dX0_clausesWith_32 (by decide) (fun h2 => ?_) (fun h2 => ?_)
      · refine r_iinc (pc := 42) (v := _) (L' := [_, _, _, _, _]) dX0_clausesWith_42 rfl (inc1 _) (by decide) rfl ?_
        refine r_goto (pc := 45) (tgt := 5) dX0_clausesWith_45 (by decide) ?_
        refine ih (i + 1) o (by omega) (skip ?_)
        simp [touch, h2]
      · refine r_iload_n (pc := 35) (i := 3) dX0_clausesWith_35 rfl rfl ?_
        refine r_iconst (pc := 36) (v := nI 1) dX0_clausesWith_36 (by decide) ?_
        refine r_iload (pc := 37) dX0_clausesWith_37 rfl ?_
        refine r_ishl (pc := 39) dX0_clausesWith_39 ?_
        refine r_ior (pc := 40) dX0_clausesWith_40 ?_
        refine r_istore_n (pc := 41) (i := 3) (L' := [_, _, _, _, _]) dX0_clausesWith_41 rfl (by decide) rfl ?_
        refine r_iinc (pc := 42) (v := _) (L' := [_, _, _, _, _]) dX0_clausesWith_42 rfl (inc1 _) (by decide) rfl ?_
        refine r_goto (pc := 45) (tgt := 5) dX0_clausesWith_45 (by decide) ?_
        refine ih (i + 1) _ (by omega) ?_
        intro c hc32
        rw [b_or, hp c hc32, bt_pow (by omega) hc32]
        by_cases e : c = i
        · subst e
          rw [(bit_one cs (by omega)).mp h1]
          simp [touch, h2]
        · rw [show decide (c < i + 1) = decide (c < i) from decide_eq_decide.mpr (by omega), decide_eq_false e]
          simp
end
section
/-! X0: together, busiest, clausesLeft -/
/-- what lies in a set of clauses touching s lies in s, as far as it lies in vs -/
abbrev closedS (σ : St) (N : Nat) (vs cs s : Int32) : Prop := ∀ c, c < N → bt cs c = true → ¬ lit σ c &&& s = 0 → ∀ v, v < 32 → bt (lit σ c) v = true → bt vs v = true → bt s v = true
abbrev subS (s t : Int32) : Prop := ∀ v, v < 32 → bt s v = true → bt t v = true
abbrev P_together (σ : St) (N : Nat) (vs cs : Int32) : Int32 → St → Prop := fun r σ' => σ' = σ ∧ subS r vs ∧ ¬ r = 0 ∧ closedS σ N vs cs r
theorem ne0_bit {x : Int32} (h : ¬ x = 0) : ∃ v, v < 32 ∧ bt x v = true := by
  by_cases hh : ∃ v, v < 32 ∧ bt x v = true
  · exact hh
  · exfalso
    apply h
    refine (b_zero_iff x).mpr (fun i hi => ?_)
    cases hb : bt x i
    · rfl
    · exact absurd ⟨i, hi, hb⟩ hh
theorem bit_ne0 {x : Int32} {v : Nat} (h : bt x v = true) : ¬ x = 0 := by
  intro e
  rw [e, b_0] at h
  cases h
theorem subS_low {s vs : Int32} (hv : lowB 8 vs) (h : subS s vs) : lowB 8 s := by
  intro i hi
  by_cases h32 : i < 32
  · cases hb : bt s i
    · rfl
    · have := h i h32 hb
      rw [hv i hi] at this; cases this
  · exact b_big (by omega)
theorem pop8_lt {s t : Int32} (ht : lowB 8 t) (h : subS s t) (hn : ¬ s = t) : pop8 s < pop8 t := by
  refine ct_strict (fun k hk hb => h k (by omega) hb) ?_
  have hs := subS_low ht h
  by_cases hh : ∃ k, k < 8 ∧ bt t k = true ∧ bt s k = false
  · exact hh
  · exfalso
    apply hn
    refine lowB_ext hs ht (fun i hi => ?_)
    cases hb : bt t i
    · cases hb2 : bt s i
      · rfl
      · rw [h i (by omega) hb2] at hb; cases hb
    · cases hb2 : bt s i
      · exact absurd ⟨i, hi, hb, hb2⟩ hh
      · rfl
theorem pop8_pos {s : Int32} (hs : lowB 8 s) (hn : ¬ s = 0) : 1 ≤ pop8 s := by
  obtain ⟨v, hv, hb⟩ := ne0_bit hn
  refine fb_ct_pos.mpr ⟨v, ?_, hb⟩
  by_cases h : v < 8
  · exact h
  · rw [hs v (by omega)] at hb; cases hb
theorem m_together (σ : St) (N : Nat) (hN : N ≤ 14) (hc : σ 2 0 = nI N) (vs cs : Int32) (hv : lowB 8 vs) (he : ∃ c, c < N ∧ bt cs c = true) (hh : ∀ c, c < N → bt cs c = true → ¬ lit σ c &&& vs = 0) : CN shX0 yX0_together cX0_together 6 1 (some .int) [vs, cs] σ (P_together σ N vs cs) := by
  refine CN.ofV (own := RX0) (by decide) rfl (Nat.le_of_ble_eq_true rfl) ?_
  show V shX0 RX0 cX0_together 6 1 (some .int) _ 0 [some (.inr 0), some (.inl vs), some (.inl cs), none, none, none] [] _
  refine r_iconst (pc := 0) (v := nI 0) dX0_together_0 (by decide) ?_
  refine r_istore_n (pc := 1) (i := 3) (L' := [_, _, _, _, _, _]) dX0_together_1 rfl (by decide) rfl ?_
  refine r_iconst (pc := 2) (v := nI 0) dX0_together_2 (by decide) ?_
  refine r_istore (pc := 3) (L' := [_, _, _, _, _, _]) dX0_together_3 (by decide) rfl ?_
  -- the rounds
  have rounds : ∀ k i s, i + k = 8 → subS s vs → ¬ s = 0 → (closedS σ N vs cs s ∨ i + 1 ≤ pop8 s) → V shX0 RX0 cX0_together 6 1 (some .int) (P_together σ N vs cs) 46 [some (.inr 0), some (.inl (vs)), some (.inl (cs)), some (.inl (s)), some (.inl (nI i)), none] [] σ := by
    intro k
    induction k with
    | zero =>
      intro i s hi hs h0 hcl
      refine r_iload (pc := 46) dX0_together_46 rfl ?_
      refine r_bipush (pc := 48) (v := nI 8) dX0_together_48 (by decide) ?_
      refine r_icmp_ge (pc := 50) (tgt := 109) dX0_together_50 (by decide) (fun _ => ?_) (fun z => absurd (nI_le (by omega) (by omega)) z)
      refine r_iload_n (pc := 109) (i := 3) dX0_together_109 rfl rfl ?_
      refine r_iret (pc := 110) dX0_together_110 ?_
      refine ⟨rfl, hs, h0, ?_⟩
      rcases hcl with h | h
      · exact h
      · have := pop8_le s
        omega
    | succ k ih =>
      intro i s0 hi hs h0 hcl
      refine r_iload (pc := 46) dX0_together_46 rfl ?_
      refine r_bipush (pc := 48) (v := nI 8) dX0_together_48 (by decide) ?_
      refine r_icmp_ge (pc := 50) (tgt := 109) dX0_together_50 (by decide) (fun z => absurd z (nI_ge (by omega) (by omega))) (fun _ => ?_)
      refine r_iconst (pc := 53) (v := nI 0) dX0_together_53 (by decide) ?_
      refine r_istore (pc := 54) (L' := [_, _, _, _, _, _]) dX0_together_54 (by decide) rfl ?_
      suffices inner : ∀ k2 j s, j + k2 = N → subS s vs → subS s0 s → (closedS σ N vs cs s0 → s = s0) → (s = s0 → ∀ c, c < j → bt cs c = true → ¬ lit σ c &&& s0 = 0 → ∀ v, v < 32 → bt (lit σ c) v = true → bt vs v = true → bt s0 v = true) → V shX0 RX0 cX0_together 6 1 (some .int) (P_together σ N vs cs) 56 [some (.inr 0), some (.inl (vs)), some (.inl (cs)), some (.inl (s)), some (.inl (nI i)), some (.inl (nI j))] [] σ from inner N 0 s0 (by omega) hs (fun v _ h => h) (fun _ => rfl) (fun _ c h => absurd h (by omega))
      intro k2
      induction k2 with
      | zero =>
        intro j s hj hsv hss hcs hq
        refine r_iload (pc := 56) dX0_together_56 rfl ?_
        refine r_aload_n (pc := 58) (i := 0) dX0_together_58 rfl rfl ?_
        refine r_getI (pc := 59) ckX0 2 (by decide) rfl q38 dX0_together_59 ?_
        refine r_icmp_ge (pc := 62) (tgt := 103) dX0_together_62 (by decide) (fun _ => ?_) (fun z => absurd (by rw [hc]; exact nI_le (by omega) (by omega)) z)
        refine r_drop 5 (L' := [_, _, _, _, _, _]) rfl ?_
        refine r_iinc (pc := 103) (v := _) (L' := [_, _, _, _, _, _]) dX0_together_103 rfl (inc1 _) (by decide) rfl ?_
        refine r_goto (pc := 106) (tgt := 46) dX0_together_106 (by decide) ?_
        have h0' : ¬ s = 0 := by
          obtain ⟨v, hv32, hb⟩ := ne0_bit h0
          exact bit_ne0 (hss v hv32 hb)
        refine ih (i + 1) s (by omega) hsv h0' ?_
        by_cases e : s = s0
        · left
          rw [e]
          intro c hcN
          exact hq e c (by omega)
        · right
          have h1 := pop8_lt (subS_low hv hsv) hss (fun q => e q.symm)
          rcases hcl with h | h
          · exact absurd (hcs h) e
          · omega
      | succ k2 ih2 =>
        intro j s hj hsv hss hcs hq
        refine r_iload (pc := 56) dX0_together_56 rfl ?_
        refine r_aload_n (pc := 58) (i := 0) dX0_together_58 rfl rfl ?_
        refine r_getI (pc := 59) ckX0 2 (by decide) rfl q38 dX0_together_59 ?_
        refine r_icmp_ge (pc := 62) (tgt := 103) dX0_together_62 (by decide) (fun z => absurd z (by rw [hc]; exact nI_ge (by omega) (by omega))) (fun _ => ?_)
        refine r_iload_n (pc := 65) (i := 2) dX0_together_65 rfl rfl ?_
        refine r_iload (pc := 66) dX0_together_66 rfl ?_
        refine r_ishr (pc := 68) dX0_together_68 ?_
        refine r_iconst (pc := 69) (v := nI 1) dX0_together_69 (by decide) ?_
        refine r_iand (pc := 70) dX0_together_70 ?_
        refine r_iconst (pc := 71) (v := nI 1) dX0_together_71 (by decide) ?_
        refine r_icmp_ne (pc := 72) (tgt := 97) dX0_together_72 (by decide) (fun h1 => ?_) (fun h1 => ?_)
        · refine r_iinc (pc := 97) (v := _) (L' := [_, _, _, _, _, _]) dX0_together_97 rfl (inc1 _) (by decide) rfl ?_
          refine r_goto (pc := 100) (tgt := 56) dX0_together_100 (by decide) ?_
          refine ih2 (j + 1) s (by omega) hsv hss hcs (fun e c hcj hb => ?_)
          by_cases ec : c = j
          · subst ec
            exact absurd ((bit_one cs (by omega)).mpr hb) h1
          · exact hq e c (by omega) hb
        · have hb := (bit_one cs (by omega)).mp h1
          refine r_aload_n (pc := 75) (i := 0) dX0_together_75 rfl rfl ?_
          refine r_iload (pc := 76) dX0_together_76 rfl ?_
          refine r_callI (pc := 78) ckX0 (m_literalsOf σ j (by omega)) mf_X0_literalsOf q162 (by decide) (by decide) dX0_together_78 rfl (Nat.le_of_ble_eq_true rfl) (fun r σ hr => ?_)
          obtain ⟨rfl, rfl⟩ := hr
          refine r_iload_n (pc := 81) (i := 3) dX0_together_81 rfl rfl ?_
          refine r_iand (pc := 82) dX0_together_82 ?_
          refine r_if_eq (pc := 83) (tgt := 97) dX0_together_83 (by decide) (fun h2 => ?_) (fun h2 => ?_)
          · refine r_iinc (pc := 97) (v := _) (L' := [_, _, _, _, _, _]) dX0_together_97 rfl (inc1 _) (by decide) rfl ?_
            refine r_goto (pc := 100) (tgt := 56) dX0_together_100 (by decide) ?_
            refine ih2 (j + 1) s (by omega) hsv hss hcs (fun e c hcj hb => ?_)
            by_cases ec : c = j
            · subst ec
              rw [← e]
              exact fun h => absurd h2 h
            · exact hq e c (by omega) hb
          · refine r_iload_n (pc := 86) (i := 3) dX0_together_86 rfl rfl ?_
            refine r_aload_n (pc := 87) (i := 0) dX0_together_87 rfl rfl ?_
            refine r_iload (pc := 88) dX0_together_88 rfl ?_
            refine r_callI (pc := 90) ckX0 (m_literalsOf σ j (by omega)) mf_X0_literalsOf q162 (by decide) (by decide) dX0_together_90 rfl (Nat.le_of_ble_eq_true rfl) (fun r σ hr => ?_)
            obtain ⟨rfl, rfl⟩ := hr
            refine r_iload_n (pc := 93) (i := 1) dX0_together_93 rfl rfl ?_
            refine r_iand (pc := 94) dX0_together_94 ?_
            refine r_ior (pc := 95) dX0_together_95 ?_
            refine r_istore_n (pc := 96) (i := 3) (L' := [_, _, _, _, _, _]) dX0_together_96 rfl (by decide) rfl ?_
            refine r_iinc (pc := 97) (v := _) (L' := [_, _, _, _, _, _]) dX0_together_97 rfl (inc1 _) (by decide) rfl ?_
            refine r_goto (pc := 100) (tgt := 56) dX0_together_100 (by decide) ?_
            have hmono : subS s (s ||| lit σ j &&& vs) := fun v _ h => by rw [b_or, h]; rfl
            refine ih2 (j + 1) _ (by omega) ?_ (fun v h32 h => hmono v h32 (hss v h32 h)) ?_ ?_
            · intro v h32 h
              rw [b_or, b_and] at h
              rcases Bool.or_eq_true_iff.mp h with h | h
              · exact hsv v h32 h
              · exact (Bool.and_eq_true_iff.mp h).2
            · intro hcl0
              have es := hcs hcl0
              subst es
              apply b_ext
              intro v h32
              rw [b_or, b_and]
              cases hs1 : bt s v
              · cases hl1 : bt (lit σ j) v
                · rfl
                · cases hv1 : bt vs v
                  · rfl
                  · have := hcl0 j (by omega) hb h2 v h32 hl1 hv1
                    rw [hs1] at this; cases this
              · rfl
            · intro e c hcj hbc
              have es : s = s0 := by
                apply b_ext
                intro v h32
                cases hs1 : bt s v
                · cases hs2 : bt s0 v
                  · rfl
                  · rw [hss v h32 hs2] at hs1; cases hs1
                · have := hmono v h32 hs1
                  rw [e] at this
                  rw [this]
              by_cases ec : c = j
              · subst ec
                intro hne v h32 hl1 hv1
                rw [← e, b_or, b_and, hl1, hv1]
                simp
              · exact hq es c (by omega) hbc
  -- the first clause
  suffices first : ∀ k i s, i + k = N → subS s vs → ((s = 0 ∧ ∀ c, c < i → bt cs c = false) ∨ ¬ s = 0) → V shX0 RX0 cX0_together 6 1 (some .int) (P_together σ N vs cs) 5 [some (.inr 0), some (.inl (vs)), some (.inl (cs)), some (.inl (s)), some (.inl (nI i)), none] [] σ from first N 0 (nI 0) (by omega) (fun v _ h => by rw [show bt (nI 0) v = false from b_0 v] at h; cases h) (Or.inl ⟨rfl, fun c h => absurd h (by omega)⟩)
  have go : ∀ i s, subS s vs → ¬ s = 0 → V shX0 RX0 cX0_together 6 1 (some .int) (P_together σ N vs cs) 43 [some (.inr 0), some (.inl (vs)), some (.inl (cs)), some (.inl (s)), some (.inl (nI i)), none] [] σ := by
    intro i s hs h0
    refine r_iconst (pc := 43) (v := nI 0) dX0_together_43 (by decide) ?_
    refine r_istore (pc := 44) (L' := [_, _, _, _, _, _]) dX0_together_44 (by decide) rfl ?_
    exact rounds 8 0 s (by omega) hs h0 (Or.inr (pop8_pos (subS_low hv hs) h0))
  intro k
  induction k with
  | zero =>
    intro i s hi hs hp
    refine r_iload (pc := 5) dX0_together_5 rfl ?_
    refine r_aload_n (pc := 7) (i := 0) dX0_together_7 rfl rfl ?_
    refine r_getI (pc := 8) ckX0 2 (by decide) rfl q38 dX0_together_8 ?_
    refine r_icmp_ge (pc := 11) (tgt := 43) dX0_together_11 (by decide) (fun _ => ?_) (fun z => absurd (by rw [hc]; exact nI_le (by omega) (by omega)) z)
    rcases hp with ⟨-, hp⟩ | hp
    · obtain ⟨c, hcN, hb⟩ := he
      rw [hp c (by omega)] at hb; cases hb
    · exact go i s hs hp
  | succ k ih =>
    intro i s hi hs hp
    refine r_iload (pc := 5) dX0_together_5 rfl ?_
    refine r_aload_n (pc := 7) (i := 0) dX0_together_7 rfl rfl ?_
    refine r_getI (pc := 8) ckX0 2 (by decide) rfl q38 dX0_together_8 ?_
    refine r_icmp_ge (pc := 11) (tgt := 43) dX0_together_11 (by decide) (fun z => absurd z (by rw [hc]; exact nI_ge (by omega) (by omega))) (fun _ => ?_)
    refine r_iload_n (pc := 14) (i := 3) dX0_together_14 rfl rfl ?_
    refine r_if_ne (pc := 15) (tgt := 43) dX0_together_15 (by decide) (fun h0 => ?_) (fun h0 => ?_)
    · exact go i s hs h0
    · have hp' : ∀ c, c < i → bt cs c = false := by
        rcases hp with ⟨-, hp⟩ | hp
        · exact hp
        · exact absurd h0 hp
      refine r_iload_n (pc := 18) (i := 2) dX0_together_18 rfl rfl ?_
      refine r_iload (pc := 19) dX0_together_19 rfl ?_
      refine r_ishr (pc := 21) dX0_together_21 ?_
      refine r_iconst (pc := 22) (v := nI 1) dX0_together_22 (by decide) ?_
      refine r_iand (pc := 23) dX0_together_23 ?_
      refine r_iconst (pc := 24) (v := nI 1) dX0_together_24 (by decide) ?_
      refine r_icmp_ne (pc := 25) (tgt := 37) dX0_together_25 (by decide) (fun h1 => ?_) (fun h1 => ?_)
      · refine r_iinc (pc := 37) (v := _) (L' := [_, _, _, _, _, _]) dX0_together_37 rfl (inc1 _) (by decide) rfl ?_
        refine r_goto (pc := 40) (tgt := 5) dX0_together_40 (by decide) ?_
        refine ih (i + 1) s (by omega) hs (Or.inl ⟨h0, fun c h => ?_⟩)
        by_cases e : c = i
        · subst e
          rw [bit_one cs (by omega)] at h1
          simpa using h1
        · exact hp' c (by omega)
      · have hb := (bit_one cs (by omega)).mp h1
        refine r_aload_n (pc := 28) (i := 0) dX0_together_28 rfl rfl ?_
        refine r_iload (pc := 29) dX0_together_29 rfl ?_
        refine r_callI (pc := 31) ckX0 (m_literalsOf σ i (by omega)) mf_X0_literalsOf q162 (by decide) (by decide) dX0_together_31 rfl (Nat.le_of_ble_eq_true rfl) (fun r σ hr => ?_)
        obtain ⟨rfl, rfl⟩ := hr
        refine r_iload_n (pc := 34) (i := 1) dX0_together_34 rfl rfl ?_
        refine r_iand (pc := 35) dX0_together_35 ?_
        refine r_istore_n (pc := 36) (i := 3) (L' := [_, _, _, _, _, _]) dX0_together_36 rfl (by decide) rfl ?_
        refine r_iinc (pc := 37) (v := _) (L' := [_, _, _, _, _, _]) dX0_together_37 rfl (inc1 _) (by decide) rfl ?_
        refine r_goto (pc := 40) (tgt := 5) dX0_together_40 (by decide) ?_
        refine ih (i + 1) _ (by omega) ?_ (Or.inr (hh i (by omega) hb))
        intro v _ h
        rw [b_and] at h
        exact (Bool.and_eq_true_iff.mp h).2
abbrev P_busiest (σ : St) (vs : Int32) : Int32 → St → Prop := fun r σ' => σ' = σ ∧ ∃ b, b < 8 ∧ r = nI b ∧ bt vs b = true
theorem m_busiest (σ : St) (N : Nat) (hN : N ≤ 14) (hc : σ 2 0 = nI N) (vs cs : Int32) (he : ∃ v, v < 8 ∧ bt vs v = true) : CN shX0 yX0_busiest cX0_busiest 8 1 (some .int) [vs, cs] σ (P_busiest σ vs) := by
  refine CN.ofV (own := RX0) (by decide) rfl (Nat.le_of_ble_eq_true rfl) ?_
  show V shX0 RX0 cX0_busiest 8 1 (some .int) _ 0 [some (.inr 0), some (.inl vs), some (.inl cs), none, none, none, none, none] [] _
  refine r_iconst (pc := 0) (v := nI 0) dX0_busiest_0 (by decide) ?_
  refine r_istore_n (pc := 1) (i := 3) (L' := [_, _, _, _, _, _, _, _]) dX0_busiest_1 rfl (by decide) rfl ?_
  refine r_iconst (pc := 2) (v := (-1)) dX0_busiest_2 (by decide) ?_
  refine r_istore (pc := 3) (L' := [_, _, _, _, _, _, _, _]) dX0_busiest_3 (by decide) rfl ?_
  refine r_iconst (pc := 5) (v := nI 0) dX0_busiest_5 (by decide) ?_
  refine r_istore (pc := 6) (L' := [_, _, _, _, _, _, _, _]) dX0_busiest_6 (by decide) rfl ?_
  suffices outer : ∀ k i b m, i + k = 8 → b < 8 → ((m = -1 ∧ ∀ v, v < i → bt vs v = false) ∨ bt vs b = true) → V shX0 RX0 cX0_busiest 8 1 (some .int) (P_busiest σ vs) 8 [some (.inr 0), some (.inl (vs)), some (.inl (cs)), some (.inl (nI b)), some (.inl (m)), some (.inl (nI i)), none, none] [] σ from outer 8 0 0 (-1) (by omega) (by omega) (Or.inl ⟨rfl, fun v h => absurd h (by omega)⟩)
  intro k
  induction k with
  | zero =>
    intro i b m hi hb hp
    refine r_iload (pc := 8) dX0_busiest_8 rfl ?_
    refine r_bipush (pc := 10) (v := nI 8) dX0_busiest_10 (by decide) ?_
    refine r_icmp_ge (pc := 12) (tgt := 87) dX0_busiest_12 (by decide) (fun _ => ?_) (fun z => absurd (nI_le (by omega) (by omega)) z)
    refine r_iload_n (pc := 87) (i := 3) dX0_busiest_87 rfl rfl ?_
    refine r_iret (pc := 88) dX0_busiest_88 ?_
    refine ⟨rfl, b, hb, rfl, ?_⟩
    rcases hp with ⟨-, hp⟩ | hp
    · obtain ⟨v, hv, hbv⟩ := he
      rw [hp v (by omega)] at hbv; cases hbv
    · exact hp
  | succ k ih =>
    intro i b m hi hb hp
    refine r_iload (pc := 8) dX0_busiest_8 rfl ?_
    refine r_bipush (pc := 10) (v := nI 8) dX0_busiest_10 (by decide) ?_
    refine r_icmp_ge (pc := 12) (tgt := 87) dX0_busiest_12 (by decide) (fun z => absurd z (nI_ge (by omega) (by omega))) (fun _ => ?_)
    refine r_iconst (pc := 15) (v := nI 0) dX0_busiest_15 (by decide) ?_
    refine r_istore (pc := 16) (L' := [_, _, _, _, _, _, _, _]) dX0_busiest_16 (by decide) rfl ?_
    refine r_iconst (pc := 18) (v := nI 0) dX0_busiest_18 (by decide) ?_
    refine r_istore (pc := 19) (L' := [_, _, _, _, _, _, _, _]) dX0_busiest_19 (by decide) rfl ?_
    suffices inner : ∀ k2 j z, j + k2 = N → z ≤ j → V shX0 RX0 cX0_busiest 8 1 (some .int) (P_busiest σ vs) 21 [some (.inr 0), some (.inl (vs)), some (.inl (cs)), some (.inl (nI b)), some (.inl (m)), some (.inl (nI i)), some (.inl (nI z)), some (.inl (nI j))] [] σ from inner N 0 0 (by omega) (by omega)
    intro k2
    induction k2 with
    | zero =>
      intro j z hj hz
      refine r_iload (pc := 21) dX0_busiest_21 rfl ?_
      refine r_aload_n (pc := 23) (i := 0) dX0_busiest_23 rfl rfl ?_
      refine r_getI (pc := 24) ckX0 2 (by decide) rfl q38 dX0_busiest_24 ?_
      refine r_icmp_ge (pc := 27) (tgt := 57) dX0_busiest_27 (by decide) (fun _ => ?_) (fun z => absurd (by rw [hc]; exact nI_le (by omega) (by omega)) z)
      refine r_drop 7 (L' := [_, _, _, _, _, _, _, _]) rfl ?_
      refine r_iload_n (pc := 57) (i := 1) dX0_busiest_57 rfl rfl ?_
      refine r_iload (pc := 58) dX0_busiest_58 rfl ?_
      refine r_ishr (pc := 60) dX0_busiest_60 ?_
      refine r_iconst (pc := 61) (v := nI 1) dX0_busiest_61 (by decide) ?_
      refine r_iand (pc := 62) dX0_busiest_62 ?_
      refine r_iconst (pc := 63) (v := nI 1) dX0_busiest_63 (by decide) ?_
      refine r_icmp_ne (pc := 64) (tgt := 81) dX0_busiest_64 (by decide) (fun h1 => ?_) (fun h1 => ?_)
      · refine r_drop 6 (L' := [_, _, _, _, _, _, _, _]) rfl ?_
        refine r_iinc (pc := 81) (v := _) (L' := [_, _, _, _, _, _, _, _]) dX0_busiest_81 rfl (inc1 _) (by decide) rfl ?_
        refine r_goto (pc := 84) (tgt := 8) dX0_busiest_84 (by decide) ?_
        refine ih (i + 1) b m (by omega) hb ?_
        rcases hp with ⟨hm, hp⟩ | hp
        · left
          refine ⟨hm, fun v h => ?_⟩
          by_cases e : v = i
          · subst e
            rw [bit_one vs (by omega)] at h1
            simpa using h1
          · exact hp v (by omega)
        · exact Or.inr hp
      · have hbi := (bit_one vs (by omega)).mp h1
        refine r_iload (pc := 67) dX0_busiest_67 rfl ?_
        refine r_iload (pc := 69) dX0_busiest_69 rfl ?_
        refine r_icmp_le (pc := 71) (tgt := 81) dX0_busiest_71 (by decide) (fun h2 => ?_) (fun h2 => ?_)
        · refine r_drop 6 (L' := [_, _, _, _, _, _, _, _]) rfl ?_
          refine r_iinc (pc := 81) (v := _) (L' := [_, _, _, _, _, _, _, _]) dX0_busiest_81 rfl (inc1 _) (by decide) rfl ?_
          refine r_goto (pc := 84) (tgt := 8) dX0_busiest_84 (by decide) ?_
          refine ih (i + 1) b m (by omega) hb ?_
          rcases hp with ⟨hm, hp⟩ | hp
          · exfalso
            rw [hm, fa_le, nI_toInt (by omega)] at h2
            have h3 : (-1 : Int32).toInt = -1 := by decide
            omega
          · exact Or.inr hp
        · refine r_iload (pc := 74) dX0_busiest_74 rfl ?_
          refine r_istore (pc := 76) (L' := [_, _, _, _, _, _, _, _]) dX0_busiest_76 (by decide) rfl ?_
          refine r_iload (pc := 78) dX0_busiest_78 rfl ?_
          refine r_istore_n (pc := 80) (i := 3) (L' := [_, _, _, _, _, _, _, _]) dX0_busiest_80 rfl (by decide) rfl ?_
          refine r_drop 6 (L' := [_, _, _, _, _, _, _, _]) rfl ?_
          refine r_iinc (pc := 81) (v := _) (L' := [_, _, _, _, _, _, _, _]) dX0_busiest_81 rfl (inc1 _) (by decide) rfl ?_
          refine r_goto (pc := 84) (tgt := 8) dX0_busiest_84 (by decide) ?_
          exact ih (i + 1) i _ (by omega) (by omega) (Or.inr hbi)
    | succ k2 ih2 =>
      intro j z hj hz
      refine r_iload (pc := 21) dX0_busiest_21 rfl ?_
      refine r_aload_n (pc := 23) (i := 0) dX0_busiest_23 rfl rfl ?_
      refine r_getI (pc := 24) ckX0 2 (by decide) rfl q38 dX0_busiest_24 ?_
      refine r_icmp_ge (pc := 27) (tgt := 57) dX0_busiest_27 (by decide) (fun z => absurd z (by rw [hc]; exact nI_ge (by omega) (by omega))) (fun _ => ?_)
      refine r_iload (pc := 30) dX0_busiest_30 rfl ?_
      refine r_iload_n (pc := 32) (i := 2) dX0_busiest_32 rfl rfl ?_
      refine r_iload (pc := 33) dX0_busiest_33 rfl ?_
      refine r_ishr (pc := 35) dX0_busiest_35 ?_
      refine r_aload_n (pc := 36) (i := 0) dX0_busiest_36 rfl rfl ?_
      refine r_iload (pc := 37) dX0_busiest_37 rfl ?_
      refine r_callI (pc := 39) ckX0 (m_literalsOf σ j (by omega)) mf_X0_literalsOf q162 (by decide) (by decide) dX0_busiest_39 rfl (Nat.le_of_ble_eq_true rfl) (fun r σ hr => ?_)
      obtain ⟨rfl, rfl⟩ := hr
      refine r_iload (pc := 42) dX0_busiest_42 rfl ?_
      refine r_ishr (pc := 44) dX0_busiest_44 ?_
      refine r_iand (pc := 45) dX0_busiest_45 ?_
      refine r_iconst (pc := 46) (v := nI 1) dX0_busiest_46 (by decide) ?_
      refine r_iand (pc := 47) dX0_busiest_47 ?_
      rw [and_one]
      refine r_iadd (pc := 48) dX0_busiest_48 ?_
      rw [nI_add]
      refine r_istore (pc := 49) (L' := [_, _, _, _, _, _, _, _]) dX0_busiest_49 (by decide) rfl ?_
      refine r_iinc (pc := 51) (v := _) (L' := [_, _, _, _, _, _, _, _]) dX0_busiest_51 rfl (inc1 _) (by decide) rfl ?_
      refine r_goto (pc := 54) (tgt := 21) dX0_busiest_54 (by decide) ?_
      refine ih2 (j + 1) _ (by omega) ?_
      cases bt (cs >>> (nI j &&& 31) &&& lit σ j >>> (nI i &&& 31)) 0
      · show z + 0 ≤ j + 1; omega
      · show z + 1 ≤ j + 1; omega
abbrev P_clausesLeft (σ : St) (N : Nat) (cs : Int32) (v : Nat) (t : Bool) : Int32 → St → Prop := fun r σ' => σ' = σ ∧ ∀ c, c < 32 → bt r c = (bt cs c && !(decide (c < N) && bt (σ (if t then 3 else 4) c) v))
theorem m_clausesLeft (σ : St) (N : Nat) (hN : N ≤ 14) (hc : σ 2 0 = nI N) (cs : Int32) (v : Nat) (hv : v < 8) (t : Bool) : CN shX0 yX0_clausesLeft cX0_clausesLeft 7 0 (some .int) [cs, nI v, nI t.toNat] σ (P_clausesLeft σ N cs v t) := by
  refine CN.ofV (own := RX0) (by decide) rfl (Nat.le_of_ble_eq_true rfl) ?_
  show V shX0 RX0 cX0_clausesLeft 7 0 (some .int) _ 0 [some (.inr 0), some (.inl cs), some (.inl (nI v)), some (.inl (nI t.toNat)), none, none, none] [] _
  refine r_iload_n (pc := 0) (i := 1) dX0_clausesLeft_0 rfl rfl ?_
  refine r_istore (pc := 1) (L' := [_, _, _, _, _, _, _]) dX0_clausesLeft_1 (by decide) rfl ?_
  refine r_iconst (pc := 3) (v := nI 0) dX0_clausesLeft_3 (by decide) ?_
  refine r_istore (pc := 4) (L' := [_, _, _, _, _, _, _]) dX0_clausesLeft_4 (by decide) rfl ?_
  suffices h : ∀ k i o, i + k = N → (∀ c, c < 32 → bt o c = (bt cs c && !(decide (c < i) && bt (σ (if t then 3 else 4) c) v))) → V shX0 RX0 cX0_clausesLeft 7 0 (some .int) (P_clausesLeft σ N cs v t) 6 [some (.inr 0), some (.inl (cs)), some (.inl (nI v)), some (.inl (nI t.toNat)), some (.inl (o)), some (.inl (nI i)), none] [] σ from h N 0 cs (by omega) (fun c _ => by simp)
  intro k
  induction k with
  | zero =>
    intro i o hi hp
    refine r_iload (pc := 6) dX0_clausesLeft_6 rfl ?_
    refine r_aload_n (pc := 8) (i := 0) dX0_clausesLeft_8 rfl rfl ?_
    refine r_getI (pc := 9) ckX0 2 (by decide) rfl q38 dX0_clausesLeft_9 ?_
    refine r_icmp_ge (pc := 12) (tgt := 65) dX0_clausesLeft_12 (by decide) (fun _ => ?_) (fun z => absurd (by rw [hc]; exact nI_le (by omega) (by omega)) z)
    refine r_iload (pc := 65) dX0_clausesLeft_65 rfl ?_
    refine r_iret (pc := 67) dX0_clausesLeft_67 ?_
    exact ⟨rfl, by rw [show N = i by omega]; exact hp⟩
  | succ k ih =>
    intro i o hi hp
    refine r_iload (pc := 6) dX0_clausesLeft_6 rfl ?_
    refine r_aload_n (pc := 8) (i := 0) dX0_clausesLeft_8 rfl rfl ?_
    refine r_getI (pc := 9) ckX0 2 (by decide) rfl q38 dX0_clausesLeft_9 ?_
    refine r_icmp_ge (pc := 12) (tgt := 65) dX0_clausesLeft_12 (by decide) (fun z => absurd z (by rw [hc]; exact nI_ge (by omega) (by omega))) (fun _ => ?_)
    have tail : V shX0 RX0 cX0_clausesLeft 7 0 (some .int) (P_clausesLeft σ N cs v t) 36 [some (.inr 0), some (.inl (cs)), some (.inl (nI v)), some (.inl (nI t.toNat)), some (.inl (o)), some (.inl (nI i)), none] [.inl (σ (if t then 3 else 4) i)] σ := by
      refine r_istore (pc := 36) (L' := [_, _, _, _, _, _, _]) dX0_clausesLeft_36 (by decide) rfl ?_
      refine r_iload (pc := 38) dX0_clausesLeft_38 rfl ?_
      refine r_iload_n (pc := 40) (i := 2) dX0_clausesLeft_40 rfl rfl ?_
      refine r_ishr (pc := 41) dX0_clausesLeft_41 ?_
      refine r_iconst (pc := 42) (v := nI 1) dX0_clausesLeft_42 (by decide) ?_
      refine r_iand (pc := 43) dX0_clausesLeft_43 ?_
      refine r_iconst (pc := 44) (v := nI 1) dX0_clausesLeft_44 (by decide) ?_
      refine r_icmp_ne (pc := 45) (tgt := 59) dX0_clausesLeft_45 (by decide) (fun h1 => ?_) (fun h1 => ?_)
      · refine r_drop 6 (L' := [_, _, _, _, _, _, _]) rfl ?_
        refine r_iinc (pc := 59) (v := _) (L' := [_, _, _, _, _, _, _]) dX0_clausesLeft_59 rfl (inc1 _) (by decide) rfl ?_
        refine r_goto (pc := 62) (tgt := 6) dX0_clausesLeft_62 (by decide) ?_
        refine ih (i + 1) o (by omega) (fun c h32 => ?_)
        rw [hp c h32]
        by_cases e : c = i
        · subst e
          have hz : bt (σ (if t then 3 else 4) c) v = false := by
            rw [bit_one _ (by omega)] at h1
            simpa using h1
          rw [hz]; simp
        · rw [show decide (c < i + 1) = decide (c < i) from decide_eq_decide.mpr (by omega)]
      · have hb := (bit_one _ (by omega)).mp h1
        refine r_drop 6 (L' := [_, _, _, _, _, _, _]) rfl ?_
        refine r_iload (pc := 48) dX0_clausesLeft_48 rfl ?_
        refine r_iconst (pc := 50) (v := nI 1) dX0_clausesLeft_50 (by decide) ?_
        refine r_iload (pc := 51) dX0_clausesLeft_51 rfl ?_
        refine r_ishl (pc := 53) dX0_clausesLeft_53 ?_
        refine r_iconst (pc := 54) (v := (-1)) dX0_clausesLeft_54 (by decide) ?_
        refine r_ixor (pc := 55) dX0_clausesLeft_55 ?_
        refine r_iand (pc := 56) dX0_clausesLeft_56 ?_
        refine r_istore (pc := 57) (L' := [_, _, _, _, _, _, _]) dX0_clausesLeft_57 (by decide) rfl ?_
        refine r_iinc (pc := 59) (v := _) (L' := [_, _, _, _, _, _, _]) dX0_clausesLeft_59 rfl (inc1 _) (by decide) rfl ?_
        refine r_goto (pc := 62) (tgt := 6) dX0_clausesLeft_62 (by decide) ?_
        refine ih (i + 1) _ (by omega) (fun c h32 => ?_)
        rw [b_and, hp c h32, bt_not _ h32, bt_pow (by omega) h32]
        by_cases e : c = i
        · subst e
          rw [hb]; simp
        · rw [show decide (c < i + 1) = decide (c < i) from decide_eq_decide.mpr (by omega), decide_eq_false e]
          simp
    refine r_iload_n (pc := 15) (i := 3) dX0_clausesLeft_15 rfl rfl ?_
    cases t
    · refine r_if_eq (pc := 16) (tgt := 29) dX0_clausesLeft_16 (by decide) (fun _ => ?_) (fun z => absurd (rfl) z)
      refine r_aload_n (pc := 29) (i := 0) dX0_clausesLeft_29 rfl rfl ?_
      refine r_getA (pc := 30) ckX0 4 (by decide) rfl q40 dX0_clausesLeft_30 ?_
      refine r_iload (pc := 33) dX0_clausesLeft_33 rfl ?_
      refine r_iald (pc := 35) ckX0 rfl dX0_clausesLeft_35 (rfl) (by omega) ?_
      exact tail
    · refine r_if_eq (pc := 16) (tgt := 29) dX0_clausesLeft_16 (by decide) (fun z => absurd z (by decide)) (fun _ => ?_)
      refine r_aload_n (pc := 19) (i := 0) dX0_clausesLeft_19 rfl rfl ?_
      refine r_getA (pc := 20) ckX0 3 (by decide) rfl q39 dX0_clausesLeft_20 ?_
      refine r_iload (pc := 23) dX0_clausesLeft_23 rfl ?_
      refine r_iald (pc := 25) ckX0 rfl dX0_clausesLeft_25 (rfl) (by omega) ?_
      refine r_goto (pc := 26) (tgt := 36) dX0_clausesLeft_26 (by decide) ?_
      exact tail
end
section
/-! X0: nodeFor, workOut, build: the diagram -/
theorem r_top {sh : Shp} {own : String} {cc : ByteArray} {nL dl : Nat} {ret : Option FieldType} {post : Int32 → St → Prop} {pc : Nat} {L : List (Option AV)} {st : List AV} {σ : St} {x : Int32} (y : Int32) (h : x = y) (k : V sh own cc nL dl ret post pc L (.inl y :: st) σ) : V sh own cc nL dl ret post pc L (.inl x :: st) σ := h ▸ k
theorem r_st {sh : Shp} {own : String} {cc : ByteArray} {nL dl : Nat} {ret : Option FieldType} {post : Int32 → St → Prop} {pc : Nat} {L : List (Option AV)} {st : List AV} {σ : St} (σ' : St) (h : σ = σ') (k : V sh own cc nL dl ret post pc L st σ') : V sh own cc nL dl ret post pc L st σ := h ▸ k
/-- the table's entries: none, or a node -/
def TB (σ : St) (M : Nat) : Prop := ∀ i, i < 1024 → σ 16 i = -1 ∨ ∃ n, n < M ∧ σ 16 i = nI n
abbrev newN (σ : St) (a M : Nat) (vs cs : Int32) : St := su (su (su (su (su σ 16 a (nI M)) 9 M vs) 10 M cs) 11 M (nI (pop8 vs))) 8 0 (nI (M + 1))
abbrev P_nodeFor (σ : St) (M : Nat) (vs cs : Int32) : Int32 → St → Prop := fun r σ' => (σ' = σ ∧ ∃ n, n < M ∧ r = nI n ∧ σ 9 n = vs ∧ σ 10 n = cs) ∨ (r = nI M ∧ ∃ a, a < 1024 ∧ σ' = newN σ a M vs cs)
theorem at_first (x : Int32) : ∃ a, a < 1024 ∧ (x &&& 2147483647) - (x &&& 2147483647) / nI 1024 * nI 1024 = nI a := by
  obtain ⟨j, hj, e⟩ := pk_andE x (m := 2147483647) 31 (by decide)
  rw [e, pk_rem (by omega) (by decide) (by decide)]
  exact ⟨j % 1024, Nat.mod_lt _ (by decide), rfl⟩
theorem at_next {a : Nat} : ∃ b, b < 1024 ∧ (nI a + nI 1) &&& nI 1023 = nI b := by
  rw [nI_add, show nI 1023 = nI (2 ^ 10 - 1) from rfl, fa_mask]
  exact ⟨_, Nat.mod_lt _ (by decide), rfl⟩
theorem m_nodeFor (σ : St) (M : Nat) (hM : σ 8 0 = nI M) (h5 : M < 512) (hT : TB σ M) (vs cs : Int32) : CN shX0 yX0_nodeFor cX0_nodeFor 6 1 (some .int) [vs, cs] σ (P_nodeFor σ M vs cs) := by
  refine CN.ofV (own := RX0) (by decide) rfl (Nat.le_of_ble_eq_true rfl) ?_
  show V shX0 RX0 cX0_nodeFor 6 1 (some .int) _ 0 [some (.inr 0), some (.inl vs), some (.inl cs), none, none, none] [] _
  refine r_iload_n (pc := 0) (i := 1) dX0_nodeFor_0 rfl rfl ?_
  refine r_bipush (pc := 1) (v := nI 37) dX0_nodeFor_1 (by decide) ?_
  refine r_imul (pc := 3) dX0_nodeFor_3 ?_
  refine r_iload_n (pc := 4) (i := 2) dX0_nodeFor_4 rfl rfl ?_
  refine r_bipush (pc := 5) (v := nI 101) dX0_nodeFor_5 (by decide) ?_
  refine r_imul (pc := 7) dX0_nodeFor_7 ?_
  refine r_iadd (pc := 8) dX0_nodeFor_8 ?_
  refine r_ldc (pc := 9) q149 dX0_nodeFor_9 ?_
  refine r_iand (pc := 11) dX0_nodeFor_11 ?_
  refine r_sipush (pc := 12) (v := nI 1024) dX0_nodeFor_12 (by decide) ?_
  obtain ⟨a0, ha0, e0⟩ := at_first (vs * nI 37 + cs * nI 101)
  refine r_irem (pc := 15) dX0_nodeFor_15 (by decide) ?_
  refine r_top (nI a0) e0 ?_
  refine r_istore_n (pc := 16) (i := 3) (L' := [_, _, _, _, _, _]) dX0_nodeFor_16 rfl (by decide) rfl ?_
  refine r_iconst (pc := 17) (v := nI 0) dX0_nodeFor_17 (by decide) ?_
  refine r_istore (pc := 18) (L' := [_, _, _, _, _, _]) dX0_nodeFor_18 (by decide) rfl ?_
  have tail : ∀ a i, a < 1024 → V shX0 RX0 cX0_nodeFor 6 1 (some .int) (P_nodeFor σ M vs cs) 84 [some (.inr 0), some (.inl (vs)), some (.inl (cs)), some (.inl (nI a)), some (.inl (i)), none] [] σ := by
    intro a i ha
    refine r_aload_n (pc := 84) (i := 0) dX0_nodeFor_84 rfl rfl ?_
    refine r_getA (pc := 85) ckX0 16 (by decide) rfl q52 dX0_nodeFor_85 ?_
    refine r_iload_n (pc := 88) (i := 3) dX0_nodeFor_88 rfl rfl ?_
    refine r_aload_n (pc := 89) (i := 0) dX0_nodeFor_89 rfl rfl ?_
    refine r_getI (pc := 90) ckX0 8 (by decide) rfl q44 dX0_nodeFor_90 ?_
    refine r_top (nI M) hM ?_
    refine r_iast (pc := 93) ckX0 rfl dX0_nodeFor_93 (rfl) (by omega) ?_
    refine r_aload_n (pc := 94) (i := 0) dX0_nodeFor_94 rfl rfl ?_
    refine r_getA (pc := 95) ckX0 9 (by decide) rfl q45 dX0_nodeFor_95 ?_
    refine r_aload_n (pc := 98) (i := 0) dX0_nodeFor_98 rfl rfl ?_
    refine r_getI (pc := 99) ckX0 8 (by decide) rfl q44 dX0_nodeFor_99 ?_
    refine r_iload_n (pc := 102) (i := 1) dX0_nodeFor_102 rfl rfl ?_
    refine r_iast (pc := 103) ckX0 rfl dX0_nodeFor_103 (hM) (h5) ?_
    refine r_aload_n (pc := 104) (i := 0) dX0_nodeFor_104 rfl rfl ?_
    refine r_getA (pc := 105) ckX0 10 (by decide) rfl q46 dX0_nodeFor_105 ?_
    refine r_aload_n (pc := 108) (i := 0) dX0_nodeFor_108 rfl rfl ?_
    refine r_getI (pc := 109) ckX0 8 (by decide) rfl q44 dX0_nodeFor_109 ?_
    refine r_iload_n (pc := 112) (i := 2) dX0_nodeFor_112 rfl rfl ?_
    refine r_iast (pc := 113) ckX0 rfl dX0_nodeFor_113 (hM) (h5) ?_
    refine r_aload_n (pc := 114) (i := 0) dX0_nodeFor_114 rfl rfl ?_
    refine r_getA (pc := 115) ckX0 11 (by decide) rfl q47 dX0_nodeFor_115 ?_
    refine r_aload_n (pc := 118) (i := 0) dX0_nodeFor_118 rfl rfl ?_
    refine r_getI (pc := 119) ckX0 8 (by decide) rfl q44 dX0_nodeFor_119 ?_
    refine r_aload_n (pc := 122) (i := 0) dX0_nodeFor_122 rfl rfl ?_
    refine r_iload_n (pc := 123) (i := 1) dX0_nodeFor_123 rfl rfl ?_
    refine r_callI (pc := 124) ckX0 (m_sizeOf _ vs) mf_X0_sizeOf q150 (by decide) (by decide) dX0_nodeFor_124 rfl (Nat.le_of_ble_eq_true rfl) (fun r σ hr => ?_)
    obtain ⟨rfl, rfl⟩ := hr
    refine r_iast (pc := 127) ckX0 rfl dX0_nodeFor_127 (hM) (h5) ?_
    refine r_aload_n (pc := 128) (i := 0) dX0_nodeFor_128 rfl rfl ?_
    refine r_dup (pc := 129) dX0_nodeFor_129 ?_
    refine r_getI (pc := 130) ckX0 8 (by decide) rfl q44 dX0_nodeFor_130 ?_
    refine r_top (nI M) hM ?_
    refine r_iconst (pc := 133) (v := nI 1) dX0_nodeFor_133 (by decide) ?_
    refine r_iadd (pc := 134) dX0_nodeFor_134 ?_
    refine r_top (nI (M + 1)) (nI_add M 1) ?_
    refine r_put (pc := 135) (ty := .int) ckX0 8 (by decide) rfl rfl (by decide +kernel) rfl rfl q44 dX0_nodeFor_135 ?_
    refine r_aload_n (pc := 138) (i := 0) dX0_nodeFor_138 rfl rfl ?_
    refine r_getI (pc := 139) ckX0 8 (by decide) rfl q44 dX0_nodeFor_139 ?_
    refine r_top (nI (M + 1)) rfl ?_
    refine r_iconst (pc := 142) (v := nI 1) dX0_nodeFor_142 (by decide) ?_
    refine r_isub (pc := 143) dX0_nodeFor_143 ?_
    refine r_top (nI M) (nI_pred M) ?_
    refine r_iret (pc := 144) dX0_nodeFor_144 ?_
    exact Or.inr ⟨rfl, a, ha, rfl⟩
  suffices h : ∀ k i a, i + k = 1024 → a < 1024 → V shX0 RX0 cX0_nodeFor 6 1 (some .int) (P_nodeFor σ M vs cs) 20 [some (.inr 0), some (.inl (vs)), some (.inl (cs)), some (.inl (nI a)), some (.inl (nI i)), none] [] σ from h 1024 0 a0 (by omega) ha0
  intro k
  induction k with
  | zero =>
    intro i a hi ha
    refine r_iload (pc := 20) dX0_nodeFor_20 rfl ?_
    refine r_sipush (pc := 22) (v := nI 1024) dX0_nodeFor_22 (by decide) ?_
    refine r_icmp_ge (pc := 25) (tgt := 84) dX0_nodeFor_25 (by decide) (fun _ => ?_) (fun z => absurd (nI_le (by omega) (by omega)) z)
    exact tail a _ ha
  | succ k ih =>
    intro i a hi ha
    refine r_iload (pc := 20) dX0_nodeFor_20 rfl ?_
    refine r_sipush (pc := 22) (v := nI 1024) dX0_nodeFor_22 (by decide) ?_
    refine r_icmp_ge (pc := 25) (tgt := 84) dX0_nodeFor_25 (by decide) (fun z => absurd z (nI_ge (by omega) (by omega))) (fun _ => ?_)
    refine r_aload_n (pc := 28) (i := 0) dX0_nodeFor_28 rfl rfl ?_
    refine r_getA (pc := 29) ckX0 16 (by decide) rfl q52 dX0_nodeFor_29 ?_
    refine r_iload_n (pc := 32) (i := 3) dX0_nodeFor_32 rfl rfl ?_
    refine r_iald (pc := 33) ckX0 rfl dX0_nodeFor_33 (rfl) (by omega) ?_
    refine r_if_lt (pc := 34) (tgt := 84) dX0_nodeFor_34 (by decide) (fun h1 => ?_) (fun h1 => ?_)
    · exact tail a _ ha
    · obtain ⟨n, hn, en⟩ : ∃ n, n < M ∧ σ 16 a = nI n := by
        rcases hT a ha with e | e
        · rw [e] at h1
          exact absurd (by decide) h1
        · exact e
      refine r_aload_n (pc := 37) (i := 0) dX0_nodeFor_37 rfl rfl ?_
      refine r_getA (pc := 38) ckX0 16 (by decide) rfl q52 dX0_nodeFor_38 ?_
      refine r_iload_n (pc := 41) (i := 3) dX0_nodeFor_41 rfl rfl ?_
      refine r_iald (pc := 42) ckX0 rfl dX0_nodeFor_42 (rfl) (by omega) ?_
      refine r_top (nI n) en ?_
      refine r_istore (pc := 43) (L' := [_, _, _, _, _, _]) dX0_nodeFor_43 (by decide) rfl ?_
      refine r_aload_n (pc := 45) (i := 0) dX0_nodeFor_45 rfl rfl ?_
      refine r_getA (pc := 46) ckX0 9 (by decide) rfl q45 dX0_nodeFor_46 ?_
      refine r_iload (pc := 49) dX0_nodeFor_49 rfl ?_
      refine r_iald (pc := 51) ckX0 rfl dX0_nodeFor_51 (rfl) (by omega) ?_
      refine r_iload_n (pc := 52) (i := 1) dX0_nodeFor_52 rfl rfl ?_
      have next : V shX0 RX0 cX0_nodeFor 6 1 (some .int) (P_nodeFor σ M vs cs) 70 [some (.inr 0), some (.inl (vs)), some (.inl (cs)), some (.inl (nI a)), some (.inl (nI i)), none] [] σ := by
        obtain ⟨b, hb, eb⟩ := at_next (a := a)
        refine r_iload_n (pc := 70) (i := 3) dX0_nodeFor_70 rfl rfl ?_
        refine r_iconst (pc := 71) (v := nI 1) dX0_nodeFor_71 (by decide) ?_
        refine r_iadd (pc := 72) dX0_nodeFor_72 ?_
        refine r_sipush (pc := 73) (v := nI 1023) dX0_nodeFor_73 (by decide) ?_
        refine r_iand (pc := 76) dX0_nodeFor_76 ?_
        refine r_top (nI b) eb ?_
        refine r_istore_n (pc := 77) (i := 3) (L' := [_, _, _, _, _, _]) dX0_nodeFor_77 rfl (by decide) rfl ?_
        refine r_iinc (pc := 78) (v := _) (L' := [_, _, _, _, _, _]) dX0_nodeFor_78 rfl (inc1 _) (by decide) rfl ?_
        refine r_goto (pc := 81) (tgt := 20) dX0_nodeFor_81 (by decide) ?_
        exact ih (i + 1) b (by omega) hb
      refine r_icmp_ne (pc := 53) (tgt := 70) dX0_nodeFor_53 (by decide) (fun h2 => ?_) (fun h2 => ?_)
      · refine r_drop 5 (L' := [_, _, _, _, _, _]) rfl ?_
        exact next
      · refine r_aload_n (pc := 56) (i := 0) dX0_nodeFor_56 rfl rfl ?_
        refine r_getA (pc := 57) ckX0 10 (by decide) rfl q46 dX0_nodeFor_57 ?_
        refine r_iload (pc := 60) dX0_nodeFor_60 rfl ?_
        refine r_iald (pc := 62) ckX0 rfl dX0_nodeFor_62 (rfl) (by omega) ?_
        refine r_iload_n (pc := 63) (i := 2) dX0_nodeFor_63 rfl rfl ?_
        refine r_icmp_ne (pc := 64) (tgt := 70) dX0_nodeFor_64 (by decide) (fun h3 => ?_) (fun h3 => ?_)
        · refine r_drop 5 (L' := [_, _, _, _, _, _]) rfl ?_
          exact next
        · refine r_iload (pc := 67) dX0_nodeFor_67 rfl ?_
          refine r_iret (pc := 69) dX0_nodeFor_69 ?_
          exact Or.inl ⟨rfl, n, hn, rfl, h2, h3⟩
/-! invariants of the diagram -/
/-- the basics of all nodes -/
def BB (σ : St) (N M : Nat) : Prop := σ 8 0 = nI M ∧ TB σ M ∧ ∀ j, j < M → lowB 8 (σ 9 j) ∧ lowB N (σ 10 j) ∧ σ 11 j = nI (pop8 (σ 9 j))
/-- what is still to come: weight of the nodes from n on -/
def pw (σ : St) (n j : Nat) : Nat := if j < n then 0 else 2 ^ (pop8 (σ 9 j) + 1) - 2
def PP (σ : St) (n M : Nat) : Nat := fb_sm (pw σ n) M
abbrev Beside (σ : St) (N : Nat) (vs cs v1 c1 v2 c2 : Int32) : Prop := subS v1 vs ∧ ¬ v1 = 0 ∧ ¬ v1 = vs ∧ closedS σ N vs cs v1 ∧ (∀ c, c < 32 → bt c1 c = (decide (c < N) && (bt cs c && touch σ v1 c))) ∧ (∀ v, v < 32 → bt v2 v = (bt vs v && !bt v1 v)) ∧ ∀ c, c < 32 → bt c2 c = (bt cs c && !bt c1 c)
abbrev Decide (σ : St) (N : Nat) (vs cs : Int32) (v : Nat) (v1 c1 v2 c2 : Int32) : Prop := v < 8 ∧ bt vs v = true ∧ (∀ i, i < 32 → bt v1 i = (bt vs i && !decide (i = v))) ∧ v2 = v1 ∧ (∀ c, c < 32 → bt c1 c = (bt cs c && !(decide (c < N) && bt (σ 3 c) v))) ∧ ∀ c, c < 32 → bt c2 c = (bt cs c && !(decide (c < N) && bt (σ 4 c) v))
def NodeOK (σ : St) (N M n : Nat) : Prop :=
  (σ 12 n = nI 1 ∧ ∃ c, c < N ∧ bt (σ 10 n) c = true ∧ lit σ c &&& σ 9 n = 0) ∨
  (σ 12 n = nI 0 ∧ σ 10 n = 0) ∨
  (σ 12 n = nI 2 ∧ ∃ f s, f < M ∧ s < M ∧ σ 14 n = nI f ∧ σ 15 n = nI s ∧ Beside σ N (σ 9 n) (σ 10 n) (σ 9 f) (σ 10 f) (σ 9 s) (σ 10 s)) ∨
  (σ 12 n = nI 3 ∧ ∃ v f s, σ 13 n = nI v ∧ f < M ∧ s < M ∧ σ 14 n = nI f ∧ σ 15 n = nI s ∧ Decide σ N (σ 9 n) (σ 10 n) v (σ 9 f) (σ 10 f) (σ 9 s) (σ 10 s))
def BI (σ : St) (N n M : Nat) : Prop := BB σ N M ∧ (∀ j, j < n → NodeOK σ N M j) ∧ n ≤ M ∧ M + PP σ n M ≤ 511 ∧ 0 < M ∧ σ 9 0 = nI 255 ∧ σ 10 0 = nI (2 ^ N - 1)
theorem pow2_ge (p : Nat) : 2 ≤ 2 ^ (p + 1) := by
  rw [Nat.pow_succ]
  have := Nat.two_pow_pos p
  omega
theorem BB_su {σ : St} {N M : Nat} (h : BB σ N M) {k : Nat} (hk : 12 ≤ k ∧ k ≤ 15) (j : Nat) (x : Int32) : BB (su σ k j x) N M := by
  have e : ∀ i, i = 8 ∨ i = 9 ∨ i = 10 ∨ i = 11 ∨ i = 16 → su σ k j x i = σ i := fun i hi => su_ne σ j x (by omega)
  unfold BB TB at h ⊢
  rw [e 8 (by omega), e 9 (by omega), e 10 (by omega), e 11 (by omega), e 16 (by omega)]
  exact h
theorem PP_congr {σ σ' : St} {n M : Nat} (h : ∀ j, j < M → σ' 9 j = σ 9 j) : PP σ' n M = PP σ n M := by
  unfold PP
  refine fb_sm_cong (fun k hk => ?_)
  unfold pw
  rw [h k hk]
theorem PP_su {σ : St} {n M k j : Nat} {x : Int32} (hk : 12 ≤ k) : PP (su σ k j x) n M = PP σ n M := PP_congr (fun i _ => by rw [su_ne σ j x (by omega)])
theorem nodeFor_grow {σ σ' : St} {N M : Nat} {r vs cs : Int32} (hB : BB σ N M) (hv : lowB 8 vs) (hcs : lowB N cs) (h : P_nodeFor σ M vs cs r σ') :
    ∃ M' x, r = nI x ∧ x < M' ∧ BB σ' N M' ∧ σ' 9 x = vs ∧ σ' 10 x = cs ∧ (∀ j, j < M → σ' 9 j = σ 9 j ∧ σ' 10 j = σ 10 j) ∧ M ≤ M' ∧ M' ≤ M + 1 ∧ (∀ n, n ≤ M → M' + PP σ' n M' ≤ M + PP σ n M + (2 ^ (pop8 vs + 1) - 1)) ∧ ∀ k, k < 8 ∨ (12 ≤ k ∧ k ≤ 15) ∨ 16 < k → σ' k = σ k := by
  rcases h with ⟨rfl, n, hn, e, e1, e2⟩ | ⟨e, a, ha, rfl⟩
  · exact ⟨M, n, e, hn, hB, e1, e2, fun j _ => ⟨rfl, rfl⟩, Nat.le_refl _, by omega, fun n _ => by omega, fun k _ => rfl⟩
  · obtain ⟨h8, hT, hb⟩ := hB
    have old9 : ∀ j, j < M → newN σ a M vs cs 9 j = σ 9 j := fun j hj => pk_un (show j ≠ M by omega)
    have old10 : ∀ j, j < M → newN σ a M vs cs 10 j = σ 10 j := fun j hj => pk_un (show j ≠ M by omega)
    have old11 : ∀ j, j < M → newN σ a M vs cs 11 j = σ 11 j := fun j hj => pk_un (show j ≠ M by omega)
    have new9 : newN σ a M vs cs 9 M = vs := pk_us
    have new10 : newN σ a M vs cs 10 M = cs := pk_us
    have new11 : newN σ a M vs cs 11 M = nI (pop8 vs) := pk_us
    refine ⟨M + 1, M, e, by omega, ⟨su_eq _ _ _ _, ?_, ?_⟩, new9, new10, fun j hj => ⟨old9 j hj, old10 j hj⟩, by omega, Nat.le_refl _, ?_, ?_⟩
    · intro i hi
      by_cases ei : i = a
      · right
        exact ⟨M, by omega, by rw [ei]; exact pk_us⟩
      · have h1 : newN σ a M vs cs 16 i = σ 16 i := pk_un ei
        rw [h1]
        rcases hT i hi with h | ⟨n, hn, h⟩
        · exact Or.inl h
        · exact Or.inr ⟨n, by omega, h⟩
    · intro j hj
      by_cases ej : j = M
      · rw [ej, new9, new10, new11]
        exact ⟨hv, hcs, rfl⟩
      · rw [old9 j (by omega), old10 j (by omega), old11 j (by omega)]
        exact hb j (by omega)
    · intro n hn
      have h1 : PP (newN σ a M vs cs) n (M + 1) = PP σ n M + pw (newN σ a M vs cs) n M := by
        rw [← PP_congr (σ := σ) (σ' := newN σ a M vs cs) (n := n) (M := M) old9]
        exact fb_sm_succ _ _
      have h2 : pw (newN σ a M vs cs) n M = 2 ^ (pop8 vs + 1) - 2 := by
        unfold pw
        rw [if_neg (by omega), new9]
      have := pow2_ge (pop8 vs)
      omega
    · intro k hk
      show su (su (su (su (su σ 16 a (nI M)) 9 M vs) 10 M cs) 11 M (nI (pop8 vs))) 8 0 (nI (M + 1)) k = σ k
      rw [su_ne _ _ _ (by omega), su_ne _ _ _ (by omega), su_ne _ _ _ (by omega), su_ne _ _ _ (by omega), su_ne _ _ _ (by omega)]
theorem NodeOK_ext {σ σ' : St} {N M M' n : Nat} (h : NodeOK σ N M n) (hn : n < M) (hM : M ≤ M') (h9 : ∀ j, j < M → σ' 9 j = σ 9 j ∧ σ' 10 j = σ 10 j) (h3 : σ' 3 = σ 3) (h4 : σ' 4 = σ 4) (hk : σ' 12 n = σ 12 n ∧ σ' 13 n = σ 13 n ∧ σ' 14 n = σ 14 n ∧ σ' 15 n = σ 15 n) : NodeOK σ' N M' n := by
  have hl : ∀ c, lit σ' c = lit σ c := fun c => by show σ' 3 c ||| σ' 4 c = _; rw [h3, h4]
  unfold NodeOK
  rw [hk.1, hk.2.1, hk.2.2.1, hk.2.2.2, (h9 n hn).1, (h9 n hn).2]
  rcases h with ⟨e, c, hc, hb, hz⟩ | ⟨e, hz⟩ | ⟨e, f, s, hf, hs, e1, e2, hbs⟩ | ⟨e, v, f, s, e0, hf, hs, e1, e2, hd⟩
  · exact Or.inl ⟨e, c, hc, hb, by rw [hl]; exact hz⟩
  · exact Or.inr (Or.inl ⟨e, hz⟩)
  · refine Or.inr (Or.inr (Or.inl ⟨e, f, s, by omega, by omega, e1, e2, ?_⟩))
    rw [(h9 f hf).1, (h9 f hf).2, (h9 s hs).1, (h9 s hs).2]
    unfold Beside closedS touch
    simp only [hl]
    exact hbs
  · refine Or.inr (Or.inr (Or.inr ⟨e, v, f, s, e0, by omega, by omega, e1, e2, ?_⟩))
    rw [(h9 f hf).1, (h9 f hf).2, (h9 s hs).1, (h9 s hs).2]
    unfold Decide
    rw [h3, h4]
    exact hd
/-- a node worked out -/
theorem BI_next {σ σ' : St} {N n M M' : Nat} (h : BI σ N n M) (hn : n < M) (hB : BB σ' N M') (hM : M ≤ M') (h9 : ∀ j, j < M → σ' 9 j = σ 9 j ∧ σ' 10 j = σ 10 j) (h3 : σ' 3 = σ 3) (h4 : σ' 4 = σ 4) (hk : ∀ j, j ≠ n → σ' 12 j = σ 12 j ∧ σ' 13 j = σ 13 j ∧ σ' 14 j = σ 14 j ∧ σ' 15 j = σ 15 j) (hok : NodeOK σ' N M' n) (hc : M' + PP σ' n M' ≤ M + PP σ n M + (2 ^ (pop8 (σ 9 n) + 1) - 2)) : BI σ' N (n + 1) M' := by
  obtain ⟨-, ho, -, hp, h0, hr9, hr10⟩ := h
  refine ⟨hB, ?_, by omega, ?_, by omega, by rw [(h9 0 h0).1]; exact hr9, by rw [(h9 0 h0).2]; exact hr10⟩
  · intro j hj
    by_cases e : j = n
    · rw [e]; exact hok
    · exact NodeOK_ext (ho j (by omega)) (by omega) hM h9 h3 h4 (hk j e)
  · have h1 : PP σ' (n + 1) M' + pw σ' n n = PP σ' n M' + 0 := by
      have := fb_sm_upd (pw σ' n) 0 (i := n) (n := M') (by omega)
      show fb_sm (pw σ' (n + 1)) M' + pw σ' n n = fb_sm (pw σ' n) M' + 0
      rw [← this]
      congr 1
      refine fb_sm_cong (fun k hk => ?_)
      unfold pw
      by_cases e : k = n
      · rw [e, if_pos (by omega), if_pos rfl]
      · rw [if_neg e]
        by_cases e2 : k < n
        · rw [if_pos (by omega), if_pos e2]
        · rw [if_neg (by omega), if_neg e2]
    have h2 : pw σ' n n = 2 ^ (pop8 (σ 9 n) + 1) - 2 := by
      unfold pw
      rw [if_neg (by omega), (h9 n hn).1]
    have h3 := pow2_ge (pop8 (σ 9 n))
    omega
theorem pop8_less {x y : Int32} {v : Nat} (hv : v < 8) (hb : bt x v = true) (h : ∀ i, i < 32 → bt y i = (bt x i && !decide (i = v))) : pop8 y + 1 = pop8 x := by
  have h1 := fb_ct_upd (bt x) false hv
  rw [hb] at h1
  have h2 : pop8 y = fb_ct (fun k => if k = v then false else bt x k) 8 := by
    refine fb_ct_cong (fun k hk => ?_)
    rw [h k (by omega)]
    by_cases e : k = v
    · rw [if_pos e, decide_eq_true e]; simp
    · rw [if_neg e, decide_eq_false e]; simp
  rw [h2]
  unfold pop8
  simpa using h1
theorem pop8_parts {x y z : Int32} (hs : subS y x) (h : ∀ i, i < 32 → bt z i = (bt x i && !bt y i)) : pop8 y + pop8 z = pop8 x := by
  unfold pop8
  rw [← fb_ct_or (p := bt y) (q := bt z) (n := 8)]
  · refine fb_ct_cong (fun k hk => ?_)
    rw [h k (by omega)]
    cases hy : bt y k
    · simp
    · rw [hs k (by omega) hy]; rfl
  · intro k hk ⟨h1, h2⟩
    rw [h k (by omega), h1] at h2
    simp at h2
theorem pow_parts {a b : Nat} (ha : 1 ≤ a) (hb : 1 ≤ b) : 2 ^ (a + 1) + 2 ^ (b + 1) ≤ 2 ^ (a + b + 1) := by
  have e1 : 2 ^ (a + b + 1) = 2 ^ (a + 1) * 2 ^ b := by rw [← Nat.pow_add]; congr 1; omega
  have e2 : 2 ^ (a + b + 1) = 2 ^ (b + 1) * 2 ^ a := by rw [← Nat.pow_add]; congr 1; omega
  have h1 : 2 ≤ 2 ^ b := by
    have := Nat.pow_le_pow_right (n := 2) (by decide) hb
    simpa using this
  have h2 : 2 ≤ 2 ^ a := by
    have := Nat.pow_le_pow_right (n := 2) (by decide) ha
    simpa using this
  have h3 := Nat.mul_le_mul_left (2 ^ (a + 1)) h1
  have h4 := Nat.mul_le_mul_left (2 ^ (b + 1)) h2
  omega
theorem cost_decide {M M1 M2 P0 P1 P2 A B : Nat} (a1 : M1 + P1 ≤ M + P0 + (B - 1)) (a2 : M2 + P2 ≤ M1 + P1 + (B - 1)) (h : A = 2 * B) (hb : 2 ≤ B) : M2 + P2 ≤ M + P0 + (A - 2) := by omega
theorem cost_beside {M M1 M2 P0 P1 P2 A A1 A2 : Nat} (a1 : M1 + P1 ≤ M + P0 + (A1 - 1)) (a2 : M2 + P2 ≤ M1 + P1 + (A2 - 1)) (h : A1 + A2 ≤ A) (h1 : 2 ≤ A1) (h2 : 2 ≤ A2) : M2 + P2 ≤ M + P0 + (A - 2) := by omega
theorem cost_room {M P w A : Nat} (hp : M + P ≤ 511) (hpn : w ≤ P) (hpw : w = A - 2) (hA : 4 ≤ A) : M ≤ 509 := by omega
theorem cost_none {M P A : Nat} : M + P ≤ M + P + A := by omega
theorem pow_4 {p : Nat} (h : 1 ≤ p) : 4 ≤ 2 ^ (p + 1) := by
  have := Nat.pow_le_pow_right (n := 2) (by decide) (show 2 ≤ p + 1 by omega)
  simpa using this
abbrev P_workOut (σ : St) (N n : Nat) : Int32 → St → Prop := fun _ σ' => ∃ M', BI σ' N (n + 1) M' ∧ ∀ k, k < 8 ∨ 16 < k → σ' k = σ k
theorem m_workOut (σ : St) (N n M : Nat) (hN : N ≤ 14) (hc : σ 2 0 = nI N) (hI : BI σ N n M) (hn : n < M) : CN shX0 yX0_workOut cX0_workOut 10 2 none [nI n] σ (P_workOut σ N n) := by
  obtain ⟨hB, ho, hnM, hp, h0, hr9, hr10⟩ := id hI
  have h512 : n < 512 := by omega
  obtain ⟨hv8, hcN, hsz⟩ := hB.2.2 n hn
  have hpn : pw σ n n ≤ PP σ n M := Nat.le_trans (Nat.le_add_left _ _) (fb_sm_part (pw σ n) hn)
  have hpw : pw σ n n = 2 ^ (pop8 (σ 9 n) + 1) - 2 := by unfold pw; rw [if_neg (by omega)]
  refine CN.ofV (own := RX0) (by decide) rfl (Nat.le_of_ble_eq_true rfl) ?_
  show V shX0 RX0 cX0_workOut 10 2 none _ 0 [some (.inr 0), some (.inl (nI n)), none, none, none, none, none, none, none, none] [] _
  refine r_aload_n (pc := 0) (i := 0) dX0_workOut_0 rfl rfl ?_
  refine r_getA (pc := 1) ckX0 9 (by decide) rfl q45 dX0_workOut_1 ?_
  refine r_iload_n (pc := 4) (i := 1) dX0_workOut_4 rfl rfl ?_
  refine r_iald (pc := 5) ckX0 rfl dX0_workOut_5 (rfl) (by omega) ?_
  refine r_istore_n (pc := 6) (i := 2) (L' := [_, _, _, _, _, _, _, _, _, _]) dX0_workOut_6 rfl (by decide) rfl ?_
  refine r_aload_n (pc := 7) (i := 0) dX0_workOut_7 rfl rfl ?_
  refine r_getA (pc := 8) ckX0 10 (by decide) rfl q46 dX0_workOut_8 ?_
  refine r_iload_n (pc := 11) (i := 1) dX0_workOut_11 rfl rfl ?_
  refine r_iald (pc := 12) ckX0 rfl dX0_workOut_12 (rfl) (by omega) ?_
  refine r_istore_n (pc := 13) (i := 3) (L' := [_, _, _, _, _, _, _, _, _, _]) dX0_workOut_13 rfl (by decide) rfl ?_
  refine r_aload_n (pc := 14) (i := 0) dX0_workOut_14 rfl rfl ?_
  refine r_iload_n (pc := 15) (i := 2) dX0_workOut_15 rfl rfl ?_
  refine r_iload_n (pc := 16) (i := 3) dX0_workOut_16 rfl rfl ?_
  refine r_callI (pc := 17) ckX0 (m_hasEmpty σ N hN hc (σ 9 n) (σ 10 n)) mf_X0_hasEmpty q158 (by decide) (by decide) dX0_workOut_17 rfl (Nat.le_of_ble_eq_true rfl) (fun r σ hr => ?_)
  obtain ⟨rfl, hr⟩ := hr
  refine r_istore (pc := 20) (L' := [_, _, _, _, _, _, _, _, _, _]) dX0_workOut_20 (by decide) rfl ?_
  refine r_iload (pc := 22) dX0_workOut_22 rfl ?_
  rcases hr with ⟨rfl, hw⟩ | ⟨rfl, hw⟩
  · refine r_if_eq (pc := 24) (tgt := 35) dX0_workOut_24 (by decide) (fun z => absurd z (by decide)) (fun _ => ?_)
    refine r_aload_n (pc := 27) (i := 0) dX0_workOut_27 rfl rfl ?_
    refine r_getA (pc := 28) ckX0 12 (by decide) rfl q48 dX0_workOut_28 ?_
    refine r_iload_n (pc := 31) (i := 1) dX0_workOut_31 rfl rfl ?_
    refine r_iconst (pc := 32) (v := nI 1) dX0_workOut_32 (by decide) ?_
    refine r_iast (pc := 33) ckX0 rfl dX0_workOut_33 (rfl) (by omega) ?_
    refine r_vret (pc := 34) dX0_workOut_34 ?_
    refine ⟨M, ?_, fun k hk => su_ne σ _ _ (by omega)⟩
    refine BI_next hI hn (BB_su hB (by omega) _ _) (Nat.le_refl _) (fun j _ => ⟨rfl, rfl⟩) rfl rfl (fun j hj => ⟨pk_un hj, rfl, rfl, rfl⟩) ?_ (by rw [PP_su (by omega)]; exact cost_none)
    obtain ⟨c, h1, h2, h3⟩ := hw
    exact Or.inl ⟨pk_us, c, h1, h2, h3⟩
  · refine r_if_eq (pc := 24) (tgt := 35) dX0_workOut_24 (by decide) (fun _ => ?_) (fun z => absurd (rfl) z)
    refine r_iload_n (pc := 35) (i := 3) dX0_workOut_35 rfl rfl ?_
    refine r_if_ne (pc := 36) (tgt := 47) dX0_workOut_36 (by decide) (fun h1 => ?_) (fun h1 => ?_)
    · -- something to do
      have he : ∃ c, c < N ∧ bt (σ 10 n) c = true := by
        obtain ⟨c, h32, hb⟩ := ne0_bit h1
        refine ⟨c, ?_, hb⟩
        by_cases h : c < N
        · exact h
        · rw [hcN c (by omega)] at hb; cases hb
      refine r_aload_n (pc := 47) (i := 0) dX0_workOut_47 rfl rfl ?_
      refine r_iload_n (pc := 48) (i := 2) dX0_workOut_48 rfl rfl ?_
      refine r_iload_n (pc := 49) (i := 3) dX0_workOut_49 rfl rfl ?_
      refine r_callI (pc := 50) ckX0 (m_together σ N hN hc (σ 9 n) (σ 10 n) hv8 he hw) mf_X0_together q166 (by decide) (by decide) dX0_workOut_50 rfl (Nat.le_of_ble_eq_true rfl) (fun P σ hr => ?_)
      obtain ⟨rfl, hPs, hP0, hPc⟩ := hr
      have hP8 : lowB 8 P := subS_low hv8 hPs
      have hpos : 1 ≤ pop8 (σ 9 n) := Nat.le_trans (pop8_pos hP8 hP0) (fb_ct_sub (fun k hk h => hPs k (by omega) h))
      have hM9 : M ≤ 509 := cost_room hp hpn hpw (pow_4 hpos)
      clear hpn hpw hp
      refine r_istore (pc := 53) (L' := [_, _, _, _, _, _, _, _, _, _]) dX0_workOut_53 (by decide) rfl ?_
      refine r_iload (pc := 55) dX0_workOut_55 rfl ?_
      refine r_iload_n (pc := 57) (i := 2) dX0_workOut_57 rfl rfl ?_
      refine r_icmp_eq (pc := 58) (tgt := 114) dX0_workOut_58 (by decide) (fun h2 => ?_) (fun h2 => ?_)
      · -- decide
        subst h2
        have hv : ∃ v, v < 8 ∧ bt (σ 9 n) v = true := by
          obtain ⟨v, h32, hb⟩ := ne0_bit hP0
          refine ⟨v, ?_, hb⟩
          by_cases h : v < 8
          · exact h
          · rw [hv8 v (by omega)] at hb; cases hb
        refine r_aload_n (pc := 114) (i := 0) dX0_workOut_114 rfl rfl ?_
        refine r_iload_n (pc := 115) (i := 2) dX0_workOut_115 rfl rfl ?_
        refine r_iload_n (pc := 116) (i := 3) dX0_workOut_116 rfl rfl ?_
        refine r_callI (pc := 117) ckX0 (m_busiest σ N hN hc (σ 9 n) (σ 10 n) hv) mf_X0_busiest q174 (by decide) (by decide) dX0_workOut_117 rfl (Nat.le_of_ble_eq_true rfl) (fun r σ hr => ?_)
        obtain ⟨rfl, v, hvx, rfl, hbv⟩ := hr
        refine r_istore (pc := 120) (L' := [_, _, _, _, _, _, _, _, _, _]) dX0_workOut_120 (by decide) rfl ?_
        refine r_iload_n (pc := 122) (i := 2) dX0_workOut_122 rfl rfl ?_
        refine r_iconst (pc := 123) (v := nI 1) dX0_workOut_123 (by decide) ?_
        refine r_iload (pc := 124) dX0_workOut_124 rfl ?_
        refine r_ishl (pc := 126) dX0_workOut_126 ?_
        refine r_iconst (pc := 127) (v := (-1)) dX0_workOut_127 (by decide) ?_
        refine r_ixor (pc := 128) dX0_workOut_128 ?_
        refine r_iand (pc := 129) dX0_workOut_129 ?_
        refine r_istore (pc := 130) (L' := [_, _, _, _, _, _, _, _, _, _]) dX0_workOut_130 (by decide) rfl ?_
        refine r_aload_n (pc := 132) (i := 0) dX0_workOut_132 rfl rfl ?_
        refine r_iload_n (pc := 133) (i := 3) dX0_workOut_133 rfl rfl ?_
        refine r_iload (pc := 134) dX0_workOut_134 rfl ?_
        refine r_iconst (pc := 136) (v := nI 1) dX0_workOut_136 (by decide) ?_
        refine r_callI (pc := 137) ckX0 (m_clausesLeft σ N hN hc (σ 10 n) v hvx true) mf_X0_clausesLeft q178 (by decide) (by decide) dX0_workOut_137 rfl (Nat.le_of_ble_eq_true rfl) (fun c1 σ hr => ?_)
        obtain ⟨rfl, hc1⟩ := hr
        refine r_istore (pc := 140) (L' := [_, _, _, _, _, _, _, _, _, _]) dX0_workOut_140 (by decide) rfl ?_
        refine r_aload_n (pc := 142) (i := 0) dX0_workOut_142 rfl rfl ?_
        refine r_iload_n (pc := 143) (i := 3) dX0_workOut_143 rfl rfl ?_
        refine r_iload (pc := 144) dX0_workOut_144 rfl ?_
        refine r_iconst (pc := 146) (v := nI 0) dX0_workOut_146 (by decide) ?_
        refine r_callI (pc := 147) ckX0 (m_clausesLeft σ N hN hc (σ 10 n) v hvx false) mf_X0_clausesLeft q178 (by decide) (by decide) dX0_workOut_147 rfl (Nat.le_of_ble_eq_true rfl) (fun c2 σ hr => ?_)
        obtain ⟨rfl, hc2⟩ := hr
        generalize hrest : σ 9 n &&& (nI 1 <<< (nI v &&& 31) ^^^ (-1)) = rest
        have hrb : ∀ i, i < 32 → bt rest i = (bt (σ 9 n) i && !decide (i = v)) := by
          intro i hi
          rw [← hrest, b_and, bt_not _ hi, bt_pow (by omega) hi]
        have hr8 : lowB 8 rest := by rw [← hrest]; exact lowB_and hv8 _
        have hpr : pop8 rest + 1 = pop8 (σ 9 n) := pop8_less hvx hbv hrb
        have hl1 : lowB N c1 := fun i hi => by
          by_cases h32 : i < 32
          · rw [hc1 i h32, hcN i hi]; rfl
          · exact b_big (by omega)
        have hl2 : lowB N c2 := fun i hi => by
          by_cases h32 : i < 32
          · rw [hc2 i h32, hcN i hi]; rfl
          · exact b_big (by omega)
        refine r_istore (pc := 150) (L' := [_, _, _, _, _, _, _, _, _, _]) dX0_workOut_150 (by decide) rfl ?_
        refine r_aload_n (pc := 152) (i := 0) dX0_workOut_152 rfl rfl ?_
        refine r_getA (pc := 153) ckX0 12 (by decide) rfl q48 dX0_workOut_153 ?_
        refine r_iload_n (pc := 156) (i := 1) dX0_workOut_156 rfl rfl ?_
        refine r_iconst (pc := 157) (v := nI 3) dX0_workOut_157 (by decide) ?_
        refine r_iast (pc := 158) ckX0 rfl dX0_workOut_158 (rfl) (by omega) ?_
        refine r_aload_n (pc := 159) (i := 0) dX0_workOut_159 rfl rfl ?_
        refine r_getA (pc := 160) ckX0 13 (by decide) rfl q49 dX0_workOut_160 ?_
        refine r_iload_n (pc := 163) (i := 1) dX0_workOut_163 rfl rfl ?_
        refine r_iload (pc := 164) dX0_workOut_164 rfl ?_
        refine r_iast (pc := 166) ckX0 rfl dX0_workOut_166 (rfl) (by omega) ?_
        refine r_aload_n (pc := 167) (i := 0) dX0_workOut_167 rfl rfl ?_
        refine r_getA (pc := 168) ckX0 14 (by decide) rfl q50 dX0_workOut_168 ?_
        refine r_iload_n (pc := 171) (i := 1) dX0_workOut_171 rfl rfl ?_
        refine r_aload_n (pc := 172) (i := 0) dX0_workOut_172 rfl rfl ?_
        refine r_iload (pc := 173) dX0_workOut_173 rfl ?_
        refine r_iload (pc := 175) dX0_workOut_175 rfl ?_
        refine r_callI (pc := 177) ckX0 (m_nodeFor (su (su σ 12 n (nI 3)) 13 n (nI v)) M hB.1 (by omega) hB.2.1 rest c1) mf_X0_nodeFor q145 (by decide) (by decide) dX0_workOut_177 rfl (Nat.le_of_ble_eq_true rfl) (fun r1 σ1 hr1 => ?_)
        obtain ⟨M1, f, rfl, hf, hB1, e9, e10, hold, hM1, hM1', hcost, hfr⟩ := nodeFor_grow (BB_su (BB_su hB (by omega) _ _) (by omega) _ _) hr8 hl1 hr1
        refine r_iast (pc := 180) ckX0 rfl dX0_workOut_180 (rfl) (by omega) ?_
        refine r_aload_n (pc := 181) (i := 0) dX0_workOut_181 rfl rfl ?_
        refine r_getA (pc := 182) ckX0 15 (by decide) rfl q51 dX0_workOut_182 ?_
        refine r_iload_n (pc := 185) (i := 1) dX0_workOut_185 rfl rfl ?_
        refine r_aload_n (pc := 186) (i := 0) dX0_workOut_186 rfl rfl ?_
        refine r_iload (pc := 187) dX0_workOut_187 rfl ?_
        refine r_iload (pc := 189) dX0_workOut_189 rfl ?_
        refine r_callI (pc := 191) ckX0 (m_nodeFor (su σ1 14 n (nI f)) M1 hB1.1 (by omega) hB1.2.1 rest c2) mf_X0_nodeFor q145 (by decide) (by decide) dX0_workOut_191 rfl (Nat.le_of_ble_eq_true rfl) (fun r2 σ2 hr2 => ?_)
        obtain ⟨M2, s, rfl, hs, hB2, f9, f10, hold2, hM2, hM2', hcost2, hfr2⟩ := nodeFor_grow (BB_su hB1 (by omega) _ _) hr8 hl2 hr2
        refine r_iast (pc := 194) ckX0 rfl dX0_workOut_194 (rfl) (by omega) ?_
        refine r_vret (pc := 195) dX0_workOut_195 ?_
        have k3 : σ2 3 = σ 3 := (hfr2 3 (by omega)).trans (hfr 3 (by omega))
        have k4 : σ2 4 = σ 4 := (hfr2 4 (by omega)).trans (hfr 4 (by omega))
        have old : ∀ j, j < M → σ2 9 j = σ 9 j ∧ σ2 10 j = σ 10 j := fun j hj => ⟨((hold2 j (by omega)).1).trans (hold j hj).1, ((hold2 j (by omega)).2).trans (hold j hj).2⟩
        refine ⟨M2, ?_, fun k hk => (su_ne σ2 _ _ (by omega)).trans ((hfr2 k (by omega)).trans ((su_ne σ1 _ _ (by omega)).trans ((hfr k (by omega)).trans ((su_ne _ _ _ (by omega)).trans (su_ne _ _ _ (by omega))))))⟩
        refine BI_next hI hn (BB_su hB2 (by omega) _ _) (by omega) (fun j hj => old j hj) k3 k4 ?_ ?_ ?_
        · intro j hj
          refine ⟨?_, ?_, ?_, ?_⟩
          · show σ2 12 j = σ 12 j
            rw [hfr2 12 (by omega)]
            show σ1 12 j = σ 12 j
            rw [hfr 12 (by omega)]
            exact pk_un hj
          · show σ2 13 j = σ 13 j
            rw [hfr2 13 (by omega)]
            show σ1 13 j = σ 13 j
            rw [hfr 13 (by omega)]
            exact pk_un hj
          · show σ2 14 j = σ 14 j
            rw [hfr2 14 (by omega)]
            show upd (σ1 14) n (nI f) j = σ 14 j
            rw [hfr 14 (by omega)]
            exact pk_un hj
          · show upd (σ2 15) n (nI s) j = σ 15 j
            rw [pk_un hj, hfr2 15 (by omega)]
            show σ1 15 j = σ 15 j
            rw [hfr 15 (by omega)]
            rfl
        · refine Or.inr (Or.inr (Or.inr ⟨?_, v, f, s, ?_, by omega, by omega, ?_, pk_us, ?_⟩))
          · show σ2 12 n = nI 3
            rw [hfr2 12 (by omega)]
            show σ1 12 n = nI 3
            rw [hfr 12 (by omega)]
            exact pk_us
          · show σ2 13 n = nI v
            rw [hfr2 13 (by omega)]
            show σ1 13 n = nI v
            rw [hfr 13 (by omega)]
            exact pk_us
          · show σ2 14 n = nI f
            rw [hfr2 14 (by omega)]
            exact pk_us
          · show Decide (su σ2 15 n (nI s)) N (σ2 9 n) (σ2 10 n) v (σ2 9 f) (σ2 10 f) (σ2 9 s) (σ2 10 s)
            have g9 : σ2 9 f = rest := ((hold2 f hf).1).trans e9
            have g10 : σ2 10 f = c1 := ((hold2 f hf).2).trans e10
            rw [(old n hn).1, (old n hn).2, g9, g10, f9, f10]
            refine ⟨hvx, hbv, hrb, rfl, ?_, ?_⟩
            · show ∀ c, c < 32 → bt c1 c = (bt (σ 10 n) c && !(decide (c < N) && bt (σ2 3 c) v))
              rw [k3]
              exact hc1
            · show ∀ c, c < 32 → bt c2 c = (bt (σ 10 n) c && !(decide (c < N) && bt (σ2 4 c) v))
              rw [k4]
              exact hc2
        · rw [PP_su (by omega)]
          have a1 := hcost n hnM
          have a2 := hcost2 n (by omega)
          rw [PP_su (by omega), PP_su (by omega)] at a1
          rw [PP_su (by omega)] at a2
          exact cost_decide a1 a2 (by rw [← hpr, Nat.pow_succ, Nat.mul_comm]) (pow2_ge (pop8 rest))
      · -- beside
        refine r_aload_n (pc := 61) (i := 0) dX0_workOut_61 rfl rfl ?_
        refine r_iload (pc := 62) dX0_workOut_62 rfl ?_
        refine r_iload_n (pc := 64) (i := 3) dX0_workOut_64 rfl rfl ?_
        refine r_callI (pc := 65) ckX0 (m_clausesWith σ N hN hc P (σ 10 n)) mf_X0_clausesWith q170 (by decide) (by decide) dX0_workOut_65 rfl (Nat.le_of_ble_eq_true rfl) (fun own σ hr => ?_)
        obtain ⟨rfl, hown⟩ := hr
        have hlo : lowB N own := fun i hi => by
          by_cases h32 : i < 32
          · rw [hown i h32, decide_eq_false (by omega)]; rfl
          · exact b_big (by omega)
        refine r_istore (pc := 68) (L' := [_, _, _, _, _, _, _, _, _, _]) dX0_workOut_68 (by decide) rfl ?_
        refine r_aload_n (pc := 70) (i := 0) dX0_workOut_70 rfl rfl ?_
        refine r_getA (pc := 71) ckX0 12 (by decide) rfl q48 dX0_workOut_71 ?_
        refine r_iload_n (pc := 74) (i := 1) dX0_workOut_74 rfl rfl ?_
        refine r_iconst (pc := 75) (v := nI 2) dX0_workOut_75 (by decide) ?_
        refine r_iast (pc := 76) ckX0 rfl dX0_workOut_76 (rfl) (by omega) ?_
        refine r_aload_n (pc := 77) (i := 0) dX0_workOut_77 rfl rfl ?_
        refine r_getA (pc := 78) ckX0 14 (by decide) rfl q50 dX0_workOut_78 ?_
        refine r_iload_n (pc := 81) (i := 1) dX0_workOut_81 rfl rfl ?_
        refine r_aload_n (pc := 82) (i := 0) dX0_workOut_82 rfl rfl ?_
        refine r_iload (pc := 83) dX0_workOut_83 rfl ?_
        refine r_iload (pc := 85) dX0_workOut_85 rfl ?_
        refine r_callI (pc := 87) ckX0 (m_nodeFor (su σ 12 n (nI 2)) M hB.1 (by omega) hB.2.1 P own) mf_X0_nodeFor q145 (by decide) (by decide) dX0_workOut_87 rfl (Nat.le_of_ble_eq_true rfl) (fun r1 σ1 hr1 => ?_)
        obtain ⟨M1, f, rfl, hf, hB1, e9, e10, hold, hM1, hM1', hcost, hfr⟩ := nodeFor_grow (BB_su hB (by omega) _ _) hP8 hlo hr1
        refine r_iast (pc := 90) ckX0 rfl dX0_workOut_90 (rfl) (by omega) ?_
        refine r_aload_n (pc := 91) (i := 0) dX0_workOut_91 rfl rfl ?_
        refine r_getA (pc := 92) ckX0 15 (by decide) rfl q51 dX0_workOut_92 ?_
        refine r_iload_n (pc := 95) (i := 1) dX0_workOut_95 rfl rfl ?_
        refine r_aload_n (pc := 96) (i := 0) dX0_workOut_96 rfl rfl ?_
        refine r_iload_n (pc := 97) (i := 2) dX0_workOut_97 rfl rfl ?_
        refine r_iload (pc := 98) dX0_workOut_98 rfl ?_
        refine r_iconst (pc := 100) (v := (-1)) dX0_workOut_100 (by decide) ?_
        refine r_ixor (pc := 101) dX0_workOut_101 ?_
        refine r_iand (pc := 102) dX0_workOut_102 ?_
        refine r_iload_n (pc := 103) (i := 3) dX0_workOut_103 rfl rfl ?_
        refine r_iload (pc := 104) dX0_workOut_104 rfl ?_
        refine r_iconst (pc := 106) (v := (-1)) dX0_workOut_106 (by decide) ?_
        refine r_ixor (pc := 107) dX0_workOut_107 ?_
        refine r_iand (pc := 108) dX0_workOut_108 ?_
        generalize hrest : σ 9 n &&& (P ^^^ (-1)) = rest
        generalize hcrest : σ 10 n &&& (own ^^^ (-1)) = crest
        have hrb : ∀ i, i < 32 → bt rest i = (bt (σ 9 n) i && !bt P i) := by
          intro i hi
          rw [← hrest, b_and, bt_not _ hi]
        have hcb : ∀ i, i < 32 → bt crest i = (bt (σ 10 n) i && !bt own i) := by
          intro i hi
          rw [← hcrest, b_and, bt_not _ hi]
        have hr8 : lowB 8 rest := by rw [← hrest]; exact lowB_and hv8 _
        have hl2 : lowB N crest := by rw [← hcrest]; exact lowB_and hcN _
        have hparts := pop8_parts hPs hrb
        have hr1 : 1 ≤ pop8 rest := by
          have := pop8_lt hv8 hPs h2
          omega
        have hP1 := pop8_pos hP8 hP0
        refine r_callI (pc := 109) ckX0 (m_nodeFor (su σ1 14 n (nI f)) M1 hB1.1 (by omega) hB1.2.1 rest crest) mf_X0_nodeFor q145 (by decide) (by decide) dX0_workOut_109 rfl (Nat.le_of_ble_eq_true rfl) (fun r2 σ2 hr2 => ?_)
        obtain ⟨M2, s, rfl, hs, hB2, f9, f10, hold2, hM2, hM2', hcost2, hfr2⟩ := nodeFor_grow (BB_su hB1 (by omega) _ _) hr8 hl2 hr2
        refine r_iast (pc := 112) ckX0 rfl dX0_workOut_112 (rfl) (by omega) ?_
        refine r_vret (pc := 113) dX0_workOut_113 ?_
        have k3 : σ2 3 = σ 3 := (hfr2 3 (by omega)).trans (hfr 3 (by omega))
        have k4 : σ2 4 = σ 4 := (hfr2 4 (by omega)).trans (hfr 4 (by omega))
        have old : ∀ j, j < M → σ2 9 j = σ 9 j ∧ σ2 10 j = σ 10 j := fun j hj => ⟨((hold2 j (by omega)).1).trans (hold j hj).1, ((hold2 j (by omega)).2).trans (hold j hj).2⟩
        refine ⟨M2, ?_, fun k hk => (su_ne σ2 _ _ (by omega)).trans ((hfr2 k (by omega)).trans ((su_ne σ1 _ _ (by omega)).trans ((hfr k (by omega)).trans (su_ne _ _ _ (by omega)))))⟩
        refine BI_next hI hn (BB_su hB2 (by omega) _ _) (by omega) (fun j hj => old j hj) k3 k4 ?_ ?_ ?_
        · intro j hj
          refine ⟨?_, ?_, ?_, ?_⟩
          · show σ2 12 j = σ 12 j
            rw [hfr2 12 (by omega)]
            show σ1 12 j = σ 12 j
            rw [hfr 12 (by omega)]
            exact pk_un hj
          · show σ2 13 j = σ 13 j
            rw [hfr2 13 (by omega)]
            show σ1 13 j = σ 13 j
            rw [hfr 13 (by omega)]
            rfl
          · show σ2 14 j = σ 14 j
            rw [hfr2 14 (by omega)]
            show upd (σ1 14) n (nI f) j = σ 14 j
            rw [hfr 14 (by omega)]
            exact pk_un hj
          · show upd (σ2 15) n (nI s) j = σ 15 j
            rw [pk_un hj, hfr2 15 (by omega)]
            show σ1 15 j = σ 15 j
            rw [hfr 15 (by omega)]
            rfl
        · refine Or.inr (Or.inr (Or.inl ⟨?_, f, s, by omega, by omega, ?_, pk_us, ?_⟩))
          · show σ2 12 n = nI 2
            rw [hfr2 12 (by omega)]
            show σ1 12 n = nI 2
            rw [hfr 12 (by omega)]
            exact pk_us
          · show σ2 14 n = nI f
            rw [hfr2 14 (by omega)]
            exact pk_us
          · have hl : ∀ c, lit (su σ2 15 n (nI s)) c = lit σ c := fun c => by show σ2 3 c ||| σ2 4 c = _; rw [k3, k4]
            show Beside (su σ2 15 n (nI s)) N (σ2 9 n) (σ2 10 n) (σ2 9 f) (σ2 10 f) (σ2 9 s) (σ2 10 s)
            have g9 : σ2 9 f = P := ((hold2 f hf).1).trans e9
            have g10 : σ2 10 f = own := ((hold2 f hf).2).trans e10
            rw [(old n hn).1, (old n hn).2, g9, g10, f9, f10]
            refine ⟨hPs, hP0, h2, ?_, ?_, hrb, hcb⟩
            · unfold closedS
              simp only [hl]
              exact hPc
            · unfold touch
              simp only [hl]
              exact hown
        · rw [PP_su (by omega)]
          have a1 := hcost n hnM
          have a2 := hcost2 n (by omega)
          rw [PP_su (by omega)] at a1
          rw [PP_su (by omega)] at a2
          have a3 := pow_parts hP1 hr1
          rw [hparts] at a3
          exact cost_beside a1 a2 a3 (pow2_ge (pop8 P)) (pow2_ge (pop8 rest))
    · -- no clause left
      refine r_aload_n (pc := 39) (i := 0) dX0_workOut_39 rfl rfl ?_
      refine r_getA (pc := 40) ckX0 12 (by decide) rfl q48 dX0_workOut_40 ?_
      refine r_iload_n (pc := 43) (i := 1) dX0_workOut_43 rfl rfl ?_
      refine r_iconst (pc := 44) (v := nI 0) dX0_workOut_44 (by decide) ?_
      refine r_iast (pc := 45) ckX0 rfl dX0_workOut_45 (rfl) (by omega) ?_
      refine r_vret (pc := 46) dX0_workOut_46 ?_
      refine ⟨M, ?_, fun k hk => su_ne σ _ _ (by omega)⟩
      refine BI_next hI hn (BB_su hB (by omega) _ _) (Nat.le_refl _) (fun j _ => ⟨rfl, rfl⟩) rfl rfl (fun j hj => ⟨pk_un hj, rfl, rfl, rfl⟩) ?_ (by rw [PP_su (by omega)]; exact cost_none)
      exact Or.inr (Or.inl ⟨pk_us, h1⟩)
end
section
/-! X0: build -/
theorem BI_keep {σ σ' : St} {N n M : Nat} (h : ∀ k, k = 3 ∨ k = 4 ∨ (8 ≤ k ∧ k ≤ 16) → σ' k = σ k) (hI : BI σ N n M) : BI σ' N n M := by
  have e3 := h 3 (by omega)
  have e4 := h 4 (by omega)
  have e8 := h 8 (by omega)
  have e9 := h 9 (by omega)
  have e10 := h 10 (by omega)
  have e11 := h 11 (by omega)
  have e12 := h 12 (by omega)
  have e13 := h 13 (by omega)
  have e14 := h 14 (by omega)
  have e15 := h 15 (by omega)
  have e16 := h 16 (by omega)
  have hp : pw σ' n = pw σ n := by
    funext j
    unfold pw
    rw [e9]
  unfold BI BB TB NodeOK PP Beside Decide closedS touch lit at hI ⊢
  rw [hp, e3, e4, e8, e9, e10, e11, e12, e13, e14, e15, e16]
  exact hI
theorem all_clauses {N : Nat} (hN : N ≤ 14) : nI 1 <<< (nI N &&& 31) - nI 1 = nI (2 ^ N - 1) := by
  have h1 : 2 ^ N ≤ 2 ^ 14 := Nat.pow_le_pow_right (by decide) hN
  rw [pk_shlN (n := 1) _ N (s_l N (by omega)) (by omega), Nat.one_mul, pk_sub (Nat.two_pow_pos N)]
/-- the diagram stands -/
def Diag (σ : St) (N : Nat) : Prop := ∃ M, BI σ N M M
abbrev P_build (σ : St) (N : Nat) : Int32 → St → Prop := fun _ σ' => Diag σ' N ∧ σ' 7 0 = nI 1 ∧ ∀ k, k < 7 ∨ 16 < k → σ' k = σ k
theorem pop_255 : pop8 (nI 255) = 8 := by decide +kernel
theorem m_build (σ : St) (N : Nat) (hN : N ≤ 14) (hc : σ 2 0 = nI N) (hb : σ 7 0 = nI 0 ∨ (σ 7 0 = nI 1 ∧ Diag σ N)) : CN shX0 yX0_build cX0_build 2 3 none [] σ (P_build σ N) := by
  refine CN.ofV (own := RX0) (by decide) rfl (Nat.le_of_ble_eq_true rfl) ?_
  show V shX0 RX0 cX0_build 2 3 none _ 0 [some (.inr 0), none] [] _
  refine r_aload_n (pc := 0) (i := 0) dX0_build_0 rfl rfl ?_
  refine r_getI (pc := 1) ckX0 7 (by decide) rfl q43 dX0_build_1 ?_
  refine r_if_eq (pc := 4) (tgt := 8) dX0_build_4 (by decide) (fun h1 => ?_) (fun h1 => ?_)
  · -- work
    refine r_iconst (pc := 8) (v := nI 0) dX0_build_8 (by decide) ?_
    refine r_istore_n (pc := 9) (i := 1) (L' := [_, _]) dX0_build_9 rfl (by decide) rfl ?_
    have work : ∀ k n M σ1, n + k = 512 → BI σ1 N n M → (∀ k, k < 7 ∨ 16 < k → σ1 k = σ k) → V shX0 RX0 cX0_build 2 3 none (P_build σ N) 53 [some (.inr 0), some (.inl (nI n))] [] σ1 := by
      intro k
      induction k with
      | zero =>
        intro n M σ1 hn hI hk
        obtain ⟨-, -, a1, a2, -⟩ := hI
        omega
      | succ k ih =>
        intro n M σ1 hn hI hk
        have hM5 : M ≤ 511 := Nat.le_trans (Nat.le_add_right _ _) hI.2.2.2.1
        have hnM := hI.2.2.1
        have h8 : σ1 8 0 = nI M := hI.1.1
        refine r_iload_n (pc := 53) (i := 1) dX0_build_53 rfl rfl ?_
        refine r_aload_n (pc := 54) (i := 0) dX0_build_54 rfl rfl ?_
        refine r_getI (pc := 55) ckX0 8 (by decide) rfl q44 dX0_build_55 ?_
        by_cases e : n = M
        · subst e
          refine r_icmp_ge (pc := 58) (tgt := 79) dX0_build_58 (by decide) (fun _ => ?_) (fun z => absurd (by rw [h8]; exact nI_le (Nat.le_refl _) (by omega)) z)
          refine r_aload_n (pc := 79) (i := 0) dX0_build_79 rfl rfl ?_
          refine r_iconst (pc := 80) (v := nI 1) dX0_build_80 (by decide) ?_
          refine r_put (pc := 81) (ty := .boolean) ckX0 7 (by decide) rfl rfl (by decide +kernel) rfl rfl q43 dX0_build_81 ?_
          refine r_vret (pc := 84) dX0_build_84 ?_
          refine ⟨⟨n, BI_keep (fun k hk => su_ne _ _ _ (by omega)) hI⟩, su_eq _ _ _ _, fun q hq => (su_ne _ _ _ (by omega)).trans (hk q hq)⟩
        · refine r_icmp_ge (pc := 58) (tgt := 79) dX0_build_58 (by decide) (fun z => absurd z (by rw [h8]; exact nI_ge (by omega) (by omega))) (fun _ => ?_)
          refine r_iload_n (pc := 61) (i := 1) dX0_build_61 rfl rfl ?_
          refine r_sipush (pc := 62) (v := nI 512) dX0_build_62 (by decide) ?_
          refine r_icmp_ge (pc := 65) (tgt := 79) dX0_build_65 (by decide) (fun z => absurd z (nI_ge (by omega) (by omega))) (fun _ => ?_)
          refine r_aload_n (pc := 68) (i := 0) dX0_build_68 rfl rfl ?_
          refine r_iload_n (pc := 69) (i := 1) dX0_build_69 rfl rfl ?_
          refine r_callV (pc := 70) ckX0 (m_workOut σ1 N n M hN ((congrFun (hk 2 (by omega)) 0).trans hc) hI (by omega)) mf_X0_workOut q154 (by decide) (by decide) dX0_build_70 rfl (Nat.le_of_ble_eq_true rfl) (fun σ2 hr => ?_)
          obtain ⟨M', hI', hk'⟩ := hr
          refine r_iinc (pc := 73) (v := _) (L' := [_, _]) dX0_build_73 rfl (inc1 _) (by decide) rfl ?_
          refine r_goto (pc := 76) (tgt := 53) dX0_build_76 (by decide) ?_
          exact ih (n + 1) M' σ2 (by omega) hI' (fun k h => (hk' k (by omega)).trans (hk k h))
    have fill : ∀ k n σ1, n + k = 1024 → (∀ i, i < n → σ1 16 i = -1) → (∀ k, k ≠ 16 → σ1 k = σ k) → V shX0 RX0 cX0_build 2 3 none (P_build σ N) 10 [some (.inr 0), some (.inl (nI n))] [] σ1 := by
      intro k
      induction k with
      | zero =>
        intro n σ1 hn hf hk
        refine r_iload_n (pc := 10) (i := 1) dX0_build_10 rfl rfl ?_
        refine r_sipush (pc := 11) (v := nI 1024) dX0_build_11 (by decide) ?_
        refine r_icmp_ge (pc := 14) (tgt := 30) dX0_build_14 (by decide) (fun _ => ?_) (fun z => absurd (nI_le (by omega) (by omega)) z)
        have hcs : σ1 2 0 = nI N := (congrFun (hk 2 (by decide)) 0).trans hc
        refine r_aload_n (pc := 30) (i := 0) dX0_build_30 rfl rfl ?_
        refine r_iconst (pc := 31) (v := nI 0) dX0_build_31 (by decide) ?_
        refine r_put (pc := 32) (ty := .int) ckX0 8 (by decide) rfl rfl (by decide +kernel) rfl rfl q44 dX0_build_32 ?_
        refine r_aload_n (pc := 35) (i := 0) dX0_build_35 rfl rfl ?_
        refine r_sipush (pc := 36) (v := nI 255) dX0_build_36 (by decide) ?_
        refine r_iconst (pc := 39) (v := nI 1) dX0_build_39 (by decide) ?_
        refine r_aload_n (pc := 40) (i := 0) dX0_build_40 rfl rfl ?_
        refine r_getI (pc := 41) ckX0 2 (by decide) rfl q38 dX0_build_41 ?_
        refine r_top (nI N) hcs ?_
        refine r_ishl (pc := 44) dX0_build_44 ?_
        refine r_iconst (pc := 45) (v := nI 1) dX0_build_45 (by decide) ?_
        refine r_isub (pc := 46) dX0_build_46 ?_
        refine r_top _ (all_clauses hN) ?_
        have hT : TB (su σ1 8 0 (nI 0)) 0 := fun i hi => Or.inl (hf i (by omega))
        refine r_callI (pc := 47) ckX0 (m_nodeFor (su σ1 8 0 (nI 0)) 0 (su_eq _ _ _ _) (by omega) hT (nI 255) (nI (2 ^ N - 1))) mf_X0_nodeFor q145 (by decide) (by decide) dX0_build_47 rfl (Nat.le_of_ble_eq_true rfl) (fun r σ2 hr => ?_)
        have hB : BB (su σ1 8 0 (nI 0)) N 0 := ⟨su_eq _ _ _ _, hT, fun j hj => absurd hj (by omega)⟩
        obtain ⟨M, x, rfl, hx, hB2, e9, e10, -, -, hM, hcost, hfr⟩ := nodeFor_grow hB (lowB_nI (by decide)) (lowB_nI (Nat.sub_lt (Nat.two_pow_pos N) (by decide))) hr
        have hM1 : M = 1 := by omega
        have hx0 : x = 0 := by omega
        subst hM1
        subst hx0
        refine r_pop (pc := 50) dX0_build_50 ?_
        refine r_iconst (pc := 51) (v := nI 0) dX0_build_51 (by decide) ?_
        refine r_istore_n (pc := 52) (i := 1) (L' := [_, _]) dX0_build_52 rfl (by decide) rfl ?_
        refine work 512 0 1 σ2 (by omega) ⟨hB2, fun j hj => absurd hj (by omega), by omega, ?_, by omega, e9, e10⟩ (fun k hk' => (hfr k (by omega)).trans ((su_ne _ _ _ (by omega)).trans (hk k (by omega))))
        have h1 := hcost 0 (by omega)
        rw [pop_255] at h1
        have h2 : PP (su σ1 8 0 (nI 0)) 0 0 = 0 := rfl
        rw [h2] at h1
        exact h1
      | succ k ih =>
        intro n σ1 hn hf hk
        refine r_iload_n (pc := 10) (i := 1) dX0_build_10 rfl rfl ?_
        refine r_sipush (pc := 11) (v := nI 1024) dX0_build_11 (by decide) ?_
        refine r_icmp_ge (pc := 14) (tgt := 30) dX0_build_14 (by decide) (fun z => absurd z (nI_ge (by omega) (by omega))) (fun _ => ?_)
        refine r_aload_n (pc := 17) (i := 0) dX0_build_17 rfl rfl ?_
        refine r_getA (pc := 18) ckX0 16 (by decide) rfl q52 dX0_build_18 ?_
        refine r_iload_n (pc := 21) (i := 1) dX0_build_21 rfl rfl ?_
        refine r_iconst (pc := 22) (v := (-1)) dX0_build_22 (by decide) ?_
        refine r_iast (pc := 23) ckX0 rfl dX0_build_23 (rfl) (by omega) ?_
        refine r_iinc (pc := 24) (v := _) (L' := [_, _]) dX0_build_24 rfl (inc1 _) (by decide) rfl ?_
        refine r_goto (pc := 27) (tgt := 10) dX0_build_27 (by decide) ?_
        refine ih (n + 1) _ (by omega) (fun i hi => ?_) (fun k h => (su_ne _ _ _ h).trans (hk k h))
        by_cases e : i = n
        · rw [e]; exact su_eq _ _ _ _
        · rw [su_off _ _ (Or.inr e)]
          exact hf i (by omega)
    exact fill 1024 0 σ (by omega) (fun i hi => absurd hi (by omega)) (fun _ _ => rfl)
  · -- it stands
    rcases hb with h | ⟨h, hd⟩
    · exact absurd h h1
    · refine r_vret (pc := 7) dX0_build_7 ?_
      exact ⟨hd, h, fun _ _ => rfl⟩
end
section
/-! PURE: sums over the assignments of a set of variables, generic in the values; the value of a node -/
def sb (a : Nat → Bool) (k : Nat) (b : Bool) : Nat → Bool := fun j => if j = k then b else a j
theorem sb_at' (a : Nat → Bool) (k : Nat) (b : Bool) : sb a k b k = b := if_pos rfl
theorem sb_ne (a : Nat → Bool) {k j : Nat} (b : Bool) (h : j ≠ k) : sb a k b j = a j := if_neg h
theorem sb_comm (a : Nat → Bool) {i j : Nat} (b c : Bool) (h : i ≠ j) : sb (sb a i b) j c = sb (sb a j c) i b := by
  funext q
  unfold sb
  by_cases e : q = j
  · rw [if_pos e, if_neg (by omega), if_pos e]
  · rw [if_neg e]
    by_cases e2 : q = i
    · rw [if_pos e2, if_pos e2]
    · rw [if_neg e2, if_neg e2, if_neg e]
def SV {A : Type} (pl : A → A → A) (tT tF : Nat → A → A) (U : Nat → Bool) (f : (Nat → Bool) → A) : Nat → (Nat → Bool) → A
  | 0, a => f a
  | k + 1, a => if U k then pl (tT k (SV pl tT tF U f k (sb a k true))) (tF k (SV pl tT tF U f k (sb a k false))) else SV pl tT tF U f k a
section SVL
variable {A : Type} {pl : A → A → A} {tT tF : Nat → A → A}
def Alg (pl : A → A → A) (tT tF : Nat → A → A) : Prop := (∀ p q r s : A, pl (pl p q) (pl r s) = pl (pl p r) (pl q s)) ∧ (∀ k x y, tT k (pl x y) = pl (tT k x) (tT k y)) ∧ (∀ k x y, tF k (pl x y) = pl (tF k x) (tF k y)) ∧ (∀ i j x, tT i (tT j x) = tT j (tT i x)) ∧ (∀ i j x, tT i (tF j x) = tF j (tT i x)) ∧ ∀ i j x, tF i (tF j x) = tF j (tF i x)
def Bil (pl : A → A → A) (tT tF : Nat → A → A) (B : A → A → A) : Prop := (∀ x x' y, B (pl x x') y = pl (B x y) (B x' y)) ∧ (∀ x y y', B x (pl y y') = pl (B x y) (B x y')) ∧ (∀ k x y, B (tT k x) y = tT k (B x y)) ∧ (∀ k x y, B x (tT k y) = tT k (B x y)) ∧ (∀ k x y, B (tF k x) y = tF k (B x y)) ∧ ∀ k x y, B x (tF k y) = tF k (B x y)
theorem SV_succ (U : Nat → Bool) (f : (Nat → Bool) → A) (k : Nat) (a : Nat → Bool) : SV pl tT tF U f (k + 1) a = if U k then pl (tT k (SV pl tT tF U f k (sb a k true))) (tF k (SV pl tT tF U f k (sb a k false))) else SV pl tT tF U f k a := rfl
theorem SV_congr {U : Nat → Bool} {f g : (Nat → Bool) → A} (h : ∀ a, f a = g a) (k : Nat) (a : Nat → Bool) : SV pl tT tF U f k a = SV pl tT tF U g k a := by
  rw [show f = g from funext h]
theorem SV_congrU {U U' : Nat → Bool} {f : (Nat → Bool) → A} : ∀ {k : Nat}, (∀ i, i < k → U i = U' i) → ∀ a, SV pl tT tF U f k a = SV pl tT tF U' f k a
  | 0, _, _ => rfl
  | k + 1, h, a => by
    have ih := SV_congrU (f := f) (k := k) (fun i hi => h i (by omega))
    rw [SV_succ, SV_succ, h k (by omega), ih, ih, ih]
theorem SV_indep {U : Nat → Bool} {f : (Nat → Bool) → A} {j : Nat} (hU : U j = false) (hf : ∀ a b, f (sb a j b) = f a) : ∀ (k : Nat) (a : Nat → Bool) (b : Bool), SV pl tT tF U f k (sb a j b) = SV pl tT tF U f k a
  | 0, a, b => hf a b
  | k + 1, a, b => by
    rw [SV_succ, SV_succ]
    by_cases e : k = j
    · rw [e, hU]
      simp only [Bool.false_eq_true, if_false]
      exact SV_indep hU hf j a b
    · rw [sb_comm a b true (by omega), sb_comm a b false (by omega), SV_indep hU hf k, SV_indep hU hf k, SV_indep hU hf k]
theorem SV_congr_on {U : Nat → Bool} {f g : (Nat → Bool) → A} {j : Nat} {b : Bool} (hU : U j = false) (h : ∀ a, a j = b → f a = g a) : ∀ (k : Nat) (a : Nat → Bool), a j = b → SV pl tT tF U f k a = SV pl tT tF U g k a
  | 0, a, ha => h a ha
  | k + 1, a, ha => by
    rw [SV_succ, SV_succ]
    by_cases e : k = j
    · rw [e, hU]
      simp only [Bool.false_eq_true, if_false]
      exact SV_congr_on hU h j a ha
    · rw [SV_congr_on hU h k (sb a k true) (by rw [sb_ne a true (by omega)]; exact ha), SV_congr_on hU h k (sb a k false) (by rw [sb_ne a false (by omega)]; exact ha), SV_congr_on hU h k a ha]
theorem SV_decide (hA : Alg pl tT tF) {U U' : Nat → Bool} {f : (Nat → Bool) → A} {v : Nat} (hv : U v = true) : ∀ {k : Nat}, v < k → (∀ i, i < k → U' i = (U i && !decide (i = v))) → ∀ a, SV pl tT tF U f k a = pl (tT v (SV pl tT tF U' f k (sb a v true))) (tF v (SV pl tT tF U' f k (sb a v false)))
  | 0, h, _, _ => absurd h (by omega)
  | k + 1, h, hU, a => by
    by_cases e : k = v
    · subst e
      have h1 : U' k = false := by rw [hU k (by omega)]; simp
      rw [SV_succ U, hv, SV_succ U', SV_succ U', h1]
      simp only [Bool.false_eq_true, if_false, if_true]
      have h2 : ∀ a, SV pl tT tF U f k a = SV pl tT tF U' f k a := SV_congrU (fun i hi => by rw [hU i (by omega), decide_eq_false (by omega)]; simp)
      rw [h2, h2]
    · have ih := SV_decide hA (f := f) hv (k := k) (by omega) (fun i hi => hU i (by omega))
      have h1 : U' k = U k := by rw [hU k (by omega), decide_eq_false e]; simp
      rw [SV_succ U, SV_succ U', SV_succ U', h1]
      cases hk : U k
      · simp only [Bool.false_eq_true, if_false]
        exact ih a
      · simp only [if_true]
        rw [ih, ih, sb_comm a true true (show k ≠ v from e), sb_comm a true false (show k ≠ v from e), sb_comm a false true (show k ≠ v from e), sb_comm a false false (show k ≠ v from e)]
        rw [hA.2.1 k, hA.2.2.1 k, hA.2.1 v, hA.2.2.1 v, hA.1]
        rw [hA.2.2.2.1 k v, hA.2.2.2.2.1 k v, hA.2.2.2.2.2 k v, hA.2.2.2.2.1 v k]
theorem SV_beside {B : A → A → A} (hB : Bil pl tT tF B) {U U1 U2 : Nat → Bool} {f1 f2 : (Nat → Bool) → A} (h1 : ∀ j, U2 j = true → ∀ a b, f1 (sb a j b) = f1 a) (h2 : ∀ j, U1 j = true → ∀ a b, f2 (sb a j b) = f2 a) : ∀ {k : Nat}, (∀ i, i < k → U i = (U1 i || U2 i)) → (∀ i, i < k → ¬ (U1 i = true ∧ U2 i = true)) → ∀ a, SV pl tT tF U (fun a => B (f1 a) (f2 a)) k a = B (SV pl tT tF U1 f1 k a) (SV pl tT tF U2 f2 k a)
  | 0, _, _, _ => rfl
  | k + 1, hU, hd, a => by
    have ih := SV_beside hB h1 h2 (k := k) (fun i hi => hU i (by omega)) (fun i hi => hd i (by omega))
    have hk := hU k (by omega)
    have hn := hd k (by omega)
    rw [SV_succ, SV_succ, SV_succ, hk]
    cases e1 : U1 k
    · cases e2 : U2 k
      · simp only [Bool.or_false, Bool.false_eq_true, if_false]
        exact ih a
      · simp only [Bool.or_true, Bool.false_eq_true, if_false, if_true]
        rw [ih, ih, SV_indep e1 (h1 k e2), SV_indep e1 (h1 k e2), hB.2.1, hB.2.2.2.1, hB.2.2.2.2.2]
    · cases e2 : U2 k
      · simp only [Bool.true_or, Bool.false_eq_true, if_false, if_true]
        rw [ih, ih, SV_indep e2 (h2 k e1), SV_indep e2 (h2 k e1), hB.1, hB.2.2.1, hB.2.2.2.2.1]
      · exact absurd ⟨e1, e2⟩ hn
theorem SV_const {U : Nat → Bool} {c : A} : ∀ (k : Nat) (a a' : Nat → Bool), SV pl tT tF U (fun _ => c) k a = SV pl tT tF U (fun _ => c) k a'
  | 0, _, _ => rfl
  | k + 1, a, a' => by
    rw [SV_succ, SV_succ, SV_const k (sb a k true) a', SV_const k (sb a k false) a', SV_const k (sb a' k true) a', SV_const k (sb a' k false) a', SV_const k a a']
theorem SV_zero {U : Nat → Bool} {z : A} (h1 : pl z z = z) (h2 : ∀ k, tT k z = z) (h3 : ∀ k, tF k z = z) : ∀ (k : Nat) (a : Nat → Bool), SV pl tT tF U (fun _ => z) k a = z
  | 0, _ => rfl
  | k + 1, a => by
    rw [SV_succ, SV_zero h1 h2 h3 k, SV_zero h1 h2 h3 k, SV_zero h1 h2 h3 k, h2, h3, h1]
    simp
end SVL
/-! clauses under an assignment -/
def satc (σ : St) (U : Nat → Bool) (c : Nat) (a : Nat → Bool) : Bool := (List.range 8).any (fun v => U v && ((bt (σ 3 c) v && a v) || (bt (σ 4 c) v && !a v)))
def satA (σ : St) (N : Nat) (U C : Nat → Bool) (a : Nat → Bool) : Bool := (List.range N).all (fun c => !C c || satc σ U c a)
theorem satc_iff {σ : St} {U : Nat → Bool} {c : Nat} {a : Nat → Bool} : satc σ U c a = true ↔ ∃ v, v < 8 ∧ U v = true ∧ ((bt (σ 3 c) v = true ∧ a v = true) ∨ (bt (σ 4 c) v = true ∧ a v = false)) := by
  simp [satc, List.any_eq_true]
theorem satA_iff {σ : St} {N : Nat} {U C : Nat → Bool} {a : Nat → Bool} : satA σ N U C a = true ↔ ∀ c, c < N → C c = true → satc σ U c a = true := by
  unfold satA
  rw [List.all_eq_true]
  constructor
  · intro h c hc hC
    have := h c (List.mem_range.mpr hc)
    rw [hC] at this
    simpa using this
  · intro h c hc
    cases hC : C c
    · rfl
    · rw [h c (List.mem_range.mp hc) hC]; rfl
theorem satc_indep {σ : St} {U : Nat → Bool} {c j : Nat} (hU : U j = false) (a : Nat → Bool) (b : Bool) : satc σ U c (sb a j b) = satc σ U c a := by
  rw [Bool.eq_iff_iff, satc_iff, satc_iff]
  constructor
  · rintro ⟨v, hv, hu, h⟩
    rw [sb_ne a b (show v ≠ j from fun e => by rw [e, hU] at hu; cases hu)] at h
    exact ⟨v, hv, hu, h⟩
  · rintro ⟨v, hv, hu, h⟩
    refine ⟨v, hv, hu, ?_⟩
    rw [sb_ne a b (show v ≠ j from fun e => by rw [e, hU] at hu; cases hu)]
    exact h
theorem satA_indep {σ : St} {N : Nat} {U C : Nat → Bool} {j : Nat} (hU : U j = false) (a : Nat → Bool) (b : Bool) : satA σ N U C (sb a j b) = satA σ N U C a := by
  unfold satA
  simp only [satc_indep hU]
/-- the value of a set of variables and a set of clauses -/
def NV {A : Type} (pl : A → A → A) (tT tF : Nat → A → A) (o z : A) (σ : St) (N : Nat) (vs cs : Int32) : A := SV pl tT tF (bt vs) (fun a => if satA σ N (bt vs) (bt cs) a then o else z) 8 (fun _ => false)
theorem lit_bit {σ : St} {c v : Nat} : bt (lit σ c) v = (bt (σ 3 c) v || bt (σ 4 c) v) := b_or _ _ _
theorem and_bits {x y : Int32} (h : x &&& y = 0) {v : Nat} (h1 : bt x v = true) (h2 : bt y v = true) : False := by
  have := b_and x y v
  rw [h, h1, h2, b_0] at this
  cases this
theorem bits_and {x y : Int32} {v : Nat} (h1 : bt x v = true) (h2 : bt y v = true) : ¬ x &&& y = 0 := fun h => and_bits h h1 h2
section NVL
variable {A : Type} {pl : A → A → A} {tT tF : Nat → A → A} {o z : A} {σ : St} {N : Nat} {vs cs : Int32}
theorem NV_never (h1 : pl z z = z) (h2 : ∀ k, tT k z = z) (h3 : ∀ k, tF k z = z) (h : ∃ c, c < N ∧ bt cs c = true ∧ lit σ c &&& vs = 0) : NV pl tT tF o z σ N vs cs = z := by
  obtain ⟨c, hc, hb, hz⟩ := h
  have : ∀ a, (if satA σ N (bt vs) (bt cs) a then o else z) = z := by
    intro a
    cases hs : satA σ N (bt vs) (bt cs) a
    · rfl
    · obtain ⟨v, hv, hu, hx⟩ := satc_iff.mp (satA_iff.mp hs c hc hb)
      refine (and_bits (v := v) hz ?_ hu).elim
      rw [lit_bit]
      rcases hx with ⟨hx, -⟩ | ⟨hx, -⟩ <;> simp [hx]
  unfold NV
  rw [SV_congr this]
  exact SV_zero h1 h2 h3 8 _
theorem NV_free (h : cs = 0) : NV pl tT tF o z σ N vs cs = SV pl tT tF (bt vs) (fun _ => o) 8 (fun _ => false) := by
  unfold NV
  refine SV_congr (fun a => ?_) 8 _
  have : satA σ N (bt vs) (bt cs) a = true := satA_iff.mpr (fun c _ hb => by rw [h, b_0] at hb; cases hb)
  rw [this]
  rfl
theorem NV_decide (hA : Alg pl tT tF) {v : Nat} {v1 c1 v2 c2 : Int32} (hN : N ≤ 32) (h : Decide σ N vs cs v v1 c1 v2 c2) : NV pl tT tF o z σ N vs cs = pl (tT v (NV pl tT tF o z σ N v1 c1)) (tF v (NV pl tT tF o z σ N v2 c2)) := by
  obtain ⟨hv, hb, hr, rfl, hc1, hc2⟩ := h
  have hU : bt v2 v = false := by rw [hr v (by omega)]; simp
  unfold NV
  rw [SV_decide hA (U' := bt v2) hb hv (fun i hi => hr i (by omega))]
  have sub : ∀ u, bt v2 u = true → bt vs u = true ∨ 32 ≤ u := fun u hu => by
    by_cases h32 : u < 32
    · rw [hr u h32] at hu
      exact Or.inl (Bool.and_eq_true_iff.mp hu).1
    · exact Or.inr (by omega)
  have key : ∀ (t : Bool) (c' : Int32), (∀ c, c < 32 → bt c' c = (bt cs c && !(decide (c < N) && bt (σ (if t then 3 else 4) c) v))) → ∀ a, a v = t → satA σ N (bt vs) (bt cs) a = satA σ N (bt v2) (bt c') a := by
    intro t c' hc' a ha
    rw [Bool.eq_iff_iff, satA_iff, satA_iff]
    constructor
    · intro h c hc hC
      rw [hc' c (by omega), decide_eq_true hc] at hC
      have hC2 := Bool.and_eq_true_iff.mp hC
      obtain ⟨u, hu, hus, hx⟩ := satc_iff.mp (h c hc hC2.1)
      have hne : u ≠ v := by
        intro e
        subst e
        rw [ha] at hx
        have h3 := hC2.2
        cases t
        · rcases hx with ⟨-, hx⟩ | ⟨hx, -⟩
          · cases hx
          · simp [hx] at h3
        · rcases hx with ⟨hx, -⟩ | ⟨-, hx⟩
          · simp [hx] at h3
          · cases hx
      exact satc_iff.mpr ⟨u, hu, by rw [hr u (by omega), hus, decide_eq_false hne]; rfl, hx⟩
    · intro h c hc hC
      cases hp : bt (σ (if t then 3 else 4) c) v
      · have hC' : bt c' c = true := by rw [hc' c (by omega), hC, hp]; simp
        obtain ⟨u, hu, hus, hx⟩ := satc_iff.mp (h c hc hC')
        refine satc_iff.mpr ⟨u, hu, ?_, hx⟩
        rcases sub u hus with h | h
        · exact h
        · omega
      · refine satc_iff.mpr ⟨v, hv, hb, ?_⟩
        rw [ha]
        cases t
        · exact Or.inr ⟨hp, rfl⟩
        · exact Or.inl ⟨hp, rfl⟩
  congr 2
  · rw [SV_congr_on (g := fun a => if satA σ N (bt v2) (bt c1) a then o else z) hU (fun a ha => by rw [key true c1 hc1 a ha]) 8 _ (sb_at' _ _ _)]
    exact SV_indep hU (fun a b => by rw [satA_indep hU]) 8 _ _
  · rw [SV_congr_on (g := fun a => if satA σ N (bt v2) (bt c2) a then o else z) hU (fun a ha => by rw [key false c2 hc2 a ha]) 8 _ (sb_at' _ _ _)]
    exact SV_indep hU (fun a b => by rw [satA_indep hU]) 8 _ _
theorem NV_beside {B : A → A → A} (hB : Bil pl tT tF B) (hoo : B o o = o) (hoz : B o z = z) (hzo : B z o = z) (hzz : B z z = z) {v1 c1 v2 c2 : Int32} (hN : N ≤ 32) (hv : lowB 8 vs) (h : Beside σ N vs cs v1 c1 v2 c2) : NV pl tT tF o z σ N vs cs = B (NV pl tT tF o z σ N v1 c1) (NV pl tT tF o z σ N v2 c2) := by
  obtain ⟨hs, -, -, hcl, hc1, hv2, hc2⟩ := h
  have hsat : ∀ a, satA σ N (bt vs) (bt cs) a = (satA σ N (bt v1) (bt c1) a && satA σ N (bt v2) (bt c2) a) := by
    intro a
    rw [Bool.eq_iff_iff, Bool.and_eq_true_iff, satA_iff, satA_iff, satA_iff]
    constructor
    · intro h
      constructor
      · intro c hc hC
        rw [hc1 c (by omega), decide_eq_true hc, Bool.true_and] at hC
        obtain ⟨hC, ht⟩ := Bool.and_eq_true_iff.mp hC
        obtain ⟨u, hu, hus, hx⟩ := satc_iff.mp (h c hc hC)
        refine satc_iff.mpr ⟨u, hu, hcl c hc hC (by simpa [touch] using ht) u (by omega) ?_ hus, hx⟩
        rw [lit_bit]
        rcases hx with ⟨hx, -⟩ | ⟨hx, -⟩ <;> simp [hx]
      · intro c hc hC
        rw [hc2 c (by omega)] at hC
        obtain ⟨hC, hn⟩ := Bool.and_eq_true_iff.mp hC
        rw [hc1 c (by omega), decide_eq_true hc, hC, Bool.true_and, Bool.true_and] at hn
        obtain ⟨u, hu, hus, hx⟩ := satc_iff.mp (h c hc hC)
        refine satc_iff.mpr ⟨u, hu, ?_, hx⟩
        rw [hv2 u (by omega), hus, Bool.true_and]
        cases hb : bt v1 u
        · rfl
        · exfalso
          have : ¬ lit σ c &&& v1 = 0 := by
            refine bits_and (v := u) ?_ hb
            rw [lit_bit]
            rcases hx with ⟨hx, -⟩ | ⟨hx, -⟩ <;> simp [hx]
          simp [touch, this] at hn
    · rintro ⟨h1, h2⟩ c hc hC
      cases ht : touch σ v1 c
      · have hC2 : bt c2 c = true := by rw [hc2 c (by omega), hC, hc1 c (by omega), ht]; simp
        obtain ⟨u, hu, hus, hx⟩ := satc_iff.mp (h2 c hc hC2)
        rw [hv2 u (by omega)] at hus
        exact satc_iff.mpr ⟨u, hu, (Bool.and_eq_true_iff.mp hus).1, hx⟩
      · have hC1 : bt c1 c = true := by rw [hc1 c (by omega), hC, ht, decide_eq_true hc]; rfl
        obtain ⟨u, hu, hus, hx⟩ := satc_iff.mp (h1 c hc hC1)
        exact satc_iff.mpr ⟨u, hu, hs u (by omega) hus, hx⟩
  have d1 : ∀ j, bt v2 j = true → bt v1 j = false := by
    intro j hj
    by_cases h32 : j < 32
    · rw [hv2 j h32] at hj
      have := (Bool.and_eq_true_iff.mp hj).2
      simpa using this
    · exact b_big (by omega)
  have d2 : ∀ j, bt v1 j = true → bt v2 j = false := by
    intro j hj
    cases h : bt v2 j
    · rfl
    · rw [d1 j h] at hj; cases hj
  unfold NV
  rw [← SV_beside hB (U := bt vs) (U1 := bt v1) (U2 := bt v2) (f1 := fun a => if satA σ N (bt v1) (bt c1) a then o else z) (f2 := fun a => if satA σ N (bt v2) (bt c2) a then o else z) (fun j hj a b => by rw [satA_indep (d1 j hj)]) (fun j hj a b => by rw [satA_indep (d2 j hj)])]
  · refine SV_congr (fun a => ?_) 8 _
    rw [hsat a]
    cases satA σ N (bt v1) (bt c1) a
    · cases satA σ N (bt v2) (bt c2) a
      · simp [hzz]
      · simp [hzo]
    · cases satA σ N (bt v2) (bt c2) a
      · simp [hoz]
      · simp [hoo]
  · intro i hi
    rw [hv2 i (by omega)]
    cases h1 : bt v1 i
    · simp
    · rw [hs i (by omega) h1]; rfl
  · intro i hi ⟨h1, h2⟩
    rw [d1 i h2] at h1; cases h1
end NVL
end
section
/-! X0: evaluated, pass: values of nodes under weights -/
theorem algI (wT wF : Nat → Int32) : Alg (fun x y : Int32 => x + y) (fun k x => wT k * x) (fun k x => wF k * x) := by
  refine ⟨?_, ?_, ?_, ?_, ?_, ?_⟩ <;> intros <;> grind
theorem bilI (wT wF : Nat → Int32) : Bil (fun x y : Int32 => x + y) (fun k x => wT k * x) (fun k x => wF k * x) (fun x y => x * y) := by
  refine ⟨?_, ?_, ?_, ?_, ?_, ?_⟩ <;> intros <;> grind
/-- the value under weights -/
def NVW (wT wF : Nat → Int32) (σ : St) (N : Nat) (vs cs : Int32) : Int32 := NV (fun x y : Int32 => x + y) (fun k x => wT k * x) (fun k x => wF k * x) 1 0 σ N vs cs
theorem NVW_congr {wT wF : Nat → Int32} {σ σ' : St} {N : Nat} {vs cs : Int32} (h3 : σ' 3 = σ 3) (h4 : σ' 4 = σ 4) : NVW wT wF σ' N vs cs = NVW wT wF σ N vs cs := by
  unfold NVW NV satA satc
  rw [h3, h4]
theorem Beside_less {σ : St} {N : Nat} {vs cs v1 c1 v2 c2 : Int32} (hv : lowB 8 vs) (h : Beside σ N vs cs v1 c1 v2 c2) : pop8 v1 < pop8 vs ∧ pop8 v2 < pop8 vs := by
  obtain ⟨hs, h0, hne, -, -, hv2, -⟩ := h
  have h1 := pop8_lt hv hs hne
  have h2 := pop8_parts hs hv2
  have h3 := pop8_pos (subS_low hv hs) h0
  omega
theorem Decide_less {σ : St} {N v : Nat} {vs cs v1 c1 v2 c2 : Int32} (h : Decide σ N vs cs v v1 c1 v2 c2) : pop8 v1 < pop8 vs ∧ pop8 v2 < pop8 vs := by
  obtain ⟨hv, hb, hr, rfl, -, -⟩ := h
  have := pop8_less hv hb hr
  omega
abbrev P_evaluated (σ : St) (N n : Nat) : Int32 → St → Prop := fun r σ' => σ' = σ ∧ r = NVW (σ 20) (σ 19) σ N (σ 9 n) (σ 10 n)
theorem m_evaluated (σ : St) (N M n : Nat) (hN : N ≤ 14) (hI : BI σ N M M) (hn : n < M) (hv : ∀ j, j < M → pop8 (σ 9 j) < pop8 (σ 9 n) → σ 17 j = NVW (σ 20) (σ 19) σ N (σ 9 j) (σ 10 j)) : CN shX0 yX0_evaluated cX0_evaluated 4 0 (some .int) [nI n] σ (P_evaluated σ N n) := by
  have hM5 : M ≤ 511 := Nat.le_trans (Nat.le_add_right _ _) hI.2.2.2.1
  have h8 := (hI.1.2.2 n hn).1
  refine CN.ofV (own := RX0) (by decide) rfl (Nat.le_of_ble_eq_true rfl) ?_
  show V shX0 RX0 cX0_evaluated 4 0 (some .int) _ 0 [some (.inr 0), some (.inl (nI n)), none, none] [] _
  rcases hI.2.1 n hn with ⟨e, hw⟩ | ⟨e, hz⟩ | ⟨e, f, s, hf, hs, e1, e2, hb⟩ | ⟨e, v, f, s, e0, hf, hs, e1, e2, hd⟩
  · refine r_aload_n (pc := 0) (i := 0) dX0_evaluated_0 rfl rfl ?_
    refine r_getA (pc := 1) ckX0 12 (by decide) rfl q48 dX0_evaluated_1 ?_
    refine r_iload_n (pc := 4) (i := 1) dX0_evaluated_4 rfl rfl ?_
    refine r_iald (pc := 5) ckX0 rfl dX0_evaluated_5 (rfl) (by omega) ?_
    refine r_iconst (pc := 6) (v := nI 1) dX0_evaluated_6 (by decide) ?_
    refine r_icmp_ne (pc := 7) (tgt := 12) dX0_evaluated_7 (by decide) (fun z => absurd (e) z) (fun _ => ?_)
    refine r_iconst (pc := 10) (v := nI 0) dX0_evaluated_10 (by decide) ?_
    refine r_iret (pc := 11) dX0_evaluated_11 ?_
    refine ⟨rfl, ?_⟩
    exact (NV_never (pl := fun x y : Int32 => x + y) (tT := fun k x => σ 20 k * x) (tF := fun k x => σ 19 k * x) (o := 1) (z := 0) (by decide) (fun k => by grind) (fun k => by grind) hw).symm
  · refine r_aload_n (pc := 0) (i := 0) dX0_evaluated_0 rfl rfl ?_
    refine r_getA (pc := 1) ckX0 12 (by decide) rfl q48 dX0_evaluated_1 ?_
    refine r_iload_n (pc := 4) (i := 1) dX0_evaluated_4 rfl rfl ?_
    refine r_iald (pc := 5) ckX0 rfl dX0_evaluated_5 (rfl) (by omega) ?_
    refine r_iconst (pc := 6) (v := nI 1) dX0_evaluated_6 (by decide) ?_
    refine r_icmp_ne (pc := 7) (tgt := 12) dX0_evaluated_7 (by decide) (fun _ => ?_) (fun z => absurd z (by rw [e]; decide))
    refine r_aload_n (pc := 12) (i := 0) dX0_evaluated_12 rfl rfl ?_
    refine r_getA (pc := 13) ckX0 12 (by decide) rfl q48 dX0_evaluated_13 ?_
    refine r_iload_n (pc := 16) (i := 1) dX0_evaluated_16 rfl rfl ?_
    refine r_iald (pc := 17) ckX0 rfl dX0_evaluated_17 (rfl) (by omega) ?_
    refine r_iconst (pc := 18) (v := nI 2) dX0_evaluated_18 (by decide) ?_
    refine r_icmp_ne (pc := 19) (tgt := 46) dX0_evaluated_19 (by decide) (fun _ => ?_) (fun z => absurd z (by rw [e]; decide))
    refine r_aload_n (pc := 46) (i := 0) dX0_evaluated_46 rfl rfl ?_
    refine r_getA (pc := 47) ckX0 12 (by decide) rfl q48 dX0_evaluated_47 ?_
    refine r_iload_n (pc := 50) (i := 1) dX0_evaluated_50 rfl rfl ?_
    refine r_iald (pc := 51) ckX0 rfl dX0_evaluated_51 (rfl) (by omega) ?_
    refine r_iconst (pc := 52) (v := nI 3) dX0_evaluated_52 (by decide) ?_
    refine r_icmp_ne (pc := 53) (tgt := 101) dX0_evaluated_53 (by decide) (fun _ => ?_) (fun z => absurd z (by rw [e]; decide))
    refine r_iconst (pc := 101) (v := nI 1) dX0_evaluated_101 (by decide) ?_
    refine r_istore_n (pc := 102) (i := 2) (L' := [_, _, _, _]) dX0_evaluated_102 rfl (by decide) rfl ?_
    refine r_iconst (pc := 103) (v := nI 0) dX0_evaluated_103 (by decide) ?_
    refine r_istore_n (pc := 104) (i := 3) (L' := [_, _, _, _]) dX0_evaluated_104 rfl (by decide) rfl ?_
    suffices h : ∀ k i, i + k = 8 → V shX0 RX0 cX0_evaluated 4 0 (some .int) (P_evaluated σ N n) 105 [some (.inr 0), some (.inl (nI n)), some (.inl (SV (fun x y : Int32 => x + y) (fun k x => σ 20 k * x) (fun k x => σ 19 k * x) (bt (σ 9 n)) (fun _ => 1) i (fun _ => false))), some (.inl (nI i))] [] σ from h 8 0 (by omega)
    intro k
    induction k with
    | zero =>
      intro i hi
      refine r_iload_n (pc := 105) (i := 3) dX0_evaluated_105 rfl rfl ?_
      refine r_bipush (pc := 106) (v := nI 8) dX0_evaluated_106 (by decide) ?_
      refine r_icmp_ge (pc := 108) (tgt := 147) dX0_evaluated_108 (by decide) (fun _ => ?_) (fun z => absurd (nI_le (by omega) (by omega)) z)
      refine r_iload_n (pc := 147) (i := 2) dX0_evaluated_147 rfl rfl ?_
      refine r_iret (pc := 148) dX0_evaluated_148 ?_
      refine ⟨rfl, ?_⟩
      rw [show i = 8 by omega]
      exact (NV_free hz).symm
    | succ k ih =>
      intro i hi
      refine r_iload_n (pc := 105) (i := 3) dX0_evaluated_105 rfl rfl ?_
      refine r_bipush (pc := 106) (v := nI 8) dX0_evaluated_106 (by decide) ?_
      refine r_icmp_ge (pc := 108) (tgt := 147) dX0_evaluated_108 (by decide) (fun z => absurd z (nI_ge (by omega) (by omega))) (fun _ => ?_)
      refine r_aload_n (pc := 111) (i := 0) dX0_evaluated_111 rfl rfl ?_
      refine r_getA (pc := 112) ckX0 9 (by decide) rfl q45 dX0_evaluated_112 ?_
      refine r_iload_n (pc := 115) (i := 1) dX0_evaluated_115 rfl rfl ?_
      refine r_iald (pc := 116) ckX0 rfl dX0_evaluated_116 (rfl) (by omega) ?_
      refine r_iload_n (pc := 117) (i := 3) dX0_evaluated_117 rfl rfl ?_
      refine r_ishr (pc := 118) dX0_evaluated_118 ?_
      refine r_iconst (pc := 119) (v := nI 1) dX0_evaluated_119 (by decide) ?_
      refine r_iand (pc := 120) dX0_evaluated_120 ?_
      refine r_iconst (pc := 121) (v := nI 1) dX0_evaluated_121 (by decide) ?_
      have hsu : SV (fun x y : Int32 => x + y) (fun k x => σ 20 k * x) (fun k x => σ 19 k * x) (bt (σ 9 n)) (fun _ => (1 : Int32)) (i + 1) (fun _ => false) = if bt (σ 9 n) i then SV (fun x y : Int32 => x + y) (fun k x => σ 20 k * x) (fun k x => σ 19 k * x) (bt (σ 9 n)) (fun _ => 1) i (fun _ => false) * (σ 20 i + σ 19 i) else SV (fun x y : Int32 => x + y) (fun k x => σ 20 k * x) (fun k x => σ 19 k * x) (bt (σ 9 n)) (fun _ => 1) i (fun _ => false) := by
        rw [SV_succ, SV_const i (sb (fun _ => false) i true) (fun _ => false), SV_const i (sb (fun _ => false) i false) (fun _ => false)]
        split
        · grind
        · rfl
      refine r_icmp_ne (pc := 122) (tgt := 141) dX0_evaluated_122 (by decide) (fun h1 => ?_) (fun h1 => ?_)
      · rw [bit_one _ (by omega)] at h1
        have h2 := ih (i + 1) (by omega)
        rw [hsu, if_neg h1] at h2
        refine r_iinc (pc := 141) (v := _) (L' := [_, _, _, _]) dX0_evaluated_141 rfl (inc1 _) (by decide) rfl ?_
        refine r_goto (pc := 144) (tgt := 105) dX0_evaluated_144 (by decide) ?_
        exact h2
      · have h2 := ih (i + 1) (by omega)
        rw [hsu, if_pos ((bit_one _ (by omega)).mp h1)] at h2
        refine r_iload_n (pc := 125) (i := 2) dX0_evaluated_125 rfl rfl ?_
        refine r_aload_n (pc := 126) (i := 0) dX0_evaluated_126 rfl rfl ?_
        refine r_getA (pc := 127) ckX0 20 (by decide) rfl q56 dX0_evaluated_127 ?_
        refine r_iload_n (pc := 130) (i := 3) dX0_evaluated_130 rfl rfl ?_
        refine r_iald (pc := 131) ckX0 rfl dX0_evaluated_131 (rfl) (by omega) ?_
        refine r_aload_n (pc := 132) (i := 0) dX0_evaluated_132 rfl rfl ?_
        refine r_getA (pc := 133) ckX0 19 (by decide) rfl q55 dX0_evaluated_133 ?_
        refine r_iload_n (pc := 136) (i := 3) dX0_evaluated_136 rfl rfl ?_
        refine r_iald (pc := 137) ckX0 rfl dX0_evaluated_137 (rfl) (by omega) ?_
        refine r_iadd (pc := 138) dX0_evaluated_138 ?_
        refine r_imul (pc := 139) dX0_evaluated_139 ?_
        refine r_istore_n (pc := 140) (i := 2) (L' := [_, _, _, _]) dX0_evaluated_140 rfl (by decide) rfl ?_
        refine r_iinc (pc := 141) (v := _) (L' := [_, _, _, _]) dX0_evaluated_141 rfl (inc1 _) (by decide) rfl ?_
        refine r_goto (pc := 144) (tgt := 105) dX0_evaluated_144 (by decide) ?_
        exact h2
  · refine r_aload_n (pc := 0) (i := 0) dX0_evaluated_0 rfl rfl ?_
    refine r_getA (pc := 1) ckX0 12 (by decide) rfl q48 dX0_evaluated_1 ?_
    refine r_iload_n (pc := 4) (i := 1) dX0_evaluated_4 rfl rfl ?_
    refine r_iald (pc := 5) ckX0 rfl dX0_evaluated_5 (rfl) (by omega) ?_
    refine r_iconst (pc := 6) (v := nI 1) dX0_evaluated_6 (by decide) ?_
    refine r_icmp_ne (pc := 7) (tgt := 12) dX0_evaluated_7 (by decide) (fun _ => ?_) (fun z => absurd z (by rw [e]; decide))
    refine r_aload_n (pc := 12) (i := 0) dX0_evaluated_12 rfl rfl ?_
    refine r_getA (pc := 13) ckX0 12 (by decide) rfl q48 dX0_evaluated_13 ?_
    refine r_iload_n (pc := 16) (i := 1) dX0_evaluated_16 rfl rfl ?_
    refine r_iald (pc := 17) ckX0 rfl dX0_evaluated_17 (rfl) (by omega) ?_
    refine r_iconst (pc := 18) (v := nI 2) dX0_evaluated_18 (by decide) ?_
    refine r_icmp_ne (pc := 19) (tgt := 46) dX0_evaluated_19 (by decide) (fun z => absurd (e) z) (fun _ => ?_)
    refine r_aload_n (pc := 22) (i := 0) dX0_evaluated_22 rfl rfl ?_
    refine r_getA (pc := 23) ckX0 17 (by decide) rfl q53 dX0_evaluated_23 ?_
    refine r_aload_n (pc := 26) (i := 0) dX0_evaluated_26 rfl rfl ?_
    refine r_getA (pc := 27) ckX0 14 (by decide) rfl q50 dX0_evaluated_27 ?_
    refine r_iload_n (pc := 30) (i := 1) dX0_evaluated_30 rfl rfl ?_
    refine r_iald (pc := 31) ckX0 rfl dX0_evaluated_31 (rfl) (by omega) ?_
    refine r_iald (pc := 32) ckX0 rfl dX0_evaluated_32 (e1) (by omega) ?_
    refine r_aload_n (pc := 33) (i := 0) dX0_evaluated_33 rfl rfl ?_
    refine r_getA (pc := 34) ckX0 17 (by decide) rfl q53 dX0_evaluated_34 ?_
    refine r_aload_n (pc := 37) (i := 0) dX0_evaluated_37 rfl rfl ?_
    refine r_getA (pc := 38) ckX0 15 (by decide) rfl q51 dX0_evaluated_38 ?_
    refine r_iload_n (pc := 41) (i := 1) dX0_evaluated_41 rfl rfl ?_
    refine r_iald (pc := 42) ckX0 rfl dX0_evaluated_42 (rfl) (by omega) ?_
    refine r_iald (pc := 43) ckX0 rfl dX0_evaluated_43 (e2) (by omega) ?_
    refine r_imul (pc := 44) dX0_evaluated_44 ?_
    refine r_iret (pc := 45) dX0_evaluated_45 ?_
    refine ⟨rfl, ?_⟩
    have hl := Beside_less h8 hb
    rw [hv f hf hl.1, hv s hs hl.2]
    exact (NV_beside (bilI (σ 20) (σ 19)) (by decide) (by decide) (by decide) (by decide) (by omega) h8 hb).symm
  · refine r_aload_n (pc := 0) (i := 0) dX0_evaluated_0 rfl rfl ?_
    refine r_getA (pc := 1) ckX0 12 (by decide) rfl q48 dX0_evaluated_1 ?_
    refine r_iload_n (pc := 4) (i := 1) dX0_evaluated_4 rfl rfl ?_
    refine r_iald (pc := 5) ckX0 rfl dX0_evaluated_5 (rfl) (by omega) ?_
    refine r_iconst (pc := 6) (v := nI 1) dX0_evaluated_6 (by decide) ?_
    refine r_icmp_ne (pc := 7) (tgt := 12) dX0_evaluated_7 (by decide) (fun _ => ?_) (fun z => absurd z (by rw [e]; decide))
    refine r_aload_n (pc := 12) (i := 0) dX0_evaluated_12 rfl rfl ?_
    refine r_getA (pc := 13) ckX0 12 (by decide) rfl q48 dX0_evaluated_13 ?_
    refine r_iload_n (pc := 16) (i := 1) dX0_evaluated_16 rfl rfl ?_
    refine r_iald (pc := 17) ckX0 rfl dX0_evaluated_17 (rfl) (by omega) ?_
    refine r_iconst (pc := 18) (v := nI 2) dX0_evaluated_18 (by decide) ?_
    refine r_icmp_ne (pc := 19) (tgt := 46) dX0_evaluated_19 (by decide) (fun _ => ?_) (fun z => absurd z (by rw [e]; decide))
    refine r_aload_n (pc := 46) (i := 0) dX0_evaluated_46 rfl rfl ?_
    refine r_getA (pc := 47) ckX0 12 (by decide) rfl q48 dX0_evaluated_47 ?_
    refine r_iload_n (pc := 50) (i := 1) dX0_evaluated_50 rfl rfl ?_
    refine r_iald (pc := 51) ckX0 rfl dX0_evaluated_51 (rfl) (by omega) ?_
    refine r_iconst (pc := 52) (v := nI 3) dX0_evaluated_52 (by decide) ?_
    refine r_icmp_ne (pc := 53) (tgt := 101) dX0_evaluated_53 (by decide) (fun z => absurd (e) z) (fun _ => ?_)
    refine r_aload_n (pc := 56) (i := 0) dX0_evaluated_56 rfl rfl ?_
    refine r_getA (pc := 57) ckX0 13 (by decide) rfl q49 dX0_evaluated_57 ?_
    refine r_iload_n (pc := 60) (i := 1) dX0_evaluated_60 rfl rfl ?_
    refine r_iald (pc := 61) ckX0 rfl dX0_evaluated_61 (rfl) (by omega) ?_
    refine r_top (nI v) e0 ?_
    have hv8 : v < 8 := hd.1
    refine r_istore_n (pc := 62) (i := 2) (L' := [_, _, _, _]) dX0_evaluated_62 rfl (by decide) rfl ?_
    refine r_aload_n (pc := 63) (i := 0) dX0_evaluated_63 rfl rfl ?_
    refine r_getA (pc := 64) ckX0 20 (by decide) rfl q56 dX0_evaluated_64 ?_
    refine r_iload_n (pc := 67) (i := 2) dX0_evaluated_67 rfl rfl ?_
    refine r_iald (pc := 68) ckX0 rfl dX0_evaluated_68 (rfl) (by omega) ?_
    refine r_aload_n (pc := 69) (i := 0) dX0_evaluated_69 rfl rfl ?_
    refine r_getA (pc := 70) ckX0 17 (by decide) rfl q53 dX0_evaluated_70 ?_
    refine r_aload_n (pc := 73) (i := 0) dX0_evaluated_73 rfl rfl ?_
    refine r_getA (pc := 74) ckX0 14 (by decide) rfl q50 dX0_evaluated_74 ?_
    refine r_iload_n (pc := 77) (i := 1) dX0_evaluated_77 rfl rfl ?_
    refine r_iald (pc := 78) ckX0 rfl dX0_evaluated_78 (rfl) (by omega) ?_
    refine r_iald (pc := 79) ckX0 rfl dX0_evaluated_79 (e1) (by omega) ?_
    refine r_imul (pc := 80) dX0_evaluated_80 ?_
    refine r_aload_n (pc := 81) (i := 0) dX0_evaluated_81 rfl rfl ?_
    refine r_getA (pc := 82) ckX0 19 (by decide) rfl q55 dX0_evaluated_82 ?_
    refine r_iload_n (pc := 85) (i := 2) dX0_evaluated_85 rfl rfl ?_
    refine r_iald (pc := 86) ckX0 rfl dX0_evaluated_86 (rfl) (by omega) ?_
    refine r_aload_n (pc := 87) (i := 0) dX0_evaluated_87 rfl rfl ?_
    refine r_getA (pc := 88) ckX0 17 (by decide) rfl q53 dX0_evaluated_88 ?_
    refine r_aload_n (pc := 91) (i := 0) dX0_evaluated_91 rfl rfl ?_
    refine r_getA (pc := 92) ckX0 15 (by decide) rfl q51 dX0_evaluated_92 ?_
    refine r_iload_n (pc := 95) (i := 1) dX0_evaluated_95 rfl rfl ?_
    refine r_iald (pc := 96) ckX0 rfl dX0_evaluated_96 (rfl) (by omega) ?_
    refine r_iald (pc := 97) ckX0 rfl dX0_evaluated_97 (e2) (by omega) ?_
    refine r_imul (pc := 98) dX0_evaluated_98 ?_
    refine r_iadd (pc := 99) dX0_evaluated_99 ?_
    refine r_iret (pc := 100) dX0_evaluated_100 ?_
    refine ⟨rfl, ?_⟩
    have hl := Decide_less hd
    rw [hv f hf hl.1, hv s hs hl.2]
    exact (NV_decide (algI (σ 20) (σ 19)) (by omega) hd).symm
abbrev P_pass (σ : St) (N : Nat) : Int32 → St → Prop := fun r σ' => Diag σ' N ∧ σ' 7 0 = nI 1 ∧ (∀ k, k < 7 ∨ 17 < k → σ' k = σ k) ∧ r = NVW (σ 20) (σ 19) σ N (nI 255) (nI (2 ^ N - 1))
theorem m_pass (σ : St) (N : Nat) (hN : N ≤ 14) (hc : σ 2 0 = nI N) (hb : σ 7 0 = nI 0 ∨ (σ 7 0 = nI 1 ∧ Diag σ N)) : CN shX0 yX0_pass cX0_pass 3 4 (some .int) [] σ (P_pass σ N) := by
  refine CN.ofV (own := RX0) (by decide) rfl (Nat.le_of_ble_eq_true rfl) ?_
  show V shX0 RX0 cX0_pass 3 4 (some .int) _ 0 [some (.inr 0), none, none] [] _
  refine r_aload_n (pc := 0) (i := 0) dX0_pass_0 rfl rfl ?_
  refine r_callV (pc := 1) ckX0 (m_build σ N hN hc hb) mf_X0_build q141 (by decide) (by decide) dX0_pass_1 rfl (Nat.le_of_ble_eq_true rfl) (fun σ0 hr => ?_)
  obtain ⟨⟨M, hI⟩, h7, hk0⟩ := hr
  have hM5 : M ≤ 511 := Nat.le_trans (Nat.le_add_right _ _) hI.2.2.2.1
  refine r_iconst (pc := 4) (v := nI 0) dX0_pass_4 (by decide) ?_
  refine r_istore_n (pc := 5) (i := 1) (L' := [_, _, _]) dX0_pass_5 rfl (by decide) rfl ?_
  suffices outer : ∀ k s σ1, s + k = 9 → (∀ k, k ≠ 17 → σ1 k = σ0 k) → (∀ j, j < M → pop8 (σ0 9 j) < s → σ1 17 j = NVW (σ0 20) (σ0 19) σ0 N (σ0 9 j) (σ0 10 j)) → V shX0 RX0 cX0_pass 3 4 (some .int) (P_pass σ N) 6 [some (.inr 0), some (.inl (nI s)), none] [] σ1 from outer 9 0 σ0 (by omega) (fun _ _ => rfl) (fun j _ h => absurd h (by omega))
  intro k
  induction k with
  | zero =>
    intro s σ1 hs hk hval
    refine r_iload_n (pc := 6) (i := 1) dX0_pass_6 rfl rfl ?_
    refine r_bipush (pc := 7) (v := nI 8) dX0_pass_7 (by decide) ?_
    refine r_icmp_gt (pc := 9) (tgt := 55) dX0_pass_9 (by decide) (fun _ => ?_) (fun z => absurd (nI_lt (by omega) (by omega)) z)
    refine r_aload_n (pc := 55) (i := 0) dX0_pass_55 rfl rfl ?_
    refine r_getA (pc := 56) ckX0 17 (by decide) rfl q53 dX0_pass_56 ?_
    refine r_iconst (pc := 59) (v := nI 0) dX0_pass_59 (by decide) ?_
    refine r_iald (pc := 60) ckX0 rfl dX0_pass_60 (rfl) (by omega) ?_
    refine r_iret (pc := 61) dX0_pass_61 ?_
    have h0 := hval 0 hI.2.2.2.2.1 (by have := pop8_le (σ0 9 0); omega)
    refine ⟨⟨M, BI_keep (fun q hq => hk q (by omega)) hI⟩, by rw [hk 7 (by omega)]; exact h7, fun q hq => (hk q (by omega)).trans (hk0 q (by omega)), ?_⟩
    rw [h0, hI.2.2.2.2.2.1, hI.2.2.2.2.2.2, hk0 19 (by omega), hk0 20 (by omega)]
    exact NVW_congr (hk0 3 (by omega)) (hk0 4 (by omega))
  | succ k ih =>
    intro s σ1 hs hk hval
    refine r_iload_n (pc := 6) (i := 1) dX0_pass_6 rfl rfl ?_
    refine r_bipush (pc := 7) (v := nI 8) dX0_pass_7 (by decide) ?_
    refine r_icmp_gt (pc := 9) (tgt := 55) dX0_pass_9 (by decide) (fun z => absurd z (nI_nlt (by omega) (by omega))) (fun _ => ?_)
    refine r_iconst (pc := 12) (v := nI 0) dX0_pass_12 (by decide) ?_
    refine r_istore_n (pc := 13) (i := 2) (L' := [_, _, _]) dX0_pass_13 rfl (by decide) rfl ?_
    suffices inner : ∀ k2 j σ2, j + k2 = M → (∀ k, k ≠ 17 → σ2 k = σ0 k) → (∀ i, i < M → pop8 (σ0 9 i) < s ∨ (i < j ∧ pop8 (σ0 9 i) = s) → σ2 17 i = NVW (σ0 20) (σ0 19) σ0 N (σ0 9 i) (σ0 10 i)) → V shX0 RX0 cX0_pass 3 4 (some .int) (P_pass σ N) 14 [some (.inr 0), some (.inl (nI s)), some (.inl (nI j))] [] σ2 from inner M 0 σ1 (by omega) hk (fun i hi h => hval i hi (by omega))
    intro k2
    induction k2 with
    | zero =>
      intro j σ2 hj hk2 hval2
      have h8 : σ2 8 0 = nI M := by rw [hk2 8 (by omega)]; exact hI.1.1
      refine r_iload_n (pc := 14) (i := 2) dX0_pass_14 rfl rfl ?_
      refine r_aload_n (pc := 15) (i := 0) dX0_pass_15 rfl rfl ?_
      refine r_getI (pc := 16) ckX0 8 (by decide) rfl q44 dX0_pass_16 ?_
      refine r_icmp_ge (pc := 19) (tgt := 49) dX0_pass_19 (by decide) (fun _ => ?_) (fun z => absurd (by rw [h8]; exact nI_le (by omega) (by omega)) z)
      refine r_drop 2 (L' := [_, _, _]) rfl ?_
      refine r_iinc (pc := 49) (v := _) (L' := [_, _, _]) dX0_pass_49 rfl (inc1 _) (by decide) rfl ?_
      refine r_goto (pc := 52) (tgt := 6) dX0_pass_52 (by decide) ?_
      exact ih (s + 1) σ2 (by omega) hk2 (fun i hi h => hval2 i hi (by omega))
    | succ k2 ih2 =>
      intro j σ2 hj hk2 hval2
      have h8 : σ2 8 0 = nI M := by rw [hk2 8 (by omega)]; exact hI.1.1
      have hI2 : BI σ2 N M M := BI_keep (fun q hq => hk2 q (by omega)) hI
      have h11 : σ2 11 j = nI (pop8 (σ0 9 j)) := by rw [hk2 11 (by omega)]; exact (hI.1.2.2 j (by omega)).2.2
      have hp8 := pop8_le (σ0 9 j)
      refine r_iload_n (pc := 14) (i := 2) dX0_pass_14 rfl rfl ?_
      refine r_aload_n (pc := 15) (i := 0) dX0_pass_15 rfl rfl ?_
      refine r_getI (pc := 16) ckX0 8 (by decide) rfl q44 dX0_pass_16 ?_
      refine r_icmp_ge (pc := 19) (tgt := 49) dX0_pass_19 (by decide) (fun z => absurd z (by rw [h8]; exact nI_ge (by omega) (by omega))) (fun _ => ?_)
      refine r_aload_n (pc := 22) (i := 0) dX0_pass_22 rfl rfl ?_
      refine r_getA (pc := 23) ckX0 11 (by decide) rfl q47 dX0_pass_23 ?_
      refine r_iload_n (pc := 26) (i := 2) dX0_pass_26 rfl rfl ?_
      refine r_iald (pc := 27) ckX0 rfl dX0_pass_27 (rfl) (by omega) ?_
      refine r_iload_n (pc := 28) (i := 1) dX0_pass_28 rfl rfl ?_
      refine r_icmp_ne (pc := 29) (tgt := 43) dX0_pass_29 (by decide) (fun h1 => ?_) (fun h1 => ?_)
      · refine r_iinc (pc := 43) (v := _) (L' := [_, _, _]) dX0_pass_43 rfl (inc1 _) (by decide) rfl ?_
        refine r_goto (pc := 46) (tgt := 14) dX0_pass_46 (by decide) ?_
        refine ih2 (j + 1) σ2 (by omega) hk2 (fun i hi h => ?_)
        rcases h with h | ⟨h, he⟩
        · exact hval2 i hi (Or.inl h)
        · by_cases e : i = j
          · subst e
            rw [h11, he] at h1
            exact absurd rfl h1
          · exact hval2 i hi (Or.inr ⟨by omega, he⟩)
      · have hpj : pop8 (σ0 9 j) = s := by
          rw [h11] at h1
          exact (nI_eq (by omega) (by omega)).mp h1
        refine r_aload_n (pc := 32) (i := 0) dX0_pass_32 rfl rfl ?_
        refine r_getA (pc := 33) ckX0 17 (by decide) rfl q53 dX0_pass_33 ?_
        refine r_iload_n (pc := 36) (i := 2) dX0_pass_36 rfl rfl ?_
        refine r_aload_n (pc := 37) (i := 0) dX0_pass_37 rfl rfl ?_
        refine r_iload_n (pc := 38) (i := 2) dX0_pass_38 rfl rfl ?_
        refine r_callI (pc := 39) ckX0 (m_evaluated σ2 N M j hN hI2 (by omega) ?hv) mf_X0_evaluated q182 (by decide) (by decide) dX0_pass_39 rfl (Nat.le_of_ble_eq_true rfl) (fun r σ3 hr => ?_)
        case hv =>
          intro i hi hlt
          rw [hk2 9 (by omega)] at hlt ⊢
          rw [hk2 10 (by omega), hk2 19 (by omega), hk2 20 (by omega), NVW_congr (hk2 3 (by omega)) (hk2 4 (by omega))]
          exact hval2 i hi (Or.inl (by omega))
        obtain ⟨rfl, hr⟩ := hr
        rw [hk2 9 (by omega), hk2 10 (by omega), hk2 19 (by omega), hk2 20 (by omega), NVW_congr (hk2 3 (by omega)) (hk2 4 (by omega))] at hr
        subst hr
        refine r_iast (pc := 42) ckX0 rfl dX0_pass_42 (rfl) (by omega) ?_
        refine r_iinc (pc := 43) (v := _) (L' := [_, _, _]) dX0_pass_43 rfl (inc1 _) (by decide) rfl ?_
        refine r_goto (pc := 46) (tgt := 14) dX0_pass_46 (by decide) ?_
        refine ih2 (j + 1) _ (by omega) (fun q hq => (su_ne _ _ _ hq).trans (hk2 q hq)) (fun i hi h => ?_)
        by_cases e : i = j
        · subst e
          exact su_eq _ _ _ _
        · rw [su_off _ _ (Or.inr e)]
          exact hval2 i hi (by omega)
end
section
/-! PURE: the whole value as a sum over the 256 assignments; counts -/
def sumI (f : Nat → Int32) : Nat → Int32
  | 0 => 0
  | n + 1 => sumI f n + f n
theorem sumI_succ (f : Nat → Int32) (n : Nat) : sumI f (n + 1) = sumI f n + f n := rfl
theorem sumI_cong {f g : Nat → Int32} : ∀ {n : Nat}, (∀ k, k < n → f k = g k) → sumI f n = sumI g n
  | 0, _ => rfl
  | n + 1, h => by rw [sumI_succ, sumI_succ, sumI_cong (fun k hk => h k (by omega)), h n (by omega)]
theorem sumI_split (f : Nat → Int32) (m : Nat) : ∀ n, sumI f (m + n) = sumI f m + sumI (fun k => f (m + k)) n
  | 0 => by show sumI f m = sumI f m + 0; grind
  | n + 1 => by
    rw [← Nat.add_assoc, sumI_succ, sumI_split f m n, sumI_succ]
    grind
theorem sumI_mul (c : Int32) (f : Nat → Int32) : ∀ n, sumI (fun k => c * f k) n = c * sumI f n
  | 0 => by show (0 : Int32) = c * 0; grind
  | n + 1 => by
    rw [sumI_succ, sumI_succ, sumI_mul c f n]
    grind
theorem sumI_ct (p : Nat → Bool) : ∀ n, sumI (fun k => nI (p k).toNat) n = nI (fb_ct p n)
  | 0 => rfl
  | n + 1 => by rw [sumI_succ, sumI_ct p n, nI_add, ct_b]
/-- product of the weights of the first k bits of n -/
def wpr (wT wF : Nat → Int32) : Nat → Nat → Int32
  | 0, _ => 1
  | k + 1, n => (if n.testBit k then wT k else wF k) * wpr wT wF k n
theorem wpr_succ (wT wF : Nat → Int32) (k n : Nat) : wpr wT wF (k + 1) n = (if n.testBit k then wT k else wF k) * wpr wT wF k n := rfl
theorem wpr_cong {wT wF : Nat → Int32} : ∀ {k n m : Nat}, (∀ j, j < k → n.testBit j = m.testBit j) → wpr wT wF k n = wpr wT wF k m
  | 0, _, _, _ => rfl
  | k + 1, n, m, h => by
    unfold wpr
    rw [h k (by omega), wpr_cong (fun j hj => h j (by omega))]
theorem wpr_congW {wT wF wT' wF' : Nat → Int32} : ∀ {k n : Nat}, (∀ j, j < k → wT j = wT' j ∧ wF j = wF' j) → wpr wT wF k n = wpr wT' wF' k n
  | 0, _, _ => rfl
  | k + 1, n, h => by
    unfold wpr
    rw [(h k (by omega)).1, (h k (by omega)).2, wpr_congW (fun j hj => h j (by omega))]
def mix (k n : Nat) (a : Nat → Bool) : Nat → Bool := fun j => if j < k then n.testBit j else a j
theorem mix_0 (n : Nat) (a : Nat → Bool) : mix 0 n a = a := by
  funext j
  exact if_neg (by omega)
theorem mix_lo {k n : Nat} (h : n < 2 ^ k) (a : Nat → Bool) : mix (k + 1) n a = mix k n (sb a k false) := by
  funext j
  unfold mix sb
  by_cases h1 : j < k
  · rw [if_pos (by omega), if_pos h1]
  · rw [if_neg h1]
    by_cases h2 : j = k
    · rw [if_pos (by omega), if_pos h2, h2, Nat.testBit_lt_two_pow h]
    · rw [if_neg (by omega), if_neg h2]
theorem mix_hi {k n : Nat} (h : n < 2 ^ k) (a : Nat → Bool) : mix (k + 1) (2 ^ k + n) a = mix k n (sb a k true) := by
  funext j
  unfold mix sb
  by_cases h1 : j < k
  · rw [if_pos (by omega), if_pos h1, Nat.testBit_two_pow_add_gt h1]
  · rw [if_neg h1]
    by_cases h2 : j = k
    · rw [if_pos (by omega), if_pos h2, h2, Nat.testBit_two_pow_add_eq, Nat.testBit_lt_two_pow h]
      rfl
    · rw [if_neg (by omega), if_neg h2]
theorem SV_sumI {wT wF : Nat → Int32} {U : Nat → Bool} {f : (Nat → Bool) → Int32} : ∀ {k : Nat}, (∀ i, i < k → U i = true) → ∀ a, SV (fun x y : Int32 => x + y) (fun k x => wT k * x) (fun k x => wF k * x) U f k a = sumI (fun n => wpr wT wF k n * f (mix k n a)) (2 ^ k)
  | 0, _, a => by
    show f a = 0 + 1 * f (mix 0 0 a)
    rw [mix_0]
    grind
  | k + 1, h, a => by
    rw [SV_succ, h k (by omega), if_pos rfl, SV_sumI (fun i hi => h i (by omega)), SV_sumI (fun i hi => h i (by omega)), Nat.pow_succ, Nat.mul_two, sumI_split, ← sumI_mul, ← sumI_mul]
    rw [sumI_cong (f := fun n => wpr wT wF (k + 1) n * f (mix (k + 1) n a)) (g := fun n => wF k * (wpr wT wF k n * f (mix k n (sb a k false)))), sumI_cong (f := fun n => wpr wT wF (k + 1) (2 ^ k + n) * f (mix (k + 1) (2 ^ k + n) a)) (g := fun n => wT k * (wpr wT wF k n * f (mix k n (sb a k true))))]
    · grind
    · intro n hn
      show wpr wT wF (k + 1) (2 ^ k + n) * f (mix (k + 1) (2 ^ k + n) a) = wT k * (wpr wT wF k n * f (mix k n (sb a k true)))
      rw [mix_hi hn, wpr_succ, Nat.testBit_two_pow_add_eq, Nat.testBit_lt_two_pow hn, wpr_cong (n := 2 ^ k + n) (m := n) (fun j hj => Nat.testBit_two_pow_add_gt hj n)]
      simp only [Bool.not_false, if_true]
      exact Int32.mul_assoc _ _ _
    · intro n hn
      show wpr wT wF (k + 1) n * f (mix (k + 1) n a) = wF k * (wpr wT wF k n * f (mix k n (sb a k false)))
      rw [mix_lo hn, wpr_succ, Nat.testBit_lt_two_pow hn]
      simp only [Bool.false_eq_true, if_false]
      exact Int32.mul_assoc _ _ _
/-- assignment a makes all N clauses true -/
def MT (σ : St) (N a : Nat) : Bool := satA σ N (fun _ => true) (fun _ => true) (fun v => a.testBit v)
theorem MT_congr {σ σ' : St} (h3 : σ' 3 = σ 3) (h4 : σ' 4 = σ 4) (N a : Nat) : MT σ' N a = MT σ N a := by
  unfold MT satA satc
  rw [h3, h4]
theorem MT_root {σ : St} {N n : Nat} (hN : N ≤ 14) (a : Nat → Bool) : satA σ N (bt (nI 255)) (bt (nI (2 ^ N - 1))) (mix 8 n a) = MT σ N n := by
  unfold MT
  rw [Bool.eq_iff_iff, satA_iff, satA_iff]
  constructor
  · intro h c hc _
    obtain ⟨v, hv, -, hx⟩ := satc_iff.mp (h c hc (by rw [bt_nI _ (by omega), Nat.testBit_two_pow_sub_one, decide_eq_true hc]))
    refine satc_iff.mpr ⟨v, hv, rfl, ?_⟩
    unfold mix at hx
    rw [if_pos hv] at hx
    exact hx
  · intro h c hc _
    obtain ⟨v, hv, -, hx⟩ := satc_iff.mp (h c hc rfl)
    refine satc_iff.mpr ⟨v, hv, bt_255 hv, ?_⟩
    unfold mix
    rw [if_pos hv]
    exact hx
/-- the whole value -/
theorem NVW_root {wT wF : Nat → Int32} {σ : St} {N : Nat} (hN : N ≤ 14) : NVW wT wF σ N (nI 255) (nI (2 ^ N - 1)) = sumI (fun n => if MT σ N n then wpr wT wF 8 n else 0) 256 := by
  unfold NVW NV
  rw [SV_sumI (fun i hi => bt_255 hi)]
  refine sumI_cong (fun n _ => ?_)
  rw [MT_root hN]
  cases MT σ N n
  · simp
    try grind
  · simp
    try grind
/-- n has the truths tr on the set, as far as the first k bits -/
def agB (set tr : Int32) : Nat → Nat → Bool
  | 0, _ => true
  | k + 1, n => (!bt set k || (n.testBit k == bt tr k)) && agB set tr k n
theorem agB_iff {set tr : Int32} : ∀ {k n : Nat}, agB set tr k n = true ↔ ∀ v, v < k → bt set v = true → n.testBit v = bt tr v
  | 0, n => ⟨fun _ v hv => absurd hv (by omega), fun _ => rfl⟩
  | k + 1, n => by
    unfold agB
    rw [Bool.and_eq_true_iff, agB_iff]
    constructor
    · rintro ⟨h1, h2⟩ v hv hs
      by_cases e : v = k
      · subst e
        rw [hs] at h1
        simpa using h1
      · exact h2 v (by omega) hs
    · intro h
      refine ⟨?_, fun v hv hs => h v (by omega) hs⟩
      cases hs : bt set k
      · rfl
      · rw [h k (by omega) hs]; simp
/-- weights that allow: 1 or 0 -/
def alT (set tr : Int32) (v : Nat) : Int32 := nI (!bt set v || bt tr v).toNat
def alF (set tr : Int32) (v : Nat) : Int32 := nI (!bt set v || !bt tr v).toNat
theorem b2_mul (b c : Bool) : nI b.toNat * nI c.toNat = nI (b && c).toNat := by
  cases b <;> cases c <;> rfl
theorem wpr_al (set tr : Int32) : ∀ (k n : Nat), wpr (alT set tr) (alF set tr) k n = nI (agB set tr k n).toNat
  | 0, _ => rfl
  | k + 1, n => by
    unfold wpr agB
    rw [wpr_al set tr k n, ← b2_mul]
    congr 1
    unfold alT alF
    cases n.testBit k <;> cases bt set k <;> cases bt tr k <;> rfl
/-- how many models have the truths tr on the set -/
def CW (σ : St) (N : Nat) (set tr : Int32) : Nat := fb_ct (fun a => MT σ N a && agB set tr 8 a) 256
theorem CW_le (σ : St) (N : Nat) (set tr : Int32) : CW σ N set tr ≤ 256 := fb_ct_le _ _
theorem CW_congr {σ σ' : St} (h3 : σ' 3 = σ 3) (h4 : σ' 4 = σ 4) (N : Nat) (set tr : Int32) : CW σ' N set tr = CW σ N set tr := by
  unfold CW
  refine fb_ct_cong (fun a _ => ?_)
  rw [MT_congr h3 h4]
theorem NVW_count {wT wF : Nat → Int32} {σ : St} {N : Nat} (hN : N ≤ 14) {set tr : Int32} (h : ∀ v, v < 8 → wT v = alT set tr v ∧ wF v = alF set tr v) : NVW wT wF σ N (nI 255) (nI (2 ^ N - 1)) = nI (CW σ N set tr) := by
  rw [NVW_root hN]
  unfold CW
  rw [← sumI_ct]
  refine sumI_cong (fun n _ => ?_)
  rw [wpr_congW h, wpr_al]
  cases MT σ N n
  · rfl
  · rfl
end
section
/-! X0: allow, countAllowed, weigh, badSet, count, countWith, weighted, share -/
/-- what a question leaves: a sound diagram or none, clauses, weights and draft as they were -/
def QI (σ : St) (N : Nat) : Prop := N ≤ 14 ∧ σ 2 0 = nI N ∧ (σ 7 0 = nI 0 ∨ (σ 7 0 = nI 1 ∧ Diag σ N))
def Kp (σ σ' : St) : Prop := ∀ k, k < 7 → σ' k = σ k
theorem Kp.rf (σ : St) : Kp σ σ := fun _ _ => rfl
theorem Kp.tr {σ σ1 σ2 : St} (h : Kp σ σ1) (h2 : Kp σ1 σ2) : Kp σ σ2 := fun k hk => (h2 k hk).trans (h k hk)
theorem QI.keep {σ σ' : St} {N : Nat} (h : QI σ N) (hk : ∀ k, k ≤ 16 → σ' k = σ k) : QI σ' N := by
  obtain ⟨h1, h2, h3⟩ := h
  refine ⟨h1, by rw [hk 2 (by omega)]; exact h2, ?_⟩
  rw [hk 7 (by omega)]
  rcases h3 with h3 | ⟨h3, M, hI⟩
  · exact Or.inl h3
  · exact Or.inr ⟨h3, M, BI_keep (fun k h => hk k (by omega)) hI⟩
theorem MT_kp {σ σ' : St} (h : Kp σ σ') (N a : Nat) : MT σ' N a = MT σ N a := MT_congr (h 3 (by omega)) (h 4 (by omega)) N a
theorem CW_kp {σ σ' : St} (h : Kp σ σ') (N : Nat) (s t : Int32) : CW σ' N s t = CW σ N s t := CW_congr (h 3 (by omega)) (h 4 (by omega)) N s t
abbrev P_allow (σ : St) (set tr : Int32) : Int32 → St → Prop := fun _ σ' => (∀ k, k ≠ 19 → k ≠ 20 → σ' k = σ k) ∧ ∀ v, v < 8 → σ' 20 v = alT set tr v ∧ σ' 19 v = alF set tr v
theorem two_at (σ : St) (i : Nat) (a b : Int32) : su (su σ 20 i a) 19 i b 20 i = a ∧ su (su σ 20 i a) 19 i b 19 i = b := ⟨pk_us, pk_us⟩
theorem two_off (σ : St) {i v : Nat} (a b : Int32) (h : v ≠ i) : su (su σ 20 i a) 19 i b 20 v = σ 20 v ∧ su (su σ 20 i a) 19 i b 19 v = σ 19 v := ⟨pk_un h, pk_un h⟩
theorem two_ne (σ : St) {i k : Nat} (a b : Int32) (h : k ≠ 19) (h2 : k ≠ 20) : su (su σ 20 i a) 19 i b k = σ k := (su_ne _ _ _ h).trans (su_ne _ _ _ h2)
theorem m_allow (σ : St) (set tr : Int32) : CN shX0 yX0_allow cX0_allow 6 0 none [set, tr] σ (P_allow σ set tr) := by
  refine CN.ofV (own := RX0) (by decide) rfl (Nat.le_of_ble_eq_true rfl) ?_
  show V shX0 RX0 cX0_allow 6 0 none _ 0 [some (.inr 0), some (.inl set), some (.inl tr), none, none, none] [] _
  refine r_iconst (pc := 0) (v := nI 0) dX0_allow_0 (by decide) ?_
  refine r_istore_n (pc := 1) (i := 3) (L' := [_, _, _, _, _, _]) dX0_allow_1 rfl (by decide) rfl ?_
  suffices h : ∀ k i σ1, i + k = 8 → (∀ k, k ≠ 19 → k ≠ 20 → σ1 k = σ k) → (∀ v, v < i → σ1 20 v = alT set tr v ∧ σ1 19 v = alF set tr v) → V shX0 RX0 cX0_allow 6 0 none (P_allow σ set tr) 2 [some (.inr 0), some (.inl (set)), some (.inl (tr)), some (.inl (nI i)), none, none] [] σ1 from h 8 0 σ (by omega) (fun _ _ _ => rfl) (fun v h => absurd h (by omega))
  intro k
  induction k with
  | zero =>
    intro i σ1 hi hk hv
    refine r_iload_n (pc := 2) (i := 3) dX0_allow_2 rfl rfl ?_
    refine r_bipush (pc := 3) (v := nI 8) dX0_allow_3 (by decide) ?_
    refine r_icmp_ge (pc := 5) (tgt := 87) dX0_allow_5 (by decide) (fun _ => ?_) (fun z => absurd (nI_le (by omega) (by omega)) z)
    refine r_vret (pc := 87) dX0_allow_87 ?_
    exact ⟨hk, fun v h => hv v (by omega)⟩
  | succ k ih =>
    intro i σ1 hi hk hv
    refine r_iload_n (pc := 2) (i := 3) dX0_allow_2 rfl rfl ?_
    refine r_bipush (pc := 3) (v := nI 8) dX0_allow_3 (by decide) ?_
    refine r_icmp_ge (pc := 5) (tgt := 87) dX0_allow_5 (by decide) (fun z => absurd z (nI_ge (by omega) (by omega))) (fun _ => ?_)
    have fin : ∀ a b, a = alT set tr i → b = alF set tr i → V shX0 RX0 cX0_allow 6 0 none (P_allow σ set tr) 2 [some (.inr 0), some (.inl (set)), some (.inl (tr)), some (.inl (nI (i + 1))), none, none] [] (su (su σ1 20 i a) 19 i b) := by
      intro a b ha hb
      refine ih (i + 1) _ (by omega) (fun k h1 h2 => (two_ne _ _ _ h1 h2).trans (hk k h1 h2)) (fun v hv' => ?_)
      by_cases e : v = i
      · rw [e, (two_at _ _ _ _).1, (two_at _ _ _ _).2]
        exact ⟨ha, hb⟩
      · rw [(two_off _ _ _ e).1, (two_off _ _ _ e).2]
        exact hv v (by omega)
    refine r_iload_n (pc := 8) (i := 1) dX0_allow_8 rfl rfl ?_
    refine r_iload_n (pc := 9) (i := 3) dX0_allow_9 rfl rfl ?_
    refine r_ishr (pc := 10) dX0_allow_10 ?_
    refine r_iconst (pc := 11) (v := nI 1) dX0_allow_11 (by decide) ?_
    refine r_iand (pc := 12) dX0_allow_12 ?_
    cases hs : bt set i
    · refine r_if_ne (pc := 13) (tgt := 20) dX0_allow_13 (by decide) (fun z => absurd ((bit_zero set (by omega)).mpr hs) z) (fun _ => ?_)
      refine r_iconst (pc := 16) (v := nI 1) dX0_allow_16 (by decide) ?_
      refine r_goto (pc := 17) (tgt := 21) dX0_allow_17 (by decide) ?_
      refine r_istore (pc := 21) (L' := [_, _, _, _, _, _]) dX0_allow_21 (by decide) rfl ?_
      refine r_iload_n (pc := 23) (i := 2) dX0_allow_23 rfl rfl ?_
      refine r_iload_n (pc := 24) (i := 3) dX0_allow_24 rfl rfl ?_
      refine r_ishr (pc := 25) dX0_allow_25 ?_
      refine r_iconst (pc := 26) (v := nI 1) dX0_allow_26 (by decide) ?_
      refine r_iand (pc := 27) dX0_allow_27 ?_
      refine r_iconst (pc := 28) (v := nI 1) dX0_allow_28 (by decide) ?_
      cases ht : bt tr i
      · refine r_icmp_ne (pc := 29) (tgt := 36) dX0_allow_29 (by decide) (fun _ => ?_) (fun z => absurd z (fun z => absurd ((bit_one tr (by omega)).mp z) (by rw [ht]; decide)))
        refine r_iconst (pc := 36) (v := nI 0) dX0_allow_36 (by decide) ?_
        refine r_istore (pc := 37) (L' := [_, _, _, _, _, _]) dX0_allow_37 (by decide) rfl ?_
        refine r_aload_n (pc := 39) (i := 0) dX0_allow_39 rfl rfl ?_
        refine r_getA (pc := 40) ckX0 20 (by decide) rfl q56 dX0_allow_40 ?_
        refine r_iload_n (pc := 43) (i := 3) dX0_allow_43 rfl rfl ?_
        refine r_iload (pc := 44) dX0_allow_44 rfl ?_
        refine r_if_ne (pc := 46) (tgt := 54) dX0_allow_46 (by decide) (fun _ => ?_) (fun z => absurd z (by decide))
        refine r_iconst (pc := 54) (v := nI 1) dX0_allow_54 (by decide) ?_
        refine r_goto (pc := 55) (tgt := 59) dX0_allow_55 (by decide) ?_
        refine r_iast (pc := 59) ckX0 rfl dX0_allow_59 (rfl) (by omega) ?_
        refine r_aload_n (pc := 60) (i := 0) dX0_allow_60 rfl rfl ?_
        refine r_getA (pc := 61) ckX0 19 (by decide) rfl q55 dX0_allow_61 ?_
        refine r_iload_n (pc := 64) (i := 3) dX0_allow_64 rfl rfl ?_
        refine r_iload (pc := 65) dX0_allow_65 rfl ?_
        refine r_if_ne (pc := 67) (tgt := 75) dX0_allow_67 (by decide) (fun _ => ?_) (fun z => absurd z (by decide))
        refine r_iconst (pc := 75) (v := nI 1) dX0_allow_75 (by decide) ?_
        refine r_goto (pc := 76) (tgt := 80) dX0_allow_76 (by decide) ?_
        refine r_iast (pc := 80) ckX0 rfl dX0_allow_80 (rfl) (by omega) ?_
        refine r_iinc (pc := 81) (v := _) (L' := [_, _, _, _, _, _]) dX0_allow_81 rfl (inc1 _) (by decide) rfl ?_
        refine r_goto (pc := 84) (tgt := 2) dX0_allow_84 (by decide) ?_
        refine r_drop 4 (L' := [_, _, _, _, _, _]) rfl ?_
        refine r_drop 5 (L' := [_, _, _, _, _, _]) rfl ?_
        exact fin _ _ (by unfold alT; rw [hs]; rfl) (by unfold alF; rw [hs]; rfl)
      · refine r_icmp_ne (pc := 29) (tgt := 36) dX0_allow_29 (by decide) (fun z => absurd ((bit_one tr (by omega)).mpr ht) z) (fun _ => ?_)
        refine r_iconst (pc := 32) (v := nI 1) dX0_allow_32 (by decide) ?_
        refine r_goto (pc := 33) (tgt := 37) dX0_allow_33 (by decide) ?_
        refine r_istore (pc := 37) (L' := [_, _, _, _, _, _]) dX0_allow_37 (by decide) rfl ?_
        refine r_aload_n (pc := 39) (i := 0) dX0_allow_39 rfl rfl ?_
        refine r_getA (pc := 40) ckX0 20 (by decide) rfl q56 dX0_allow_40 ?_
        refine r_iload_n (pc := 43) (i := 3) dX0_allow_43 rfl rfl ?_
        refine r_iload (pc := 44) dX0_allow_44 rfl ?_
        refine r_if_ne (pc := 46) (tgt := 54) dX0_allow_46 (by decide) (fun _ => ?_) (fun z => absurd z (by decide))
        refine r_iconst (pc := 54) (v := nI 1) dX0_allow_54 (by decide) ?_
        refine r_goto (pc := 55) (tgt := 59) dX0_allow_55 (by decide) ?_
        refine r_iast (pc := 59) ckX0 rfl dX0_allow_59 (rfl) (by omega) ?_
        refine r_aload_n (pc := 60) (i := 0) dX0_allow_60 rfl rfl ?_
        refine r_getA (pc := 61) ckX0 19 (by decide) rfl q55 dX0_allow_61 ?_
        refine r_iload_n (pc := 64) (i := 3) dX0_allow_64 rfl rfl ?_
        refine r_iload (pc := 65) dX0_allow_65 rfl ?_
        refine r_if_ne (pc := 67) (tgt := 75) dX0_allow_67 (by decide) (fun _ => ?_) (fun z => absurd z (by decide))
        refine r_iconst (pc := 75) (v := nI 1) dX0_allow_75 (by decide) ?_
        refine r_goto (pc := 76) (tgt := 80) dX0_allow_76 (by decide) ?_
        refine r_iast (pc := 80) ckX0 rfl dX0_allow_80 (rfl) (by omega) ?_
        refine r_iinc (pc := 81) (v := _) (L' := [_, _, _, _, _, _]) dX0_allow_81 rfl (inc1 _) (by decide) rfl ?_
        refine r_goto (pc := 84) (tgt := 2) dX0_allow_84 (by decide) ?_
        refine r_drop 4 (L' := [_, _, _, _, _, _]) rfl ?_
        refine r_drop 5 (L' := [_, _, _, _, _, _]) rfl ?_
        exact fin _ _ (by unfold alT; rw [hs]; rfl) (by unfold alF; rw [hs]; rfl)
    · refine r_if_ne (pc := 13) (tgt := 20) dX0_allow_13 (by decide) (fun _ => ?_) (fun z => absurd z (fun z => absurd ((bit_zero set (by omega)).mp z) (by rw [hs]; decide)))
      refine r_iconst (pc := 20) (v := nI 0) dX0_allow_20 (by decide) ?_
      refine r_istore (pc := 21) (L' := [_, _, _, _, _, _]) dX0_allow_21 (by decide) rfl ?_
      refine r_iload_n (pc := 23) (i := 2) dX0_allow_23 rfl rfl ?_
      refine r_iload_n (pc := 24) (i := 3) dX0_allow_24 rfl rfl ?_
      refine r_ishr (pc := 25) dX0_allow_25 ?_
      refine r_iconst (pc := 26) (v := nI 1) dX0_allow_26 (by decide) ?_
      refine r_iand (pc := 27) dX0_allow_27 ?_
      refine r_iconst (pc := 28) (v := nI 1) dX0_allow_28 (by decide) ?_
      cases ht : bt tr i
      · refine r_icmp_ne (pc := 29) (tgt := 36) dX0_allow_29 (by decide) (fun _ => ?_) (fun z => absurd z (fun z => absurd ((bit_one tr (by omega)).mp z) (by rw [ht]; decide)))
        refine r_iconst (pc := 36) (v := nI 0) dX0_allow_36 (by decide) ?_
        refine r_istore (pc := 37) (L' := [_, _, _, _, _, _]) dX0_allow_37 (by decide) rfl ?_
        refine r_aload_n (pc := 39) (i := 0) dX0_allow_39 rfl rfl ?_
        refine r_getA (pc := 40) ckX0 20 (by decide) rfl q56 dX0_allow_40 ?_
        refine r_iload_n (pc := 43) (i := 3) dX0_allow_43 rfl rfl ?_
        refine r_iload (pc := 44) dX0_allow_44 rfl ?_
        refine r_if_ne (pc := 46) (tgt := 54) dX0_allow_46 (by decide) (fun z => absurd (rfl) z) (fun _ => ?_)
        refine r_iload (pc := 49) dX0_allow_49 rfl ?_
        refine r_if_eq (pc := 51) (tgt := 58) dX0_allow_51 (by decide) (fun _ => ?_) (fun z => absurd (rfl) z)
        refine r_iconst (pc := 58) (v := nI 0) dX0_allow_58 (by decide) ?_
        refine r_iast (pc := 59) ckX0 rfl dX0_allow_59 (rfl) (by omega) ?_
        refine r_aload_n (pc := 60) (i := 0) dX0_allow_60 rfl rfl ?_
        refine r_getA (pc := 61) ckX0 19 (by decide) rfl q55 dX0_allow_61 ?_
        refine r_iload_n (pc := 64) (i := 3) dX0_allow_64 rfl rfl ?_
        refine r_iload (pc := 65) dX0_allow_65 rfl ?_
        refine r_if_ne (pc := 67) (tgt := 75) dX0_allow_67 (by decide) (fun z => absurd (rfl) z) (fun _ => ?_)
        refine r_iload (pc := 70) dX0_allow_70 rfl ?_
        refine r_if_ne (pc := 72) (tgt := 79) dX0_allow_72 (by decide) (fun z => absurd (rfl) z) (fun _ => ?_)
        refine r_iconst (pc := 75) (v := nI 1) dX0_allow_75 (by decide) ?_
        refine r_goto (pc := 76) (tgt := 80) dX0_allow_76 (by decide) ?_
        refine r_iast (pc := 80) ckX0 rfl dX0_allow_80 (rfl) (by omega) ?_
        refine r_iinc (pc := 81) (v := _) (L' := [_, _, _, _, _, _]) dX0_allow_81 rfl (inc1 _) (by decide) rfl ?_
        refine r_goto (pc := 84) (tgt := 2) dX0_allow_84 (by decide) ?_
        refine r_drop 4 (L' := [_, _, _, _, _, _]) rfl ?_
        refine r_drop 5 (L' := [_, _, _, _, _, _]) rfl ?_
        exact fin _ _ (by unfold alT; rw [hs, ht]; rfl) (by unfold alF; rw [hs, ht]; rfl)
      · refine r_icmp_ne (pc := 29) (tgt := 36) dX0_allow_29 (by decide) (fun z => absurd ((bit_one tr (by omega)).mpr ht) z) (fun _ => ?_)
        refine r_iconst (pc := 32) (v := nI 1) dX0_allow_32 (by decide) ?_
        refine r_goto (pc := 33) (tgt := 37) dX0_allow_33 (by decide) ?_
        refine r_istore (pc := 37) (L' := [_, _, _, _, _, _]) dX0_allow_37 (by decide) rfl ?_
        refine r_aload_n (pc := 39) (i := 0) dX0_allow_39 rfl rfl ?_
        refine r_getA (pc := 40) ckX0 20 (by decide) rfl q56 dX0_allow_40 ?_
        refine r_iload_n (pc := 43) (i := 3) dX0_allow_43 rfl rfl ?_
        refine r_iload (pc := 44) dX0_allow_44 rfl ?_
        refine r_if_ne (pc := 46) (tgt := 54) dX0_allow_46 (by decide) (fun z => absurd (rfl) z) (fun _ => ?_)
        refine r_iload (pc := 49) dX0_allow_49 rfl ?_
        refine r_if_eq (pc := 51) (tgt := 58) dX0_allow_51 (by decide) (fun z => absurd z (by decide)) (fun _ => ?_)
        refine r_iconst (pc := 54) (v := nI 1) dX0_allow_54 (by decide) ?_
        refine r_goto (pc := 55) (tgt := 59) dX0_allow_55 (by decide) ?_
        refine r_iast (pc := 59) ckX0 rfl dX0_allow_59 (rfl) (by omega) ?_
        refine r_aload_n (pc := 60) (i := 0) dX0_allow_60 rfl rfl ?_
        refine r_getA (pc := 61) ckX0 19 (by decide) rfl q55 dX0_allow_61 ?_
        refine r_iload_n (pc := 64) (i := 3) dX0_allow_64 rfl rfl ?_
        refine r_iload (pc := 65) dX0_allow_65 rfl ?_
        refine r_if_ne (pc := 67) (tgt := 75) dX0_allow_67 (by decide) (fun z => absurd (rfl) z) (fun _ => ?_)
        refine r_iload (pc := 70) dX0_allow_70 rfl ?_
        refine r_if_ne (pc := 72) (tgt := 79) dX0_allow_72 (by decide) (fun _ => ?_) (fun z => absurd z (by decide))
        refine r_iconst (pc := 79) (v := nI 0) dX0_allow_79 (by decide) ?_
        refine r_iast (pc := 80) ckX0 rfl dX0_allow_80 (rfl) (by omega) ?_
        refine r_iinc (pc := 81) (v := _) (L' := [_, _, _, _, _, _]) dX0_allow_81 rfl (inc1 _) (by decide) rfl ?_
        refine r_goto (pc := 84) (tgt := 2) dX0_allow_84 (by decide) ?_
        refine r_drop 4 (L' := [_, _, _, _, _, _]) rfl ?_
        refine r_drop 5 (L' := [_, _, _, _, _, _]) rfl ?_
        exact fin _ _ (by unfold alT; rw [hs, ht]; rfl) (by unfold alF; rw [hs, ht]; rfl)
abbrev P_countAllowed (σ : St) (N : Nat) (set tr : Int32) : Int32 → St → Prop := fun r σ' => QI σ' N ∧ Kp σ σ' ∧ r = nI (CW σ N set tr)
theorem m_countAllowed (σ : St) (N : Nat) (hq : QI σ N) (set tr : Int32) : CN shX0 yX0_countAllowed cX0_countAllowed 3 5 (some .int) [set, tr] σ (P_countAllowed σ N set tr) := by
  refine CN.ofV (own := RX0) (by decide) rfl (Nat.le_of_ble_eq_true rfl) ?_
  show V shX0 RX0 cX0_countAllowed 3 5 (some .int) _ 0 [some (.inr 0), some (.inl set), some (.inl tr)] [] _
  refine r_aload_n (pc := 0) (i := 0) dX0_countAllowed_0 rfl rfl ?_
  refine r_iload_n (pc := 1) (i := 1) dX0_countAllowed_1 rfl rfl ?_
  refine r_iload_n (pc := 2) (i := 2) dX0_countAllowed_2 rfl rfl ?_
  refine r_callV (pc := 3) ckX0 (m_allow σ set tr) mf_X0_allow q133 (by decide) (by decide) dX0_countAllowed_3 rfl (Nat.le_of_ble_eq_true rfl) (fun σ1 hr => ?_)
  obtain ⟨hk, hv⟩ := hr
  have hq1 : QI σ1 N := hq.keep (fun k h => hk k (by omega) (by omega))
  refine r_aload_n (pc := 6) (i := 0) dX0_countAllowed_6 rfl rfl ?_
  refine r_callI (pc := 7) ckX0 (m_pass σ1 N hq1.1 hq1.2.1 hq1.2.2) mf_X0_pass q137 (by decide) (by decide) dX0_countAllowed_7 rfl (Nat.le_of_ble_eq_true rfl) (fun r σ2 hr => ?_)
  obtain ⟨hd, h7, hk2, rfl⟩ := hr
  refine r_iret (pc := 10) dX0_countAllowed_10 ?_
  refine ⟨⟨hq.1, by rw [hk2 2 (by omega)]; exact hq1.2.1, Or.inr ⟨h7, hd⟩⟩, fun k h => (hk2 k (by omega)).trans (hk k (by omega) (by omega)), ?_⟩
  rw [NVW_count hq.1 hv, CW_congr (hk 3 (by omega) (by omega)) (hk 4 (by omega) (by omega))]
abbrev P_weigh (σ : St) : Int32 → St → Prop := fun _ σ' => (∀ k, k ≠ 19 → k ≠ 20 → σ' k = σ k) ∧ ∀ v, v < 8 → σ' 20 v = σ 6 v ∧ σ' 19 v = σ 5 v
theorem m_weigh (σ : St) : CN shX0 yX0_weigh cX0_weigh 2 0 none [] σ (P_weigh σ) := by
  refine CN.ofV (own := RX0) (by decide) rfl (Nat.le_of_ble_eq_true rfl) ?_
  show V shX0 RX0 cX0_weigh 2 0 none _ 0 [some (.inr 0), none] [] _
  refine r_iconst (pc := 0) (v := nI 0) dX0_weigh_0 (by decide) ?_
  refine r_istore_n (pc := 1) (i := 1) (L' := [_, _]) dX0_weigh_1 rfl (by decide) rfl ?_
  suffices h : ∀ k i σ1, i + k = 8 → (∀ k, k ≠ 19 → k ≠ 20 → σ1 k = σ k) → (∀ v, v < i → σ1 20 v = σ 6 v ∧ σ1 19 v = σ 5 v) → V shX0 RX0 cX0_weigh 2 0 none (P_weigh σ) 2 [some (.inr 0), some (.inl (nI i))] [] σ1 from h 8 0 σ (by omega) (fun _ _ _ => rfl) (fun v h => absurd h (by omega))
  intro k
  induction k with
  | zero =>
    intro i σ1 hi hk hv
    refine r_iload_n (pc := 2) (i := 1) dX0_weigh_2 rfl rfl ?_
    refine r_bipush (pc := 3) (v := nI 8) dX0_weigh_3 (by decide) ?_
    refine r_icmp_ge (pc := 5) (tgt := 38) dX0_weigh_5 (by decide) (fun _ => ?_) (fun z => absurd (nI_le (by omega) (by omega)) z)
    refine r_vret (pc := 38) dX0_weigh_38 ?_
    exact ⟨hk, fun v h => hv v (by omega)⟩
  | succ k ih =>
    intro i σ1 hi hk hv
    refine r_iload_n (pc := 2) (i := 1) dX0_weigh_2 rfl rfl ?_
    refine r_bipush (pc := 3) (v := nI 8) dX0_weigh_3 (by decide) ?_
    refine r_icmp_ge (pc := 5) (tgt := 38) dX0_weigh_5 (by decide) (fun z => absurd z (nI_ge (by omega) (by omega))) (fun _ => ?_)
    refine r_aload_n (pc := 8) (i := 0) dX0_weigh_8 rfl rfl ?_
    refine r_getA (pc := 9) ckX0 20 (by decide) rfl q56 dX0_weigh_9 ?_
    refine r_iload_n (pc := 12) (i := 1) dX0_weigh_12 rfl rfl ?_
    refine r_aload_n (pc := 13) (i := 0) dX0_weigh_13 rfl rfl ?_
    refine r_getA (pc := 14) ckX0 6 (by decide) rfl q42 dX0_weigh_14 ?_
    refine r_iload_n (pc := 17) (i := 1) dX0_weigh_17 rfl rfl ?_
    refine r_iald (pc := 18) ckX0 rfl dX0_weigh_18 (rfl) (by omega) ?_
    refine r_iast (pc := 19) ckX0 rfl dX0_weigh_19 (rfl) (by omega) ?_
    refine r_aload_n (pc := 20) (i := 0) dX0_weigh_20 rfl rfl ?_
    refine r_getA (pc := 21) ckX0 19 (by decide) rfl q55 dX0_weigh_21 ?_
    refine r_iload_n (pc := 24) (i := 1) dX0_weigh_24 rfl rfl ?_
    refine r_aload_n (pc := 25) (i := 0) dX0_weigh_25 rfl rfl ?_
    refine r_getA (pc := 26) ckX0 5 (by decide) rfl q41 dX0_weigh_26 ?_
    refine r_iload_n (pc := 29) (i := 1) dX0_weigh_29 rfl rfl ?_
    refine r_iald (pc := 30) ckX0 rfl dX0_weigh_30 (rfl) (by omega) ?_
    refine r_iast (pc := 31) ckX0 rfl dX0_weigh_31 (rfl) (by omega) ?_
    refine r_iinc (pc := 32) (v := _) (L' := [_, _]) dX0_weigh_32 rfl (inc1 _) (by decide) rfl ?_
    refine r_goto (pc := 35) (tgt := 2) dX0_weigh_35 (by decide) ?_
    refine ih (i + 1) _ (by omega) (fun k h1 h2 => (two_ne _ _ _ h1 h2).trans (hk k h1 h2)) (fun v hv' => ?_)
    by_cases e : v = i
    · rw [e, (two_at _ _ _ _).1, (two_at _ _ _ _).2]
      exact ⟨congrFun (hk 6 (by omega) (by omega)) i, congrFun (hk 5 (by omega) (by omega)) i⟩
    · rw [(two_off _ _ _ e).1, (two_off _ _ _ e).2]
      exact hv v (by omega)
theorem m_badSet (σ : St) (x : Int32) : CN shX0 yX0_badSet cX0_badSet 2 0 (some .boolean) [x] σ (fun r σ' => σ' = σ ∧ ((r = nI 1 ∧ (x < 0 ∨ nI 255 < x)) ∨ (r = nI 0 ∧ ¬ x < 0 ∧ x ≤ nI 255))) := by
  refine CN.ofV (own := RX0) (by decide) rfl (Nat.le_of_ble_eq_true rfl) ?_
  show V shX0 RX0 cX0_badSet 2 0 (some .boolean) _ 0 [some (.inr 0), some (.inl x)] [] _
  refine r_iload_n (pc := 0) (i := 1) dX0_badSet_0 rfl rfl ?_
  refine r_if_lt (pc := 1) (tgt := 11) dX0_badSet_1 (by decide) (fun h1 => ?_) (fun h1 => ?_)
  · refine r_iconst (pc := 11) (v := nI 1) dX0_badSet_11 (by decide) ?_
    refine r_goto (pc := 12) (tgt := 16) dX0_badSet_12 (by decide) ?_
    refine r_zret (pc := 16) dX0_badSet_16 (by decide) ?_
    exact ⟨rfl, Or.inl ⟨rfl, Or.inl h1⟩⟩
  · refine r_iload_n (pc := 4) (i := 1) dX0_badSet_4 rfl rfl ?_
    refine r_sipush (pc := 5) (v := nI 255) dX0_badSet_5 (by decide) ?_
    refine r_icmp_le (pc := 8) (tgt := 15) dX0_badSet_8 (by decide) (fun h2 => ?_) (fun h2 => ?_)
    · refine r_iconst (pc := 15) (v := nI 0) dX0_badSet_15 (by decide) ?_
      refine r_zret (pc := 16) dX0_badSet_16 (by decide) ?_
      exact ⟨rfl, Or.inr ⟨rfl, h1, h2⟩⟩
    · refine r_iconst (pc := 11) (v := nI 1) dX0_badSet_11 (by decide) ?_
      refine r_goto (pc := 12) (tgt := 16) dX0_badSet_12 (by decide) ?_
      refine r_zret (pc := 16) dX0_badSet_16 (by decide) ?_
      exact ⟨rfl, Or.inl ⟨rfl, Or.inr (fa_of_nle h2)⟩⟩
/-- a set of variables -/
theorem set_of {x : Int32} (h1 : ¬ x < 0) (h2 : x ≤ nI 255) : ∃ n, n < 256 ∧ x = nI n := by
  obtain ⟨j, hj, e⟩ := nI_of2 (M := nI 255) (n := 255) (by decide) h1 h2
  exact ⟨j, by omega, e⟩
abbrev cnt (σ : St) (N : Nat) : Nat := fb_ct (MT σ N) 256
theorem agB_0 (tr : Int32) : ∀ (k n : Nat), agB (nI 0) tr k n = true
  | 0, _ => rfl
  | k + 1, n => by
    unfold agB
    rw [agB_0 tr k n, show bt (nI 0) k = false from b_0 k]
    rfl
theorem CW_0 (σ : St) (N : Nat) (tr : Int32) : CW σ N (nI 0) tr = cnt σ N := by
  unfold CW
  refine fb_ct_cong (fun a _ => ?_)
  rw [agB_0, Bool.and_true]
theorem m_count (σ : St) (N : Nat) (hq : QI σ N) : CN shX0 yX0_count cX0_count 1 6 (some .int) [] σ (fun r σ' => QI σ' N ∧ Kp σ σ' ∧ r = nI (cnt σ N)) := by
  refine CN.ofV (own := RX0) (by decide) rfl (Nat.le_of_ble_eq_true rfl) ?_
  show V shX0 RX0 cX0_count 1 6 (some .int) _ 0 [some (.inr 0)] [] _
  refine r_aload_n (pc := 0) (i := 0) dX0_count_0 rfl rfl ?_
  refine r_iconst (pc := 1) (v := nI 0) dX0_count_1 (by decide) ?_
  refine r_iconst (pc := 2) (v := nI 0) dX0_count_2 (by decide) ?_
  refine r_callI (pc := 3) ckX0 (m_countAllowed σ N hq (nI 0) (nI 0)) mf_X0_countAllowed q129 (by decide) (by decide) dX0_count_3 rfl (Nat.le_of_ble_eq_true rfl) (fun r σ1 hr => ?_)
  obtain ⟨h1, h2, rfl⟩ := hr
  refine r_iret (pc := 6) dX0_count_6 ?_
  exact ⟨h1, h2, by rw [CW_0]⟩
abbrev badS (x : Int32) : Prop := x < 0 ∨ nI 255 < x
theorem not_badS {x : Int32} : ¬ badS x ↔ ¬ x < 0 ∧ x ≤ nI 255 := by
  constructor
  · intro h
    exact ⟨fun z => h (Or.inl z), fa_of_nlt (fun z => h (Or.inr z))⟩
  · rintro ⟨h1, h2⟩ (h | h)
    · exact h1 h
    · exact (fa_of_lt h).2.1 h2
theorem m_countWith (σ : St) (N : Nat) (hq : QI σ N) (set tr : Int32) : CN shX0 yX0_countWith cX0_countWith 3 6 (some .int) [set, tr] σ (fun r σ' => QI σ' N ∧ Kp σ σ' ∧ ((r = -1 ∧ (badS set ∨ badS tr)) ∨ (r = nI (CW σ N set tr) ∧ ¬ badS set ∧ ¬ badS tr))) := by
  refine CN.ofV (own := RX0) (by decide) rfl (Nat.le_of_ble_eq_true rfl) ?_
  show V shX0 RX0 cX0_countWith 3 6 (some .int) _ 0 [some (.inr 0), some (.inl set), some (.inl tr)] [] _
  refine r_aload_n (pc := 0) (i := 0) dX0_countWith_0 rfl rfl ?_
  refine r_iload_n (pc := 1) (i := 1) dX0_countWith_1 rfl rfl ?_
  refine r_callI (pc := 2) ckX0 (m_badSet σ set) mf_X0_badSet q190 (by decide) (by decide) dX0_countWith_2 rfl (Nat.le_of_ble_eq_true rfl) (fun r σ hr => ?_)
  obtain ⟨rfl, hr⟩ := hr
  rcases hr with ⟨rfl, hb⟩ | ⟨rfl, hb⟩
  · refine r_if_ne (pc := 5) (tgt := 16) dX0_countWith_5 (by decide) (fun _ => ?_) (fun z => absurd z (by decide))
    refine r_iconst (pc := 16) (v := (-1)) dX0_countWith_16 (by decide) ?_
    refine r_iret (pc := 17) dX0_countWith_17 ?_
    exact ⟨hq, Kp.rf _, Or.inl ⟨rfl, Or.inl hb⟩⟩
  · refine r_if_ne (pc := 5) (tgt := 16) dX0_countWith_5 (by decide) (fun z => absurd (rfl) z) (fun _ => ?_)
    refine r_aload_n (pc := 8) (i := 0) dX0_countWith_8 rfl rfl ?_
    refine r_iload_n (pc := 9) (i := 2) dX0_countWith_9 rfl rfl ?_
    refine r_callI (pc := 10) ckX0 (m_badSet σ tr) mf_X0_badSet q190 (by decide) (by decide) dX0_countWith_10 rfl (Nat.le_of_ble_eq_true rfl) (fun r σ hr => ?_)
    obtain ⟨rfl, hr⟩ := hr
    rcases hr with ⟨rfl, hb2⟩ | ⟨rfl, hb2⟩
    · refine r_if_eq (pc := 13) (tgt := 18) dX0_countWith_13 (by decide) (fun z => absurd z (by decide)) (fun _ => ?_)
      refine r_iconst (pc := 16) (v := (-1)) dX0_countWith_16 (by decide) ?_
      refine r_iret (pc := 17) dX0_countWith_17 ?_
      exact ⟨hq, Kp.rf _, Or.inl ⟨rfl, Or.inr hb2⟩⟩
    · refine r_if_eq (pc := 13) (tgt := 18) dX0_countWith_13 (by decide) (fun _ => ?_) (fun z => absurd (rfl) z)
      refine r_aload_n (pc := 18) (i := 0) dX0_countWith_18 rfl rfl ?_
      refine r_iload_n (pc := 19) (i := 1) dX0_countWith_19 rfl rfl ?_
      refine r_iload_n (pc := 20) (i := 2) dX0_countWith_20 rfl rfl ?_
      refine r_callI (pc := 21) ckX0 (m_countAllowed σ N hq set tr) mf_X0_countAllowed q129 (by decide) (by decide) dX0_countWith_21 rfl (Nat.le_of_ble_eq_true rfl) (fun r σ1 hr => ?_)
      obtain ⟨h1, h2, rfl⟩ := hr
      refine r_iret (pc := 24) dX0_countWith_24 ?_
      exact ⟨h1, h2, Or.inr ⟨rfl, not_badS.mpr hb, not_badS.mpr hb2⟩⟩
/-- the weighted sum of the models -/
abbrev WS (σ : St) (N : Nat) (wT wF : Nat → Int32) : Int32 := sumI (fun n => if MT σ N n then wpr wT wF 8 n else 0) 256
theorem m_weighted (σ : St) (N : Nat) (hq : QI σ N) : CN shX0 yX0_weighted cX0_weighted 1 5 (some .int) [] σ (fun r σ' => QI σ' N ∧ Kp σ σ' ∧ r = WS σ N (σ 6) (σ 5)) := by
  refine CN.ofV (own := RX0) (by decide) rfl (Nat.le_of_ble_eq_true rfl) ?_
  show V shX0 RX0 cX0_weighted 1 5 (some .int) _ 0 [some (.inr 0)] [] _
  refine r_aload_n (pc := 0) (i := 0) dX0_weighted_0 rfl rfl ?_
  refine r_callV (pc := 1) ckX0 (m_weigh σ) mf_X0_weigh q210 (by decide) (by decide) dX0_weighted_1 rfl (Nat.le_of_ble_eq_true rfl) (fun σ1 hr => ?_)
  obtain ⟨hk, hv⟩ := hr
  have hq1 : QI σ1 N := hq.keep (fun k h => hk k (by omega) (by omega))
  refine r_aload_n (pc := 4) (i := 0) dX0_weighted_4 rfl rfl ?_
  refine r_callI (pc := 5) ckX0 (m_pass σ1 N hq1.1 hq1.2.1 hq1.2.2) mf_X0_pass q137 (by decide) (by decide) dX0_weighted_5 rfl (Nat.le_of_ble_eq_true rfl) (fun r σ2 hr => ?_)
  obtain ⟨hd, h7, hk2, rfl⟩ := hr
  refine r_iret (pc := 8) dX0_weighted_8 ?_
  refine ⟨⟨hq.1, by rw [hk2 2 (by omega)]; exact hq1.2.1, Or.inr ⟨h7, hd⟩⟩, fun k h => (hk2 k (by omega)).trans (hk k (by omega) (by omega)), ?_⟩
  rw [NVW_root hq.1]
  refine sumI_cong (fun n _ => ?_)
  rw [MT_congr (hk 3 (by omega) (by omega)) (hk 4 (by omega) (by omega)), wpr_congW hv]
abbrev badV (v b : Int32) : Prop := v < 0 ∨ nI 8 ≤ v ∨ b < 0 ∨ nI 1 < b
/-- weights with one truth of one variable barred -/
def barT (w : Nat → Int32) (v : Nat) (b : Int32) : Nat → Int32 := fun k => if b = 0 ∧ k = v then 0 else w k
def barF (w : Nat → Int32) (v : Nat) (b : Int32) : Nat → Int32 := fun k => if ¬ b = 0 ∧ k = v then 0 else w k
theorem m_share (σ : St) (N : Nat) (hq : QI σ N) (v b : Int32) : CN shX0 yX0_share cX0_share 3 5 (some .int) [v, b] σ (fun r σ' => QI σ' N ∧ Kp σ σ' ∧ ((r = 0 ∧ badV v b) ∨ (¬ badV v b ∧ ∃ j, j < 8 ∧ v = nI j ∧ r = WS σ N (barT (σ 6) j b) (barF (σ 5) j b)))) := by
  refine CN.ofV (own := RX0) (by decide) rfl (Nat.le_of_ble_eq_true rfl) ?_
  show V shX0 RX0 cX0_share 3 5 (some .int) _ 0 [some (.inr 0), some (.inl v), some (.inl b)] [] _
  have bad : badV v b → V shX0 RX0 cX0_share 3 5 (some .int) (fun r σ' => QI σ' N ∧ Kp σ σ' ∧ ((r = 0 ∧ badV v b) ∨ (¬ badV v b ∧ ∃ j, j < 8 ∧ v = nI j ∧ r = WS σ N (barT (σ 6) j b) (barF (σ 5) j b)))) 19 [some (.inr 0), some (.inl (v)), some (.inl (b))] [] σ := by
    intro h
    refine r_iconst (pc := 19) (v := nI 0) dX0_share_19 (by decide) ?_
    refine r_iret (pc := 20) dX0_share_20 ?_
    exact ⟨hq, Kp.rf _, Or.inl ⟨rfl, h⟩⟩
  refine r_iload_n (pc := 0) (i := 1) dX0_share_0 rfl rfl ?_
  refine r_if_lt (pc := 1) (tgt := 19) dX0_share_1 (by decide) (fun h1 => ?_) (fun h1 => ?_)
  · exact bad (Or.inl h1)
  · refine r_iload_n (pc := 4) (i := 1) dX0_share_4 rfl rfl ?_
    refine r_bipush (pc := 5) (v := nI 8) dX0_share_5 (by decide) ?_
    refine r_icmp_ge (pc := 7) (tgt := 19) dX0_share_7 (by decide) (fun h2 => ?_) (fun h2 => ?_)
    · exact bad (Or.inr (Or.inl h2))
    · refine r_iload_n (pc := 10) (i := 2) dX0_share_10 rfl rfl ?_
      refine r_if_lt (pc := 11) (tgt := 19) dX0_share_11 (by decide) (fun h3 => ?_) (fun h3 => ?_)
      · exact bad (Or.inr (Or.inr (Or.inl h3)))
      · refine r_iload_n (pc := 14) (i := 2) dX0_share_14 rfl rfl ?_
        refine r_iconst (pc := 15) (v := nI 1) dX0_share_15 (by decide) ?_
        refine r_icmp_le (pc := 16) (tgt := 21) dX0_share_16 (by decide) (fun h4 => ?_) (fun h4 => ?_)
        · have hnb : ¬ badV v b := by
            rintro (h | h | h | h)
            · exact h1 h
            · exact h2 h
            · exact h3 h
            · exact (fa_of_lt h).2.1 h4
          obtain ⟨j, hj, hv⟩ : ∃ j, j < 8 ∧ v = nI j := by
            rcases pk_ix v (n := 8) (by decide) with h | h | h
            · exact absurd h h1
            · exact absurd h h2
            · exact h
          refine r_aload_n (pc := 21) (i := 0) dX0_share_21 rfl rfl ?_
          refine r_callV (pc := 22) ckX0 (m_weigh σ) mf_X0_weigh q210 (by decide) (by decide) dX0_share_22 rfl (Nat.le_of_ble_eq_true rfl) (fun σ1 hr => ?_)
          obtain ⟨hk, hw⟩ := hr
          have fin : ∀ σ2 : St, (∀ k, k ≠ 19 → k ≠ 20 → σ2 k = σ1 k) → (∀ k, k < 8 → σ2 20 k = barT (σ 6) j b k ∧ σ2 19 k = barF (σ 5) j b k) → V shX0 RX0 cX0_share 3 5 (some .int) (fun r σ' => QI σ' N ∧ Kp σ σ' ∧ ((r = 0 ∧ badV v b) ∨ (¬ badV v b ∧ ∃ j, j < 8 ∧ v = nI j ∧ r = WS σ N (barT (σ 6) j b) (barF (σ 5) j b)))) 46 [some (.inr 0), some (.inl (v)), some (.inl (b))] [] σ2 := by
            intro σ2 hk' hw2
            have hkk : ∀ k, k ≠ 19 → k ≠ 20 → σ2 k = σ k := fun k h h' => (hk' k h h').trans (hk k h h')
            have hq1 : QI σ2 N := hq.keep (fun k h => hkk k (by omega) (by omega))
            refine r_aload_n (pc := 46) (i := 0) dX0_share_46 rfl rfl ?_
            refine r_callI (pc := 47) ckX0 (m_pass σ2 N hq1.1 hq1.2.1 hq1.2.2) mf_X0_pass q137 (by decide) (by decide) dX0_share_47 rfl (Nat.le_of_ble_eq_true rfl) (fun r σ3 hr => ?_)
            obtain ⟨hd, h7, hk3, rfl⟩ := hr
            refine r_iret (pc := 50) dX0_share_50 ?_
            refine ⟨⟨hq.1, by rw [hk3 2 (by omega)]; exact hq1.2.1, Or.inr ⟨h7, hd⟩⟩, fun k h => (hk3 k (by omega)).trans (hkk k (by omega) (by omega)), Or.inr ⟨hnb, j, hj, hv, ?_⟩⟩
            rw [NVW_root hq.1]
            refine sumI_cong (fun n _ => ?_)
            rw [MT_congr (hkk 3 (by omega) (by omega)) (hkk 4 (by omega) (by omega)), wpr_congW hw2]
          refine r_iload_n (pc := 25) (i := 2) dX0_share_25 rfl rfl ?_
          refine r_if_ne (pc := 26) (tgt := 39) dX0_share_26 (by decide) (fun h5 => ?_) (fun h5 => ?_)
          · refine r_aload_n (pc := 39) (i := 0) dX0_share_39 rfl rfl ?_
            refine r_getA (pc := 40) ckX0 19 (by decide) rfl q55 dX0_share_40 ?_
            refine r_iload_n (pc := 43) (i := 1) dX0_share_43 rfl rfl ?_
            refine r_iconst (pc := 44) (v := nI 0) dX0_share_44 (by decide) ?_
            refine r_iast (pc := 45) ckX0 rfl dX0_share_45 (hv) (hj) ?_
            refine fin _ (fun k h _ => su_ne _ _ _ h) (fun k hk8 => ?_)
            refine ⟨?_, ?_⟩
            · show σ1 20 k = _
              rw [(hw k hk8).1]
              unfold barT
              rw [if_neg (fun z => h5 z.1)]
            · unfold barF
              by_cases e : k = j
              · rw [if_pos ⟨h5, e⟩, e]
                exact su_eq _ _ _ _
              · rw [if_neg (fun z => e z.2), su_off _ _ (Or.inr e)]
                exact (hw k hk8).2
          · refine r_aload_n (pc := 29) (i := 0) dX0_share_29 rfl rfl ?_
            refine r_getA (pc := 30) ckX0 20 (by decide) rfl q56 dX0_share_30 ?_
            refine r_iload_n (pc := 33) (i := 1) dX0_share_33 rfl rfl ?_
            refine r_iconst (pc := 34) (v := nI 0) dX0_share_34 (by decide) ?_
            refine r_iast (pc := 35) ckX0 rfl dX0_share_35 (hv) (hj) ?_
            refine r_goto (pc := 36) (tgt := 46) dX0_share_36 (by decide) ?_
            refine fin _ (fun k _ h => su_ne _ _ _ h) (fun k hk8 => ?_)
            refine ⟨?_, ?_⟩
            · unfold barT
              by_cases e : k = j
              · rw [if_pos ⟨h5, e⟩, e]
                exact su_eq _ _ _ _
              · rw [if_neg (fun z => e z.2), su_off _ _ (Or.inr e)]
                exact (hw k hk8).1
            · show σ1 19 k = _
              rw [(hw k hk8).2]
              unfold barF
              rw [if_neg (fun z => z.1 h5)]
        · exact bad (Or.inr (Or.inr (Or.inr (fa_of_nle h4))))
end
section
/-! X0: model, rank, isModel, alwaysTrue, alwaysFalse -/
theorem ct_range {p : Nat → Bool} : ∀ {M lo hi : Nat}, lo ≤ hi → hi ≤ M → fb_ct p lo + fb_ct (fun n => p n && (decide (lo ≤ n) && decide (n < hi))) M = fb_ct p hi
  | 0, lo, hi, h1, h2 => by
    have e1 : hi = 0 := by omega
    have e2 : lo = 0 := by omega
    subst e1
    subst e2
    rfl
  | M + 1, lo, hi, h1, h2 => by
    by_cases e : hi ≤ M
    · rw [fb_ct_succ, decide_eq_false (show ¬ M < hi by omega), Bool.and_false, Bool.and_false]
      exact ct_range h1 e
    · have e1 : hi = M + 1 := by omega
      subst e1
      by_cases e2 : lo = M + 1
      · subst e2
        have : fb_ct (fun n => p n && (decide (M + 1 ≤ n) && decide (n < M + 1))) (M + 1) = 0 := fb_ct_zero.mpr (fun k hk => by
          rw [decide_eq_false (show ¬ M + 1 ≤ k by omega), Bool.false_and, Bool.and_false])
        rw [this]
        rfl
      · have ih := ct_range (p := p) (M := M) (lo := lo) (hi := M) (by omega) (Nat.le_refl _)
        rw [fb_ct_succ, fb_ct_succ, ← ih, decide_eq_true (show lo ≤ M by omega), decide_eq_true (show M < M + 1 by omega), Bool.and_true, Bool.and_true, Nat.add_assoc]
        congr 2
        refine fb_ct_cong (fun k hk => ?_)
        rw [decide_eq_true (show k < M + 1 by omega), decide_eq_true hk]
theorem CW_pre {σ : St} {N v T : Nat} {set tr : Int32} (hv : v ≤ 8) (hT : 2 ^ v * (T + 1) ≤ 256) (hs : ∀ i, i < 8 → bt set i = decide (v ≤ i)) (ht : ∀ i, v ≤ i → i < 8 → bt tr i = T.testBit (i - v)) : fb_ct (MT σ N) (2 ^ v * T) + CW σ N set tr = fb_ct (MT σ N) (2 ^ v * (T + 1)) := by
  have hp : 0 < 2 ^ v := Nat.two_pow_pos v
  have hT8 : T < 2 ^ (8 - v) := by
    have h1 : 2 ^ v * (T + 1) ≤ 2 ^ v * 2 ^ (8 - v) := by
      rw [← Nat.pow_add, show v + (8 - v) = 8 by omega]
      exact hT
    have := Nat.le_of_mul_le_mul_left h1 hp
    omega
  rw [← ct_range (p := MT σ N) (M := 256) (Nat.mul_le_mul_left (2 ^ v) (Nat.le_succ T)) hT]
  refine congrArg (fun z => fb_ct (MT σ N) (2 ^ v * T) + z) ?_
  unfold CW
  refine fb_ct_cong (fun a ha => ?_)
  congr 1
  rw [Bool.eq_iff_iff, agB_iff, Bool.and_eq_true_iff, decide_eq_true_iff, decide_eq_true_iff]
  have key : (2 ^ v * T ≤ a ∧ a < 2 ^ v * (T + 1)) ↔ a / 2 ^ v = T := by
    rw [Nat.mul_comm, ← Nat.le_div_iff_mul_le hp, Nat.mul_comm, ← Nat.div_lt_iff_lt_mul hp]
    omega
  rw [key]
  constructor
  · intro h
    refine Nat.eq_of_testBit_eq (fun i => ?_)
    rw [Nat.testBit_div_two_pow]
    by_cases hi : i + v < 8
    · rw [h (i + v) hi (by rw [hs _ hi]; exact decide_eq_true (by omega)), ht _ (by omega) hi, Nat.add_sub_cancel]
    · rw [Nat.testBit_lt_two_pow (Nat.lt_of_lt_of_le ha (Nat.pow_le_pow_right (n := 2) (by decide) (show 8 ≤ i + v by omega))), Nat.testBit_lt_two_pow (Nat.lt_of_lt_of_le hT8 (Nat.pow_le_pow_right (n := 2) (by decide) (show 8 - v ≤ i by omega)))]
  · intro h i hi hb
    rw [hs i hi, decide_eq_true_iff] at hb
    rw [ht i hb hi, ← h, Nat.testBit_div_two_pow, Nat.sub_add_cancel hb]
def dn (j : Nat) : Int32 := nI j + (-1)
theorem dn_0 : dn 0 = -1 := by decide
theorem dn_succ (j : Nat) : dn (j + 1) = nI j := pk_m1 j
theorem pow_nI {v : Nat} (hv : v < 31) : nI 1 <<< (nI v &&& 31) = nI (2 ^ v) := by
  have h : 1 * 2 ^ v < 2 ^ 32 := by
    rw [Nat.one_mul]
    exact Nat.pow_lt_pow_right (by decide) (by omega)
  rw [pk_shlN (n := 1) _ v (s_l v (by omega)) h, Nat.one_mul]
theorem set_next {set : Int32} {v : Nat} (hv : v < 8) (hs : ∀ i, i < 8 → bt set i = decide (v + 1 ≤ i)) : ∀ i, i < 8 → bt (set ||| nI 1 <<< (nI v &&& 31)) i = decide (v ≤ i) := by
  intro i hi
  rw [b_or, hs i hi, bt_pow (by omega) (by omega), ← Bool.decide_or]
  exact decide_eq_decide.mpr (by omega)
theorem two_pow_less {v T : Nat} (hv : v < 8) (h : 2 ^ (v + 1) * (T + 1) ≤ 256) : 2 ^ v * (2 * T + 1 + 1) ≤ 256 := by
  have e : 2 ^ v * (2 * T + 1 + 1) = 2 ^ (v + 1) * (T + 1) := by
    rw [Nat.pow_succ, Nat.mul_assoc]
    congr 1
  omega
theorem two_pow_dbl (v T : Nat) : 2 ^ (v + 1) * T = 2 ^ v * (2 * T) := by
  rw [Nat.pow_succ, Nat.mul_assoc]
theorem or_next {v T : Nat} (hv : v < 8) : nI (2 ^ (v + 1) * T) ||| nI 1 <<< (nI v &&& 31) = nI (2 ^ v * (2 * T + 1)) := by
  rw [pow_nI (by omega), fa_or_sum T (Nat.pow_lt_pow_right (by decide) (by omega)), two_pow_dbl, Nat.mul_add, Nat.mul_one]
abbrev P_model (σ : St) (N : Nat) (k : Int32) : Int32 → St → Prop := fun r σ' => QI σ' N ∧ Kp σ σ' ∧ ((r = -4 ∧ (k < 0 ∨ nI (cnt σ N) ≤ k)) ∨ ∃ K T, k = nI K ∧ K < cnt σ N ∧ T < 256 ∧ MT σ N T = true ∧ fb_ct (MT σ N) T = K ∧ r = nI T)
theorem cnt_le (σ : St) (N : Nat) : cnt σ N ≤ 256 := fb_ct_le _ _
theorem m_model (σ : St) (N : Nat) (hq : QI σ N) (k : Int32) : CN shX0 yX0_model cX0_model 8 7 (some .int) [k] σ (P_model σ N k) := by
  refine CN.ofV (own := RX0) (by decide) rfl (Nat.le_of_ble_eq_true rfl) ?_
  show V shX0 RX0 cX0_model 8 7 (some .int) _ 0 [some (.inr 0), some (.inl k), none, none, none, none, none, none] [] _
  have hcl := cnt_le σ N
  refine r_iload_n (pc := 0) (i := 1) dX0_model_0 rfl rfl ?_
  refine r_istore_n (pc := 1) (i := 2) (L' := [_, _, _, _, _, _, _, _]) dX0_model_1 rfl (by decide) rfl ?_
  refine r_aload_n (pc := 2) (i := 0) dX0_model_2 rfl rfl ?_
  refine r_callI (pc := 3) ckX0 (m_count σ N hq) mf_X0_count q222 (by decide) (by decide) dX0_model_3 rfl (Nat.le_of_ble_eq_true rfl) (fun r σ0 hr => ?_)
  obtain ⟨hq0, hk0, rfl⟩ := hr
  refine r_istore_n (pc := 6) (i := 3) (L' := [_, _, _, _, _, _, _, _]) dX0_model_6 rfl (by decide) rfl ?_
  refine r_iload_n (pc := 7) (i := 1) dX0_model_7 rfl rfl ?_
  have bad : (k < 0 ∨ nI (cnt σ N) ≤ k) → V shX0 RX0 cX0_model 8 7 (some .int) (P_model σ N k) 16 [some (.inr 0), some (.inl (k)), some (.inl (k)), some (.inl (nI (cnt σ N))), none, none, none, none] [] σ0 := by
    intro h
    refine r_bipush (pc := 16) (v := (-4)) dX0_model_16 (by decide) ?_
    refine r_iret (pc := 18) dX0_model_18 ?_
    exact ⟨hq0, hk0, Or.inl ⟨rfl, h⟩⟩
  refine r_if_lt (pc := 8) (tgt := 16) dX0_model_8 (by decide) (fun h1 => ?_) (fun h1 => ?_)
  · exact bad (Or.inl h1)
  · refine r_iload_n (pc := 11) (i := 1) dX0_model_11 rfl rfl ?_
    refine r_iload_n (pc := 12) (i := 3) dX0_model_12 rfl rfl ?_
    refine r_icmp_lt (pc := 13) (tgt := 19) dX0_model_13 (by decide) (fun h2 => ?_) (fun h2 => ?_)
    · obtain ⟨K, hK, e⟩ := nI_of h1
      subst e
      have hKc : K < cnt σ N := (nI_ltI hK (by omega)).mp h2
      refine r_iconst (pc := 19) (v := nI 0) dX0_model_19 (by decide) ?_
      refine r_istore (pc := 20) (L' := [_, _, _, _, _, _, _, _]) dX0_model_20 (by decide) rfl ?_
      refine r_iconst (pc := 22) (v := nI 0) dX0_model_22 (by decide) ?_
      refine r_istore (pc := 23) (L' := [_, _, _, _, _, _, _, _]) dX0_model_23 (by decide) rfl ?_
      refine r_bipush (pc := 25) (v := nI 7) dX0_model_25 (by decide) ?_
      refine r_istore (pc := 27) (L' := [_, _, _, _, _, _, _, _]) dX0_model_27 (by decide) rfl ?_
      suffices h : ∀ j T left set (bl : Option AV) σ1, j ≤ 8 → 2 ^ j * (T + 1) ≤ 256 → (∀ i, i < 8 → bt set i = decide (j ≤ i)) → left + fb_ct (MT σ N) (2 ^ j * T) = K → K < fb_ct (MT σ N) (2 ^ j * (T + 1)) → QI σ1 N → Kp σ σ1 → V shX0 RX0 cX0_model 8 7 (some .int) (P_model σ N (nI K)) 29 [some (.inr 0), some (.inl (nI K)), some (.inl (nI left)), some (.inl (nI (cnt σ N))), some (.inl (set)), some (.inl (nI (2 ^ j * T))), some (.inl (dn j)), bl] [] σ1 from h 8 0 K (nI 0) _ σ0 (by omega) (by decide) (fun i hi => by rw [show bt (nI 0) i = false from b_0 i, decide_eq_false (by omega)]) rfl hKc hq0 hk0
      intro j
      induction j with
      | zero =>
        intro T left set bl σ1 hj hT hs hl hlt hq1 hk1
        rw [dn_0]
        refine r_iload (pc := 29) dX0_model_29 rfl ?_
        refine r_if_lt (pc := 31) (tgt := 79) dX0_model_31 (by decide) (fun _ => ?_) (fun z => absurd (by decide) z)
        refine r_iload (pc := 79) dX0_model_79 rfl ?_
        refine r_iret (pc := 81) dX0_model_81 ?_
        rw [show 2 ^ 0 * T = T by omega] at hl ⊢
        rw [show 2 ^ 0 * (T + 1) = T + 1 by omega] at hT hlt
        have hm : MT σ N T = true := by
          cases h : MT σ N T
          · rw [fb_ct_succ, h] at hlt
            simp at hlt
            omega
          · rfl
        rw [fb_ct_succ, hm] at hlt
        simp at hlt
        exact ⟨hq1, hk1, Or.inr ⟨K, T, rfl, hKc, by omega, hm, by omega, rfl⟩⟩
      | succ v ih =>
        intro T left set bl σ1 hj hT hs hl hlt hq1 hk1
        rw [dn_succ]
        have hT2 := two_pow_less (by omega) hT
        have hs2 := set_next (by omega) hs
        have hpre := CW_pre (σ := σ) (N := N) (tr := nI (2 ^ (v + 1) * T)) (v := v) (T := 2 * T) (by omega) (Nat.le_trans (Nat.mul_le_mul_left _ (by omega)) hT2) hs2 (fun i hi h8 => by
          rw [bt_nI _ (by omega), two_pow_dbl, Nat.testBit_two_pow_mul, decide_eq_true hi, Bool.true_and])
        have hcw := CW_le σ N (set ||| nI 1 <<< (nI v &&& 31)) (nI (2 ^ (v + 1) * T))
        have hK256 : K < 256 := by omega
        rw [← two_pow_dbl] at hpre
        refine r_iload (pc := 29) dX0_model_29 rfl ?_
        refine r_if_lt (pc := 31) (tgt := 79) dX0_model_31 (by decide) (fun z => absurd z (nI_pos (by omega))) (fun _ => ?_)
        refine r_iload (pc := 34) dX0_model_34 rfl ?_
        refine r_iconst (pc := 36) (v := nI 1) dX0_model_36 (by decide) ?_
        refine r_iload (pc := 37) dX0_model_37 rfl ?_
        refine r_ishl (pc := 39) dX0_model_39 ?_
        refine r_ior (pc := 40) dX0_model_40 ?_
        refine r_istore (pc := 41) (L' := [_, _, _, _, _, _, _, _]) dX0_model_41 (by decide) rfl ?_
        refine r_aload_n (pc := 43) (i := 0) dX0_model_43 rfl rfl ?_
        refine r_iload (pc := 44) dX0_model_44 rfl ?_
        refine r_iload (pc := 46) dX0_model_46 rfl ?_
        refine r_callI (pc := 48) ckX0 (m_countAllowed σ1 N hq1 _ _) mf_X0_countAllowed q129 (by decide) (by decide) dX0_model_48 rfl (Nat.le_of_ble_eq_true rfl) (fun r σ2 hr => ?_)
        obtain ⟨hq2, hk2, rfl⟩ := hr
        rw [CW_kp hk1]
        refine r_istore (pc := 51) (L' := [_, _, _, _, _, _, _, _]) dX0_model_51 (by decide) rfl ?_
        refine r_iload_n (pc := 53) (i := 2) dX0_model_53 rfl rfl ?_
        refine r_iload (pc := 54) dX0_model_54 rfl ?_
        refine r_icmp_lt (pc := 56) (tgt := 73) dX0_model_56 (by decide) (fun h3 => ?_) (fun h3 => ?_)
        · have h3 := (nI_ltI (by omega) (by omega)).mp h3
          refine r_iinc (pc := 73) (v := dn v) (L' := [_, _, _, _, _, _, _, _]) dX0_model_73 rfl (rfl) (by decide) rfl ?_
          refine r_goto (pc := 76) (tgt := 29) dX0_model_76 (by decide) ?_
          have := ih (2 * T) left (set ||| nI 1 <<< (nI v &&& 31)) (some (.inl (nI (CW σ N (set ||| nI 1 <<< (nI v &&& 31)) (nI (2 ^ (v + 1) * T)))))) σ2 (by omega) (Nat.le_trans (Nat.mul_le_mul_left _ (by omega)) hT2) hs2 (by rw [← two_pow_dbl]; exact hl) (by rw [← hpre]; omega) hq2 (hk1.tr hk2)
          rw [← two_pow_dbl] at this
          exact this
        · have h3 : CW σ N (set ||| nI 1 <<< (nI v &&& 31)) (nI (2 ^ (v + 1) * T)) ≤ left := Nat.le_of_not_lt (fun z => h3 ((nI_ltI (by omega) (by omega)).mpr z))
          refine r_iload_n (pc := 59) (i := 2) dX0_model_59 rfl rfl ?_
          refine r_iload (pc := 60) dX0_model_60 rfl ?_
          refine r_isub (pc := 62) dX0_model_62 ?_
          refine r_top _ (pk_sub h3) ?_
          refine r_istore_n (pc := 63) (i := 2) (L' := [_, _, _, _, _, _, _, _]) dX0_model_63 rfl (by decide) rfl ?_
          refine r_iload (pc := 64) dX0_model_64 rfl ?_
          refine r_iconst (pc := 66) (v := nI 1) dX0_model_66 (by decide) ?_
          refine r_iload (pc := 67) dX0_model_67 rfl ?_
          refine r_ishl (pc := 69) dX0_model_69 ?_
          refine r_ior (pc := 70) dX0_model_70 ?_
          refine r_top _ (or_next (by omega)) ?_
          refine r_istore (pc := 71) (L' := [_, _, _, _, _, _, _, _]) dX0_model_71 (by decide) rfl ?_
          refine r_iinc (pc := 73) (v := dn v) (L' := [_, _, _, _, _, _, _, _]) dX0_model_73 rfl (rfl) (by decide) rfl ?_
          refine r_goto (pc := 76) (tgt := 29) dX0_model_76 (by decide) ?_
          exact ih (2 * T + 1) _ _ _ σ2 (by omega) hT2 hs2 (by rw [← hpre]; omega) (by rw [show 2 ^ v * (2 * T + 1 + 1) = 2 ^ (v + 1) * (T + 1) by rw [two_pow_dbl]; congr 1]; exact hlt) hq2 (hk1.tr hk2)
    · exact bad (Or.inr (fa_of_nlt h2))
abbrev P_rank (σ : St) (N : Nat) (a : Int32) : Int32 → St → Prop := fun r σ' => QI σ' N ∧ Kp σ σ' ∧ ((r = -1 ∧ (a < 0 ∨ nI 256 < a)) ∨ ∃ A, A ≤ 256 ∧ a = nI A ∧ r = nI (fb_ct (MT σ N) A))
theorem half_bit (A v : Nat) : A / 2 ^ v = 2 * (A / 2 ^ (v + 1)) + (A.testBit v).toNat := by
  have h1 : A / 2 ^ (v + 1) = A / 2 ^ v / 2 := by rw [Nat.div_div_eq_div_mul, Nat.pow_succ]
  rw [Nat.testBit_eq_decide_div_mod_eq, h1]
  by_cases h : A / 2 ^ v % 2 = 1
  · rw [decide_eq_true h]
    show _ = _ + 1
    omega
  · rw [decide_eq_false h]
    show _ = _ + 0
    omega
theorem cut_le (A v : Nat) : 2 ^ v * (A / 2 ^ v) ≤ A := Nat.mul_div_le A (2 ^ v)
theorem m_rank (σ : St) (N : Nat) (hq : QI σ N) (a : Int32) : CN shX0 yX0_rank cX0_rank 6 7 (some .int) [a] σ (P_rank σ N a) := by
  refine CN.ofV (own := RX0) (by decide) rfl (Nat.le_of_ble_eq_true rfl) ?_
  show V shX0 RX0 cX0_rank 6 7 (some .int) _ 0 [some (.inr 0), some (.inl a), none, none, none, none] [] _
  have bad : (a < 0 ∨ nI 256 < a) → V shX0 RX0 cX0_rank 6 7 (some .int) (P_rank σ N a) 11 [some (.inr 0), some (.inl (a)), none, none, none, none] [] σ := by
    intro h
    refine r_iconst (pc := 11) (v := (-1)) dX0_rank_11 (by decide) ?_
    refine r_iret (pc := 12) dX0_rank_12 ?_
    exact ⟨hq, Kp.rf _, Or.inl ⟨rfl, h⟩⟩
  refine r_iload_n (pc := 0) (i := 1) dX0_rank_0 rfl rfl ?_
  refine r_if_lt (pc := 1) (tgt := 11) dX0_rank_1 (by decide) (fun h1 => ?_) (fun h1 => ?_)
  · exact bad (Or.inl h1)
  · refine r_iload_n (pc := 4) (i := 1) dX0_rank_4 rfl rfl ?_
    refine r_sipush (pc := 5) (v := nI 256) dX0_rank_5 (by decide) ?_
    refine r_icmp_le (pc := 8) (tgt := 13) dX0_rank_8 (by decide) (fun h2 => ?_) (fun h2 => ?_)
    · obtain ⟨A, hA, e⟩ := nI_of2 (M := nI 256) (n := 256) (by decide) h1 h2
      subst e
      refine r_iload_n (pc := 13) (i := 1) dX0_rank_13 rfl rfl ?_
      refine r_sipush (pc := 14) (v := nI 256) dX0_rank_14 (by decide) ?_
      by_cases e : A = 256
      · subst e
        refine r_icmp_ne (pc := 17) (tgt := 25) dX0_rank_17 (by decide) (fun z => absurd (rfl) z) (fun _ => ?_)
        refine r_aload_n (pc := 20) (i := 0) dX0_rank_20 rfl rfl ?_
        refine r_callI (pc := 21) ckX0 (m_count σ N hq) mf_X0_count q222 (by decide) (by decide) dX0_rank_21 rfl (Nat.le_of_ble_eq_true rfl) (fun r σ1 hr => ?_)
        obtain ⟨hq1, hk1, rfl⟩ := hr
        refine r_iret (pc := 24) dX0_rank_24 ?_
        exact ⟨hq1, hk1, Or.inr ⟨256, by omega, rfl, rfl⟩⟩
      · refine r_icmp_ne (pc := 17) (tgt := 25) dX0_rank_17 (by decide) (fun _ => ?_) (fun z => absurd z (fun z => e ((nI_eq (by omega) (by decide)).mp z)))
        refine r_iconst (pc := 25) (v := nI 0) dX0_rank_25 (by decide) ?_
        refine r_istore_n (pc := 26) (i := 2) (L' := [_, _, _, _, _, _]) dX0_rank_26 rfl (by decide) rfl ?_
        refine r_iconst (pc := 27) (v := nI 0) dX0_rank_27 (by decide) ?_
        refine r_istore_n (pc := 28) (i := 3) (L' := [_, _, _, _, _, _]) dX0_rank_28 rfl (by decide) rfl ?_
        refine r_bipush (pc := 29) (v := nI 7) dX0_rank_29 (by decide) ?_
        refine r_istore (pc := 31) (L' := [_, _, _, _, _, _]) dX0_rank_31 (by decide) rfl ?_
        suffices h : ∀ j set (bl : Option AV) σ1, j ≤ 8 → (∀ i, i < 8 → bt set i = decide (j ≤ i)) → QI σ1 N → Kp σ σ1 → V shX0 RX0 cX0_rank 6 7 (some .int) (P_rank σ N (nI A)) 33 [some (.inr 0), some (.inl (nI A)), some (.inl (nI (fb_ct (MT σ N) (2 ^ j * (A / 2 ^ j))))), some (.inl (set)), some (.inl (dn j)), bl] [] σ1 by
          have := h 8 (nI 0) none σ (by omega) (fun i hi => by rw [show bt (nI 0) i = false from b_0 i, decide_eq_false (by omega)]) hq (Kp.rf _)
          rw [show 2 ^ 8 * (A / 2 ^ 8) = 0 by omega] at this
          exact this
        intro j
        induction j with
        | zero =>
          intro set bl σ1 hj hs hq1 hk1
          rw [dn_0]
          refine r_iload (pc := 33) dX0_rank_33 rfl ?_
          refine r_if_lt (pc := 35) (tgt := 81) dX0_rank_35 (by decide) (fun _ => ?_) (fun z => absurd (by decide) z)
          refine r_iload_n (pc := 81) (i := 2) dX0_rank_81 rfl rfl ?_
          refine r_iret (pc := 82) dX0_rank_82 ?_
          exact ⟨hq1, hk1, Or.inr ⟨A, hA, rfl, by rw [show 2 ^ 0 * (A / 2 ^ 0) = A by omega]⟩⟩
        | succ v ih =>
          intro set bl σ1 hj hs hq1 hk1
          rw [dn_succ]
          have hs2 := set_next (by omega) hs
          have hh := half_bit A v
          refine r_iload (pc := 33) dX0_rank_33 rfl ?_
          refine r_if_lt (pc := 35) (tgt := 81) dX0_rank_35 (by decide) (fun z => absurd z (nI_pos (by omega))) (fun _ => ?_)
          refine r_iload_n (pc := 38) (i := 3) dX0_rank_38 rfl rfl ?_
          refine r_iconst (pc := 39) (v := nI 1) dX0_rank_39 (by decide) ?_
          refine r_iload (pc := 40) dX0_rank_40 rfl ?_
          refine r_ishl (pc := 42) dX0_rank_42 ?_
          refine r_ior (pc := 43) dX0_rank_43 ?_
          refine r_istore_n (pc := 44) (i := 3) (L' := [_, _, _, _, _, _]) dX0_rank_44 rfl (by decide) rfl ?_
          refine r_iload_n (pc := 45) (i := 1) dX0_rank_45 rfl rfl ?_
          refine r_iload (pc := 46) dX0_rank_46 rfl ?_
          refine r_ishr (pc := 48) dX0_rank_48 ?_
          refine r_iconst (pc := 49) (v := nI 1) dX0_rank_49 (by decide) ?_
          refine r_iand (pc := 50) dX0_rank_50 ?_
          refine r_iconst (pc := 51) (v := nI 1) dX0_rank_51 (by decide) ?_
          refine r_icmp_ne (pc := 52) (tgt := 75) dX0_rank_52 (by decide) (fun h3 => ?_) (fun h3 => ?_)
          · have hb : A.testBit v = false := by
              cases h : A.testBit v
              · rfl
              · exact absurd ((bit_one (nI A) (by omega)).mpr (by rw [bt_nI _ (by omega)]; exact h)) h3
            rw [hb] at hh
            have he : 2 ^ (v + 1) * (A / 2 ^ (v + 1)) = 2 ^ v * (A / 2 ^ v) := by
              rw [two_pow_dbl, hh]
              rfl
            rw [he]
            refine r_iinc (pc := 75) (v := dn v) (L' := [_, _, _, _, _, _]) dX0_rank_75 rfl (rfl) (by decide) rfl ?_
            refine r_goto (pc := 78) (tgt := 33) dX0_rank_78 (by decide) ?_
            exact ih _ _ σ1 (by omega) hs2 hq1 hk1
          · have hb : A.testBit v = true := by
              have := (bit_one (nI A) (by omega)).mp h3
              rw [bt_nI _ (by omega)] at this
              exact this
            rw [hb] at hh
            have hcut := cut_le A v
            have hpre := CW_pre (σ := σ) (N := N) (set := set ||| nI 1 <<< (nI v &&& 31)) (tr := nI A &&& (nI 1 <<< (nI v &&& 31) ^^^ (-1))) (v := v) (T := 2 * (A / 2 ^ (v + 1))) (by omega) (by rw [show 2 * (A / 2 ^ (v + 1)) + 1 = A / 2 ^ v from hh.symm]; omega) hs2 (fun i hi h8 => by
              rw [b_and, bt_not _ (by omega), bt_pow (by omega) (by omega), bt_nI _ (by omega)]
              by_cases ei : i = v
              · rw [ei, decide_eq_true rfl, Nat.sub_self, Nat.testBit_zero, Nat.mul_mod_right]
                simp
              · obtain ⟨d, hd⟩ : ∃ d, i = d + (v + 1) := ⟨i - (v + 1), by omega⟩
                rw [hd, show d + (v + 1) - v = d + 1 by omega, Nat.testBit_add_one, Nat.mul_div_cancel_left _ (by decide : 0 < 2), Nat.testBit_div_two_pow, decide_eq_false (by omega)]
                simp)
            rw [show 2 * (A / 2 ^ (v + 1)) + 1 = A / 2 ^ v from hh.symm, ← two_pow_dbl] at hpre
            refine r_aload_n (pc := 55) (i := 0) dX0_rank_55 rfl rfl ?_
            refine r_iload_n (pc := 56) (i := 3) dX0_rank_56 rfl rfl ?_
            refine r_iload_n (pc := 57) (i := 1) dX0_rank_57 rfl rfl ?_
            refine r_iconst (pc := 58) (v := nI 1) dX0_rank_58 (by decide) ?_
            refine r_iload (pc := 59) dX0_rank_59 rfl ?_
            refine r_ishl (pc := 61) dX0_rank_61 ?_
            refine r_iconst (pc := 62) (v := (-1)) dX0_rank_62 (by decide) ?_
            refine r_ixor (pc := 63) dX0_rank_63 ?_
            refine r_iand (pc := 64) dX0_rank_64 ?_
            refine r_callI (pc := 65) ckX0 (m_countAllowed σ1 N hq1 _ _) mf_X0_countAllowed q129 (by decide) (by decide) dX0_rank_65 rfl (Nat.le_of_ble_eq_true rfl) (fun r σ2 hr => ?_)
            obtain ⟨hq2, hk2, rfl⟩ := hr
            rw [CW_kp hk1]
            refine r_istore (pc := 68) (L' := [_, _, _, _, _, _]) dX0_rank_68 (by decide) rfl ?_
            refine r_iload_n (pc := 70) (i := 2) dX0_rank_70 rfl rfl ?_
            refine r_iload (pc := 71) dX0_rank_71 rfl ?_
            refine r_iadd (pc := 73) dX0_rank_73 ?_
            refine r_top (nI (fb_ct (MT σ N) (2 ^ v * (A / 2 ^ v)))) (by rw [nI_add, hpre]) ?_
            refine r_istore_n (pc := 74) (i := 2) (L' := [_, _, _, _, _, _]) dX0_rank_74 rfl (by decide) rfl ?_
            refine r_iinc (pc := 75) (v := dn v) (L' := [_, _, _, _, _, _]) dX0_rank_75 rfl (rfl) (by decide) rfl ?_
            refine r_goto (pc := 78) (tgt := 33) dX0_rank_78 (by decide) ?_
            exact ih _ _ σ2 (by omega) hs2 hq2 (hk1.tr hk2)
    · exact bad (Or.inr (fa_of_nle h2))
theorem agB_255 {t n : Nat} (ht : t < 256) (hn : n < 256) : agB (nI 255) (nI t) 8 n = true ↔ n = t := by
  rw [agB_iff]
  constructor
  · intro h
    refine Nat.eq_of_testBit_eq (fun i => ?_)
    by_cases hi : i < 8
    · rw [h i hi (bt_255 hi), bt_nI _ (by omega)]
    · rw [Nat.testBit_lt_two_pow (Nat.lt_of_lt_of_le hn (Nat.pow_le_pow_right (n := 2) (by decide) (show 8 ≤ i by omega))), Nat.testBit_lt_two_pow (Nat.lt_of_lt_of_le ht (Nat.pow_le_pow_right (n := 2) (by decide) (show 8 ≤ i by omega)))]
  · intro h v hv _
    rw [h, bt_nI _ (by omega)]
theorem CW_255 (σ : St) (N : Nat) {t : Nat} (ht : t < 256) : CW σ N (nI 255) (nI t) = (MT σ N t).toNat := by
  have h1 := ct_range (p := MT σ N) (M := 256) (lo := t) (hi := t + 1) (by omega) (by omega)
  rw [← ct_b (MT σ N) t] at h1
  have h2 : CW σ N (nI 255) (nI t) = fb_ct (fun n => MT σ N n && (decide (t ≤ n) && decide (n < t + 1))) 256 := by
    unfold CW
    refine fb_ct_cong (fun a ha => ?_)
    congr 1
    rw [Bool.eq_iff_iff, agB_255 ht ha, Bool.and_eq_true_iff, decide_eq_true_iff, decide_eq_true_iff]
    omega
  omega
theorem m_isModel (σ : St) (N : Nat) (hq : QI σ N) (a : Int32) : CN shX0 yX0_isModel cX0_isModel 2 6 (some .boolean) [a] σ (fun r σ' => QI σ' N ∧ Kp σ σ' ∧ ((badS a ∧ r = nI 0) ∨ ∃ A, A < 256 ∧ a = nI A ∧ r = nI (MT σ N A).toNat)) := by
  refine CN.ofV (own := RX0) (by decide) rfl (Nat.le_of_ble_eq_true rfl) ?_
  show V shX0 RX0 cX0_isModel 2 6 (some .boolean) _ 0 [some (.inr 0), some (.inl a)] [] _
  refine r_aload_n (pc := 0) (i := 0) dX0_isModel_0 rfl rfl ?_
  refine r_iload_n (pc := 1) (i := 1) dX0_isModel_1 rfl rfl ?_
  refine r_callI (pc := 2) ckX0 (m_badSet σ a) mf_X0_badSet q190 (by decide) (by decide) dX0_isModel_2 rfl (Nat.le_of_ble_eq_true rfl) (fun r σ hr => ?_)
  obtain ⟨rfl, hr⟩ := hr
  rcases hr with ⟨rfl, hb⟩ | ⟨rfl, hb1, hb2⟩
  · refine r_if_ne (pc := 5) (tgt := 24) dX0_isModel_5 (by decide) (fun _ => ?_) (fun z => absurd z (by decide))
    refine r_iconst (pc := 24) (v := nI 0) dX0_isModel_24 (by decide) ?_
    refine r_zret (pc := 25) dX0_isModel_25 (by decide) ?_
    exact ⟨hq, Kp.rf _, Or.inl ⟨hb, rfl⟩⟩
  · obtain ⟨A, hA, e⟩ := set_of hb1 hb2
    subst e
    refine r_if_ne (pc := 5) (tgt := 24) dX0_isModel_5 (by decide) (fun z => absurd (rfl) z) (fun _ => ?_)
    refine r_aload_n (pc := 8) (i := 0) dX0_isModel_8 rfl rfl ?_
    refine r_sipush (pc := 9) (v := nI 255) dX0_isModel_9 (by decide) ?_
    refine r_iload_n (pc := 12) (i := 1) dX0_isModel_12 rfl rfl ?_
    refine r_callI (pc := 13) ckX0 (m_countAllowed σ N hq (nI 255) (nI A)) mf_X0_countAllowed q129 (by decide) (by decide) dX0_isModel_13 rfl (Nat.le_of_ble_eq_true rfl) (fun r σ1 hr => ?_)
    obtain ⟨hq1, hk1, rfl⟩ := hr
    rw [CW_255 σ N hA]
    refine r_iconst (pc := 16) (v := nI 1) dX0_isModel_16 (by decide) ?_
    cases hm : MT σ N A
    · refine r_icmp_ne (pc := 17) (tgt := 24) dX0_isModel_17 (by decide) (fun _ => ?_) (fun z => absurd z (by decide))
      refine r_iconst (pc := 24) (v := nI 0) dX0_isModel_24 (by decide) ?_
      refine r_zret (pc := 25) dX0_isModel_25 (by decide) ?_
      exact ⟨hq1, hk1, Or.inr ⟨A, hA, rfl, by rw [hm]; rfl⟩⟩
    · refine r_icmp_ne (pc := 17) (tgt := 24) dX0_isModel_17 (by decide) (fun z => absurd (rfl) z) (fun _ => ?_)
      refine r_iconst (pc := 20) (v := nI 1) dX0_isModel_20 (by decide) ?_
      refine r_goto (pc := 21) (tgt := 25) dX0_isModel_21 (by decide) ?_
      refine r_zret (pc := 25) dX0_isModel_25 (by decide) ?_
      exact ⟨hq1, hk1, Or.inr ⟨A, hA, rfl, by rw [hm]; rfl⟩⟩
/-- no model has the truth b at v -/
abbrev noM (m : Nat → Bool) (v : Nat) (b : Bool) : Prop := ∀ a, a < 256 → m a = true → a.testBit v = !b
theorem CW_one {σ : St} {N v : Nat} (hv : v < 8) {tr : Int32} : CW σ N (nI 1 <<< (nI v &&& 31)) tr = 0 ↔ noM (MT σ N) v (bt tr v) := by
  unfold CW
  rw [fb_ct_zero]
  constructor
  · intro h a ha hm
    have h1 := h a ha
    rw [hm, Bool.true_and] at h1
    cases e : (a.testBit v == bt tr v)
    · cases h2 : a.testBit v <;> cases h3 : bt tr v <;> simp [h2, h3] at e ⊢
    · exfalso
      have : agB (nI 1 <<< (nI v &&& 31)) tr 8 a = true := agB_iff.mpr (fun i hi hb => by
        rw [bt_pow (by omega) (by omega), decide_eq_true_iff] at hb
        rw [hb]
        simpa using e)
      rw [this] at h1
      cases h1
  · intro h a ha
    cases hm : MT σ N a
    · rfl
    · rw [Bool.true_and]
      cases hg : agB (nI 1 <<< (nI v &&& 31)) tr 8 a
      · rfl
      · have h1 := agB_iff.mp hg v hv (by rw [bt_pow (by omega) (by omega)]; exact decide_eq_true rfl)
        rw [h a ha hm] at h1
        cases h3 : bt tr v <;> rw [h3] at h1 <;> cases h1
theorem bits_next {P : Nat → Prop} {set : Int32} {i : Nat} (hi : i < 8) (hs : ∀ v, v < 32 → (bt set v = true ↔ v < i ∧ P v)) (hn : P i) : ∀ v, v < 32 → (bt (set ||| nI 1 <<< (nI i &&& 31)) v = true ↔ v < i + 1 ∧ P v) := by
  intro v hv
  rw [b_or, bt_pow (by omega) hv, Bool.or_eq_true, hs v hv, decide_eq_true_iff]
  constructor
  · rintro (⟨h1, h2⟩ | h1)
    · exact ⟨by omega, h2⟩
    · rw [h1]; exact ⟨by omega, hn⟩
  · rintro ⟨h1, h2⟩
    by_cases e : v = i
    · exact Or.inr e
    · exact Or.inl ⟨by omega, h2⟩
theorem bits_skip {P : Nat → Prop} {set : Int32} {i : Nat} (hs : ∀ v, v < 32 → (bt set v = true ↔ v < i ∧ P v)) (hn : ¬ P i) : ∀ v, v < 32 → (bt set v = true ↔ v < i + 1 ∧ P v) := by
  intro v hv
  rw [hs v hv]
  constructor
  · rintro ⟨h1, h2⟩
    exact ⟨by omega, h2⟩
  · rintro ⟨h1, h2⟩
    refine ⟨?_, h2⟩
    by_cases e : v = i
    · rw [e] at h2
      exact absurd h2 hn
    · omega
abbrev P_always (σ : St) (N : Nat) (b : Bool) : Int32 → St → Prop := fun r σ' => QI σ' N ∧ Kp σ σ' ∧ ((cnt σ N = 0 ∧ r = -4) ∨ (¬ cnt σ N = 0 ∧ ∀ v, v < 32 → (bt r v = true ↔ v < 8 ∧ noM (MT σ N) v b)))
theorem m_alwaysTrue (σ : St) (N : Nat) (hq : QI σ N) : CN shX0 yX0_alwaysTrue cX0_alwaysTrue 5 7 (some .int) [] σ (P_always σ N false) := by
  have hcl := cnt_le σ N
  refine CN.ofV (own := RX0) (by decide) rfl (Nat.le_of_ble_eq_true rfl) ?_
  show V shX0 RX0 cX0_alwaysTrue 5 7 (some .int) _ 0 [some (.inr 0), none, none, none, none] [] _
  refine r_aload_n (pc := 0) (i := 0) dX0_alwaysTrue_0 rfl rfl ?_
  refine r_callI (pc := 1) ckX0 (m_count σ N hq) mf_X0_count q222 (by decide) (by decide) dX0_alwaysTrue_1 rfl (Nat.le_of_ble_eq_true rfl) (fun r σ0 hr => ?_)
  obtain ⟨hq0, hk0, rfl⟩ := hr
  refine r_istore_n (pc := 4) (i := 1) (L' := [_, _, _, _, _]) dX0_alwaysTrue_4 rfl (by decide) rfl ?_
  refine r_iload_n (pc := 5) (i := 1) dX0_alwaysTrue_5 rfl rfl ?_
  refine r_if_ne (pc := 6) (tgt := 12) dX0_alwaysTrue_6 (by decide) (fun h1 => ?_) (fun h1 => ?_)
  · have hc0 : ¬ cnt σ N = 0 := fun z => h1 (by rw [z]; rfl)
    refine r_iconst (pc := 12) (v := nI 0) dX0_alwaysTrue_12 (by decide) ?_
    refine r_istore_n (pc := 13) (i := 2) (L' := [_, _, _, _, _]) dX0_alwaysTrue_13 rfl (by decide) rfl ?_
    refine r_iconst (pc := 14) (v := nI 0) dX0_alwaysTrue_14 (by decide) ?_
    refine r_istore_n (pc := 15) (i := 3) (L' := [_, _, _, _, _]) dX0_alwaysTrue_15 rfl (by decide) rfl ?_
    suffices h : ∀ k i set (bl : Option AV) σ1, i + k = 8 → (∀ v, v < 32 → (bt set v = true ↔ v < i ∧ noM (MT σ N) v false)) → QI σ1 N → Kp σ σ1 → V shX0 RX0 cX0_alwaysTrue 5 7 (some .int) (P_always σ N false) 16 [some (.inr 0), some (.inl (nI (cnt σ N))), some (.inl (set)), some (.inl (nI i)), bl] [] σ1 from h 8 0 (nI 0) none σ0 (by omega) (fun v _ => by rw [show bt (nI 0) v = false from b_0 v]; exact ⟨(fun z => by cases z), fun z => absurd z.1 (by omega)⟩) hq0 hk0
    intro k
    induction k with
    | zero =>
      intro i set bl σ1 hi hs hq1 hk1
      refine r_iload_n (pc := 16) (i := 3) dX0_alwaysTrue_16 rfl rfl ?_
      refine r_bipush (pc := 17) (v := nI 8) dX0_alwaysTrue_17 (by decide) ?_
      refine r_icmp_ge (pc := 19) (tgt := 49) dX0_alwaysTrue_19 (by decide) (fun _ => ?_) (fun z => absurd (nI_le (by omega) (by omega)) z)
      refine r_iload_n (pc := 49) (i := 2) dX0_alwaysTrue_49 rfl rfl ?_
      refine r_iret (pc := 50) dX0_alwaysTrue_50 ?_
      refine ⟨hq1, hk1, Or.inr ⟨hc0, ?_⟩⟩
      rw [show (8 : Nat) = i by omega]
      exact hs
    | succ k ih =>
      intro i set bl σ1 hi hs hq1 hk1
      refine r_iload_n (pc := 16) (i := 3) dX0_alwaysTrue_16 rfl rfl ?_
      refine r_bipush (pc := 17) (v := nI 8) dX0_alwaysTrue_17 (by decide) ?_
      refine r_icmp_ge (pc := 19) (tgt := 49) dX0_alwaysTrue_19 (by decide) (fun z => absurd z (nI_ge (by omega) (by omega))) (fun _ => ?_)
      refine r_aload_n (pc := 22) (i := 0) dX0_alwaysTrue_22 rfl rfl ?_
      refine r_iconst (pc := 23) (v := nI 1) dX0_alwaysTrue_23 (by decide) ?_
      refine r_iload_n (pc := 24) (i := 3) dX0_alwaysTrue_24 rfl rfl ?_
      refine r_ishl (pc := 25) dX0_alwaysTrue_25 ?_
      refine r_iconst (pc := 26) (v := nI 0) dX0_alwaysTrue_26 (by decide) ?_
      refine r_callI (pc := 27) ckX0 (m_countAllowed σ1 N hq1 _ _) mf_X0_countAllowed q129 (by decide) (by decide) dX0_alwaysTrue_27 rfl (Nat.le_of_ble_eq_true rfl) (fun r σ2 hr => ?_)
      obtain ⟨hq2, hk2, rfl⟩ := hr
      rw [CW_kp hk1]
      have hcw := CW_le σ N (nI 1 <<< (nI i &&& 31)) (nI 0)
      have hone := CW_one (σ := σ) (N := N) (v := i) (by omega) (tr := (nI 0))
      rw [show bt (nI 0) i = false from b_0 i] at hone
      refine r_istore (pc := 30) (L' := [_, _, _, _, _]) dX0_alwaysTrue_30 (by decide) rfl ?_
      refine r_iload (pc := 32) dX0_alwaysTrue_32 rfl ?_
      refine r_if_ne (pc := 34) (tgt := 43) dX0_alwaysTrue_34 (by decide) (fun h3 => ?_) (fun h3 => ?_)
      · refine r_iinc (pc := 43) (v := _) (L' := [_, _, _, _, _]) dX0_alwaysTrue_43 rfl (inc1 _) (by decide) rfl ?_
        refine r_goto (pc := 46) (tgt := 16) dX0_alwaysTrue_46 (by decide) ?_
        exact ih (i + 1) set _ σ2 (by omega) (bits_skip hs (fun z => h3 (by rw [hone.mpr z]; rfl))) hq2 (hk1.tr hk2)
      · have hz : CW σ N (nI 1 <<< (nI i &&& 31)) (nI 0) = 0 := (nI_eq (by omega) (by decide)).mp h3
        refine r_iload_n (pc := 37) (i := 2) dX0_alwaysTrue_37 rfl rfl ?_
        refine r_iconst (pc := 38) (v := nI 1) dX0_alwaysTrue_38 (by decide) ?_
        refine r_iload_n (pc := 39) (i := 3) dX0_alwaysTrue_39 rfl rfl ?_
        refine r_ishl (pc := 40) dX0_alwaysTrue_40 ?_
        refine r_ior (pc := 41) dX0_alwaysTrue_41 ?_
        refine r_istore_n (pc := 42) (i := 2) (L' := [_, _, _, _, _]) dX0_alwaysTrue_42 rfl (by decide) rfl ?_
        refine r_iinc (pc := 43) (v := _) (L' := [_, _, _, _, _]) dX0_alwaysTrue_43 rfl (inc1 _) (by decide) rfl ?_
        refine r_goto (pc := 46) (tgt := 16) dX0_alwaysTrue_46 (by decide) ?_
        exact ih (i + 1) _ _ σ2 (by omega) (bits_next (by omega) hs (hone.mp hz)) hq2 (hk1.tr hk2)
  · have hc0 : cnt σ N = 0 := (nI_eq (by omega) (by decide)).mp h1
    refine r_bipush (pc := 9) (v := (-4)) dX0_alwaysTrue_9 (by decide) ?_
    refine r_iret (pc := 11) dX0_alwaysTrue_11 ?_
    exact ⟨hq0, hk0, Or.inl ⟨hc0, rfl⟩⟩
theorem m_alwaysFalse (σ : St) (N : Nat) (hq : QI σ N) : CN shX0 yX0_alwaysFalse cX0_alwaysFalse 5 7 (some .int) [] σ (P_always σ N true) := by
  have hcl := cnt_le σ N
  refine CN.ofV (own := RX0) (by decide) rfl (Nat.le_of_ble_eq_true rfl) ?_
  show V shX0 RX0 cX0_alwaysFalse 5 7 (some .int) _ 0 [some (.inr 0), none, none, none, none] [] _
  refine r_aload_n (pc := 0) (i := 0) dX0_alwaysFalse_0 rfl rfl ?_
  refine r_callI (pc := 1) ckX0 (m_count σ N hq) mf_X0_count q222 (by decide) (by decide) dX0_alwaysFalse_1 rfl (Nat.le_of_ble_eq_true rfl) (fun r σ0 hr => ?_)
  obtain ⟨hq0, hk0, rfl⟩ := hr
  refine r_istore_n (pc := 4) (i := 1) (L' := [_, _, _, _, _]) dX0_alwaysFalse_4 rfl (by decide) rfl ?_
  refine r_iload_n (pc := 5) (i := 1) dX0_alwaysFalse_5 rfl rfl ?_
  refine r_if_ne (pc := 6) (tgt := 12) dX0_alwaysFalse_6 (by decide) (fun h1 => ?_) (fun h1 => ?_)
  · have hc0 : ¬ cnt σ N = 0 := fun z => h1 (by rw [z]; rfl)
    refine r_iconst (pc := 12) (v := nI 0) dX0_alwaysFalse_12 (by decide) ?_
    refine r_istore_n (pc := 13) (i := 2) (L' := [_, _, _, _, _]) dX0_alwaysFalse_13 rfl (by decide) rfl ?_
    refine r_iconst (pc := 14) (v := nI 0) dX0_alwaysFalse_14 (by decide) ?_
    refine r_istore_n (pc := 15) (i := 3) (L' := [_, _, _, _, _]) dX0_alwaysFalse_15 rfl (by decide) rfl ?_
    suffices h : ∀ k i set (bl : Option AV) σ1, i + k = 8 → (∀ v, v < 32 → (bt set v = true ↔ v < i ∧ noM (MT σ N) v true)) → QI σ1 N → Kp σ σ1 → V shX0 RX0 cX0_alwaysFalse 5 7 (some .int) (P_always σ N true) 16 [some (.inr 0), some (.inl (nI (cnt σ N))), some (.inl (set)), some (.inl (nI i)), bl] [] σ1 from h 8 0 (nI 0) none σ0 (by omega) (fun v _ => by rw [show bt (nI 0) v = false from b_0 v]; exact ⟨(fun z => by cases z), fun z => absurd z.1 (by omega)⟩) hq0 hk0
    intro k
    induction k with
    | zero =>
      intro i set bl σ1 hi hs hq1 hk1
      refine r_iload_n (pc := 16) (i := 3) dX0_alwaysFalse_16 rfl rfl ?_
      refine r_bipush (pc := 17) (v := nI 8) dX0_alwaysFalse_17 (by decide) ?_
      refine r_icmp_ge (pc := 19) (tgt := 51) dX0_alwaysFalse_19 (by decide) (fun _ => ?_) (fun z => absurd (nI_le (by omega) (by omega)) z)
      refine r_iload_n (pc := 51) (i := 2) dX0_alwaysFalse_51 rfl rfl ?_
      refine r_iret (pc := 52) dX0_alwaysFalse_52 ?_
      refine ⟨hq1, hk1, Or.inr ⟨hc0, ?_⟩⟩
      rw [show (8 : Nat) = i by omega]
      exact hs
    | succ k ih =>
      intro i set bl σ1 hi hs hq1 hk1
      refine r_iload_n (pc := 16) (i := 3) dX0_alwaysFalse_16 rfl rfl ?_
      refine r_bipush (pc := 17) (v := nI 8) dX0_alwaysFalse_17 (by decide) ?_
      refine r_icmp_ge (pc := 19) (tgt := 51) dX0_alwaysFalse_19 (by decide) (fun z => absurd z (nI_ge (by omega) (by omega))) (fun _ => ?_)
      refine r_aload_n (pc := 22) (i := 0) dX0_alwaysFalse_22 rfl rfl ?_
      refine r_iconst (pc := 23) (v := nI 1) dX0_alwaysFalse_23 (by decide) ?_
      refine r_iload_n (pc := 24) (i := 3) dX0_alwaysFalse_24 rfl rfl ?_
      refine r_ishl (pc := 25) dX0_alwaysFalse_25 ?_
      refine r_iconst (pc := 26) (v := nI 1) dX0_alwaysFalse_26 (by decide) ?_
      refine r_iload_n (pc := 27) (i := 3) dX0_alwaysFalse_27 rfl rfl ?_
      refine r_ishl (pc := 28) dX0_alwaysFalse_28 ?_
      refine r_callI (pc := 29) ckX0 (m_countAllowed σ1 N hq1 _ _) mf_X0_countAllowed q129 (by decide) (by decide) dX0_alwaysFalse_29 rfl (Nat.le_of_ble_eq_true rfl) (fun r σ2 hr => ?_)
      obtain ⟨hq2, hk2, rfl⟩ := hr
      rw [CW_kp hk1]
      have hcw := CW_le σ N (nI 1 <<< (nI i &&& 31)) (nI 1 <<< (nI i &&& 31))
      have hone := CW_one (σ := σ) (N := N) (v := i) (by omega) (tr := (nI 1 <<< (nI i &&& 31)))
      rw [show bt (nI 1 <<< (nI i &&& 31)) i = true by rw [bt_pow (by omega) (by omega)]; exact decide_eq_true rfl] at hone
      refine r_istore (pc := 32) (L' := [_, _, _, _, _]) dX0_alwaysFalse_32 (by decide) rfl ?_
      refine r_iload (pc := 34) dX0_alwaysFalse_34 rfl ?_
      refine r_if_ne (pc := 36) (tgt := 45) dX0_alwaysFalse_36 (by decide) (fun h3 => ?_) (fun h3 => ?_)
      · refine r_iinc (pc := 45) (v := _) (L' := [_, _, _, _, _]) dX0_alwaysFalse_45 rfl (inc1 _) (by decide) rfl ?_
        refine r_goto (pc := 48) (tgt := 16) dX0_alwaysFalse_48 (by decide) ?_
        exact ih (i + 1) set _ σ2 (by omega) (bits_skip hs (fun z => h3 (by rw [hone.mpr z]; rfl))) hq2 (hk1.tr hk2)
      · have hz : CW σ N (nI 1 <<< (nI i &&& 31)) (nI 1 <<< (nI i &&& 31)) = 0 := (nI_eq (by omega) (by decide)).mp h3
        refine r_iload_n (pc := 39) (i := 2) dX0_alwaysFalse_39 rfl rfl ?_
        refine r_iconst (pc := 40) (v := nI 1) dX0_alwaysFalse_40 (by decide) ?_
        refine r_iload_n (pc := 41) (i := 3) dX0_alwaysFalse_41 rfl rfl ?_
        refine r_ishl (pc := 42) dX0_alwaysFalse_42 ?_
        refine r_ior (pc := 43) dX0_alwaysFalse_43 ?_
        refine r_istore_n (pc := 44) (i := 2) (L' := [_, _, _, _, _]) dX0_alwaysFalse_44 rfl (by decide) rfl ?_
        refine r_iinc (pc := 45) (v := _) (L' := [_, _, _, _, _]) dX0_alwaysFalse_45 rfl (inc1 _) (by decide) rfl ?_
        refine r_goto (pc := 48) (tgt := 16) dX0_alwaysFalse_48 (by decide) ?_
        exact ih (i + 1) _ _ σ2 (by omega) (bits_next (by omega) hs (hone.mp hz)) hq2 (hk1.tr hk2)
  · have hc0 : cnt σ N = 0 := (nI_eq (by omega) (by decide)).mp h1
    refine r_bipush (pc := 9) (v := (-4)) dX0_alwaysFalse_9 (by decide) ?_
    refine r_iret (pc := 11) dX0_alwaysFalse_11 ?_
    exact ⟨hq0, hk0, Or.inl ⟨hc0, rfl⟩⟩
end
section
/-! X0: countWithout, idle -/
theorem bt_bsh (b : Bool) {c i : Nat} (hc : c < 32) (hi : i < 32) : bt (nI b.toNat <<< (nI c &&& 31)) i = (b && decide (i = c)) := by
  rw [b_shl c hc _ hi]
  by_cases h : c ≤ i
  · rw [bt_b2 _ (by omega), decide_eq_true h, Bool.true_and]
    congr 1
    exact decide_eq_decide.mpr (by omega)
  · rw [decide_eq_false h, decide_eq_false (by omega)]
    simp
theorem shr_shl31 (x : Int32) {c : Nat} (hc : c < 32) : (x >>> (nI c &&& 31)) <<< (nI 31 &&& 31) = 0 ↔ bt x c = false := by
  have hb : ∀ i, i < 32 → bt ((x >>> (nI c &&& 31)) <<< (nI 31 &&& 31)) i = (decide (i = 31) && bt x c) := by
    intro i hi
    rw [b_shl 31 (by decide) _ hi]
    by_cases e : i = 31
    · subst e
      rw [b_sshr c hc x (by omega), if_pos (by omega)]
      rfl
    · rw [decide_eq_false (show ¬ 31 ≤ i by omega), decide_eq_false e]
      rfl
  constructor
  · intro h
    have := hb 31 (by decide)
    rw [h, b_0] at this
    simpa using this.symm
  · intro h
    apply b_ext
    intro i hi
    rw [hb i hi, h, Bool.and_false]
    exact (b_0 i).symm
def tautV (σ : St) (v c : Nat) : Bool := bt (σ 3 c) v && bt (σ 4 c) v
/-- clause c's sets with the literals of v taken out, unless it is always true -/
def woF (σ : St) (k v c : Nat) : Int32 := if tautV σ v c then σ k c else σ k c &&& (nI 1 <<< (nI v &&& 31) ^^^ (-1))
theorem woF_bit {σ : St} {k v c u : Nat} (hv : v < 32) (hu : u < 32) (h : tautV σ v c = false) : bt (woF σ k v c) u = (bt (σ k c) u && !decide (u = v)) := by
  unfold woF
  rw [h]
  simp only [Bool.false_eq_true, if_false]
  rw [b_and, bt_not _ hu, bt_pow hv hu]
theorem flip_bit (a v u : Nat) : (a ^^^ 2 ^ v).testBit u = (a.testBit u ^^ decide (v = u)) := by
  rw [Nat.testBit_xor, Nat.testBit_two_pow]
theorem satc_wo {σ σ1 : St} {v c a : Nat} (hv : v < 8) (h3 : σ1 3 c = woF σ 3 v c) (h4 : σ1 4 c = woF σ 4 v c) : satc σ1 (fun _ => true) c (fun u => a.testBit u) = (satc σ (fun _ => true) c (fun u => a.testBit u) && satc σ (fun _ => true) c (fun u => (a ^^^ 2 ^ v).testBit u)) := by
  cases ht : tautV σ v c
  · have b3 : ∀ u, u < 8 → bt (σ1 3 c) u = (bt (σ 3 c) u && !decide (u = v)) := fun u hu => by rw [h3]; exact woF_bit (by omega) (by omega) ht
    have b4 : ∀ u, u < 8 → bt (σ1 4 c) u = (bt (σ 4 c) u && !decide (u = v)) := fun u hu => by rw [h4]; exact woF_bit (by omega) (by omega) ht
    have fl : ∀ u, u ≠ v → (a ^^^ 2 ^ v).testBit u = a.testBit u := fun u hu => by
      rw [flip_bit, decide_eq_false (fun e => hu e.symm)]
      simp
    have flv : (a ^^^ 2 ^ v).testBit v = !a.testBit v := by
      rw [flip_bit, decide_eq_true rfl]
      simp
    rw [Bool.eq_iff_iff, Bool.and_eq_true_iff, satc_iff, satc_iff, satc_iff]
    have back : ∀ u, u < 8 → u ≠ v → ((bt (σ 3 c) u = true ∧ a.testBit u = true) ∨ (bt (σ 4 c) u = true ∧ a.testBit u = false)) → ∃ u, u < 8 ∧ (fun _ => true) u = true ∧ ((bt (σ1 3 c) u = true ∧ a.testBit u = true) ∨ (bt (σ1 4 c) u = true ∧ a.testBit u = false)) := by
      intro u hu hne h
      refine ⟨u, hu, rfl, ?_⟩
      rw [b3 u hu, b4 u hu, decide_eq_false hne]
      simpa using h
    constructor
    · rintro ⟨u, hu, -, h⟩
      have hne : u ≠ v := by
        intro e
        rw [b3 u hu, b4 u hu, decide_eq_true e] at h
        simp at h
      rw [b3 u hu, b4 u hu, decide_eq_false hne] at h
      have h' : (bt (σ 3 c) u = true ∧ a.testBit u = true) ∨ (bt (σ 4 c) u = true ∧ a.testBit u = false) := by simpa using h
      refine ⟨⟨u, hu, rfl, h'⟩, ⟨u, hu, rfl, ?_⟩⟩
      rw [fl u hne]
      exact h'
    · rintro ⟨⟨u, hu, -, h⟩, ⟨w, hw, -, h'⟩⟩
      by_cases e : u = v
      · by_cases e' : w = v
        · exfalso
          rw [e] at h
          rw [e', flv] at h'
          unfold tautV at ht
          cases p : bt (σ 3 c) v <;> cases q : bt (σ 4 c) v <;> cases r : a.testBit v <;> simp [p, q, r] at ht h h'
        · rw [fl w e'] at h'
          exact back w hw e' h'
      · exact back u hu e h
  · have t := Bool.and_eq_true_iff.mp ht
    have tr : ∀ n : Nat, satc σ (fun _ => true) c (fun u => n.testBit u) = true := fun n => satc_iff.mpr ⟨v, hv, rfl, by
      cases h : n.testBit v
      · exact Or.inr ⟨t.2, rfl⟩
      · exact Or.inl ⟨t.1, rfl⟩⟩
    have e3 : σ1 3 c = σ 3 c := by rw [h3]; unfold woF; rw [ht]; rfl
    have e4 : σ1 4 c = σ 4 c := by rw [h4]; unfold woF; rw [ht]; rfl
    have : satc σ1 (fun _ => true) c (fun u => a.testBit u) = satc σ (fun _ => true) c (fun u => a.testBit u) := by
      unfold satc
      rw [e3, e4]
    rw [this, tr, tr]
    rfl
theorem MT_wo {σ σ1 : St} {N v a : Nat} (hv : v < 8) (h3 : ∀ c, c < N → σ1 3 c = woF σ 3 v c) (h4 : ∀ c, c < N → σ1 4 c = woF σ 4 v c) : MT σ1 N a = (MT σ N a && MT σ N (a ^^^ 2 ^ v)) := by
  unfold MT
  rw [Bool.eq_iff_iff, Bool.and_eq_true_iff, satA_iff, satA_iff, satA_iff]
  constructor
  · intro h
    refine ⟨fun c hc hC => ?_, fun c hc hC => ?_⟩
    · have := h c hc rfl
      rw [satc_wo hv (h3 c hc) (h4 c hc)] at this
      exact (Bool.and_eq_true_iff.mp this).1
    · have := h c hc rfl
      rw [satc_wo hv (h3 c hc) (h4 c hc)] at this
      exact (Bool.and_eq_true_iff.mp this).2
  · rintro ⟨h1, h2⟩ c hc hC
    rw [satc_wo hv (h3 c hc) (h4 c hc), h1 c hc rfl, h2 c hc rfl]
    rfl
/-- from g below i to f above -/
def glue (g f : Nat → Int32) (i : Nat) : Nat → Int32 := fun c => if c < i then g c else f c
theorem glue_0 (g f : Nat → Int32) : glue g f 0 = f := by
  funext c
  exact if_neg (by omega)
theorem glue_step (g f : Nat → Int32) (i : Nat) {x : Int32} (hx : x = g i) : upd (glue g f i) i x = glue g f (i + 1) := by
  funext c
  by_cases e : c = i
  · subst e
    rw [pk_us, hx]
    exact (if_pos (by omega)).symm
  · rw [pk_un e]
    unfold glue
    by_cases h : c < i
    · rw [if_pos h, if_pos (by omega)]
    · rw [if_neg h, if_neg (by omega)]
theorem glue_skip (g f : Nat → Int32) (i : Nat) (hx : g i = f i) : glue g f i = glue g f (i + 1) := by
  funext c
  unfold glue
  by_cases h : c < i
  · rw [if_pos h, if_pos (by omega)]
  · rw [if_neg h]
    by_cases e : c = i
    · rw [if_pos (by omega), e, hx]
    · rw [if_neg (by omega)]
theorem glue_at (g f : Nat → Int32) (i : Nat) : glue g f i i = f i := if_neg (by omega)
theorem glue_self (f : Nat → Int32) {g : Nat → Int32} (i : Nat) : glue f (glue g f i) i = f := by
  funext c
  unfold glue
  by_cases h : c < i
  · rw [if_pos h]
  · rw [if_neg h, if_neg h]
theorem wo_back {σ : St} {v c k : Nat} {had : Int32} (hv : v < 8) (hc : c < 14) (hb : bt had c = bt (σ k c) v) : woF σ k v c ||| (had >>> (nI c &&& 31) &&& nI 1) <<< (nI v &&& 31) = σ k c := by
  apply b_ext
  intro i hi
  rw [b_or, shr_bit had (by omega), bt_bsh _ (by omega) hi, hb]
  cases ht : tautV σ v c
  · rw [woF_bit (by omega) hi ht]
    by_cases e : i = v
    · rw [e]; simp
    · rw [decide_eq_false e]; simp
  · have : woF σ k v c = σ k c := by unfold woF; rw [ht]; rfl
    rw [this]
    by_cases e : i = v
    · rw [e]; simp
    · rw [decide_eq_false e]; simp
abbrev P_without (σ : St) (N v : Nat) : Int32 → St → Prop := fun r σ' => QI σ' N ∧ Kp σ σ' ∧ r = nI (fb_ct (fun a => MT σ N a && MT σ N (a ^^^ 2 ^ v)) 256)
theorem m_countWithout (σ : St) (N v : Nat) (hq : QI σ N) (hv : v < 8) : CN shX0 yX0_countWithout cX0_countWithout 7 6 (some .int) [nI v] σ (P_without σ N v) := by
  have hN := hq.1
  have hc := hq.2.1
  refine CN.ofV (own := RX0) (by decide) rfl (Nat.le_of_ble_eq_true rfl) ?_
  show V shX0 RX0 cX0_countWithout 7 6 (some .int) _ 0 [some (.inr 0), some (.inl (nI v)), none, none, none, none, none] [] _
  refine r_iconst (pc := 0) (v := nI 1) dX0_countWithout_0 (by decide) ?_
  refine r_iload_n (pc := 1) (i := 1) dX0_countWithout_1 rfl rfl ?_
  refine r_ishl (pc := 2) dX0_countWithout_2 ?_
  refine r_istore_n (pc := 3) (i := 2) (L' := [_, _, _, _, _, _, _]) dX0_countWithout_3 rfl (by decide) rfl ?_
  refine r_iconst (pc := 4) (v := nI 0) dX0_countWithout_4 (by decide) ?_
  refine r_istore_n (pc := 5) (i := 3) (L' := [_, _, _, _, _, _, _]) dX0_countWithout_5 rfl (by decide) rfl ?_
  refine r_iconst (pc := 6) (v := nI 0) dX0_countWithout_6 (by decide) ?_
  refine r_istore (pc := 7) (L' := [_, _, _, _, _, _, _]) dX0_countWithout_7 (by decide) rfl ?_
  refine r_iconst (pc := 9) (v := nI 0) dX0_countWithout_9 (by decide) ?_
  refine r_istore (pc := 10) (L' := [_, _, _, _, _, _, _]) dX0_countWithout_10 (by decide) rfl ?_
  suffices l1 : ∀ k i hp hn, i + k = N → (∀ b, b < 32 → bt hp b = (decide (b < i) && bt (σ 3 b) v)) → (∀ b, b < 32 → bt hn b = (decide (b < i) && bt (σ 4 b) v)) → V shX0 RX0 cX0_countWithout 7 6 (some .int) (P_without σ N v) 12 [some (.inr 0), some (.inl (nI v)), some (.inl (nI 1 <<< (nI v &&& 31))), some (.inl (hp)), some (.inl (hn)), some (.inl (nI i)), none] [] σ from l1 N 0 (nI 0) (nI 0) (by omega) (fun b _ => by rw [show bt (nI 0) b = false from b_0 b]; simp) (fun b _ => by rw [show bt (nI 0) b = false from b_0 b]; simp)
  intro k
  induction k with
  | succ k ih =>
    intro i hp hn hi h1 h2
    refine r_iload (pc := 12) dX0_countWithout_12 rfl ?_
    refine r_aload_n (pc := 14) (i := 0) dX0_countWithout_14 rfl rfl ?_
    refine r_getI (pc := 15) ckX0 2 (by decide) rfl q38 dX0_countWithout_15 ?_
    refine r_icmp_ge (pc := 18) (tgt := 63) dX0_countWithout_18 (by decide) (fun z => absurd z (by rw [hc]; exact nI_ge (by omega) (by omega))) (fun _ => ?_)
    refine r_iload_n (pc := 21) (i := 3) dX0_countWithout_21 rfl rfl ?_
    refine r_aload_n (pc := 22) (i := 0) dX0_countWithout_22 rfl rfl ?_
    refine r_getA (pc := 23) ckX0 3 (by decide) rfl q39 dX0_countWithout_23 ?_
    refine r_iload (pc := 26) dX0_countWithout_26 rfl ?_
    refine r_iald (pc := 28) ckX0 rfl dX0_countWithout_28 (rfl) (by omega) ?_
    refine r_iload_n (pc := 29) (i := 1) dX0_countWithout_29 rfl rfl ?_
    refine r_ishr (pc := 30) dX0_countWithout_30 ?_
    refine r_iconst (pc := 31) (v := nI 1) dX0_countWithout_31 (by decide) ?_
    refine r_iand (pc := 32) dX0_countWithout_32 ?_
    refine r_top _ (shr_bit (σ 3 i) (by omega)) ?_
    refine r_iload (pc := 33) dX0_countWithout_33 rfl ?_
    refine r_ishl (pc := 35) dX0_countWithout_35 ?_
    refine r_ior (pc := 36) dX0_countWithout_36 ?_
    refine r_istore_n (pc := 37) (i := 3) (L' := [_, _, _, _, _, _, _]) dX0_countWithout_37 rfl (by decide) rfl ?_
    refine r_iload (pc := 38) dX0_countWithout_38 rfl ?_
    refine r_aload_n (pc := 40) (i := 0) dX0_countWithout_40 rfl rfl ?_
    refine r_getA (pc := 41) ckX0 4 (by decide) rfl q40 dX0_countWithout_41 ?_
    refine r_iload (pc := 44) dX0_countWithout_44 rfl ?_
    refine r_iald (pc := 46) ckX0 rfl dX0_countWithout_46 (rfl) (by omega) ?_
    refine r_iload_n (pc := 47) (i := 1) dX0_countWithout_47 rfl rfl ?_
    refine r_ishr (pc := 48) dX0_countWithout_48 ?_
    refine r_iconst (pc := 49) (v := nI 1) dX0_countWithout_49 (by decide) ?_
    refine r_iand (pc := 50) dX0_countWithout_50 ?_
    refine r_top _ (shr_bit (σ 4 i) (by omega)) ?_
    refine r_iload (pc := 51) dX0_countWithout_51 rfl ?_
    refine r_ishl (pc := 53) dX0_countWithout_53 ?_
    refine r_ior (pc := 54) dX0_countWithout_54 ?_
    refine r_istore (pc := 55) (L' := [_, _, _, _, _, _, _]) dX0_countWithout_55 (by decide) rfl ?_
    refine r_iinc (pc := 57) (v := _) (L' := [_, _, _, _, _, _, _]) dX0_countWithout_57 rfl (inc1 _) (by decide) rfl ?_
    refine r_goto (pc := 60) (tgt := 12) dX0_countWithout_60 (by decide) ?_
    have ext : ∀ (h : Int32) (k : Nat), (∀ b, b < 32 → bt h b = (decide (b < i) && bt (σ k b) v)) → ∀ b, b < 32 → bt (h ||| nI (bt (σ k i) v).toNat <<< (nI i &&& 31)) b = (decide (b < i + 1) && bt (σ k b) v) := by
      intro h k hh b hb
      rw [b_or, hh b hb, bt_bsh _ (by omega) hb]
      by_cases e : b = i
      · rw [e, decide_eq_false (show ¬ i < i by omega), decide_eq_true (show i < i + 1 by omega)]
        simp
      · rw [decide_eq_false e, show decide (b < i + 1) = decide (b < i) from decide_eq_decide.mpr (by omega)]
        simp
    exact ih (i + 1) _ _ (by omega) (ext hp 3 h1) (ext hn 4 h2)
  | zero =>
    intro i hp hn hi h1 h2
    have eN : i = N := by omega
    subst eN
    refine r_iload (pc := 12) dX0_countWithout_12 rfl ?_
    refine r_aload_n (pc := 14) (i := 0) dX0_countWithout_14 rfl rfl ?_
    refine r_getI (pc := 15) ckX0 2 (by decide) rfl q38 dX0_countWithout_15 ?_
    refine r_icmp_ge (pc := 18) (tgt := 63) dX0_countWithout_18 (by decide) (fun _ => ?_) (fun z => absurd (by rw [hc]; exact nI_le (by omega) (by omega)) z)
    refine r_iconst (pc := 63) (v := nI 0) dX0_countWithout_63 (by decide) ?_
    refine r_istore (pc := 64) (L' := [_, _, _, _, _, _, _]) dX0_countWithout_64 (by decide) rfl ?_
    have htaut : ∀ c, c < i → ((hp &&& hn) >>> (nI c &&& 31) <<< (nI 31 &&& 31) = 0 ↔ tautV σ v c = false) := by
      intro c hc'
      rw [shr_shl31 _ (by omega), b_and, h1 c (by omega), h2 c (by omega), decide_eq_true hc']
      unfold tautV
      simp
    suffices l2 : ∀ k j (w : Option AV) σ1, j + k = i → σ1 3 = glue (woF σ 3 v) (σ 3) j → σ1 4 = glue (woF σ 4 v) (σ 4) j → (∀ k, k ≠ 3 → k ≠ 4 → σ1 k = σ k) → V shX0 RX0 cX0_countWithout 7 6 (some .int) (P_without σ i v) 66 [some (.inr 0), some (.inl (nI v)), some (.inl (nI 1 <<< (nI v &&& 31))), some (.inl (hp)), some (.inl (hn)), some (.inl (nI j)), w] [] σ1 from l2 i 0 none σ (by omega) (glue_0 _ _).symm (glue_0 _ _).symm (fun _ _ _ => rfl)
    intro k
    induction k with
    | succ k ih =>
      intro j w σ1 hj e3 e4 hk
      have hc1 : σ1 2 0 = nI i := by rw [hk 2 (by omega) (by omega)]; exact hc
      refine r_iload (pc := 66) dX0_countWithout_66 rfl ?_
      refine r_aload_n (pc := 68) (i := 0) dX0_countWithout_68 rfl rfl ?_
      refine r_getI (pc := 69) ckX0 2 (by decide) rfl q38 dX0_countWithout_69 ?_
      refine r_icmp_ge (pc := 72) (tgt := 142) dX0_countWithout_72 (by decide) (fun z => absurd z (by rw [hc1]; exact nI_ge (by omega) (by omega))) (fun _ => ?_)
      refine r_iload_n (pc := 75) (i := 3) dX0_countWithout_75 rfl rfl ?_
      refine r_iload (pc := 76) dX0_countWithout_76 rfl ?_
      refine r_iand (pc := 78) dX0_countWithout_78 ?_
      refine r_iload (pc := 79) dX0_countWithout_79 rfl ?_
      refine r_ishr (pc := 81) dX0_countWithout_81 ?_
      refine r_bipush (pc := 82) (v := nI 31) dX0_countWithout_82 (by decide) ?_
      refine r_ishl (pc := 84) dX0_countWithout_84 ?_
      cases ht : tautV σ v j
      · refine r_if_eq (pc := 85) (tgt := 92) dX0_countWithout_85 (by decide) (fun _ => ?_) (fun z => absurd ((htaut j (by omega)).mpr ht) z)
        refine r_iconst (pc := 92) (v := nI 0) dX0_countWithout_92 (by decide) ?_
        refine r_istore (pc := 93) (L' := [_, _, _, _, _, _, _]) dX0_countWithout_93 (by decide) rfl ?_
        refine r_iload (pc := 95) dX0_countWithout_95 rfl ?_
        refine r_if_ne (pc := 97) (tgt := 136) dX0_countWithout_97 (by decide) (fun z => absurd (rfl) z) (fun _ => ?_)
        refine r_aload_n (pc := 100) (i := 0) dX0_countWithout_100 rfl rfl ?_
        refine r_getA (pc := 101) ckX0 3 (by decide) rfl q39 dX0_countWithout_101 ?_
        refine r_iload (pc := 104) dX0_countWithout_104 rfl ?_
        refine r_aload_n (pc := 106) (i := 0) dX0_countWithout_106 rfl rfl ?_
        refine r_getA (pc := 107) ckX0 3 (by decide) rfl q39 dX0_countWithout_107 ?_
        refine r_iload (pc := 110) dX0_countWithout_110 rfl ?_
        refine r_iald (pc := 112) ckX0 rfl dX0_countWithout_112 (rfl) (by omega) ?_
        refine r_iload_n (pc := 113) (i := 2) dX0_countWithout_113 rfl rfl ?_
        refine r_iconst (pc := 114) (v := (-1)) dX0_countWithout_114 (by decide) ?_
        refine r_ixor (pc := 115) dX0_countWithout_115 ?_
        refine r_iand (pc := 116) dX0_countWithout_116 ?_
        refine r_iast (pc := 117) ckX0 rfl dX0_countWithout_117 (rfl) (by omega) ?_
        refine r_aload_n (pc := 118) (i := 0) dX0_countWithout_118 rfl rfl ?_
        refine r_getA (pc := 119) ckX0 4 (by decide) rfl q40 dX0_countWithout_119 ?_
        refine r_iload (pc := 122) dX0_countWithout_122 rfl ?_
        refine r_aload_n (pc := 124) (i := 0) dX0_countWithout_124 rfl rfl ?_
        refine r_getA (pc := 125) ckX0 4 (by decide) rfl q40 dX0_countWithout_125 ?_
        refine r_iload (pc := 128) dX0_countWithout_128 rfl ?_
        refine r_iald (pc := 130) ckX0 rfl dX0_countWithout_130 (rfl) (by omega) ?_
        refine r_iload_n (pc := 131) (i := 2) dX0_countWithout_131 rfl rfl ?_
        refine r_iconst (pc := 132) (v := (-1)) dX0_countWithout_132 (by decide) ?_
        refine r_ixor (pc := 133) dX0_countWithout_133 ?_
        refine r_iand (pc := 134) dX0_countWithout_134 ?_
        refine r_iast (pc := 135) ckX0 rfl dX0_countWithout_135 (rfl) (by omega) ?_
        refine r_iinc (pc := 136) (v := _) (L' := [_, _, _, _, _, _, _]) dX0_countWithout_136 rfl (inc1 _) (by decide) rfl ?_
        refine r_goto (pc := 139) (tgt := 66) dX0_countWithout_139 (by decide) ?_
        refine ih (j + 1) _ _ (by omega) ?_ ?_ (fun k h h' => (su_ne _ _ _ h').trans ((su_ne _ _ _ h).trans (hk k h h')))
        · show upd (σ1 3) j _ = _
          rw [e3]
          exact glue_step _ _ _ (by rw [glue_at]; unfold woF; rw [ht]; rfl)
        · show upd (σ1 4) j (σ1 4 j &&& _) = _
          rw [e4]
          exact glue_step _ _ _ (by rw [glue_at]; unfold woF; rw [ht]; rfl)
      · refine r_if_eq (pc := 85) (tgt := 92) dX0_countWithout_85 (by decide) (fun z => absurd z (fun z => by rw [(htaut j (by omega)).mp z] at ht; cases ht)) (fun _ => ?_)
        refine r_iconst (pc := 88) (v := nI 1) dX0_countWithout_88 (by decide) ?_
        refine r_goto (pc := 89) (tgt := 93) dX0_countWithout_89 (by decide) ?_
        refine r_istore (pc := 93) (L' := [_, _, _, _, _, _, _]) dX0_countWithout_93 (by decide) rfl ?_
        refine r_iload (pc := 95) dX0_countWithout_95 rfl ?_
        refine r_if_ne (pc := 97) (tgt := 136) dX0_countWithout_97 (by decide) (fun _ => ?_) (fun z => absurd z (by decide))
        refine r_iinc (pc := 136) (v := _) (L' := [_, _, _, _, _, _, _]) dX0_countWithout_136 rfl (inc1 _) (by decide) rfl ?_
        refine r_goto (pc := 139) (tgt := 66) dX0_countWithout_139 (by decide) ?_
        refine ih (j + 1) _ _ (by omega) ?_ ?_ hk
        · rw [e3]
          exact glue_skip _ _ _ (by unfold woF; rw [ht]; rfl)
        · rw [e4]
          exact glue_skip _ _ _ (by unfold woF; rw [ht]; rfl)
    | zero =>
      intro j w σ1 hj e3 e4 hk
      have eN : j = i := by omega
      subst eN
      have hc1 : σ1 2 0 = nI j := by rw [hk 2 (by omega) (by omega)]; exact hc
      refine r_iload (pc := 66) dX0_countWithout_66 rfl ?_
      refine r_aload_n (pc := 68) (i := 0) dX0_countWithout_68 rfl rfl ?_
      refine r_getI (pc := 69) ckX0 2 (by decide) rfl q38 dX0_countWithout_69 ?_
      refine r_icmp_ge (pc := 72) (tgt := 142) dX0_countWithout_72 (by decide) (fun _ => ?_) (fun z => absurd (by rw [hc1]; exact nI_le (by omega) (by omega)) z)
      refine r_aload_n (pc := 142) (i := 0) dX0_countWithout_142 rfl rfl ?_
      refine r_iconst (pc := 143) (v := nI 0) dX0_countWithout_143 (by decide) ?_
      refine r_put (pc := 144) (ty := .boolean) ckX0 7 (by decide) rfl rfl (by decide +kernel) rfl rfl q43 dX0_countWithout_144 ?_
      refine r_aload_n (pc := 147) (i := 0) dX0_countWithout_147 rfl rfl ?_
      refine r_iconst (pc := 148) (v := nI 0) dX0_countWithout_148 (by decide) ?_
      refine r_iconst (pc := 149) (v := nI 0) dX0_countWithout_149 (by decide) ?_
      refine r_callI (pc := 150) ckX0 (m_countAllowed (su σ1 7 0 (nI 0)) j ⟨hN, hc1, Or.inl (su_eq _ _ _ _)⟩ (nI 0) (nI 0)) mf_X0_countAllowed q129 (by decide) (by decide) dX0_countWithout_150 rfl (Nat.le_of_ble_eq_true rfl) (fun r σ2 hr => ?_)
      obtain ⟨hq2, hk2, rfl⟩ := hr
      have hcnt : CW (su σ1 7 0 (nI 0)) j (nI 0) (nI 0) = fb_ct (fun a => MT σ j a && MT σ j (a ^^^ 2 ^ v)) 256 := by
        rw [CW_0]
        refine fb_ct_cong (fun a _ => ?_)
        refine MT_wo hv (fun c hc' => ?_) (fun c hc' => ?_)
        · show σ1 3 c = _
          rw [e3]
          exact if_pos hc'
        · show σ1 4 c = _
          rw [e4]
          exact if_pos hc'
      rw [hcnt]
      have f3 : σ2 3 = glue (woF σ 3 v) (σ 3) j := (hk2 3 (by omega)).trans e3
      have f4 : σ2 4 = glue (woF σ 4 v) (σ 4) j := (hk2 4 (by omega)).trans e4
      have fk : ∀ k, k < 7 → k ≠ 3 → k ≠ 4 → σ2 k = σ k := fun k h h' h'' => (hk2 k h).trans ((su_ne _ _ _ (by omega)).trans (hk k h' h''))
      refine r_istore (pc := 153) (L' := [_, _, _, _, _, _, _]) dX0_countWithout_153 (by decide) rfl ?_
      refine r_iconst (pc := 155) (v := nI 0) dX0_countWithout_155 (by decide) ?_
      refine r_istore (pc := 156) (L' := [_, _, _, _, _, _, _]) dX0_countWithout_156 (by decide) rfl ?_
      suffices l3 : ∀ k i σ3, i + k = j → σ3 3 = glue (σ 3) (glue (woF σ 3 v) (σ 3) j) i → σ3 4 = glue (σ 4) (glue (woF σ 4 v) (σ 4) j) i → (∀ k, k < 7 → k ≠ 3 → k ≠ 4 → σ3 k = σ k) → V shX0 RX0 cX0_countWithout 7 6 (some .int) (P_without σ j v) 158 [some (.inr 0), some (.inl (nI v)), some (.inl (nI 1 <<< (nI v &&& 31))), some (.inl (hp)), some (.inl (hn)), some (.inl (nI (fb_ct (fun a => MT σ j a && MT σ j (a ^^^ 2 ^ v)) 256))), some (.inl (nI i))] [] σ3 from l3 j 0 σ2 (by omega) (by rw [glue_0]; exact f3) (by rw [glue_0]; exact f4) fk
      intro k
      induction k with
      | zero =>
        intro i σ3 hi g3 g4 gk
        have eN : i = j := by omega
        subst eN
        have hc3 : σ3 2 0 = nI i := by rw [gk 2 (by omega) (by omega) (by omega)]; exact hc
        refine r_iload (pc := 158) dX0_countWithout_158 rfl ?_
        refine r_aload_n (pc := 160) (i := 0) dX0_countWithout_160 rfl rfl ?_
        refine r_getI (pc := 161) ckX0 2 (by decide) rfl q38 dX0_countWithout_161 ?_
        refine r_icmp_ge (pc := 164) (tgt := 220) dX0_countWithout_164 (by decide) (fun _ => ?_) (fun z => absurd (by rw [hc3]; exact nI_le (by omega) (by omega)) z)
        refine r_aload_n (pc := 220) (i := 0) dX0_countWithout_220 rfl rfl ?_
        refine r_iconst (pc := 221) (v := nI 0) dX0_countWithout_221 (by decide) ?_
        refine r_put (pc := 222) (ty := .boolean) ckX0 7 (by decide) rfl rfl (by decide +kernel) rfl rfl q43 dX0_countWithout_222 ?_
        refine r_iload (pc := 225) dX0_countWithout_225 rfl ?_
        refine r_iret (pc := 227) dX0_countWithout_227 ?_
        refine ⟨⟨hN, hc3, Or.inl (su_eq _ _ _ _)⟩, fun k hk7 => (su_ne _ _ _ (by omega)).trans ?_, rfl⟩
        by_cases k3 : k = 3
        · rw [k3, g3, glue_self]
        · by_cases k4 : k = 4
          · rw [k4, g4, glue_self]
          · exact gk k hk7 k3 k4
      | succ k ih =>
        intro i σ3 hi g3 g4 gk
        have hc3 : σ3 2 0 = nI j := by rw [gk 2 (by omega) (by omega) (by omega)]; exact hc
        refine r_iload (pc := 158) dX0_countWithout_158 rfl ?_
        refine r_aload_n (pc := 160) (i := 0) dX0_countWithout_160 rfl rfl ?_
        refine r_getI (pc := 161) ckX0 2 (by decide) rfl q38 dX0_countWithout_161 ?_
        refine r_icmp_ge (pc := 164) (tgt := 220) dX0_countWithout_164 (by decide) (fun z => absurd z (by rw [hc3]; exact nI_ge (by omega) (by omega))) (fun _ => ?_)
        refine r_aload_n (pc := 167) (i := 0) dX0_countWithout_167 rfl rfl ?_
        refine r_getA (pc := 168) ckX0 3 (by decide) rfl q39 dX0_countWithout_168 ?_
        refine r_iload (pc := 171) dX0_countWithout_171 rfl ?_
        refine r_aload_n (pc := 173) (i := 0) dX0_countWithout_173 rfl rfl ?_
        refine r_getA (pc := 174) ckX0 3 (by decide) rfl q39 dX0_countWithout_174 ?_
        refine r_iload (pc := 177) dX0_countWithout_177 rfl ?_
        refine r_iald (pc := 179) ckX0 rfl dX0_countWithout_179 (rfl) (by omega) ?_
        refine r_iload_n (pc := 180) (i := 3) dX0_countWithout_180 rfl rfl ?_
        refine r_iload (pc := 181) dX0_countWithout_181 rfl ?_
        refine r_ishr (pc := 183) dX0_countWithout_183 ?_
        refine r_iconst (pc := 184) (v := nI 1) dX0_countWithout_184 (by decide) ?_
        refine r_iand (pc := 185) dX0_countWithout_185 ?_
        refine r_iload_n (pc := 186) (i := 1) dX0_countWithout_186 rfl rfl ?_
        refine r_ishl (pc := 187) dX0_countWithout_187 ?_
        refine r_ior (pc := 188) dX0_countWithout_188 ?_
        refine r_iast (pc := 189) ckX0 rfl dX0_countWithout_189 (rfl) (by omega) ?_
        refine r_aload_n (pc := 190) (i := 0) dX0_countWithout_190 rfl rfl ?_
        refine r_getA (pc := 191) ckX0 4 (by decide) rfl q40 dX0_countWithout_191 ?_
        refine r_iload (pc := 194) dX0_countWithout_194 rfl ?_
        refine r_aload_n (pc := 196) (i := 0) dX0_countWithout_196 rfl rfl ?_
        refine r_getA (pc := 197) ckX0 4 (by decide) rfl q40 dX0_countWithout_197 ?_
        refine r_iload (pc := 200) dX0_countWithout_200 rfl ?_
        refine r_iald (pc := 202) ckX0 rfl dX0_countWithout_202 (rfl) (by omega) ?_
        refine r_iload (pc := 203) dX0_countWithout_203 rfl ?_
        refine r_iload (pc := 205) dX0_countWithout_205 rfl ?_
        refine r_ishr (pc := 207) dX0_countWithout_207 ?_
        refine r_iconst (pc := 208) (v := nI 1) dX0_countWithout_208 (by decide) ?_
        refine r_iand (pc := 209) dX0_countWithout_209 ?_
        refine r_iload_n (pc := 210) (i := 1) dX0_countWithout_210 rfl rfl ?_
        refine r_ishl (pc := 211) dX0_countWithout_211 ?_
        refine r_ior (pc := 212) dX0_countWithout_212 ?_
        refine r_iast (pc := 213) ckX0 rfl dX0_countWithout_213 (rfl) (by omega) ?_
        refine r_iinc (pc := 214) (v := _) (L' := [_, _, _, _, _, _, _]) dX0_countWithout_214 rfl (inc1 _) (by decide) rfl ?_
        refine r_goto (pc := 217) (tgt := 158) dX0_countWithout_217 (by decide) ?_
        have i3 : σ3 3 i = woF σ 3 v i := by rw [g3, glue_at]; exact if_pos (by omega)
        have i4 : σ3 4 i = woF σ 4 v i := by rw [g4, glue_at]; exact if_pos (by omega)
        refine ih (i + 1) _ (by omega) ?_ ?_ (fun k h h' h'' => (su_ne _ _ _ h'').trans ((su_ne _ _ _ h').trans (gk k h h' h'')))
        · show upd (σ3 3) i _ = _
          rw [i3, wo_back hv (by omega) (by rw [h1 i (by omega), decide_eq_true (by omega), Bool.true_and]), g3]
          exact glue_step _ _ _ rfl
        · show upd (σ3 4) i (σ3 4 i ||| _) = _
          rw [i4, wo_back hv (by omega) (by rw [h2 i (by omega), decide_eq_true (by omega), Bool.true_and]), g4]
          exact glue_step _ _ _ rfl
/-- every model stays one when v is changed -/
abbrev idM (m : Nat → Bool) (v : Nat) : Prop := ∀ a, a < 256 → m a = true → m (a ^^^ 2 ^ v) = true
theorem idM_ct {m : Nat → Bool} {v : Nat} : fb_ct (fun a => m a && m (a ^^^ 2 ^ v)) 256 = fb_ct m 256 ↔ idM m v := by
  constructor
  · intro h a ha hm
    cases hf : m (a ^^^ 2 ^ v)
    · have := ct_strict (p := fun a => m a && m (a ^^^ 2 ^ v)) (q := m) (n := 256) (fun k _ hk => (Bool.and_eq_true_iff.mp hk).1) ⟨a, ha, hm, by simp [hf]⟩
      omega
    · rfl
  · intro h
    refine fb_ct_cong (fun a ha => ?_)
    cases hm : m a
    · rfl
    · rw [h a ha hm]; rfl
abbrev P_idle (σ : St) (N : Nat) : Int32 → St → Prop := fun r σ' => QI σ' N ∧ Kp σ σ' ∧ ∀ v, v < 32 → (bt r v = true ↔ v < 8 ∧ idM (MT σ N) v)
theorem idM_kp {σ σ' : St} (h : Kp σ σ') (N v : Nat) : idM (MT σ' N) v ↔ idM (MT σ N) v := by
  rw [show MT σ' N = MT σ N from funext (fun a => MT_kp h N a)]
theorem m_idle (σ : St) (N : Nat) (hq : QI σ N) : CN shX0 yX0_idle cX0_idle 5 7 (some .int) [] σ (P_idle σ N) := by
  have hcl := cnt_le σ N
  refine CN.ofV (own := RX0) (by decide) rfl (Nat.le_of_ble_eq_true rfl) ?_
  show V shX0 RX0 cX0_idle 5 7 (some .int) _ 0 [some (.inr 0), none, none, none, none] [] _
  refine r_aload_n (pc := 0) (i := 0) dX0_idle_0 rfl rfl ?_
  refine r_callI (pc := 1) ckX0 (m_count σ N hq) mf_X0_count q222 (by decide) (by decide) dX0_idle_1 rfl (Nat.le_of_ble_eq_true rfl) (fun r σ0 hr => ?_)
  obtain ⟨hq0, hk0, rfl⟩ := hr
  refine r_istore_n (pc := 4) (i := 1) (L' := [_, _, _, _, _]) dX0_idle_4 rfl (by decide) rfl ?_
  refine r_iconst (pc := 5) (v := nI 0) dX0_idle_5 (by decide) ?_
  refine r_istore_n (pc := 6) (i := 2) (L' := [_, _, _, _, _]) dX0_idle_6 rfl (by decide) rfl ?_
  refine r_iconst (pc := 7) (v := nI 0) dX0_idle_7 (by decide) ?_
  refine r_istore_n (pc := 8) (i := 3) (L' := [_, _, _, _, _]) dX0_idle_8 rfl (by decide) rfl ?_
  suffices h : ∀ k i set (bl : Option AV) σ1, i + k = 8 → (∀ v, v < 32 → (bt set v = true ↔ v < i ∧ idM (MT σ N) v)) → QI σ1 N → Kp σ σ1 → V shX0 RX0 cX0_idle 5 7 (some .int) (P_idle σ N) 9 [some (.inr 0), some (.inl (nI (cnt σ N))), some (.inl (set)), some (.inl (nI i)), bl] [] σ1 from h 8 0 (nI 0) none σ0 (by omega) (fun v _ => by rw [show bt (nI 0) v = false from b_0 v]; exact ⟨(fun z => by cases z), fun z => absurd z.1 (by omega)⟩) hq0 hk0
  intro k
  induction k with
  | zero =>
    intro i set bl σ1 hi hs hq1 hk1
    refine r_iload_n (pc := 9) (i := 3) dX0_idle_9 rfl rfl ?_
    refine r_bipush (pc := 10) (v := nI 8) dX0_idle_10 (by decide) ?_
    refine r_icmp_ge (pc := 12) (tgt := 40) dX0_idle_12 (by decide) (fun _ => ?_) (fun z => absurd (nI_le (by omega) (by omega)) z)
    refine r_iload_n (pc := 40) (i := 2) dX0_idle_40 rfl rfl ?_
    refine r_iret (pc := 41) dX0_idle_41 ?_
    refine ⟨hq1, hk1, ?_⟩
    rw [show (8 : Nat) = i by omega]
    exact hs
  | succ k ih =>
    intro i set bl σ1 hi hs hq1 hk1
    refine r_iload_n (pc := 9) (i := 3) dX0_idle_9 rfl rfl ?_
    refine r_bipush (pc := 10) (v := nI 8) dX0_idle_10 (by decide) ?_
    refine r_icmp_ge (pc := 12) (tgt := 40) dX0_idle_12 (by decide) (fun z => absurd z (nI_ge (by omega) (by omega))) (fun _ => ?_)
    refine r_aload_n (pc := 15) (i := 0) dX0_idle_15 rfl rfl ?_
    refine r_iload_n (pc := 16) (i := 3) dX0_idle_16 rfl rfl ?_
    refine r_callI (pc := 17) ckX0 (m_countWithout σ1 N i hq1 (by omega)) mf_X0_countWithout q243 (by decide) (by decide) dX0_idle_17 rfl (Nat.le_of_ble_eq_true rfl) (fun r σ2 hr => ?_)
    obtain ⟨hq2, hk2, rfl⟩ := hr
    have hb := fb_ct_le (fun a => MT σ1 N a && MT σ1 N (a ^^^ 2 ^ i)) 256
    have hcc : cnt σ1 N = cnt σ N := fb_ct_cong (fun a _ => MT_kp hk1 N a)
    have hone := idM_ct (m := MT σ1 N) (v := i)
    rw [show fb_ct (MT σ1 N) 256 = cnt σ N from hcc, idM_kp hk1] at hone
    refine r_istore (pc := 20) (L' := [_, _, _, _, _]) dX0_idle_20 (by decide) rfl ?_
    refine r_iload (pc := 22) dX0_idle_22 rfl ?_
    refine r_iload_n (pc := 24) (i := 1) dX0_idle_24 rfl rfl ?_
    refine r_icmp_ne (pc := 25) (tgt := 34) dX0_idle_25 (by decide) (fun h3 => ?_) (fun h3 => ?_)
    · refine r_iinc (pc := 34) (v := _) (L' := [_, _, _, _, _]) dX0_idle_34 rfl (inc1 _) (by decide) rfl ?_
      refine r_goto (pc := 37) (tgt := 9) dX0_idle_37 (by decide) ?_
      exact ih (i + 1) set _ σ2 (by omega) (bits_skip hs (fun z => h3 (by rw [hone.mpr z]))) hq2 (hk1.tr hk2)
    · have hz := (nI_eq (by omega) (by omega)).mp h3
      refine r_iload_n (pc := 28) (i := 2) dX0_idle_28 rfl rfl ?_
      refine r_iconst (pc := 29) (v := nI 1) dX0_idle_29 (by decide) ?_
      refine r_iload_n (pc := 30) (i := 3) dX0_idle_30 rfl rfl ?_
      refine r_ishl (pc := 31) dX0_idle_31 ?_
      refine r_ior (pc := 32) dX0_idle_32 ?_
      refine r_istore_n (pc := 33) (i := 2) (L' := [_, _, _, _, _]) dX0_idle_33 rfl (by decide) rfl ?_
      refine r_iinc (pc := 34) (v := _) (L' := [_, _, _, _, _]) dX0_idle_34 rfl (inc1 _) (by decide) rfl ?_
      refine r_goto (pc := 37) (tgt := 9) dX0_idle_37 (by decide) ?_
      exact ih (i + 1) _ _ σ2 (by omega) (bits_next (by omega) hs (hone.mp hz)) hq2 (hk1.tr hk2)
end
section
/-! PURE: models by the number of their true variables -/
theorem sumI_zero {f : Nat → Int32} : ∀ {n : Nat}, (∀ k, k < n → f k = 0) → sumI f n = 0
  | 0, _ => rfl
  | n + 1, h => by
    rw [sumI_succ, sumI_zero (fun k hk => h k (by omega)), h n (by omega)]
    decide
theorem sumI_add (f g : Nat → Int32) : ∀ n, sumI (fun k => f k + g k) n = sumI f n + sumI g n
  | 0 => by show (0 : Int32) = 0 + 0; decide
  | n + 1 => by
    rw [sumI_succ, sumI_succ, sumI_succ, sumI_add f g n]
    grind
def plS (f g : Nat → Int32) : Nat → Int32 := fun j => f j + g j
def shS (f : Nat → Int32) : Nat → Int32
  | 0 => 0
  | j + 1 => f j
def oS : Nat → Int32 := fun j => if j = 0 then 1 else 0
def zS : Nat → Int32 := fun _ => 0
def cvS (f g : Nat → Int32) : Nat → Int32 := fun n => sumI (fun i => f i * g (n - i)) (n + 1)
def tTS (_ : Nat) (f : Nat → Int32) : Nat → Int32 := shS f
def tFS (_ : Nat) (f : Nat → Int32) : Nat → Int32 := f
theorem i_0add (x : Int32) : 0 + x = x := by grind
theorem i_add0 (x : Int32) : x + 0 = x := by grind
theorem i_0mul (x : Int32) : 0 * x = 0 := by grind
theorem i_mul0 (x : Int32) : x * 0 = 0 := by grind
theorem algS : Alg plS tTS tFS := by
  refine ⟨?_, ?_, ?_, ?_, ?_, ?_⟩
  · intro p q r s
    funext j
    unfold plS
    grind
  · intro k x y
    funext j
    cases j with
    | zero => show (0 : Int32) = 0 + 0; decide
    | succ j => rfl
  · intro k x y
    rfl
  · intro i j x
    rfl
  · intro i j x
    rfl
  · intro i j x
    rfl
theorem cv_shl (x y : Nat → Int32) : cvS (shS x) y = shS (cvS x y) := by
  funext n
  cases n with
  | zero =>
    show 0 + 0 * y (0 - 0) = (0 : Int32)
    rw [i_0mul, i_0add]
  | succ n =>
    show sumI (fun i => shS x i * y (n + 1 - i)) (n + 1 + 1) = sumI (fun i => x i * y (n - i)) (n + 1)
    rw [Nat.add_comm (n + 1) 1, sumI_split]
    have h0 : sumI (fun i => shS x i * y (n + 1 - i)) 1 = 0 := by
      show 0 + 0 * y (n + 1 - 0) = (0 : Int32)
      rw [i_0mul, i_0add]
    rw [h0, i_0add]
    refine sumI_cong (fun k hk => ?_)
    show shS x (1 + k) * y (n + 1 - (1 + k)) = x k * y (n - k)
    rw [Nat.add_comm 1 k, show n + 1 - (k + 1) = n - k by omega]
    rfl
theorem cv_shr (x y : Nat → Int32) : cvS x (shS y) = shS (cvS x y) := by
  funext n
  cases n with
  | zero =>
    show 0 + x 0 * 0 = (0 : Int32)
    rw [i_mul0, i_0add]
  | succ n =>
    show sumI (fun i => x i * shS y (n + 1 - i)) (n + 1 + 1) = sumI (fun i => x i * y (n - i)) (n + 1)
    rw [sumI_succ]
    show sumI (fun i => x i * shS y (n + 1 - i)) (n + 1) + x (n + 1) * shS y (n + 1 - (n + 1)) = _
    rw [Nat.sub_self]
    show _ + x (n + 1) * 0 = _
    rw [i_mul0, i_add0]
    refine sumI_cong (fun k hk => ?_)
    show x k * shS y (n + 1 - k) = x k * y (n - k)
    rw [show n + 1 - k = (n - k) + 1 by omega]
    rfl
theorem bilS : Bil plS tTS tFS cvS := by
  refine ⟨?_, ?_, ?_, ?_, ?_, ?_⟩
  · intro x x' y
    funext n
    show sumI _ _ = sumI _ _ + sumI _ _
    rw [← sumI_add]
    refine sumI_cong (fun k _ => ?_)
    unfold plS
    grind
  · intro x y y'
    funext n
    show sumI _ _ = sumI _ _ + sumI _ _
    rw [← sumI_add]
    refine sumI_cong (fun k _ => ?_)
    unfold plS
    grind
  · intro k x y
    exact cv_shl x y
  · intro k x y
    exact cv_shr x y
  · intro k x y
    rfl
  · intro k x y
    rfl
theorem cv_oo : cvS oS oS = oS := by
  funext n
  cases n with
  | zero => decide
  | succ n =>
    refine sumI_zero (fun k hk => ?_)
    show oS k * oS (n + 1 - k) = 0
    unfold oS
    by_cases e : k = 0
    · rw [if_neg (show ¬ n + 1 - k = 0 by omega), i_mul0]
    · rw [if_neg e, i_0mul]
theorem cv_z (x : Nat → Int32) : cvS x zS = zS := by
  funext n
  exact sumI_zero (fun k _ => i_mul0 _)
theorem cv_z' (x : Nat → Int32) : cvS zS x = zS := by
  funext n
  exact sumI_zero (fun k _ => i_0mul _)
/-- the numbers of models by size of a set of variables and a set of clauses -/
def NVS (σ : St) (N : Nat) (vs cs : Int32) : Nat → Int32 := NV plS tTS tFS oS zS σ N vs cs
theorem NVS_congr {σ σ' : St} {N : Nat} {vs cs : Int32} (h3 : σ' 3 = σ 3) (h4 : σ' 4 = σ 4) : NVS σ' N vs cs = NVS σ N vs cs := by
  unfold NVS NV satA satc
  rw [h3, h4]
def pwS : Nat → Nat → Int32
  | 0 => oS
  | i + 1 => plS (shS (pwS i)) (pwS i)
theorem SV_pwS (U : Nat → Bool) : ∀ (k : Nat) (a : Nat → Bool), SV plS tTS tFS U (fun _ => oS) k a = pwS (fb_ct U k)
  | 0, _ => rfl
  | k + 1, a => by
    rw [SV_succ, SV_pwS U k, SV_pwS U k, SV_pwS U k, fb_ct_succ]
    cases U k
    · rfl
    · rfl
theorem zS_pl : plS zS zS = zS := by
  funext j
  show (0 : Int32) + 0 = 0
  decide
theorem zS_sh (k : Nat) : tTS k zS = zS := by
  funext j
  cases j <;> rfl
def pcn (k n : Nat) : Nat := fb_ct (fun v => n.testBit v) k
theorem pcn_lo {k n : Nat} (h : n < 2 ^ k) : pcn (k + 1) n = pcn k n := by
  unfold pcn
  rw [fb_ct_succ, Nat.testBit_lt_two_pow h]
  rfl
theorem pcn_hi {k n : Nat} (h : n < 2 ^ k) : pcn (k + 1) (2 ^ k + n) = pcn k n + 1 := by
  unfold pcn
  rw [fb_ct_succ, Nat.testBit_two_pow_add_eq, Nat.testBit_lt_two_pow h]
  show _ + 1 = _ + 1
  congr 1
  exact fb_ct_cong (fun j hj => Nat.testBit_two_pow_add_gt hj n)
theorem SV_ctS {U : Nat → Bool} {p : (Nat → Bool) → Bool} : ∀ {k : Nat}, (∀ i, i < k → U i = true) → ∀ (a : Nat → Bool) (j : Nat), SV plS tTS tFS U (fun a => if p a then oS else zS) k a j = nI (fb_ct (fun n => p (mix k n a) && decide (pcn k n = j)) (2 ^ k))
  | 0, _, a, j => by
    show (if p a then oS else zS) j = nI (0 + if (p (mix 0 0 a) && decide (0 = j)) = true then 1 else 0)
    rw [mix_0]
    cases p a
    · rfl
    · by_cases e : j = 0
      · subst e
        rfl
      · rw [decide_eq_false (fun h => e h.symm)]
        show oS j = nI 0
        exact if_neg e
  | k + 1, h, a, j => by
    have ih := SV_ctS (U := U) (p := p) (k := k) (fun i hi => h i (by omega))
    rw [SV_succ, h k (by omega), if_pos rfl]
    show shS (SV plS tTS tFS U (fun a => if p a then oS else zS) k (sb a k true)) j + SV plS tTS tFS U (fun a => if p a then oS else zS) k (sb a k false) j = _
    rw [ih, Nat.pow_succ, Nat.mul_two, fb_ct_split]
    have e1 : fb_ct (fun n => p (mix (k + 1) n a) && decide (pcn (k + 1) n = j)) (2 ^ k) = fb_ct (fun n => p (mix k n (sb a k false)) && decide (pcn k n = j)) (2 ^ k) := fb_ct_cong (fun n hn => by rw [mix_lo hn, pcn_lo hn])
    have e2 : fb_ct (fun n => p (mix (k + 1) (2 ^ k + n) a) && decide (pcn (k + 1) (2 ^ k + n) = j)) (2 ^ k) = fb_ct (fun n => p (mix k n (sb a k true)) && decide (pcn k n + 1 = j)) (2 ^ k) := fb_ct_cong (fun n hn => by rw [mix_hi hn, pcn_hi hn])
    rw [e1, e2, ← nI_add, Int32.add_comm]
    congr 1
    cases j with
    | zero =>
      rw [fb_ct_zero.mpr (fun n _ => by rw [decide_eq_false (by omega), Bool.and_false])]
      rfl
    | succ j =>
      show SV plS tTS tFS U (fun a => if p a then oS else zS) k (sb a k true) j = _
      rw [ih]
      congr 1
      refine fb_ct_cong (fun n _ => ?_)
      congr 1
      exact decide_eq_decide.mpr (by omega)
/-- how many models have j true variables -/
def CS (σ : St) (N j : Nat) : Nat := fb_ct (fun a => MT σ N a && decide (pcn 8 a = j)) 256
theorem CS_le (σ : St) (N j : Nat) : CS σ N j ≤ 256 := fb_ct_le _ _
theorem NVS_root {σ : St} {N : Nat} (hN : N ≤ 14) (j : Nat) : NVS σ N (nI 255) (nI (2 ^ N - 1)) j = nI (CS σ N j) := by
  unfold NVS NV
  rw [SV_ctS (fun i hi => bt_255 hi)]
  unfold CS
  refine congrArg nI ?_
  refine fb_ct_cong (fun a _ => ?_)
  rw [MT_root hN]
end
section
/-! X0: sizes, passSizes, countSize, leastTrue -/
/-- only the nine places of node n have changed -/
def near (σ σ1 : St) (n : Nat) : Prop := (∀ k, k ≠ 18 → σ1 k = σ k) ∧ ∀ q, ¬ (n * 9 ≤ q ∧ q < n * 9 + 9) → σ1 18 q = σ 18 q
theorem near_su {σ σ1 : St} {n q : Nat} (h : near σ σ1 n) (hq : n * 9 ≤ q ∧ q < n * 9 + 9) (x : Int32) : near σ (su σ1 18 q x) n := by
  refine ⟨fun k hk => (su_ne _ _ _ hk).trans (h.1 k hk), fun p hp => ?_⟩
  rw [su_off _ _ (Or.inr (fun e => hp (by rw [e]; exact hq)))]
  exact h.2 p hp
theorem ix9 (n k : Nat) : nI n * nI 9 + nI k = nI (n * 9 + k) := by rw [pk_mul, nI_add]
theorem ix90 (n : Nat) : nI n * nI 9 = nI (n * 9 + 0) := by rw [pk_mul]; rfl
theorem ix9p (n k : Nat) : nI n * nI 9 + nI (k + 1) - nI 1 = nI (n * 9 + k) := by rw [pk_mul, nI_add, pk_sub (by omega)]; rfl
theorem ix9b (n i j : Nat) : nI n * nI 9 + nI i + nI j = nI (n * 9 + (i + j)) := by rw [pk_mul, nI_add, nI_add, Nat.add_assoc]
theorem ix9f {x : Int32} {f : Nat} (h : x = nI f) (i : Nat) : x * nI 9 + nI i = nI (f * 9 + i) := by rw [h, ix9]
theorem ix9fp {x : Int32} {f : Nat} (h : x = nI f) (i : Nat) : x * nI 9 + nI (i + 1) - nI 1 = nI (f * 9 + i) := by rw [h, ix9p]
abbrev P_sizes (σ : St) (N n : Nat) : Int32 → St → Prop := fun _ σ' => near σ σ' n ∧ ∀ j, j < 9 → σ' 18 (n * 9 + j) = NVS σ N (σ 9 n) (σ 10 n) j
def acS (F S : Nat → Int32) (i t : Nat) : Int32 := sumI (fun q => F q * S (t - q)) (min i (t + 1))
theorem acS_full (F S : Nat → Int32) {i t : Nat} (h : t < i) : acS F S i t = cvS F S t := by
  unfold acS cvS
  rw [Nat.min_eq_right (by omega)]
theorem acS_same (F S : Nat → Int32) {i t : Nat} (h : t < i) : acS F S (i + 1) t = acS F S i t := by rw [acS_full F S h, acS_full F S (by omega)]
theorem acS_next (F S : Nat → Int32) (i j : Nat) : acS F S i (i + j) + F i * S j = acS F S (i + 1) (i + j) := by
  unfold acS
  rw [Nat.min_eq_left (by omega), Nat.min_eq_left (by omega), sumI_succ, show i + j - i = j by omega]
set_option maxHeartbeats 1000000 in
theorem m_sizes (σ : St) (N M n : Nat) (hN : N ≤ 14) (hI : BI σ N M M) (hn : n < M) (hv : ∀ j, j < M → pop8 (σ 9 j) < pop8 (σ 9 n) → ∀ t, t < 9 → σ 18 (j * 9 + t) = NVS σ N (σ 9 j) (σ 10 j) t) : CN shX0 yX0_sizes cX0_sizes 5 1 none [nI n] σ (P_sizes σ N n) := by
  have hM5 : M ≤ 511 := Nat.le_trans (Nat.le_add_right _ _) hI.2.2.2.1
  have h8 := (hI.1.2.2 n hn).1
  refine CN.ofV (own := RX0) (by decide) rfl (Nat.le_of_ble_eq_true rfl) ?_
  show V shX0 RX0 cX0_sizes 5 1 none _ 0 [some (.inr 0), some (.inl (nI n)), none, none, none] [] _
  refine r_iconst (pc := 0) (v := nI 0) dX0_sizes_0 (by decide) ?_
  refine r_istore_n (pc := 1) (i := 2) (L' := [_, _, _, _, _]) dX0_sizes_1 rfl (by decide) rfl ?_
  suffices hz : ∀ k i σ1, i + k = 9 → near σ σ1 n → (∀ j, j < i → σ1 18 (n * 9 + j) = 0) → V shX0 RX0 cX0_sizes 5 1 none (P_sizes σ N n) 2 [some (.inr 0), some (.inl (nI n)), some (.inl (nI i)), none, none] [] σ1 from hz 9 0 σ (by omega) ⟨fun _ _ => rfl, fun _ _ => rfl⟩ (fun j h => absurd h (by omega))
  intro k
  induction k with
  | succ k ih =>
    intro i σ1 hi hne hz
    refine r_iload_n (pc := 2) (i := 2) dX0_sizes_2 rfl rfl ?_
    refine r_bipush (pc := 3) (v := nI 8) dX0_sizes_3 (by decide) ?_
    refine r_icmp_gt (pc := 5) (tgt := 26) dX0_sizes_5 (by decide) (fun z => absurd z (nI_nlt (by omega) (by omega))) (fun _ => ?_)
    refine r_aload_n (pc := 8) (i := 0) dX0_sizes_8 rfl rfl ?_
    refine r_getA (pc := 9) ckX0 18 (by decide) rfl q54 dX0_sizes_9 ?_
    refine r_iload_n (pc := 12) (i := 1) dX0_sizes_12 rfl rfl ?_
    refine r_bipush (pc := 13) (v := nI 9) dX0_sizes_13 (by decide) ?_
    refine r_imul (pc := 15) dX0_sizes_15 ?_
    refine r_iload_n (pc := 16) (i := 2) dX0_sizes_16 rfl rfl ?_
    refine r_iadd (pc := 17) dX0_sizes_17 ?_
    refine r_iconst (pc := 18) (v := nI 0) dX0_sizes_18 (by decide) ?_
    refine r_iast (pc := 19) ckX0 rfl dX0_sizes_19 (ix9 n i) (by omega) ?_
    refine r_iinc (pc := 20) (v := _) (L' := [_, _, _, _, _]) dX0_sizes_20 rfl (inc1 _) (by decide) rfl ?_
    refine r_goto (pc := 23) (tgt := 2) dX0_sizes_23 (by decide) ?_
    refine ih (i + 1) _ (by omega) (near_su hne (by omega) _) (fun j hj => ?_)
    by_cases e : j = i
    · rw [e]
      exact su_eq _ _ _ _
    · rw [su_off _ _ (Or.inr (by omega))]
      exact hz j (by omega)
  | zero =>
    intro i σ1 hi hne hz
    have e9 : i = 9 := by omega
    subst e9
    refine r_iload_n (pc := 2) (i := 2) dX0_sizes_2 rfl rfl ?_
    refine r_bipush (pc := 3) (v := nI 8) dX0_sizes_3 (by decide) ?_
    refine r_icmp_gt (pc := 5) (tgt := 26) dX0_sizes_5 (by decide) (fun _ => ?_) (fun z => absurd (nI_lt (by omega) (by omega)) z)
    refine r_aload_n (pc := 26) (i := 0) dX0_sizes_26 rfl rfl ?_
    refine r_getA (pc := 27) ckX0 12 (by decide) rfl q48 dX0_sizes_27 ?_
    refine r_iload_n (pc := 30) (i := 1) dX0_sizes_30 rfl rfl ?_
    refine r_iald (pc := 31) ckX0 rfl dX0_sizes_31 (rfl) (by omega) ?_
    have k9 : σ1 9 = σ 9 := hne.1 9 (by omega)
    have k12 : σ1 12 = σ 12 := hne.1 12 (by omega)
    have k14 : σ1 14 = σ 14 := hne.1 14 (by omega)
    have k15 : σ1 15 = σ 15 := hne.1 15 (by omega)
    rcases hI.2.1 n hn with ⟨e, hw⟩ | ⟨e, hz0⟩ | ⟨e, f, s, hf, hs, e1, e2, hb⟩ | ⟨e, v, f, s, e0, hf, hs, e1, e2, hd⟩
    · -- never
      have e' : σ1 12 n = nI 1 := by rw [k12]; exact e
      refine r_if_ne (pc := 32) (tgt := 126) dX0_sizes_32 (by decide) (fun _ => ?_) (fun z => absurd z (by rw [e']; decide))
      refine r_aload_n (pc := 126) (i := 0) dX0_sizes_126 rfl rfl ?_
      refine r_getA (pc := 127) ckX0 12 (by decide) rfl q48 dX0_sizes_127 ?_
      refine r_iload_n (pc := 130) (i := 1) dX0_sizes_130 rfl rfl ?_
      refine r_iald (pc := 131) ckX0 rfl dX0_sizes_131 (rfl) (by omega) ?_
      refine r_iconst (pc := 132) (v := nI 2) dX0_sizes_132 (by decide) ?_
      refine r_icmp_ne (pc := 133) (tgt := 233) dX0_sizes_133 (by decide) (fun _ => ?_) (fun z => absurd z (by rw [e']; decide))
      refine r_aload_n (pc := 233) (i := 0) dX0_sizes_233 rfl rfl ?_
      refine r_getA (pc := 234) ckX0 12 (by decide) rfl q48 dX0_sizes_234 ?_
      refine r_iload_n (pc := 237) (i := 1) dX0_sizes_237 rfl rfl ?_
      refine r_iald (pc := 238) ckX0 rfl dX0_sizes_238 (rfl) (by omega) ?_
      refine r_iconst (pc := 239) (v := nI 3) dX0_sizes_239 (by decide) ?_
      refine r_icmp_ne (pc := 240) (tgt := 313) dX0_sizes_240 (by decide) (fun _ => ?_) (fun z => absurd z (by rw [e']; decide))
      refine r_vret (pc := 313) dX0_sizes_313 ?_
      refine ⟨hne, fun j hj => ?_⟩
      rw [hz j hj]
      unfold NVS
      rw [NV_never zS_pl zS_sh (fun _ => rfl) hw]
      rfl
    · -- free
      have e' : σ1 12 n = nI 0 := by rw [k12]; exact e
      refine r_if_ne (pc := 32) (tgt := 126) dX0_sizes_32 (by decide) (fun z => absurd (e') z) (fun _ => ?_)
      refine r_aload_n (pc := 35) (i := 0) dX0_sizes_35 rfl rfl ?_
      refine r_getA (pc := 36) ckX0 18 (by decide) rfl q54 dX0_sizes_36 ?_
      refine r_iload_n (pc := 39) (i := 1) dX0_sizes_39 rfl rfl ?_
      refine r_bipush (pc := 40) (v := nI 9) dX0_sizes_40 (by decide) ?_
      refine r_imul (pc := 42) dX0_sizes_42 ?_
      refine r_iconst (pc := 43) (v := nI 1) dX0_sizes_43 (by decide) ?_
      refine r_iast (pc := 44) ckX0 rfl dX0_sizes_44 (ix90 n) (by omega) ?_
      refine r_aload_n (pc := 45) (i := 0) dX0_sizes_45 rfl rfl ?_
      refine r_aload_n (pc := 46) (i := 0) dX0_sizes_46 rfl rfl ?_
      refine r_getA (pc := 47) ckX0 9 (by decide) rfl q45 dX0_sizes_47 ?_
      refine r_iload_n (pc := 50) (i := 1) dX0_sizes_50 rfl rfl ?_
      refine r_iald (pc := 51) ckX0 rfl dX0_sizes_51 (rfl) (by omega) ?_
      refine r_callI (pc := 52) ckX0 (m_sizeOf _ _) mf_X0_sizeOf q150 (by decide) (by decide) dX0_sizes_52 rfl (Nat.le_of_ble_eq_true rfl) (fun r σ2 hr => ?_)
      obtain ⟨rfl, rfl⟩ := hr
      have hpo : pop8 (su σ1 18 (n * 9 + 0) (nI 1) 9 n) = pop8 (σ 9 n) := by
        show pop8 (σ1 9 n) = _
        rw [k9]
      rw [hpo]
      have hp8 := pop8_le (σ 9 n)
      refine r_istore_n (pc := 55) (i := 2) (L' := [_, _, _, _, _]) dX0_sizes_55 rfl (by decide) rfl ?_
      refine r_iconst (pc := 56) (v := nI 0) dX0_sizes_56 (by decide) ?_
      refine r_istore_n (pc := 57) (i := 3) (L' := [_, _, _, _, _]) dX0_sizes_57 rfl (by decide) rfl ?_
      suffices ho : ∀ k i (w : Option AV) σ2, i + k = pop8 (σ 9 n) → near σ σ2 n → (∀ j, j < 9 → σ2 18 (n * 9 + j) = pwS i j) → V shX0 RX0 cX0_sizes 5 1 none (P_sizes σ N n) 58 [some (.inr 0), some (.inl (nI n)), some (.inl (nI (pop8 (σ 9 n)))), some (.inl (nI i)), w] [] σ2 from ho (pop8 (σ 9 n)) 0 none _ (by omega) (near_su hne (by omega) _) (fun j hj => by
        by_cases ej : j = 0
        · rw [ej]
          exact su_eq _ _ _ _
        · rw [su_off _ _ (Or.inr (by omega)), hz j hj]
          exact (if_neg ej).symm)
      intro k
      induction k with
      | zero =>
        intro i w σ2 hi hne2 hv2
        refine r_iload_n (pc := 58) (i := 3) dX0_sizes_58 rfl rfl ?_
        refine r_iload_n (pc := 59) (i := 2) dX0_sizes_59 rfl rfl ?_
        refine r_icmp_ge (pc := 60) (tgt := 123) dX0_sizes_60 (by decide) (fun _ => ?_) (fun z => absurd (nI_le (by omega) (by omega)) z)
        refine r_goto (pc := 123) (tgt := 313) dX0_sizes_123 (by decide) ?_
        refine r_vret (pc := 313) dX0_sizes_313 ?_
        refine ⟨hne2, fun j hj => ?_⟩
        rw [hv2 j hj, show i = pop8 (σ 9 n) by omega]
        unfold NVS
        rw [NV_free hz0, SV_pwS]
        rfl
      | succ k iho =>
        intro i w σ2 hi hne2 hv2
        refine r_iload_n (pc := 58) (i := 3) dX0_sizes_58 rfl rfl ?_
        refine r_iload_n (pc := 59) (i := 2) dX0_sizes_59 rfl rfl ?_
        refine r_icmp_ge (pc := 60) (tgt := 123) dX0_sizes_60 (by decide) (fun z => absurd z (nI_ge (by omega) (by omega))) (fun _ => ?_)
        refine r_bipush (pc := 63) (v := nI 8) dX0_sizes_63 (by decide) ?_
        refine r_istore (pc := 65) (L' := [_, _, _, _, _]) dX0_sizes_65 (by decide) rfl ?_
        suffices hin : ∀ k σ3, k ≤ 8 → near σ σ3 n → (∀ j, j < 9 → σ3 18 (n * 9 + j) = if k < j then pwS (i + 1) j else pwS i j) → V shX0 RX0 cX0_sizes 5 1 none (P_sizes σ N n) 67 [some (.inr 0), some (.inl (nI n)), some (.inl (nI (pop8 (σ 9 n)))), some (.inl (nI i)), some (.inl (nI k))] [] σ3 from hin 8 σ2 (by omega) hne2 (fun j hj => by rw [if_neg (by omega)]; exact hv2 j hj)
        intro k
        induction k with
        | zero =>
          intro σ3 hk hne3 hv3
          refine r_iload (pc := 67) dX0_sizes_67 rfl ?_
          refine r_if_le (pc := 69) (tgt := 117) dX0_sizes_69 (by decide) (fun _ => ?_) (fun z => absurd (by decide) z)
          refine r_iinc (pc := 117) (v := _) (L' := [_, _, _, _, _]) dX0_sizes_117 rfl (inc1 _) (by decide) rfl ?_
          refine r_goto (pc := 120) (tgt := 58) dX0_sizes_120 (by decide) ?_
          refine iho (i + 1) _ σ3 (by omega) hne3 (fun j hj => ?_)
          rw [hv3 j hj]
          by_cases ej : 0 < j
          · rw [if_pos ej]
          · rw [if_neg ej, show j = 0 by omega]
            show pwS i 0 = 0 + pwS i 0
            rw [i_0add]
        | succ k ihk =>
          intro σ3 hk hne3 hv3
          refine r_iload (pc := 67) dX0_sizes_67 rfl ?_
          refine r_if_le (pc := 69) (tgt := 117) dX0_sizes_69 (by decide) (fun z => absurd z (nI_nle (by omega) (by omega))) (fun _ => ?_)
          refine r_aload_n (pc := 72) (i := 0) dX0_sizes_72 rfl rfl ?_
          refine r_getA (pc := 73) ckX0 18 (by decide) rfl q54 dX0_sizes_73 ?_
          refine r_iload_n (pc := 76) (i := 1) dX0_sizes_76 rfl rfl ?_
          refine r_bipush (pc := 77) (v := nI 9) dX0_sizes_77 (by decide) ?_
          refine r_imul (pc := 79) dX0_sizes_79 ?_
          refine r_iload (pc := 80) dX0_sizes_80 rfl ?_
          refine r_iadd (pc := 82) dX0_sizes_82 ?_
          refine r_aload_n (pc := 83) (i := 0) dX0_sizes_83 rfl rfl ?_
          refine r_getA (pc := 84) ckX0 18 (by decide) rfl q54 dX0_sizes_84 ?_
          refine r_iload_n (pc := 87) (i := 1) dX0_sizes_87 rfl rfl ?_
          refine r_bipush (pc := 88) (v := nI 9) dX0_sizes_88 (by decide) ?_
          refine r_imul (pc := 90) dX0_sizes_90 ?_
          refine r_iload (pc := 91) dX0_sizes_91 rfl ?_
          refine r_iadd (pc := 93) dX0_sizes_93 ?_
          refine r_iald (pc := 94) ckX0 rfl dX0_sizes_94 (ix9 n (k + 1)) (by omega) ?_
          refine r_aload_n (pc := 95) (i := 0) dX0_sizes_95 rfl rfl ?_
          refine r_getA (pc := 96) ckX0 18 (by decide) rfl q54 dX0_sizes_96 ?_
          refine r_iload_n (pc := 99) (i := 1) dX0_sizes_99 rfl rfl ?_
          refine r_bipush (pc := 100) (v := nI 9) dX0_sizes_100 (by decide) ?_
          refine r_imul (pc := 102) dX0_sizes_102 ?_
          refine r_iload (pc := 103) dX0_sizes_103 rfl ?_
          refine r_iadd (pc := 105) dX0_sizes_105 ?_
          refine r_iconst (pc := 106) (v := nI 1) dX0_sizes_106 (by decide) ?_
          refine r_isub (pc := 107) dX0_sizes_107 ?_
          refine r_iald (pc := 108) ckX0 rfl dX0_sizes_108 (ix9p n k) (by omega) ?_
          refine r_iadd (pc := 109) dX0_sizes_109 ?_
          refine r_iast (pc := 110) ckX0 rfl dX0_sizes_110 (ix9 n (k + 1)) (by omega) ?_
          refine r_iinc (pc := 111) (v := nI k) (L' := [_, _, _, _, _]) dX0_sizes_111 rfl (pk_m1 k) (by decide) rfl ?_
          refine r_goto (pc := 114) (tgt := 67) dX0_sizes_114 (by decide) ?_
          refine ihk _ (by omega) (near_su hne3 (by omega) _) (fun j hj => ?_)
          by_cases ej : j = k + 1
          · rw [ej, su_eq, if_pos (by omega), hv3 (k + 1) (by omega), if_neg (by omega), hv3 k (by omega), if_neg (by omega)]
            show _ = pwS i k + pwS i (k + 1)
            exact Int32.add_comm _ _
          · rw [su_off _ _ (Or.inr (by omega)), hv3 j hj]
            by_cases h : k < j
            · rw [if_pos h, if_pos (by omega)]
            · rw [if_neg h, if_neg (by omega)]
    · -- beside
      have e' : σ1 12 n = nI 2 := by rw [k12]; exact e
      have hl := Beside_less h8 hb
      have hfn : f ≠ n := fun z => by rw [z] at hl; omega
      have hsn : s ≠ n := fun z => by rw [z] at hl; omega
      refine r_if_ne (pc := 32) (tgt := 126) dX0_sizes_32 (by decide) (fun _ => ?_) (fun z => absurd z (by rw [e']; decide))
      refine r_aload_n (pc := 126) (i := 0) dX0_sizes_126 rfl rfl ?_
      refine r_getA (pc := 127) ckX0 12 (by decide) rfl q48 dX0_sizes_127 ?_
      refine r_iload_n (pc := 130) (i := 1) dX0_sizes_130 rfl rfl ?_
      refine r_iald (pc := 131) ckX0 rfl dX0_sizes_131 (rfl) (by omega) ?_
      refine r_iconst (pc := 132) (v := nI 2) dX0_sizes_132 (by decide) ?_
      refine r_icmp_ne (pc := 133) (tgt := 233) dX0_sizes_133 (by decide) (fun z => absurd (e') z) (fun _ => ?_)
      refine r_iconst (pc := 136) (v := nI 0) dX0_sizes_136 (by decide) ?_
      refine r_istore_n (pc := 137) (i := 2) (L' := [_, _, _, _, _]) dX0_sizes_137 rfl (by decide) rfl ?_
      have hfin : ∀ j, NVS σ N (σ 9 n) (σ 10 n) j = cvS (NVS σ N (σ 9 f) (σ 10 f)) (NVS σ N (σ 9 s) (σ 10 s)) j := fun j => congrFun (NV_beside bilS cv_oo (cv_z _) (cv_z' _) (cv_z _) (by omega) h8 hb) j
      generalize hF : NVS σ N (σ 9 f) (σ 10 f) = F at hfin
      generalize hS : NVS σ N (σ 9 s) (σ 10 s) = S at hfin
      have rF : ∀ σ2, near σ σ2 n → ∀ t, t < 9 → σ2 18 (f * 9 + t) = F t := fun σ2 h t ht => by
        rw [h.2 _ (by omega), hv f hf hl.1 t ht, hF]
      have rS : ∀ σ2, near σ σ2 n → ∀ t, t < 9 → σ2 18 (s * 9 + t) = S t := fun σ2 h t ht => by
        rw [h.2 _ (by omega), hv s hs hl.2 t ht, hS]
      suffices ho : ∀ k i (w w' : Option AV) σ2, i + k = 9 → near σ σ2 n → (∀ t, t < 9 → σ2 18 (n * 9 + t) = acS F S i t) → V shX0 RX0 cX0_sizes 5 1 none (P_sizes σ N n) 138 [some (.inr 0), some (.inl (nI n)), some (.inl (nI i)), w, w'] [] σ2 from ho 9 0 none none σ1 (by omega) hne (fun t ht => by
        rw [hz t ht]
        unfold acS
        rw [Nat.zero_min]
        rfl)
      intro k
      induction k with
      | zero =>
        intro i w w' σ2 hi hne2 hv2
        refine r_iload_n (pc := 138) (i := 2) dX0_sizes_138 rfl rfl ?_
        refine r_bipush (pc := 139) (v := nI 8) dX0_sizes_139 (by decide) ?_
        refine r_icmp_gt (pc := 141) (tgt := 230) dX0_sizes_141 (by decide) (fun _ => ?_) (fun z => absurd (nI_lt (by omega) (by omega)) z)
        refine r_goto (pc := 230) (tgt := 313) dX0_sizes_230 (by decide) ?_
        refine r_vret (pc := 313) dX0_sizes_313 ?_
        refine ⟨hne2, fun j hj => ?_⟩
        rw [hv2 j hj, hfin j, acS_full F S (by omega)]
      | succ k iho =>
        intro i w w' σ2 hi hne2 hv2
        refine r_iload_n (pc := 138) (i := 2) dX0_sizes_138 rfl rfl ?_
        refine r_bipush (pc := 139) (v := nI 8) dX0_sizes_139 (by decide) ?_
        refine r_icmp_gt (pc := 141) (tgt := 230) dX0_sizes_141 (by decide) (fun z => absurd z (nI_nlt (by omega) (by omega))) (fun _ => ?_)
        refine r_iconst (pc := 144) (v := nI 0) dX0_sizes_144 (by decide) ?_
        refine r_istore_n (pc := 145) (i := 3) (L' := [_, _, _, _, _]) dX0_sizes_145 rfl (by decide) rfl ?_
        suffices hin : ∀ k j (w' : Option AV) σ3, i + j + k = 9 → near σ σ3 n → (∀ t, t < 9 → σ3 18 (n * 9 + t) = if i ≤ t ∧ t < i + j then acS F S (i + 1) t else acS F S i t) → V shX0 RX0 cX0_sizes 5 1 none (P_sizes σ N n) 146 [some (.inr 0), some (.inl (nI n)), some (.inl (nI i)), some (.inl (nI j)), w'] [] σ3 from hin (9 - i) 0 w' σ2 (by omega) hne2 (fun t ht => by rw [if_neg (by omega)]; exact hv2 t ht)
        intro k
        induction k with
        | zero =>
          intro j w' σ3 hk hne3 hv3
          refine r_iload_n (pc := 146) (i := 2) dX0_sizes_146 rfl rfl ?_
          refine r_iload_n (pc := 147) (i := 3) dX0_sizes_147 rfl rfl ?_
          refine r_iadd (pc := 148) dX0_sizes_148 ?_
          refine r_top _ (nI_add i j) ?_
          refine r_bipush (pc := 149) (v := nI 8) dX0_sizes_149 (by decide) ?_
          refine r_icmp_gt (pc := 151) (tgt := 224) dX0_sizes_151 (by decide) (fun _ => ?_) (fun z => absurd (nI_lt (by omega) (by omega)) z)
          refine r_iinc (pc := 224) (v := _) (L' := [_, _, _, _, _]) dX0_sizes_224 rfl (inc1 _) (by decide) rfl ?_
          refine r_goto (pc := 227) (tgt := 138) dX0_sizes_227 (by decide) ?_
          refine iho (i + 1) _ _ σ3 (by omega) hne3 (fun t ht => ?_)
          rw [hv3 t ht]
          by_cases h : i ≤ t
          · rw [if_pos (by omega)]
          · rw [if_neg (by omega), acS_same F S (by omega)]
        | succ k ihk =>
          intro j w' σ3 hk hne3 hv3
          have g1 : σ3 14 n = nI f := by rw [hne3.1 14 (by omega)]; exact e1
          have g2 : σ3 15 n = nI s := by rw [hne3.1 15 (by omega)]; exact e2
          refine r_iload_n (pc := 146) (i := 2) dX0_sizes_146 rfl rfl ?_
          refine r_iload_n (pc := 147) (i := 3) dX0_sizes_147 rfl rfl ?_
          refine r_iadd (pc := 148) dX0_sizes_148 ?_
          refine r_top _ (nI_add i j) ?_
          refine r_bipush (pc := 149) (v := nI 8) dX0_sizes_149 (by decide) ?_
          refine r_icmp_gt (pc := 151) (tgt := 224) dX0_sizes_151 (by decide) (fun z => absurd z (nI_nlt (by omega) (by omega))) (fun _ => ?_)
          refine r_aload_n (pc := 154) (i := 0) dX0_sizes_154 rfl rfl ?_
          refine r_getA (pc := 155) ckX0 18 (by decide) rfl q54 dX0_sizes_155 ?_
          refine r_aload_n (pc := 158) (i := 0) dX0_sizes_158 rfl rfl ?_
          refine r_getA (pc := 159) ckX0 14 (by decide) rfl q50 dX0_sizes_159 ?_
          refine r_iload_n (pc := 162) (i := 1) dX0_sizes_162 rfl rfl ?_
          refine r_iald (pc := 163) ckX0 rfl dX0_sizes_163 (rfl) (by omega) ?_
          refine r_bipush (pc := 164) (v := nI 9) dX0_sizes_164 (by decide) ?_
          refine r_imul (pc := 166) dX0_sizes_166 ?_
          refine r_iload_n (pc := 167) (i := 2) dX0_sizes_167 rfl rfl ?_
          refine r_iadd (pc := 168) dX0_sizes_168 ?_
          refine r_iald (pc := 169) ckX0 rfl dX0_sizes_169 (ix9f g1 i) (by omega) ?_
          refine r_aload_n (pc := 170) (i := 0) dX0_sizes_170 rfl rfl ?_
          refine r_getA (pc := 171) ckX0 18 (by decide) rfl q54 dX0_sizes_171 ?_
          refine r_aload_n (pc := 174) (i := 0) dX0_sizes_174 rfl rfl ?_
          refine r_getA (pc := 175) ckX0 15 (by decide) rfl q51 dX0_sizes_175 ?_
          refine r_iload_n (pc := 178) (i := 1) dX0_sizes_178 rfl rfl ?_
          refine r_iald (pc := 179) ckX0 rfl dX0_sizes_179 (rfl) (by omega) ?_
          refine r_bipush (pc := 180) (v := nI 9) dX0_sizes_180 (by decide) ?_
          refine r_imul (pc := 182) dX0_sizes_182 ?_
          refine r_iload_n (pc := 183) (i := 3) dX0_sizes_183 rfl rfl ?_
          refine r_iadd (pc := 184) dX0_sizes_184 ?_
          refine r_iald (pc := 185) ckX0 rfl dX0_sizes_185 (ix9f g2 j) (by omega) ?_
          refine r_imul (pc := 186) dX0_sizes_186 ?_
          refine r_istore (pc := 187) (L' := [_, _, _, _, _]) dX0_sizes_187 (by decide) rfl ?_
          refine r_aload_n (pc := 189) (i := 0) dX0_sizes_189 rfl rfl ?_
          refine r_getA (pc := 190) ckX0 18 (by decide) rfl q54 dX0_sizes_190 ?_
          refine r_iload_n (pc := 193) (i := 1) dX0_sizes_193 rfl rfl ?_
          refine r_bipush (pc := 194) (v := nI 9) dX0_sizes_194 (by decide) ?_
          refine r_imul (pc := 196) dX0_sizes_196 ?_
          refine r_iload_n (pc := 197) (i := 2) dX0_sizes_197 rfl rfl ?_
          refine r_iadd (pc := 198) dX0_sizes_198 ?_
          refine r_iload_n (pc := 199) (i := 3) dX0_sizes_199 rfl rfl ?_
          refine r_iadd (pc := 200) dX0_sizes_200 ?_
          refine r_aload_n (pc := 201) (i := 0) dX0_sizes_201 rfl rfl ?_
          refine r_getA (pc := 202) ckX0 18 (by decide) rfl q54 dX0_sizes_202 ?_
          refine r_iload_n (pc := 205) (i := 1) dX0_sizes_205 rfl rfl ?_
          refine r_bipush (pc := 206) (v := nI 9) dX0_sizes_206 (by decide) ?_
          refine r_imul (pc := 208) dX0_sizes_208 ?_
          refine r_iload_n (pc := 209) (i := 2) dX0_sizes_209 rfl rfl ?_
          refine r_iadd (pc := 210) dX0_sizes_210 ?_
          refine r_iload_n (pc := 211) (i := 3) dX0_sizes_211 rfl rfl ?_
          refine r_iadd (pc := 212) dX0_sizes_212 ?_
          refine r_iald (pc := 213) ckX0 rfl dX0_sizes_213 (ix9b n i j) (by omega) ?_
          refine r_iload (pc := 214) dX0_sizes_214 rfl ?_
          refine r_iadd (pc := 216) dX0_sizes_216 ?_
          refine r_iast (pc := 217) ckX0 rfl dX0_sizes_217 (ix9b n i j) (by omega) ?_
          refine r_iinc (pc := 218) (v := _) (L' := [_, _, _, _, _]) dX0_sizes_218 rfl (inc1 _) (by decide) rfl ?_
          refine r_goto (pc := 221) (tgt := 146) dX0_sizes_221 (by decide) ?_
          refine ihk (j + 1) _ _ (by omega) (near_su hne3 (by omega) _) (fun t ht => ?_)
          by_cases et : t = i + j
          · rw [et, su_eq, if_pos (by omega), hv3 (i + j) (by omega), if_neg (by omega), rF σ3 hne3 i (by omega), rS σ3 hne3 j (by omega)]
            exact acS_next F S i j
          · rw [su_off _ _ (Or.inr (by omega)), hv3 t ht]
            by_cases h : i ≤ t ∧ t < i + j
            · rw [if_pos h, if_pos (by omega)]
            · rw [if_neg h, if_neg (by omega)]
    · -- decide
      have e' : σ1 12 n = nI 3 := by rw [k12]; exact e
      have hl := Decide_less hd
      have hfn : f ≠ n := fun z => by rw [z] at hl; omega
      have hsn : s ≠ n := fun z => by rw [z] at hl; omega
      refine r_if_ne (pc := 32) (tgt := 126) dX0_sizes_32 (by decide) (fun _ => ?_) (fun z => absurd z (by rw [e']; decide))
      refine r_aload_n (pc := 126) (i := 0) dX0_sizes_126 rfl rfl ?_
      refine r_getA (pc := 127) ckX0 12 (by decide) rfl q48 dX0_sizes_127 ?_
      refine r_iload_n (pc := 130) (i := 1) dX0_sizes_130 rfl rfl ?_
      refine r_iald (pc := 131) ckX0 rfl dX0_sizes_131 (rfl) (by omega) ?_
      refine r_iconst (pc := 132) (v := nI 2) dX0_sizes_132 (by decide) ?_
      refine r_icmp_ne (pc := 133) (tgt := 233) dX0_sizes_133 (by decide) (fun _ => ?_) (fun z => absurd z (by rw [e']; decide))
      refine r_aload_n (pc := 233) (i := 0) dX0_sizes_233 rfl rfl ?_
      refine r_getA (pc := 234) ckX0 12 (by decide) rfl q48 dX0_sizes_234 ?_
      refine r_iload_n (pc := 237) (i := 1) dX0_sizes_237 rfl rfl ?_
      refine r_iald (pc := 238) ckX0 rfl dX0_sizes_238 (rfl) (by omega) ?_
      refine r_iconst (pc := 239) (v := nI 3) dX0_sizes_239 (by decide) ?_
      refine r_icmp_ne (pc := 240) (tgt := 313) dX0_sizes_240 (by decide) (fun z => absurd (e') z) (fun _ => ?_)
      refine r_iconst (pc := 243) (v := nI 0) dX0_sizes_243 (by decide) ?_
      refine r_istore_n (pc := 244) (i := 2) (L' := [_, _, _, _, _]) dX0_sizes_244 rfl (by decide) rfl ?_
      have hfin : ∀ j, NVS σ N (σ 9 n) (σ 10 n) j = plS (shS (NVS σ N (σ 9 f) (σ 10 f))) (NVS σ N (σ 9 s) (σ 10 s)) j := fun j => congrFun (NV_decide algS (by omega) hd) j
      generalize hF : NVS σ N (σ 9 f) (σ 10 f) = F at hfin
      generalize hS : NVS σ N (σ 9 s) (σ 10 s) = S at hfin
      have rF : ∀ σ2, near σ σ2 n → ∀ t, t < 9 → σ2 18 (f * 9 + t) = F t := fun σ2 h t ht => by
        rw [h.2 _ (by omega), hv f hf hl.1 t ht, hF]
      have rS : ∀ σ2, near σ σ2 n → ∀ t, t < 9 → σ2 18 (s * 9 + t) = S t := fun σ2 h t ht => by
        rw [h.2 _ (by omega), hv s hs hl.2 t ht, hS]
      suffices ho : ∀ k i (w : Option AV) σ2, i + k = 9 → near σ σ2 n → (∀ t, t < i → σ2 18 (n * 9 + t) = plS (shS F) S t) → V shX0 RX0 cX0_sizes 5 1 none (P_sizes σ N n) 245 [some (.inr 0), some (.inl (nI n)), some (.inl (nI i)), w, none] [] σ2 from ho 9 0 none σ1 (by omega) hne (fun t ht => absurd ht (by omega))
      intro k
      induction k with
      | zero =>
        intro i w σ2 hi hne2 hv2
        refine r_iload_n (pc := 245) (i := 2) dX0_sizes_245 rfl rfl ?_
        refine r_bipush (pc := 246) (v := nI 8) dX0_sizes_246 (by decide) ?_
        refine r_icmp_gt (pc := 248) (tgt := 313) dX0_sizes_248 (by decide) (fun _ => ?_) (fun z => absurd (nI_lt (by omega) (by omega)) z)
        refine r_vret (pc := 313) dX0_sizes_313 ?_
        refine ⟨hne2, fun j hj => ?_⟩
        rw [hv2 j (by omega), hfin j]
      | succ k iho =>
        intro i w σ2 hi hne2 hv2
        have g1 : σ2 14 n = nI f := by rw [hne2.1 14 (by omega)]; exact e1
        have g2 : σ2 15 n = nI s := by rw [hne2.1 15 (by omega)]; exact e2
        have fin : V shX0 RX0 cX0_sizes 5 1 none (P_sizes σ N n) 277 [some (.inr 0), some (.inl (nI n)), some (.inl (nI i)), w, none] [.inl (shS F i)] σ2 := by
          refine r_istore_n (pc := 277) (i := 3) (L' := [_, _, _, _, _]) dX0_sizes_277 rfl (by decide) rfl ?_
          refine r_aload_n (pc := 278) (i := 0) dX0_sizes_278 rfl rfl ?_
          refine r_getA (pc := 279) ckX0 18 (by decide) rfl q54 dX0_sizes_279 ?_
          refine r_iload_n (pc := 282) (i := 1) dX0_sizes_282 rfl rfl ?_
          refine r_bipush (pc := 283) (v := nI 9) dX0_sizes_283 (by decide) ?_
          refine r_imul (pc := 285) dX0_sizes_285 ?_
          refine r_iload_n (pc := 286) (i := 2) dX0_sizes_286 rfl rfl ?_
          refine r_iadd (pc := 287) dX0_sizes_287 ?_
          refine r_aload_n (pc := 288) (i := 0) dX0_sizes_288 rfl rfl ?_
          refine r_getA (pc := 289) ckX0 18 (by decide) rfl q54 dX0_sizes_289 ?_
          refine r_aload_n (pc := 292) (i := 0) dX0_sizes_292 rfl rfl ?_
          refine r_getA (pc := 293) ckX0 15 (by decide) rfl q51 dX0_sizes_293 ?_
          refine r_iload_n (pc := 296) (i := 1) dX0_sizes_296 rfl rfl ?_
          refine r_iald (pc := 297) ckX0 rfl dX0_sizes_297 (rfl) (by omega) ?_
          refine r_bipush (pc := 298) (v := nI 9) dX0_sizes_298 (by decide) ?_
          refine r_imul (pc := 300) dX0_sizes_300 ?_
          refine r_iload_n (pc := 301) (i := 2) dX0_sizes_301 rfl rfl ?_
          refine r_iadd (pc := 302) dX0_sizes_302 ?_
          refine r_iald (pc := 303) ckX0 rfl dX0_sizes_303 (ix9f g2 i) (by omega) ?_
          refine r_iload_n (pc := 304) (i := 3) dX0_sizes_304 rfl rfl ?_
          refine r_iadd (pc := 305) dX0_sizes_305 ?_
          refine r_iast (pc := 306) ckX0 rfl dX0_sizes_306 (ix9 n i) (by omega) ?_
          refine r_iinc (pc := 307) (v := _) (L' := [_, _, _, _, _]) dX0_sizes_307 rfl (inc1 _) (by decide) rfl ?_
          refine r_goto (pc := 310) (tgt := 245) dX0_sizes_310 (by decide) ?_
          refine iho (i + 1) _ _ (by omega) (near_su hne2 (by omega) _) (fun t ht => ?_)
          by_cases et : t = i
          · rw [et, su_eq, rS σ2 hne2 i (by omega)]
            exact Int32.add_comm _ _
          · rw [su_off _ _ (Or.inr (by omega))]
            exact hv2 t (by omega)
        refine r_iload_n (pc := 245) (i := 2) dX0_sizes_245 rfl rfl ?_
        refine r_bipush (pc := 246) (v := nI 8) dX0_sizes_246 (by decide) ?_
        refine r_icmp_gt (pc := 248) (tgt := 313) dX0_sizes_248 (by decide) (fun z => absurd z (nI_nlt (by omega) (by omega))) (fun _ => ?_)
        refine r_iload_n (pc := 251) (i := 2) dX0_sizes_251 rfl rfl ?_
        cases i with
        | zero =>
          refine r_if_le (pc := 252) (tgt := 276) dX0_sizes_252 (by decide) (fun _ => ?_) (fun z => absurd (by decide) z)
          refine r_iconst (pc := 276) (v := nI 0) dX0_sizes_276 (by decide) ?_
          exact fin
        | succ i =>
          refine r_if_le (pc := 252) (tgt := 276) dX0_sizes_252 (by decide) (fun z => absurd z (nI_nle (by omega) (by omega))) (fun _ => ?_)
          refine r_aload_n (pc := 255) (i := 0) dX0_sizes_255 rfl rfl ?_
          refine r_getA (pc := 256) ckX0 18 (by decide) rfl q54 dX0_sizes_256 ?_
          refine r_aload_n (pc := 259) (i := 0) dX0_sizes_259 rfl rfl ?_
          refine r_getA (pc := 260) ckX0 14 (by decide) rfl q50 dX0_sizes_260 ?_
          refine r_iload_n (pc := 263) (i := 1) dX0_sizes_263 rfl rfl ?_
          refine r_iald (pc := 264) ckX0 rfl dX0_sizes_264 (rfl) (by omega) ?_
          refine r_bipush (pc := 265) (v := nI 9) dX0_sizes_265 (by decide) ?_
          refine r_imul (pc := 267) dX0_sizes_267 ?_
          refine r_iload_n (pc := 268) (i := 2) dX0_sizes_268 rfl rfl ?_
          refine r_iadd (pc := 269) dX0_sizes_269 ?_
          refine r_iconst (pc := 270) (v := nI 1) dX0_sizes_270 (by decide) ?_
          refine r_isub (pc := 271) dX0_sizes_271 ?_
          refine r_iald (pc := 272) ckX0 rfl dX0_sizes_272 (ix9fp g1 i) (by omega) ?_
          refine r_goto (pc := 273) (tgt := 277) dX0_sizes_273 (by decide) ?_
          refine r_top (shS F (i + 1)) (rF σ2 hne2 i (by omega)) ?_
          exact fin
abbrev P_passSizes (σ : St) (N : Nat) : Int32 → St → Prop := fun _ σ' => QI σ' N ∧ Kp σ σ' ∧ ∀ j, j < 9 → σ' 18 j = nI (CS σ N j)
theorem m_passSizes (σ : St) (N : Nat) (hq : QI σ N) : CN shX0 yX0_passSizes cX0_passSizes 3 4 none [] σ (P_passSizes σ N) := by
  obtain ⟨hN, hc, hb⟩ := hq
  refine CN.ofV (own := RX0) (by decide) rfl (Nat.le_of_ble_eq_true rfl) ?_
  show V shX0 RX0 cX0_passSizes 3 4 none _ 0 [some (.inr 0), none, none] [] _
  refine r_aload_n (pc := 0) (i := 0) dX0_passSizes_0 rfl rfl ?_
  refine r_callV (pc := 1) ckX0 (m_build σ N hN hc hb) mf_X0_build q141 (by decide) (by decide) dX0_passSizes_1 rfl (Nat.le_of_ble_eq_true rfl) (fun σ0 hr => ?_)
  obtain ⟨⟨M, hI⟩, h7, hk0⟩ := hr
  have hM5 : M ≤ 511 := Nat.le_trans (Nat.le_add_right _ _) hI.2.2.2.1
  refine r_iconst (pc := 4) (v := nI 0) dX0_passSizes_4 (by decide) ?_
  refine r_istore_n (pc := 5) (i := 1) (L' := [_, _, _]) dX0_passSizes_5 rfl (by decide) rfl ?_
  suffices outer : ∀ k s (w : Option AV) σ1, s + k = 9 → (∀ k, k ≠ 18 → σ1 k = σ0 k) → (∀ j, j < M → pop8 (σ0 9 j) < s → ∀ t, t < 9 → σ1 18 (j * 9 + t) = NVS σ0 N (σ0 9 j) (σ0 10 j) t) → V shX0 RX0 cX0_passSizes 3 4 none (P_passSizes σ N) 6 [some (.inr 0), some (.inl (nI s)), w] [] σ1 from outer 9 0 none σ0 (by omega) (fun _ _ => rfl) (fun j _ h => absurd h (by omega))
  intro k
  induction k with
  | zero =>
    intro s w σ1 hs hk hval
    refine r_iload_n (pc := 6) (i := 1) dX0_passSizes_6 rfl rfl ?_
    refine r_bipush (pc := 7) (v := nI 8) dX0_passSizes_7 (by decide) ?_
    refine r_icmp_gt (pc := 9) (tgt := 49) dX0_passSizes_9 (by decide) (fun _ => ?_) (fun z => absurd (nI_lt (by omega) (by omega)) z)
    refine r_vret (pc := 49) dX0_passSizes_49 ?_
    have h0 := hval 0 hI.2.2.2.2.1 (by have := pop8_le (σ0 9 0); omega)
    refine ⟨⟨hN, by rw [hk 2 (by omega), hk0 2 (by omega)]; exact hc, Or.inr ⟨by rw [hk 7 (by omega)]; exact h7, M, BI_keep (fun q hq => hk q (by omega)) hI⟩⟩, fun q hq => (hk q (by omega)).trans (hk0 q (by omega)), fun j hj => ?_⟩
    have h1 := h0 j hj
    rw [show 0 * 9 + j = j by omega, hI.2.2.2.2.2.1, hI.2.2.2.2.2.2, NVS_congr (hk0 3 (by omega)) (hk0 4 (by omega)), NVS_root hN] at h1
    exact h1
  | succ k ih =>
    intro s w σ1 hs hk hval
    refine r_iload_n (pc := 6) (i := 1) dX0_passSizes_6 rfl rfl ?_
    refine r_bipush (pc := 7) (v := nI 8) dX0_passSizes_7 (by decide) ?_
    refine r_icmp_gt (pc := 9) (tgt := 49) dX0_passSizes_9 (by decide) (fun z => absurd z (nI_nlt (by omega) (by omega))) (fun _ => ?_)
    refine r_iconst (pc := 12) (v := nI 0) dX0_passSizes_12 (by decide) ?_
    refine r_istore_n (pc := 13) (i := 2) (L' := [_, _, _]) dX0_passSizes_13 rfl (by decide) rfl ?_
    suffices inner : ∀ k2 j σ2, j + k2 = M → (∀ k, k ≠ 18 → σ2 k = σ0 k) → (∀ i, i < M → pop8 (σ0 9 i) < s ∨ (i < j ∧ pop8 (σ0 9 i) = s) → ∀ t, t < 9 → σ2 18 (i * 9 + t) = NVS σ0 N (σ0 9 i) (σ0 10 i) t) → V shX0 RX0 cX0_passSizes 3 4 none (P_passSizes σ N) 14 [some (.inr 0), some (.inl (nI s)), some (.inl (nI j))] [] σ2 from inner M 0 σ1 (by omega) hk (fun i hi h => hval i hi (by omega))
    intro k2
    induction k2 with
    | zero =>
      intro j σ2 hj hk2 hval2
      have h8 : σ2 8 0 = nI M := by rw [hk2 8 (by omega)]; exact hI.1.1
      refine r_iload_n (pc := 14) (i := 2) dX0_passSizes_14 rfl rfl ?_
      refine r_aload_n (pc := 15) (i := 0) dX0_passSizes_15 rfl rfl ?_
      refine r_getI (pc := 16) ckX0 8 (by decide) rfl q44 dX0_passSizes_16 ?_
      refine r_icmp_ge (pc := 19) (tgt := 43) dX0_passSizes_19 (by decide) (fun _ => ?_) (fun z => absurd (by rw [h8]; exact nI_le (by omega) (by omega)) z)
      refine r_iinc (pc := 43) (v := _) (L' := [_, _, _]) dX0_passSizes_43 rfl (inc1 _) (by decide) rfl ?_
      refine r_goto (pc := 46) (tgt := 6) dX0_passSizes_46 (by decide) ?_
      exact ih (s + 1) _ σ2 (by omega) hk2 (fun i hi h => hval2 i hi (by omega))
    | succ k2 ih2 =>
      intro j σ2 hj hk2 hval2
      have h8 : σ2 8 0 = nI M := by rw [hk2 8 (by omega)]; exact hI.1.1
      have hI2 : BI σ2 N M M := BI_keep (fun q hq => hk2 q (by omega)) hI
      have h11 : σ2 11 j = nI (pop8 (σ0 9 j)) := by rw [hk2 11 (by omega)]; exact (hI.1.2.2 j (by omega)).2.2
      have hp8 := pop8_le (σ0 9 j)
      refine r_iload_n (pc := 14) (i := 2) dX0_passSizes_14 rfl rfl ?_
      refine r_aload_n (pc := 15) (i := 0) dX0_passSizes_15 rfl rfl ?_
      refine r_getI (pc := 16) ckX0 8 (by decide) rfl q44 dX0_passSizes_16 ?_
      refine r_icmp_ge (pc := 19) (tgt := 43) dX0_passSizes_19 (by decide) (fun z => absurd z (by rw [h8]; exact nI_ge (by omega) (by omega))) (fun _ => ?_)
      refine r_aload_n (pc := 22) (i := 0) dX0_passSizes_22 rfl rfl ?_
      refine r_getA (pc := 23) ckX0 11 (by decide) rfl q47 dX0_passSizes_23 ?_
      refine r_iload_n (pc := 26) (i := 2) dX0_passSizes_26 rfl rfl ?_
      refine r_iald (pc := 27) ckX0 rfl dX0_passSizes_27 (rfl) (by omega) ?_
      refine r_iload_n (pc := 28) (i := 1) dX0_passSizes_28 rfl rfl ?_
      refine r_icmp_ne (pc := 29) (tgt := 37) dX0_passSizes_29 (by decide) (fun h1 => ?_) (fun h1 => ?_)
      · refine r_iinc (pc := 37) (v := _) (L' := [_, _, _]) dX0_passSizes_37 rfl (inc1 _) (by decide) rfl ?_
        refine r_goto (pc := 40) (tgt := 14) dX0_passSizes_40 (by decide) ?_
        refine ih2 (j + 1) σ2 (by omega) hk2 (fun i hi h => ?_)
        rcases h with h | ⟨h, he⟩
        · exact hval2 i hi (Or.inl h)
        · by_cases e : i = j
          · subst e
            rw [h11, he] at h1
            exact absurd rfl h1
          · exact hval2 i hi (Or.inr ⟨by omega, he⟩)
      · have hpj : pop8 (σ0 9 j) = s := by
          rw [h11] at h1
          exact (nI_eq (by omega) (by omega)).mp h1
        refine r_aload_n (pc := 32) (i := 0) dX0_passSizes_32 rfl rfl ?_
        refine r_iload_n (pc := 33) (i := 2) dX0_passSizes_33 rfl rfl ?_
        refine r_callV (pc := 34) ckX0 (m_sizes σ2 N M j hN hI2 (by omega) ?hv) mf_X0_sizes q202 (by decide) (by decide) dX0_passSizes_34 rfl (Nat.le_of_ble_eq_true rfl) (fun σ3 hr => ?_)
        case hv =>
          intro i hi hlt
          rw [hk2 9 (by omega)] at hlt ⊢
          rw [hk2 10 (by omega), NVS_congr (hk2 3 (by omega)) (hk2 4 (by omega))]
          exact hval2 i hi (Or.inl (by omega))
        obtain ⟨hne, hr⟩ := hr
        rw [hk2 9 (by omega), hk2 10 (by omega), NVS_congr (hk2 3 (by omega)) (hk2 4 (by omega))] at hr
        refine r_iinc (pc := 37) (v := _) (L' := [_, _, _]) dX0_passSizes_37 rfl (inc1 _) (by decide) rfl ?_
        refine r_goto (pc := 40) (tgt := 14) dX0_passSizes_40 (by decide) ?_
        refine ih2 (j + 1) _ (by omega) (fun q hq => (hne.1 q hq).trans (hk2 q hq)) (fun i hi h t ht => ?_)
        by_cases e : i = j
        · rw [e]
          exact hr t ht
        · rw [hne.2 _ (by omega)]
          exact hval2 i hi (by omega) t ht
theorem m_countSize (σ : St) (N : Nat) (hq : QI σ N) (k : Int32) : CN shX0 yX0_countSize cX0_countSize 2 5 (some .int) [k] σ (fun r σ' => QI σ' N ∧ Kp σ σ' ∧ ((r = nI 0 ∧ (k < 0 ∨ nI 8 < k)) ∨ ∃ K, K < 9 ∧ k = nI K ∧ r = nI (CS σ N K))) := by
  refine CN.ofV (own := RX0) (by decide) rfl (Nat.le_of_ble_eq_true rfl) ?_
  show V shX0 RX0 cX0_countSize 2 5 (some .int) _ 0 [some (.inr 0), some (.inl k)] [] _
  have bad : (k < 0 ∨ nI 8 < k) → V shX0 RX0 cX0_countSize 2 5 (some .int) (fun r σ' => QI σ' N ∧ Kp σ σ' ∧ ((r = nI 0 ∧ (k < 0 ∨ nI 8 < k)) ∨ ∃ K, K < 9 ∧ k = nI K ∧ r = nI (CS σ N K))) 10 [some (.inr 0), some (.inl (k))] [] σ := by
    intro h
    refine r_iconst (pc := 10) (v := nI 0) dX0_countSize_10 (by decide) ?_
    refine r_iret (pc := 11) dX0_countSize_11 ?_
    exact ⟨hq, Kp.rf _, Or.inl ⟨rfl, h⟩⟩
  refine r_iload_n (pc := 0) (i := 1) dX0_countSize_0 rfl rfl ?_
  refine r_if_lt (pc := 1) (tgt := 10) dX0_countSize_1 (by decide) (fun h1 => ?_) (fun h1 => ?_)
  · exact bad (Or.inl h1)
  · refine r_iload_n (pc := 4) (i := 1) dX0_countSize_4 rfl rfl ?_
    refine r_bipush (pc := 5) (v := nI 8) dX0_countSize_5 (by decide) ?_
    refine r_icmp_le (pc := 7) (tgt := 12) dX0_countSize_7 (by decide) (fun h2 => ?_) (fun h2 => ?_)
    · obtain ⟨K, hK, e⟩ := nI_of2 (M := nI 8) (n := 8) (by decide) h1 h2
      subst e
      refine r_aload_n (pc := 12) (i := 0) dX0_countSize_12 rfl rfl ?_
      refine r_callV (pc := 13) ckX0 (m_passSizes σ N hq) mf_X0_passSizes q198 (by decide) (by decide) dX0_countSize_13 rfl (Nat.le_of_ble_eq_true rfl) (fun σ1 hr => ?_)
      obtain ⟨hq1, hk1, hv⟩ := hr
      refine r_aload_n (pc := 16) (i := 0) dX0_countSize_16 rfl rfl ?_
      refine r_getA (pc := 17) ckX0 18 (by decide) rfl q54 dX0_countSize_17 ?_
      refine r_iload_n (pc := 20) (i := 1) dX0_countSize_20 rfl rfl ?_
      refine r_iald (pc := 21) ckX0 rfl dX0_countSize_21 (rfl) (by omega) ?_
      refine r_top _ (hv K (by omega)) ?_
      refine r_iret (pc := 22) dX0_countSize_22 ?_
      exact ⟨hq1, hk1, Or.inr ⟨K, by omega, rfl, rfl⟩⟩
    · exact bad (Or.inr (fa_of_nle h2))
abbrev leastP (C : Nat → Nat) (r : Int32) : Prop := (∃ k, k < 9 ∧ r = nI k ∧ ¬ C k = 0 ∧ ∀ i, i < k → C i = 0) ∨ (r = -4 ∧ ∀ i, i < 9 → C i = 0)
theorem m_leastTrue (σ : St) (N : Nat) (hq : QI σ N) : CN shX0 yX0_leastTrue cX0_leastTrue 2 5 (some .int) [] σ (fun r σ' => QI σ' N ∧ Kp σ σ' ∧ leastP (CS σ N) r) := by
  refine CN.ofV (own := RX0) (by decide) rfl (Nat.le_of_ble_eq_true rfl) ?_
  show V shX0 RX0 cX0_leastTrue 2 5 (some .int) _ 0 [some (.inr 0), none] [] _
  refine r_aload_n (pc := 0) (i := 0) dX0_leastTrue_0 rfl rfl ?_
  refine r_callV (pc := 1) ckX0 (m_passSizes σ N hq) mf_X0_passSizes q198 (by decide) (by decide) dX0_leastTrue_1 rfl (Nat.le_of_ble_eq_true rfl) (fun σ1 hr => ?_)
  obtain ⟨hq1, hk1, hv⟩ := hr
  refine r_iconst (pc := 4) (v := nI 0) dX0_leastTrue_4 (by decide) ?_
  refine r_istore_n (pc := 5) (i := 1) (L' := [_, _]) dX0_leastTrue_5 rfl (by decide) rfl ?_
  suffices h : ∀ k i, i + k = 9 → (∀ j, j < i → CS σ N j = 0) → V shX0 RX0 cX0_leastTrue 2 5 (some .int) (fun r σ' => QI σ' N ∧ Kp σ σ' ∧ leastP (CS σ N) r) 6 [some (.inr 0), some (.inl (nI i))] [] σ1 from h 9 0 (by omega) (fun j h => absurd h (by omega))
  intro k
  induction k with
  | zero =>
    intro i hi hz
    refine r_iload_n (pc := 6) (i := 1) dX0_leastTrue_6 rfl rfl ?_
    refine r_bipush (pc := 7) (v := nI 8) dX0_leastTrue_7 (by decide) ?_
    refine r_icmp_gt (pc := 9) (tgt := 29) dX0_leastTrue_9 (by decide) (fun _ => ?_) (fun z => absurd (nI_lt (by omega) (by omega)) z)
    refine r_bipush (pc := 29) (v := (-4)) dX0_leastTrue_29 (by decide) ?_
    refine r_iret (pc := 31) dX0_leastTrue_31 ?_
    exact ⟨hq1, hk1, Or.inr ⟨rfl, fun j hj => hz j (by omega)⟩⟩
  | succ k ih =>
    intro i hi hz
    have hcs := CS_le σ N i
    refine r_iload_n (pc := 6) (i := 1) dX0_leastTrue_6 rfl rfl ?_
    refine r_bipush (pc := 7) (v := nI 8) dX0_leastTrue_7 (by decide) ?_
    refine r_icmp_gt (pc := 9) (tgt := 29) dX0_leastTrue_9 (by decide) (fun z => absurd z (nI_nlt (by omega) (by omega))) (fun _ => ?_)
    refine r_aload_n (pc := 12) (i := 0) dX0_leastTrue_12 rfl rfl ?_
    refine r_getA (pc := 13) ckX0 18 (by decide) rfl q54 dX0_leastTrue_13 ?_
    refine r_iload_n (pc := 16) (i := 1) dX0_leastTrue_16 rfl rfl ?_
    refine r_iald (pc := 17) ckX0 rfl dX0_leastTrue_17 (rfl) (by omega) ?_
    refine r_top _ (hv i (by omega)) ?_
    by_cases e : CS σ N i = 0
    · rw [e]
      refine r_if_le (pc := 18) (tgt := 23) dX0_leastTrue_18 (by decide) (fun _ => ?_) (fun z => absurd (by decide) z)
      refine r_iinc (pc := 23) (v := _) (L' := [_, _]) dX0_leastTrue_23 rfl (inc1 _) (by decide) rfl ?_
      refine r_goto (pc := 26) (tgt := 6) dX0_leastTrue_26 (by decide) ?_
      refine ih (i + 1) (by omega) (fun j hj => ?_)
      by_cases ej : j = i
      · rw [ej]; exact e
      · exact hz j (by omega)
    · refine r_if_le (pc := 18) (tgt := 23) dX0_leastTrue_18 (by decide) (fun z => absurd z (nI_nle (by omega) (by omega))) (fun _ => ?_)
      refine r_iload_n (pc := 21) (i := 1) dX0_leastTrue_21 rfl rfl ?_
      refine r_iret (pc := 22) dX0_leastTrue_22 ?_
      exact ⟨hq1, hk1, Or.inl ⟨i, by omega, rfl, e, hz⟩⟩
end
section
/-! X0: literal, scrap, clause, unclause, clauses, weight -/
abbrev P_literal (σ : St) (D : Nat) (l : Int32) : Int32 → St → Prop := fun r σ' => (r = -1 ∧ (l < 0 ∨ nI 15 < l) ∧ σ' = σ) ∨ (r = -2 ∧ ¬ (l < 0 ∨ nI 15 < l) ∧ D = 3 ∧ σ' = σ) ∨ (∃ j, j < 16 ∧ l = nI j) ∧ D < 3 ∧ r = nI (D + 1) ∧ σ' = su (su σ 1 D l) 0 0 (nI (D + 1))
theorem lit_of {l : Int32} (h1 : ¬ l < 0) (h2 : l ≤ nI 15) : ∃ j, j < 16 ∧ l = nI j := by
  obtain ⟨j, hj, e⟩ := nI_of2 (M := nI 15) (n := 15) (by decide) h1 h2
  exact ⟨j, by omega, e⟩
theorem lit_good {l : Int32} (h1 : ¬ l < 0) (h2 : l ≤ nI 15) : ¬ (l < 0 ∨ nI 15 < l) := by
  rintro (h | h)
  · exact h1 h
  · exact (fa_of_lt h).2.1 h2
theorem m_literal (σ : St) (D : Nat) (hD : D ≤ 3) (h0 : σ 0 0 = nI D) (l : Int32) : CN shX0 yX0_literal cX0_literal 2 0 (some .int) [l] σ (P_literal σ D l) := by
  refine CN.ofV (own := RX0) (by decide) rfl (Nat.le_of_ble_eq_true rfl) ?_
  show V shX0 RX0 cX0_literal 2 0 (some .int) _ 0 [some (.inr 0), some (.inl l)] [] _
  have bad : (l < 0 ∨ nI 15 < l) → V shX0 RX0 cX0_literal 2 0 (some .int) (P_literal σ D l) 10 [some (.inr 0), some (.inl (l))] [] σ := by
    intro h
    refine r_iconst (pc := 10) (v := (-1)) dX0_literal_10 (by decide) ?_
    refine r_iret (pc := 11) dX0_literal_11 ?_
    exact Or.inl ⟨rfl, h, rfl⟩
  refine r_iload_n (pc := 0) (i := 1) dX0_literal_0 rfl rfl ?_
  refine r_if_lt (pc := 1) (tgt := 10) dX0_literal_1 (by decide) (fun h1 => ?_) (fun h1 => ?_)
  · exact bad (Or.inl h1)
  · refine r_iload_n (pc := 4) (i := 1) dX0_literal_4 rfl rfl ?_
    refine r_bipush (pc := 5) (v := nI 15) dX0_literal_5 (by decide) ?_
    refine r_icmp_le (pc := 7) (tgt := 12) dX0_literal_7 (by decide) (fun h2 => ?_) (fun h2 => ?_)
    · refine r_aload_n (pc := 12) (i := 0) dX0_literal_12 rfl rfl ?_
      refine r_getI (pc := 13) ckX0 0 (by decide) rfl q36 dX0_literal_13 ?_
      refine r_iconst (pc := 16) (v := nI 3) dX0_literal_16 (by decide) ?_
      by_cases e : D = 3
      · refine r_icmp_ne (pc := 17) (tgt := 23) dX0_literal_17 (by decide) (fun z => absurd (by rw [h0, e]) z) (fun _ => ?_)
        refine r_bipush (pc := 20) (v := (-2)) dX0_literal_20 (by decide) ?_
        refine r_iret (pc := 22) dX0_literal_22 ?_
        exact Or.inr (Or.inl ⟨rfl, lit_good h1 h2, e, rfl⟩)
      · refine r_icmp_ne (pc := 17) (tgt := 23) dX0_literal_17 (by decide) (fun _ => ?_) (fun z => absurd z (fun z => e ((nI_eq (by omega) (by decide)).mp (h0.symm.trans z))))
        refine r_aload_n (pc := 23) (i := 0) dX0_literal_23 rfl rfl ?_
        refine r_getA (pc := 24) ckX0 1 (by decide) rfl q37 dX0_literal_24 ?_
        refine r_aload_n (pc := 27) (i := 0) dX0_literal_27 rfl rfl ?_
        refine r_getI (pc := 28) ckX0 0 (by decide) rfl q36 dX0_literal_28 ?_
        refine r_iload_n (pc := 31) (i := 1) dX0_literal_31 rfl rfl ?_
        refine r_iast (pc := 32) ckX0 rfl dX0_literal_32 (h0) (by omega) ?_
        refine r_aload_n (pc := 33) (i := 0) dX0_literal_33 rfl rfl ?_
        refine r_dup (pc := 34) dX0_literal_34 ?_
        refine r_getI (pc := 35) ckX0 0 (by decide) rfl q36 dX0_literal_35 ?_
        refine r_top (nI D) h0 ?_
        refine r_iconst (pc := 38) (v := nI 1) dX0_literal_38 (by decide) ?_
        refine r_iadd (pc := 39) dX0_literal_39 ?_
        refine r_top (nI (D + 1)) (nI_add D 1) ?_
        refine r_put (pc := 40) (ty := .int) ckX0 0 (by decide) rfl rfl (by decide +kernel) rfl rfl q36 dX0_literal_40 ?_
        refine r_aload_n (pc := 43) (i := 0) dX0_literal_43 rfl rfl ?_
        refine r_getI (pc := 44) ckX0 0 (by decide) rfl q36 dX0_literal_44 ?_
        refine r_top (nI (D + 1)) (su_eq _ _ _ _) ?_
        refine r_iret (pc := 47) dX0_literal_47 ?_
        exact Or.inr (Or.inr ⟨lit_of h1 h2, by omega, rfl, rfl⟩)
    · exact bad (Or.inr (fa_of_nle h2))
theorem m_scrap (σ : St) : CN shX0 yX0_scrap cX0_scrap 1 0 none [] σ (fun _ σ' => σ' = su σ 0 0 (nI 0)) := by
  refine CN.ofV (own := RX0) (by decide) rfl (Nat.le_of_ble_eq_true rfl) ?_
  show V shX0 RX0 cX0_scrap 1 0 none _ 0 [some (.inr 0)] [] _
  refine r_aload_n (pc := 0) (i := 0) dX0_scrap_0 rfl rfl ?_
  refine r_iconst (pc := 1) (v := nI 0) dX0_scrap_1 (by decide) ?_
  refine r_put (pc := 2) (ty := .int) ckX0 0 (by decide) rfl rfl (by decide +kernel) rfl rfl q36 dX0_scrap_2 ?_
  refine r_vret (pc := 5) dX0_scrap_5 ?_
  rfl
theorem m_clauses (σ : St) (N : Nat) (hc : σ 2 0 = nI N) : CN shX0 yX0_clauses cX0_clauses 1 0 (some .int) [] σ (fun r σ' => σ' = σ ∧ r = nI N) := by
  refine CN.ofV (own := RX0) (by decide) rfl (Nat.le_of_ble_eq_true rfl) ?_
  show V shX0 RX0 cX0_clauses 1 0 (some .int) _ 0 [some (.inr 0)] [] _
  refine r_aload_n (pc := 0) (i := 0) dX0_clauses_0 rfl rfl ?_
  refine r_getI (pc := 1) ckX0 2 (by decide) rfl q38 dX0_clauses_1 ?_
  refine r_iret (pc := 4) dX0_clauses_4 ?_
  exact ⟨rfl, hc⟩
abbrev P_unclause (σ : St) (N k7 : Nat) (f : St → St) : Int32 → St → Prop := fun r σ' => (N = 0 ∧ r = -4 ∧ σ' = σ) ∨ (k7 = 0 ∧ ∃ P, N = P + 1 ∧ r = nI P ∧ σ' = f (su σ 2 0 (nI P)))
theorem m_unclause (σ : St) (N : Nat) (hN : N ≤ 14) (hc : σ 2 0 = nI N) : CN shX0 yX0_unclause cX0_unclause 1 0 (some .int) [] σ (P_unclause σ N 0 (fun s => su s 7 0 (nI 0))) := by
  refine CN.ofV (own := RX0) (by decide) rfl (Nat.le_of_ble_eq_true rfl) ?_
  show V shX0 RX0 cX0_unclause 1 0 (some .int) _ 0 [some (.inr 0)] [] _
  refine r_aload_n (pc := 0) (i := 0) dX0_unclause_0 rfl rfl ?_
  refine r_getI (pc := 1) ckX0 2 (by decide) rfl q38 dX0_unclause_1 ?_
  cases N with
  | zero =>
    refine r_if_ne (pc := 4) (tgt := 10) dX0_unclause_4 (by decide) (fun z => absurd (hc) z) (fun _ => ?_)
    refine r_bipush (pc := 7) (v := (-4)) dX0_unclause_7 (by decide) ?_
    refine r_iret (pc := 9) dX0_unclause_9 ?_
    exact Or.inl ⟨rfl, rfl, rfl⟩
  | succ P =>
    refine r_if_ne (pc := 4) (tgt := 10) dX0_unclause_4 (by decide) (fun _ => ?_) (fun z => absurd z (by rw [hc]; exact nI_ne0 (by omega) (by omega)))
    refine r_aload_n (pc := 10) (i := 0) dX0_unclause_10 rfl rfl ?_
    refine r_dup (pc := 11) dX0_unclause_11 ?_
    refine r_getI (pc := 12) ckX0 2 (by decide) rfl q38 dX0_unclause_12 ?_
    refine r_top (nI (P + 1)) hc ?_
    refine r_iconst (pc := 15) (v := nI 1) dX0_unclause_15 (by decide) ?_
    refine r_isub (pc := 16) dX0_unclause_16 ?_
    refine r_top (nI P) (nI_pred P) ?_
    refine r_put (pc := 17) (ty := .int) ckX0 2 (by decide) rfl rfl (by decide +kernel) rfl rfl q38 dX0_unclause_17 ?_
    refine r_aload_n (pc := 20) (i := 0) dX0_unclause_20 rfl rfl ?_
    refine r_iconst (pc := 21) (v := nI 0) dX0_unclause_21 (by decide) ?_
    refine r_put (pc := 22) (ty := .boolean) ckX0 7 (by decide) rfl rfl (by decide +kernel) rfl rfl q43 dX0_unclause_22 ?_
    refine r_aload_n (pc := 25) (i := 0) dX0_unclause_25 rfl rfl ?_
    refine r_getI (pc := 26) ckX0 2 (by decide) rfl q38 dX0_unclause_26 ?_
    refine r_top (nI P) (show su (su σ 2 0 (nI P)) 7 0 (nI 0) 2 0 = nI P from rfl) ?_
    refine r_iret (pc := 29) dX0_unclause_29 ?_
    exact Or.inr ⟨rfl, P, rfl, rfl, rfl⟩
/-- the literals of the draft as bits -/
def dbit (σ : St) (i k v : Nat) : Prop := ∃ j, j < i ∧ σ 1 j = nI (2 * v + k)
abbrev P_clause (σ : St) (N D : Nat) : Int32 → St → Prop := fun r σ' => (N = 14 ∧ r = -2 ∧ σ' = σ) ∨ (N < 14 ∧ r = nI N ∧ σ' 0 0 = nI 0 ∧ σ' 2 0 = nI (N + 1) ∧ σ' 7 0 = nI 0 ∧ σ' 5 = σ 5 ∧ σ' 6 = σ 6 ∧ (∀ c, c ≠ N → σ' 3 c = σ 3 c ∧ σ' 4 c = σ 4 c) ∧ ∀ v, v < 8 → (bt (σ' 3 N) v = true ↔ dbit σ D 0 v) ∧ (bt (σ' 4 N) v = true ↔ dbit σ D 1 v))
theorem half_nI {l : Nat} (h : l < 16) : nI l >>> (nI 1 &&& 31) = nI (l / 2) := by
  rw [pk_shrN (by omega) _ 1 (by decide)]
theorem odd_nI {l : Nat} (h : l < 16) : nI l &&& nI 1 = nI (l % 2) := by
  rw [show nI 1 = nI (2 ^ 1 - 1) from rfl, fa_mask]
theorem dbit_next {σ : St} {i k v l : Nat} (hv : v < 8) (hl : l < 16) (h : σ 1 i = nI l) (hk : k < 2) : dbit σ (i + 1) k v ↔ dbit σ i k v ∨ l = 2 * v + k := by
  constructor
  · rintro ⟨j, hj, e⟩
    by_cases ej : j = i
    · rw [ej, h] at e
      exact Or.inr ((nI_eq (by omega) (by omega)).mp e)
    · exact Or.inl ⟨j, by omega, e⟩
  · rintro (⟨j, hj, e⟩ | e)
    · exact ⟨j, by omega, e⟩
    · exact ⟨i, by omega, by rw [h, e]⟩
theorem m_clause (σ : St) (N D : Nat) (hN : N ≤ 14) (hc : σ 2 0 = nI N) (hD : D ≤ 3) (h0 : σ 0 0 = nI D) (hl : ∀ i, i < D → ∃ l, l < 16 ∧ σ 1 i = nI l) : CN shX0 yX0_clause cX0_clause 2 0 (some .int) [] σ (P_clause σ N D) := by
  refine CN.ofV (own := RX0) (by decide) rfl (Nat.le_of_ble_eq_true rfl) ?_
  show V shX0 RX0 cX0_clause 2 0 (some .int) _ 0 [some (.inr 0), none] [] _
  refine r_aload_n (pc := 0) (i := 0) dX0_clause_0 rfl rfl ?_
  refine r_getI (pc := 1) ckX0 2 (by decide) rfl q38 dX0_clause_1 ?_
  refine r_bipush (pc := 4) (v := nI 14) dX0_clause_4 (by decide) ?_
  by_cases e : N = 14
  · refine r_icmp_ne (pc := 6) (tgt := 12) dX0_clause_6 (by decide) (fun z => absurd (by rw [hc, e]) z) (fun _ => ?_)
    refine r_bipush (pc := 9) (v := (-2)) dX0_clause_9 (by decide) ?_
    refine r_iret (pc := 11) dX0_clause_11 ?_
    exact Or.inl ⟨e, rfl, rfl⟩
  · refine r_icmp_ne (pc := 6) (tgt := 12) dX0_clause_6 (by decide) (fun _ => ?_) (fun z => absurd z (fun z => e ((nI_eq (by omega) (by decide)).mp (hc.symm.trans z))))
    have hN' : N < 14 := by omega
    refine r_aload_n (pc := 12) (i := 0) dX0_clause_12 rfl rfl ?_
    refine r_getA (pc := 13) ckX0 3 (by decide) rfl q39 dX0_clause_13 ?_
    refine r_aload_n (pc := 16) (i := 0) dX0_clause_16 rfl rfl ?_
    refine r_getI (pc := 17) ckX0 2 (by decide) rfl q38 dX0_clause_17 ?_
    refine r_iconst (pc := 20) (v := nI 0) dX0_clause_20 (by decide) ?_
    refine r_iast (pc := 21) ckX0 rfl dX0_clause_21 (hc) (hN') ?_
    refine r_aload_n (pc := 22) (i := 0) dX0_clause_22 rfl rfl ?_
    refine r_getA (pc := 23) ckX0 4 (by decide) rfl q40 dX0_clause_23 ?_
    refine r_aload_n (pc := 26) (i := 0) dX0_clause_26 rfl rfl ?_
    refine r_getI (pc := 27) ckX0 2 (by decide) rfl q38 dX0_clause_27 ?_
    refine r_iconst (pc := 30) (v := nI 0) dX0_clause_30 (by decide) ?_
    refine r_iast (pc := 31) ckX0 rfl dX0_clause_31 (hc) (hN') ?_
    refine r_iconst (pc := 32) (v := nI 0) dX0_clause_32 (by decide) ?_
    refine r_istore_n (pc := 33) (i := 1) (L' := [_, _]) dX0_clause_33 rfl (by decide) rfl ?_
    suffices h : ∀ k i σ1, i + k = D → (∀ q, q ≠ 3 → q ≠ 4 → σ1 q = σ q) → (∀ c, c ≠ N → σ1 3 c = σ 3 c ∧ σ1 4 c = σ 4 c) → (∀ v, v < 8 → (bt (σ1 3 N) v = true ↔ dbit σ i 0 v) ∧ (bt (σ1 4 N) v = true ↔ dbit σ i 1 v)) → V shX0 RX0 cX0_clause 2 0 (some .int) (P_clause σ N D) 34 [some (.inr 0), some (.inl (nI i))] [] σ1 from h D 0 _ (by omega) (fun q h h' => (su_ne _ _ _ h').trans (su_ne _ _ _ h)) (fun c hc' => ⟨pk_un hc', pk_un hc'⟩) (fun v hv => by
      have z3 : su (su σ 3 N (nI 0)) 4 N (nI 0) 3 N = nI 0 := pk_us
      have z4 : su (su σ 3 N (nI 0)) 4 N (nI 0) 4 N = nI 0 := pk_us
      rw [z3, z4, show bt (nI 0) v = false from b_0 v]
      exact ⟨⟨(fun z => by cases z), fun ⟨j, hj, _⟩ => absurd hj (by omega)⟩, ⟨(fun z => by cases z), fun ⟨j, hj, _⟩ => absurd hj (by omega)⟩⟩)
    intro k
    induction k with
    | zero =>
      intro i σ1 hi hk ho hb
      have h01 : σ1 0 0 = nI D := by rw [hk 0 (by omega) (by omega)]; exact h0
      have hc1 : σ1 2 0 = nI N := by rw [hk 2 (by omega) (by omega)]; exact hc
      refine r_iload_n (pc := 34) (i := 1) dX0_clause_34 rfl rfl ?_
      refine r_aload_n (pc := 35) (i := 0) dX0_clause_35 rfl rfl ?_
      refine r_getI (pc := 36) ckX0 0 (by decide) rfl q36 dX0_clause_36 ?_
      refine r_icmp_ge (pc := 39) (tgt := 120) dX0_clause_39 (by decide) (fun _ => ?_) (fun z => absurd (by rw [h01]; exact nI_le (by omega) (by omega)) z)
      refine r_aload_n (pc := 120) (i := 0) dX0_clause_120 rfl rfl ?_
      refine r_iconst (pc := 121) (v := nI 0) dX0_clause_121 (by decide) ?_
      refine r_put (pc := 122) (ty := .int) ckX0 0 (by decide) rfl rfl (by decide +kernel) rfl rfl q36 dX0_clause_122 ?_
      refine r_aload_n (pc := 125) (i := 0) dX0_clause_125 rfl rfl ?_
      refine r_dup (pc := 126) dX0_clause_126 ?_
      refine r_getI (pc := 127) ckX0 2 (by decide) rfl q38 dX0_clause_127 ?_
      refine r_top (nI N) hc1 ?_
      refine r_iconst (pc := 130) (v := nI 1) dX0_clause_130 (by decide) ?_
      refine r_iadd (pc := 131) dX0_clause_131 ?_
      refine r_top (nI (N + 1)) (nI_add N 1) ?_
      refine r_put (pc := 132) (ty := .int) ckX0 2 (by decide) rfl rfl (by decide +kernel) rfl rfl q38 dX0_clause_132 ?_
      refine r_aload_n (pc := 135) (i := 0) dX0_clause_135 rfl rfl ?_
      refine r_iconst (pc := 136) (v := nI 0) dX0_clause_136 (by decide) ?_
      refine r_put (pc := 137) (ty := .boolean) ckX0 7 (by decide) rfl rfl (by decide +kernel) rfl rfl q43 dX0_clause_137 ?_
      refine r_aload_n (pc := 140) (i := 0) dX0_clause_140 rfl rfl ?_
      refine r_getI (pc := 141) ckX0 2 (by decide) rfl q38 dX0_clause_141 ?_
      refine r_top (nI (N + 1)) (show su (su (su σ1 0 0 (nI 0)) 2 0 (nI (N + 1))) 7 0 (nI 0) 2 0 = nI (N + 1) from rfl) ?_
      refine r_iconst (pc := 144) (v := nI 1) dX0_clause_144 (by decide) ?_
      refine r_isub (pc := 145) dX0_clause_145 ?_
      refine r_top (nI N) (nI_pred N) ?_
      refine r_iret (pc := 146) dX0_clause_146 ?_
      refine Or.inr ⟨hN', rfl, rfl, rfl, rfl, hk 5 (by omega) (by omega), hk 6 (by omega) (by omega), ho, ?_⟩
      rw [show D = i by omega]
      exact hb
    | succ k ih =>
      intro i σ1 hi hk ho hb
      have h01 : σ1 0 0 = nI D := by rw [hk 0 (by omega) (by omega)]; exact h0
      have hc1 : σ1 2 0 = nI N := by rw [hk 2 (by omega) (by omega)]; exact hc
      obtain ⟨l, hl16, el⟩ := hl i (by omega)
      have el1 : σ1 1 i = nI l := by rw [hk 1 (by omega) (by omega)]; exact el
      refine r_iload_n (pc := 34) (i := 1) dX0_clause_34 rfl rfl ?_
      refine r_aload_n (pc := 35) (i := 0) dX0_clause_35 rfl rfl ?_
      refine r_getI (pc := 36) ckX0 0 (by decide) rfl q36 dX0_clause_36 ?_
      refine r_icmp_ge (pc := 39) (tgt := 120) dX0_clause_39 (by decide) (fun z => absurd z (by rw [h01]; exact nI_ge (by omega) (by omega))) (fun _ => ?_)
      refine r_aload_n (pc := 42) (i := 0) dX0_clause_42 rfl rfl ?_
      refine r_getA (pc := 43) ckX0 1 (by decide) rfl q37 dX0_clause_43 ?_
      refine r_iload_n (pc := 46) (i := 1) dX0_clause_46 rfl rfl ?_
      refine r_iald (pc := 47) ckX0 rfl dX0_clause_47 (rfl) (by omega) ?_
      refine r_top (nI l) el1 ?_
      refine r_iconst (pc := 48) (v := nI 1) dX0_clause_48 (by decide) ?_
      refine r_iand (pc := 49) dX0_clause_49 ?_
      refine r_top _ (odd_nI hl16) ?_
      by_cases hp : l % 2 = 0
      · rw [hp]
        refine r_if_ne (pc := 50) (tgt := 85) dX0_clause_50 (by decide) (fun z => absurd (rfl) z) (fun _ => ?_)
        refine r_aload_n (pc := 53) (i := 0) dX0_clause_53 rfl rfl ?_
        refine r_getA (pc := 54) ckX0 3 (by decide) rfl q39 dX0_clause_54 ?_
        refine r_aload_n (pc := 57) (i := 0) dX0_clause_57 rfl rfl ?_
        refine r_getI (pc := 58) ckX0 2 (by decide) rfl q38 dX0_clause_58 ?_
        refine r_aload_n (pc := 61) (i := 0) dX0_clause_61 rfl rfl ?_
        refine r_getA (pc := 62) ckX0 3 (by decide) rfl q39 dX0_clause_62 ?_
        refine r_aload_n (pc := 65) (i := 0) dX0_clause_65 rfl rfl ?_
        refine r_getI (pc := 66) ckX0 2 (by decide) rfl q38 dX0_clause_66 ?_
        refine r_iald (pc := 69) ckX0 rfl dX0_clause_69 (hc1) (hN') ?_
        refine r_iconst (pc := 70) (v := nI 1) dX0_clause_70 (by decide) ?_
        refine r_aload_n (pc := 71) (i := 0) dX0_clause_71 rfl rfl ?_
        refine r_getA (pc := 72) ckX0 1 (by decide) rfl q37 dX0_clause_72 ?_
        refine r_iload_n (pc := 75) (i := 1) dX0_clause_75 rfl rfl ?_
        refine r_iald (pc := 76) ckX0 rfl dX0_clause_76 (rfl) (by omega) ?_
        refine r_top (nI l) el1 ?_
        refine r_iconst (pc := 77) (v := nI 1) dX0_clause_77 (by decide) ?_
        refine r_ishr (pc := 78) dX0_clause_78 ?_
        refine r_top _ (half_nI hl16) ?_
        refine r_ishl (pc := 79) dX0_clause_79 ?_
        refine r_ior (pc := 80) dX0_clause_80 ?_
        refine r_iast (pc := 81) ckX0 rfl dX0_clause_81 (hc1) (hN') ?_
        refine r_goto (pc := 82) (tgt := 114) dX0_clause_82 (by decide) ?_
        refine r_iinc (pc := 114) (v := _) (L' := [_, _]) dX0_clause_114 rfl (inc1 _) (by decide) rfl ?_
        refine r_goto (pc := 117) (tgt := 34) dX0_clause_117 (by decide) ?_
        refine ih (i + 1) _ (by omega) (fun q h h' => (su_ne _ _ _ h).trans (hk q h h')) (fun c hc' => ⟨(pk_un hc').trans (ho c hc').1, (ho c hc').2⟩) (fun v hv => ?_)
        have z3 : su σ1 3 N (σ1 3 N ||| nI 1 <<< (nI (l / 2) &&& 31)) 3 N = σ1 3 N ||| nI 1 <<< (nI (l / 2) &&& 31) := pk_us
        have z4 : su σ1 3 N (σ1 3 N ||| nI 1 <<< (nI (l / 2) &&& 31)) 4 N = σ1 4 N := rfl
        rw [z3, z4, dbit_next hv hl16 el (by omega), dbit_next hv hl16 el (by omega), ← (hb v hv).1, ← (hb v hv).2, b_or, bt_pow (by omega) (by omega), Bool.or_eq_true, decide_eq_true_iff]
        refine ⟨?_, ?_⟩
        · constructor
          · rintro (h | h)
            · exact Or.inl h
            · exact Or.inr (by omega)
          · rintro (h | h)
            · exact Or.inl h
            · exact Or.inr (by omega)
        · constructor
          · exact fun h => Or.inl h
          · rintro (h | h)
            · exact h
            · omega
      · rw [show l % 2 = 1 by omega]
        refine r_if_ne (pc := 50) (tgt := 85) dX0_clause_50 (by decide) (fun _ => ?_) (fun z => absurd z (by decide))
        refine r_aload_n (pc := 85) (i := 0) dX0_clause_85 rfl rfl ?_
        refine r_getA (pc := 86) ckX0 4 (by decide) rfl q40 dX0_clause_86 ?_
        refine r_aload_n (pc := 89) (i := 0) dX0_clause_89 rfl rfl ?_
        refine r_getI (pc := 90) ckX0 2 (by decide) rfl q38 dX0_clause_90 ?_
        refine r_aload_n (pc := 93) (i := 0) dX0_clause_93 rfl rfl ?_
        refine r_getA (pc := 94) ckX0 4 (by decide) rfl q40 dX0_clause_94 ?_
        refine r_aload_n (pc := 97) (i := 0) dX0_clause_97 rfl rfl ?_
        refine r_getI (pc := 98) ckX0 2 (by decide) rfl q38 dX0_clause_98 ?_
        refine r_iald (pc := 101) ckX0 rfl dX0_clause_101 (hc1) (hN') ?_
        refine r_iconst (pc := 102) (v := nI 1) dX0_clause_102 (by decide) ?_
        refine r_aload_n (pc := 103) (i := 0) dX0_clause_103 rfl rfl ?_
        refine r_getA (pc := 104) ckX0 1 (by decide) rfl q37 dX0_clause_104 ?_
        refine r_iload_n (pc := 107) (i := 1) dX0_clause_107 rfl rfl ?_
        refine r_iald (pc := 108) ckX0 rfl dX0_clause_108 (rfl) (by omega) ?_
        refine r_top (nI l) el1 ?_
        refine r_iconst (pc := 109) (v := nI 1) dX0_clause_109 (by decide) ?_
        refine r_ishr (pc := 110) dX0_clause_110 ?_
        refine r_top _ (half_nI hl16) ?_
        refine r_ishl (pc := 111) dX0_clause_111 ?_
        refine r_ior (pc := 112) dX0_clause_112 ?_
        refine r_iast (pc := 113) ckX0 rfl dX0_clause_113 (hc1) (hN') ?_
        refine r_iinc (pc := 114) (v := _) (L' := [_, _]) dX0_clause_114 rfl (inc1 _) (by decide) rfl ?_
        refine r_goto (pc := 117) (tgt := 34) dX0_clause_117 (by decide) ?_
        refine ih (i + 1) _ (by omega) (fun q h h' => (su_ne _ _ _ h').trans (hk q h h')) (fun c hc' => ⟨(ho c hc').1, (pk_un hc').trans (ho c hc').2⟩) (fun v hv => ?_)
        have z3 : su σ1 4 N (σ1 4 N ||| nI 1 <<< (nI (l / 2) &&& 31)) 3 N = σ1 3 N := rfl
        have z4 : su σ1 4 N (σ1 4 N ||| nI 1 <<< (nI (l / 2) &&& 31)) 4 N = σ1 4 N ||| nI 1 <<< (nI (l / 2) &&& 31) := pk_us
        rw [z3, z4, dbit_next hv hl16 el (by omega), dbit_next hv hl16 el (by omega), ← (hb v hv).1, ← (hb v hv).2, b_or, bt_pow (by omega) (by omega), Bool.or_eq_true, decide_eq_true_iff]
        refine ⟨?_, ?_⟩
        · constructor
          · exact fun h => Or.inl h
          · rintro (h | h)
            · exact h
            · omega
        · constructor
          · rintro (h | h)
            · exact Or.inl h
            · exact Or.inr (by omega)
          · rintro (h | h)
            · exact Or.inl h
            · exact Or.inr (by omega)
abbrev badW (v b w : Int32) : Prop := v < 0 ∨ nI 7 < v ∨ b < 0 ∨ nI 1 < b ∨ w < 0 ∨ nI 9 < w
theorem ge8 {v : Int32} : nI 8 ≤ v ↔ nI 7 < v := by
  rw [fa_le, fa_lt, nI_toInt (by decide), nI_toInt (by decide)]
  omega
theorem bit_of {b : Int32} (h1 : ¬ b < 0) (h2 : ¬ nI 1 < b) : b = nI 0 ∨ b = nI 1 := by
  obtain ⟨j, hj, e⟩ := nI_of2 (M := nI 1) (n := 1) (by decide) h1 (fa_of_nlt h2)
  have : j = 0 ∨ j = 1 := by omega
  rcases this with h | h
  · rw [h] at e; exact Or.inl e
  · rw [h] at e; exact Or.inr e
abbrev P_weight (σ : St) (v b w : Int32) (kF kT : Nat) (ix : Nat → Nat) : Int32 → St → Prop := fun r σ' => (badW v b w ∧ r = -1 ∧ σ' = σ) ∨ (¬ badW v b w ∧ ∃ j, j < 8 ∧ v = nI j ∧ ((b = nI 0 ∧ r = σ 5 j ∧ σ' = su σ 5 j w) ∨ (b = nI 1 ∧ r = σ 6 j ∧ σ' = su σ 6 j w)))
theorem m_weight (σ : St) (v b w : Int32) : CN shX0 yX0_weight cX0_weight 5 0 (some .int) [v, b, w] σ (P_weight σ v b w 5 6 id) := by
  refine CN.ofV (own := RX0) (by decide) rfl (Nat.le_of_ble_eq_true rfl) ?_
  show V shX0 RX0 cX0_weight 5 0 (some .int) _ 0 [some (.inr 0), some (.inl v), some (.inl b), some (.inl w), none] [] _
  have bad : badW v b w → V shX0 RX0 cX0_weight 5 0 (some .int) (P_weight σ v b w 5 6 id) 29 [some (.inr 0), some (.inl (v)), some (.inl (b)), some (.inl (w)), none] [] σ := by
    intro h
    refine r_iconst (pc := 29) (v := (-1)) dX0_weight_29 (by decide) ?_
    refine r_iret (pc := 30) dX0_weight_30 ?_
    exact Or.inl ⟨h, rfl, rfl⟩
  refine r_iload_n (pc := 0) (i := 1) dX0_weight_0 rfl rfl ?_
  refine r_if_lt (pc := 1) (tgt := 29) dX0_weight_1 (by decide) (fun h1 => ?_) (fun h1 => ?_)
  · exact bad (Or.inl h1)
  · refine r_iload_n (pc := 4) (i := 1) dX0_weight_4 rfl rfl ?_
    refine r_bipush (pc := 5) (v := nI 8) dX0_weight_5 (by decide) ?_
    refine r_icmp_ge (pc := 7) (tgt := 29) dX0_weight_7 (by decide) (fun h2 => ?_) (fun h2 => ?_)
    · exact bad (Or.inr (Or.inl (ge8.mp h2)))
    · refine r_iload_n (pc := 10) (i := 2) dX0_weight_10 rfl rfl ?_
      refine r_if_lt (pc := 11) (tgt := 29) dX0_weight_11 (by decide) (fun h3 => ?_) (fun h3 => ?_)
      · exact bad (Or.inr (Or.inr (Or.inl h3)))
      · refine r_iload_n (pc := 14) (i := 2) dX0_weight_14 rfl rfl ?_
        refine r_iconst (pc := 15) (v := nI 1) dX0_weight_15 (by decide) ?_
        refine r_icmp_gt (pc := 16) (tgt := 29) dX0_weight_16 (by decide) (fun h4 => ?_) (fun h4 => ?_)
        · exact bad (Or.inr (Or.inr (Or.inr (Or.inl h4))))
        · refine r_iload_n (pc := 19) (i := 3) dX0_weight_19 rfl rfl ?_
          refine r_if_lt (pc := 20) (tgt := 29) dX0_weight_20 (by decide) (fun h5 => ?_) (fun h5 => ?_)
          · exact bad (Or.inr (Or.inr (Or.inr (Or.inr (Or.inl h5)))))
          · refine r_iload_n (pc := 23) (i := 3) dX0_weight_23 rfl rfl ?_
            refine r_bipush (pc := 24) (v := nI 9) dX0_weight_24 (by decide) ?_
            refine r_icmp_le (pc := 26) (tgt := 31) dX0_weight_26 (by decide) (fun h6 => ?_) (fun h6 => ?_)
            · have hnb : ¬ badW v b w := by
                rintro (h | h | h | h | h | h)
                · exact h1 h
                · exact h2 (ge8.mpr h)
                · exact h3 h
                · exact h4 h
                · exact h5 h
                · exact (fa_of_lt h).2.1 h6
              obtain ⟨j, hj, hv⟩ : ∃ j, j < 8 ∧ v = nI j := by
                rcases pk_ix v (n := 8) (by decide) with h | h | h
                · exact absurd h h1
                · exact absurd h h2
                · exact h
              refine r_iload_n (pc := 31) (i := 2) dX0_weight_31 rfl rfl ?_
              rcases bit_of h3 h4 with hb | hb
              · refine r_if_ne (pc := 32) (tgt := 44) dX0_weight_32 (by decide) (fun z => absurd (hb) z) (fun _ => ?_)
                refine r_aload_n (pc := 35) (i := 0) dX0_weight_35 rfl rfl ?_
                refine r_getA (pc := 36) ckX0 5 (by decide) rfl q41 dX0_weight_36 ?_
                refine r_iload_n (pc := 39) (i := 1) dX0_weight_39 rfl rfl ?_
                refine r_iald (pc := 40) ckX0 rfl dX0_weight_40 (hv) (hj) ?_
                refine r_goto (pc := 41) (tgt := 50) dX0_weight_41 (by decide) ?_
                refine r_istore (pc := 50) (L' := [_, _, _, _, _]) dX0_weight_50 (by decide) rfl ?_
                refine r_iload_n (pc := 52) (i := 2) dX0_weight_52 rfl rfl ?_
                refine r_if_ne (pc := 53) (tgt := 66) dX0_weight_53 (by decide) (fun z => absurd (hb) z) (fun _ => ?_)
                refine r_aload_n (pc := 56) (i := 0) dX0_weight_56 rfl rfl ?_
                refine r_getA (pc := 57) ckX0 5 (by decide) rfl q41 dX0_weight_57 ?_
                refine r_iload_n (pc := 60) (i := 1) dX0_weight_60 rfl rfl ?_
                refine r_iload_n (pc := 61) (i := 3) dX0_weight_61 rfl rfl ?_
                refine r_iast (pc := 62) ckX0 rfl dX0_weight_62 (hv) (hj) ?_
                refine r_goto (pc := 63) (tgt := 73) dX0_weight_63 (by decide) ?_
                refine r_iload (pc := 73) dX0_weight_73 rfl ?_
                refine r_iret (pc := 75) dX0_weight_75 ?_
                exact Or.inr ⟨hnb, j, hj, hv, Or.inl ⟨hb, rfl, rfl⟩⟩
              · refine r_if_ne (pc := 32) (tgt := 44) dX0_weight_32 (by decide) (fun _ => ?_) (fun z => absurd z (by rw [hb]; decide))
                refine r_aload_n (pc := 44) (i := 0) dX0_weight_44 rfl rfl ?_
                refine r_getA (pc := 45) ckX0 6 (by decide) rfl q42 dX0_weight_45 ?_
                refine r_iload_n (pc := 48) (i := 1) dX0_weight_48 rfl rfl ?_
                refine r_iald (pc := 49) ckX0 rfl dX0_weight_49 (hv) (hj) ?_
                refine r_istore (pc := 50) (L' := [_, _, _, _, _]) dX0_weight_50 (by decide) rfl ?_
                refine r_iload_n (pc := 52) (i := 2) dX0_weight_52 rfl rfl ?_
                refine r_if_ne (pc := 53) (tgt := 66) dX0_weight_53 (by decide) (fun _ => ?_) (fun z => absurd z (by rw [hb]; decide))
                refine r_aload_n (pc := 66) (i := 0) dX0_weight_66 rfl rfl ?_
                refine r_getA (pc := 67) ckX0 6 (by decide) rfl q42 dX0_weight_67 ?_
                refine r_iload_n (pc := 70) (i := 1) dX0_weight_70 rfl rfl ?_
                refine r_iload_n (pc := 71) (i := 3) dX0_weight_71 rfl rfl ?_
                refine r_iast (pc := 72) ckX0 rfl dX0_weight_72 (hv) (hj) ?_
                refine r_iload (pc := 73) dX0_weight_73 rfl ?_
                refine r_iret (pc := 75) dX0_weight_75 ?_
                exact Or.inr ⟨hnb, j, hj, hv, Or.inr ⟨hb, rfl, rfl⟩⟩
            · exact bad (Or.inr (Or.inr (Or.inr (Or.inr (Or.inr (fa_of_nle h6))))))
end
section
/-! X1: the reference: truth, isTrue, makesTrue and the edits -/
def lt1 (τ : St) (p : Nat) : Nat := (τ 0 p).toNatClampNeg
def sz1 (τ : St) (c : Nat) : Nat := (τ 1 c).toNatClampNeg
def CL1 (τ : St) (c : Nat) : Prop := sz1 τ c ≤ 3 ∧ τ 1 c = nI (sz1 τ c) ∧ ∀ i, i < sz1 τ c → lt1 τ (3 * c + i) < 16 ∧ τ 0 (3 * c + i) = nI (lt1 τ (3 * c + i))
def C1 (τ : St) (N : Nat) : Prop := N ≤ 14 ∧ τ 2 0 = nI N ∧ ∀ c, c < N → CL1 τ c
def litT (a l : Nat) : Bool := a.testBit (l / 2) != decide (l % 2 = 1)
def tr1 (τ : St) (c a : Nat) : Bool := (List.range (sz1 τ c)).any (fun i => litT a (lt1 τ (3 * c + i)))
def MT1 (τ : St) (N a : Nat) : Bool := (List.range N).all (fun c => tr1 τ c a)
theorem tr1_iff {τ : St} {c a : Nat} : tr1 τ c a = true ↔ ∃ i, i < sz1 τ c ∧ litT a (lt1 τ (3 * c + i)) = true := by
  simp [tr1, List.any_eq_true]
theorem MT1_iff {τ : St} {N a : Nat} : MT1 τ N a = true ↔ ∀ c, c < N → tr1 τ c a = true := by
  simp [MT1, List.all_eq_true]
theorem m1_truth (τ : St) (x : Int32) (v : Nat) (hv : v < 32) : CN shX1 yX1_truth cX1_truth 3 0 (some .int) [x, nI v] τ (fun r σ' => σ' = τ ∧ r = nI (bt x v).toNat) := by
  refine CN.ofV (own := RX1) (by decide) rfl (Nat.le_of_ble_eq_true rfl) ?_
  show V shX1 RX1 cX1_truth 3 0 (some .int) _ 0 [some (.inr 0), some (.inl x), some (.inl (nI v))] [] _
  refine r_iload_n (pc := 0) (i := 1) dX1_truth_0 rfl rfl ?_
  refine r_iload_n (pc := 1) (i := 2) dX1_truth_1 rfl rfl ?_
  refine r_ishr (pc := 2) dX1_truth_2 ?_
  refine r_iconst (pc := 3) (v := nI 1) dX1_truth_3 (by decide) ?_
  refine r_iand (pc := 4) dX1_truth_4 ?_
  refine r_iret (pc := 5) dX1_truth_5 ?_
  exact ⟨rfl, shr_bit x hv⟩
theorem b2_mod (b : Bool) (l : Nat) : nI b.toNat = nI (l % 2) ↔ b = decide (l % 2 = 1) := by
  have : l % 2 = 0 ∨ l % 2 = 1 := by omega
  rcases this with h | h
  · rw [h]
    cases b
    · exact ⟨fun _ => rfl, fun _ => rfl⟩
    · exact ⟨fun z => absurd z (by decide), fun z => absurd z (by decide)⟩
  · rw [h]
    cases b
    · exact ⟨fun z => absurd z (by decide), fun z => absurd z (by decide)⟩
    · exact ⟨fun _ => rfl, fun _ => rfl⟩
theorem m1_isTrue (τ : St) (c a : Nat) (hc : c < 14) (hC : CL1 τ c) : CN shX1 yX1_isTrue cX1_isTrue 4 1 (some .boolean) [nI c, nI a] τ (fun r σ' => σ' = τ ∧ r = nI (tr1 τ c a).toNat) := by
  obtain ⟨hs, e1, hl⟩ := hC
  refine CN.ofV (own := RX1) (by decide) rfl (Nat.le_of_ble_eq_true rfl) ?_
  show V shX1 RX1 cX1_isTrue 4 1 (some .boolean) _ 0 [some (.inr 0), some (.inl (nI c)), some (.inl (nI a)), none] [] _
  refine r_iconst (pc := 0) (v := nI 3) dX1_isTrue_0 (by decide) ?_
  refine r_iload_n (pc := 1) (i := 1) dX1_isTrue_1 rfl rfl ?_
  refine r_imul (pc := 2) dX1_isTrue_2 ?_
  refine r_top _ (pk_mul 3 c) ?_
  refine r_istore_n (pc := 3) (i := 3) (L' := [_, _, _, _]) dX1_isTrue_3 rfl (by decide) rfl ?_
  suffices h : ∀ k i, i + k = sz1 τ c → (∀ j, j < i → litT a (lt1 τ (3 * c + j)) = false) → V shX1 RX1 cX1_isTrue 4 1 (some .boolean) (fun r σ' => σ' = τ ∧ r = nI (tr1 τ c a).toNat) 4 [some (.inr 0), some (.inl (nI c)), some (.inl (nI a)), some (.inl (nI (3 * c + i)))] [] τ from h (sz1 τ c) 0 (by omega) (fun j h => absurd h (by omega))
  intro k
  induction k with
  | zero =>
    intro i hi hp
    refine r_iload_n (pc := 4) (i := 3) dX1_isTrue_4 rfl rfl ?_
    refine r_iconst (pc := 5) (v := nI 3) dX1_isTrue_5 (by decide) ?_
    refine r_iload_n (pc := 6) (i := 1) dX1_isTrue_6 rfl rfl ?_
    refine r_imul (pc := 7) dX1_isTrue_7 ?_
    refine r_aload_n (pc := 8) (i := 0) dX1_isTrue_8 rfl rfl ?_
    refine r_getA (pc := 9) ckX1 1 (by decide) rfl q258 dX1_isTrue_9 ?_
    refine r_iload_n (pc := 12) (i := 1) dX1_isTrue_12 rfl rfl ?_
    refine r_iald (pc := 13) ckX1 rfl dX1_isTrue_13 (rfl) (by omega) ?_
    refine r_iadd (pc := 14) dX1_isTrue_14 ?_
    refine r_top (nI (3 * c + sz1 τ c)) (by rw [e1, pk_mul, nI_add]) ?_
    refine r_icmp_ge (pc := 15) (tgt := 50) dX1_isTrue_15 (by decide) (fun _ => ?_) (fun z => absurd (nI_le (by omega) (by omega)) z)
    refine r_iconst (pc := 50) (v := nI 0) dX1_isTrue_50 (by decide) ?_
    refine r_zret (pc := 51) dX1_isTrue_51 (by decide) ?_
    refine ⟨rfl, ?_⟩
    have : tr1 τ c a = false := by
      cases h : tr1 τ c a
      · rfl
      · obtain ⟨j, hj, hb⟩ := tr1_iff.mp h
        rw [hp j (by omega)] at hb
        cases hb
    rw [this]
    rfl
  | succ k ih =>
    intro i hi hp
    obtain ⟨hl16, el⟩ := hl i (by omega)
    generalize hL : lt1 τ (3 * c + i) = l at hl16 el
    refine r_iload_n (pc := 4) (i := 3) dX1_isTrue_4 rfl rfl ?_
    refine r_iconst (pc := 5) (v := nI 3) dX1_isTrue_5 (by decide) ?_
    refine r_iload_n (pc := 6) (i := 1) dX1_isTrue_6 rfl rfl ?_
    refine r_imul (pc := 7) dX1_isTrue_7 ?_
    refine r_aload_n (pc := 8) (i := 0) dX1_isTrue_8 rfl rfl ?_
    refine r_getA (pc := 9) ckX1 1 (by decide) rfl q258 dX1_isTrue_9 ?_
    refine r_iload_n (pc := 12) (i := 1) dX1_isTrue_12 rfl rfl ?_
    refine r_iald (pc := 13) ckX1 rfl dX1_isTrue_13 (rfl) (by omega) ?_
    refine r_iadd (pc := 14) dX1_isTrue_14 ?_
    refine r_top (nI (3 * c + sz1 τ c)) (by rw [e1, pk_mul, nI_add]) ?_
    refine r_icmp_ge (pc := 15) (tgt := 50) dX1_isTrue_15 (by decide) (fun z => absurd z (nI_ge (by omega) (by omega))) (fun _ => ?_)
    refine r_aload_n (pc := 18) (i := 0) dX1_isTrue_18 rfl rfl ?_
    refine r_iload_n (pc := 19) (i := 2) dX1_isTrue_19 rfl rfl ?_
    refine r_aload_n (pc := 20) (i := 0) dX1_isTrue_20 rfl rfl ?_
    refine r_getA (pc := 21) ckX1 0 (by decide) rfl q257 dX1_isTrue_21 ?_
    refine r_iload_n (pc := 24) (i := 3) dX1_isTrue_24 rfl rfl ?_
    refine r_iald (pc := 25) ckX1 rfl dX1_isTrue_25 (rfl) (by omega) ?_
    refine r_top (nI l) el ?_
    refine r_iconst (pc := 26) (v := nI 2) dX1_isTrue_26 (by decide) ?_
    refine r_idiv (pc := 27) dX1_isTrue_27 (by decide) ?_
    refine r_top (nI (l / 2)) (pk_div (by omega) (by decide) (by decide)) ?_
    refine r_callI (pc := 28) ckX1 (m1_truth τ (nI a) (l / 2) (by omega)) mf_X1_truth q310 (by decide) (by decide) dX1_isTrue_28 rfl (Nat.le_of_ble_eq_true rfl) (fun r τ hr => ?_)
    obtain ⟨rfl, rfl⟩ := hr
    rw [bt_nI a (by omega)]
    refine r_aload_n (pc := 31) (i := 0) dX1_isTrue_31 rfl rfl ?_
    refine r_getA (pc := 32) ckX1 0 (by decide) rfl q257 dX1_isTrue_32 ?_
    refine r_iload_n (pc := 35) (i := 3) dX1_isTrue_35 rfl rfl ?_
    refine r_iald (pc := 36) ckX1 rfl dX1_isTrue_36 (rfl) (by omega) ?_
    refine r_top (nI l) el ?_
    refine r_iconst (pc := 37) (v := nI 2) dX1_isTrue_37 (by decide) ?_
    refine r_irem (pc := 38) dX1_isTrue_38 (by decide) ?_
    refine r_top (nI (l % 2)) (pk_rem (by omega) (by decide) (by decide)) ?_
    have hb := b2_mod (a.testBit (l / 2)) l
    refine r_icmp_eq (pc := 39) (tgt := 44) dX1_isTrue_39 (by decide) (fun h1 => ?_) (fun h1 => ?_)
    · refine r_iinc (pc := 44) (v := _) (L' := [_, _, _, _]) dX1_isTrue_44 rfl (inc1 _) (by decide) rfl ?_
      refine r_goto (pc := 47) (tgt := 4) dX1_isTrue_47 (by decide) ?_
      refine ih (i + 1) (by omega) (fun j hj => ?_)
      by_cases e : j = i
      · rw [e, hL]
        unfold litT
        rw [hb.mp h1]
        simp
      · exact hp j (by omega)
    · refine r_iconst (pc := 42) (v := nI 1) dX1_isTrue_42 (by decide) ?_
      refine r_zret (pc := 43) dX1_isTrue_43 (by decide) ?_
      refine ⟨rfl, ?_⟩
      have : tr1 τ c a = true := tr1_iff.mpr ⟨i, by omega, by
        rw [hL]
        unfold litT
        simpa using fun z => h1 (hb.mpr z)⟩
      rw [this]
      rfl
theorem m1_makesTrue (τ : St) (N a : Nat) (hC : C1 τ N) : CN shX1 yX1_makesTrue cX1_makesTrue 3 2 (some .boolean) [nI a] τ (fun r σ' => σ' = τ ∧ r = nI (MT1 τ N a).toNat) := by
  obtain ⟨hN, hc, hcl⟩ := hC
  refine CN.ofV (own := RX1) (by decide) rfl (Nat.le_of_ble_eq_true rfl) ?_
  show V shX1 RX1 cX1_makesTrue 3 2 (some .boolean) _ 0 [some (.inr 0), some (.inl (nI a)), none] [] _
  refine r_iconst (pc := 0) (v := nI 0) dX1_makesTrue_0 (by decide) ?_
  refine r_istore_n (pc := 1) (i := 2) (L' := [_, _, _]) dX1_makesTrue_1 rfl (by decide) rfl ?_
  suffices h : ∀ k i, i + k = N → (∀ c, c < i → tr1 τ c a = true) → V shX1 RX1 cX1_makesTrue 3 2 (some .boolean) (fun r σ' => σ' = τ ∧ r = nI (MT1 τ N a).toNat) 2 [some (.inr 0), some (.inl (nI a)), some (.inl (nI i))] [] τ from h N 0 (by omega) (fun j h => absurd h (by omega))
  intro k
  induction k with
  | zero =>
    intro i hi hp
    refine r_iload_n (pc := 2) (i := 2) dX1_makesTrue_2 rfl rfl ?_
    refine r_aload_n (pc := 3) (i := 0) dX1_makesTrue_3 rfl rfl ?_
    refine r_getI (pc := 4) ckX1 2 (by decide) rfl q259 dX1_makesTrue_4 ?_
    refine r_icmp_ge (pc := 7) (tgt := 27) dX1_makesTrue_7 (by decide) (fun _ => ?_) (fun z => absurd (by rw [hc]; exact nI_le (by omega) (by omega)) z)
    refine r_iconst (pc := 27) (v := nI 1) dX1_makesTrue_27 (by decide) ?_
    refine r_zret (pc := 28) dX1_makesTrue_28 (by decide) ?_
    refine ⟨rfl, ?_⟩
    rw [MT1_iff.mpr (fun c h => hp c (by omega))]
    rfl
  | succ k ih =>
    intro i hi hp
    refine r_iload_n (pc := 2) (i := 2) dX1_makesTrue_2 rfl rfl ?_
    refine r_aload_n (pc := 3) (i := 0) dX1_makesTrue_3 rfl rfl ?_
    refine r_getI (pc := 4) ckX1 2 (by decide) rfl q259 dX1_makesTrue_4 ?_
    refine r_icmp_ge (pc := 7) (tgt := 27) dX1_makesTrue_7 (by decide) (fun z => absurd z (by rw [hc]; exact nI_ge (by omega) (by omega))) (fun _ => ?_)
    refine r_aload_n (pc := 10) (i := 0) dX1_makesTrue_10 rfl rfl ?_
    refine r_iload_n (pc := 11) (i := 2) dX1_makesTrue_11 rfl rfl ?_
    refine r_iload_n (pc := 12) (i := 1) dX1_makesTrue_12 rfl rfl ?_
    refine r_callI (pc := 13) ckX1 (m1_isTrue τ i a (by omega) (hcl i (by omega))) mf_X1_isTrue q306 (by decide) (by decide) dX1_makesTrue_13 rfl (Nat.le_of_ble_eq_true rfl) (fun r τ hr => ?_)
    obtain ⟨rfl, rfl⟩ := hr
    cases ht : tr1 τ i a
    · refine r_if_ne (pc := 16) (tgt := 21) dX1_makesTrue_16 (by decide) (fun z => absurd (rfl) z) (fun _ => ?_)
      refine r_iconst (pc := 19) (v := nI 0) dX1_makesTrue_19 (by decide) ?_
      refine r_zret (pc := 20) dX1_makesTrue_20 (by decide) ?_
      refine ⟨rfl, ?_⟩
      have : MT1 τ N a = false := by
        cases h : MT1 τ N a
        · rfl
        · rw [MT1_iff.mp h i (by omega)] at ht
          cases ht
      rw [this]
      rfl
    · refine r_if_ne (pc := 16) (tgt := 21) dX1_makesTrue_16 (by decide) (fun _ => ?_) (fun z => absurd z (by decide))
      refine r_iinc (pc := 21) (v := _) (L' := [_, _, _]) dX1_makesTrue_21 rfl (inc1 _) (by decide) rfl ?_
      refine r_goto (pc := 24) (tgt := 2) dX1_makesTrue_24 (by decide) ?_
      refine ih (i + 1) (by omega) (fun c h => ?_)
      by_cases e : c = i
      · rw [e]; exact ht
      · exact hp c (by omega)
/-! edits -/
abbrev P1_literal (τ : St) (D : Nat) (l : Int32) : Int32 → St → Prop := fun r σ' => (r = -1 ∧ (l < 0 ∨ nI 15 < l) ∧ σ' = τ) ∨ (r = -2 ∧ ¬ (l < 0 ∨ nI 15 < l) ∧ D = 3 ∧ σ' = τ) ∨ (¬ (l < 0 ∨ nI 15 < l)) ∧ D < 3 ∧ r = nI (D + 1) ∧ σ' = su (su τ 0 (42 + D) l) 1 14 (nI (D + 1))
theorem m1_literal (τ : St) (D : Nat) (hD : D ≤ 3) (h0 : τ 1 14 = nI D) (l : Int32) : CN shX1 yX1_literal cX1_literal 2 0 (some .int) [l] τ (P1_literal τ D l) := by
  refine CN.ofV (own := RX1) (by decide) rfl (Nat.le_of_ble_eq_true rfl) ?_
  show V shX1 RX1 cX1_literal 2 0 (some .int) _ 0 [some (.inr 0), some (.inl l)] [] _
  have bad : (l < 0 ∨ nI 15 < l) → V shX1 RX1 cX1_literal 2 0 (some .int) (P1_literal τ D l) 10 [some (.inr 0), some (.inl (l))] [] τ := by
    intro h
    refine r_iconst (pc := 10) (v := (-1)) dX1_literal_10 (by decide) ?_
    refine r_iret (pc := 11) dX1_literal_11 ?_
    exact Or.inl ⟨rfl, h, rfl⟩
  refine r_iload_n (pc := 0) (i := 1) dX1_literal_0 rfl rfl ?_
  refine r_if_lt (pc := 1) (tgt := 10) dX1_literal_1 (by decide) (fun h1 => ?_) (fun h1 => ?_)
  · exact bad (Or.inl h1)
  · refine r_iload_n (pc := 4) (i := 1) dX1_literal_4 rfl rfl ?_
    refine r_bipush (pc := 5) (v := nI 15) dX1_literal_5 (by decide) ?_
    refine r_icmp_le (pc := 7) (tgt := 12) dX1_literal_7 (by decide) (fun h2 => ?_) (fun h2 => ?_)
    · refine r_aload_n (pc := 12) (i := 0) dX1_literal_12 rfl rfl ?_
      refine r_getA (pc := 13) ckX1 1 (by decide) rfl q258 dX1_literal_13 ?_
      refine r_bipush (pc := 16) (v := nI 14) dX1_literal_16 (by decide) ?_
      refine r_iald (pc := 18) ckX1 rfl dX1_literal_18 (rfl) (by omega) ?_
      refine r_iconst (pc := 19) (v := nI 3) dX1_literal_19 (by decide) ?_
      by_cases e : D = 3
      · refine r_icmp_ne (pc := 20) (tgt := 26) dX1_literal_20 (by decide) (fun z => absurd (by show τ 1 14 = _; rw [h0, e]) z) (fun _ => ?_)
        refine r_bipush (pc := 23) (v := (-2)) dX1_literal_23 (by decide) ?_
        refine r_iret (pc := 25) dX1_literal_25 ?_
        exact Or.inr (Or.inl ⟨rfl, lit_good h1 h2, e, rfl⟩)
      · refine r_icmp_ne (pc := 20) (tgt := 26) dX1_literal_20 (by decide) (fun _ => ?_) (fun z => absurd z (fun z => e ((nI_eq (by omega) (by decide)).mp (h0.symm.trans z))))
        refine r_aload_n (pc := 26) (i := 0) dX1_literal_26 rfl rfl ?_
        refine r_getA (pc := 27) ckX1 0 (by decide) rfl q257 dX1_literal_27 ?_
        refine r_bipush (pc := 30) (v := nI 42) dX1_literal_30 (by decide) ?_
        refine r_aload_n (pc := 32) (i := 0) dX1_literal_32 rfl rfl ?_
        refine r_getA (pc := 33) ckX1 1 (by decide) rfl q258 dX1_literal_33 ?_
        refine r_bipush (pc := 36) (v := nI 14) dX1_literal_36 (by decide) ?_
        refine r_iald (pc := 38) ckX1 rfl dX1_literal_38 (rfl) (by omega) ?_
        refine r_iadd (pc := 39) dX1_literal_39 ?_
        refine r_top (nI (42 + D)) (by show nI 42 + τ 1 14 = _; rw [h0, nI_add]) ?_
        refine r_iload_n (pc := 40) (i := 1) dX1_literal_40 rfl rfl ?_
        refine r_iast (pc := 41) ckX1 rfl dX1_literal_41 (rfl) (by omega) ?_
        refine r_aload_n (pc := 42) (i := 0) dX1_literal_42 rfl rfl ?_
        refine r_getA (pc := 43) ckX1 1 (by decide) rfl q258 dX1_literal_43 ?_
        refine r_bipush (pc := 46) (v := nI 14) dX1_literal_46 (by decide) ?_
        refine r_dup2 (pc := 48) dX1_literal_48 ?_
        refine r_iald (pc := 49) ckX1 rfl dX1_literal_49 (rfl) (by omega) ?_
        refine r_top (nI D) h0 ?_
        refine r_iconst (pc := 50) (v := nI 1) dX1_literal_50 (by decide) ?_
        refine r_iadd (pc := 51) dX1_literal_51 ?_
        refine r_top (nI (D + 1)) (nI_add D 1) ?_
        refine r_iast (pc := 52) ckX1 rfl dX1_literal_52 (rfl) (by omega) ?_
        refine r_aload_n (pc := 53) (i := 0) dX1_literal_53 rfl rfl ?_
        refine r_getA (pc := 54) ckX1 1 (by decide) rfl q258 dX1_literal_54 ?_
        refine r_bipush (pc := 57) (v := nI 14) dX1_literal_57 (by decide) ?_
        refine r_iald (pc := 59) ckX1 rfl dX1_literal_59 (rfl) (by omega) ?_
        refine r_top (nI (D + 1)) (su_eq _ _ _ _) ?_
        refine r_iret (pc := 60) dX1_literal_60 ?_
        exact Or.inr (Or.inr ⟨lit_good h1 h2, by omega, rfl, rfl⟩)
    · exact bad (Or.inr (fa_of_nle h2))
theorem m1_scrap (τ : St) : CN shX1 yX1_scrap cX1_scrap 1 0 none [] τ (fun _ σ' => σ' = su τ 1 14 (nI 0)) := by
  refine CN.ofV (own := RX1) (by decide) rfl (Nat.le_of_ble_eq_true rfl) ?_
  show V shX1 RX1 cX1_scrap 1 0 none _ 0 [some (.inr 0)] [] _
  refine r_aload_n (pc := 0) (i := 0) dX1_scrap_0 rfl rfl ?_
  refine r_getA (pc := 1) ckX1 1 (by decide) rfl q258 dX1_scrap_1 ?_
  refine r_bipush (pc := 4) (v := nI 14) dX1_scrap_4 (by decide) ?_
  refine r_iconst (pc := 6) (v := nI 0) dX1_scrap_6 (by decide) ?_
  refine r_iast (pc := 7) ckX1 rfl dX1_scrap_7 (rfl) (by omega) ?_
  refine r_vret (pc := 8) dX1_scrap_8 ?_
  rfl
theorem m1_clauses (τ : St) (N : Nat) (hc : τ 2 0 = nI N) : CN shX1 yX1_clauses cX1_clauses 1 0 (some .int) [] τ (fun r σ' => σ' = τ ∧ r = nI N) := by
  refine CN.ofV (own := RX1) (by decide) rfl (Nat.le_of_ble_eq_true rfl) ?_
  show V shX1 RX1 cX1_clauses 1 0 (some .int) _ 0 [some (.inr 0)] [] _
  refine r_aload_n (pc := 0) (i := 0) dX1_clauses_0 rfl rfl ?_
  refine r_getI (pc := 1) ckX1 2 (by decide) rfl q259 dX1_clauses_1 ?_
  refine r_iret (pc := 4) dX1_clauses_4 ?_
  exact ⟨rfl, hc⟩
theorem m1_unclause (τ : St) (N : Nat) (hN : N ≤ 14) (hc : τ 2 0 = nI N) : CN shX1 yX1_unclause cX1_unclause 1 0 (some .int) [] τ (P_unclause τ N 0 (fun s => s)) := by
  refine CN.ofV (own := RX1) (by decide) rfl (Nat.le_of_ble_eq_true rfl) ?_
  show V shX1 RX1 cX1_unclause 1 0 (some .int) _ 0 [some (.inr 0)] [] _
  refine r_aload_n (pc := 0) (i := 0) dX1_unclause_0 rfl rfl ?_
  refine r_getI (pc := 1) ckX1 2 (by decide) rfl q259 dX1_unclause_1 ?_
  cases N with
  | zero =>
    refine r_if_ne (pc := 4) (tgt := 10) dX1_unclause_4 (by decide) (fun z => absurd (hc) z) (fun _ => ?_)
    refine r_bipush (pc := 7) (v := (-4)) dX1_unclause_7 (by decide) ?_
    refine r_iret (pc := 9) dX1_unclause_9 ?_
    exact Or.inl ⟨rfl, rfl, rfl⟩
  | succ P =>
    refine r_if_ne (pc := 4) (tgt := 10) dX1_unclause_4 (by decide) (fun _ => ?_) (fun z => absurd z (by rw [hc]; exact nI_ne0 (by omega) (by omega)))
    refine r_aload_n (pc := 10) (i := 0) dX1_unclause_10 rfl rfl ?_
    refine r_dup (pc := 11) dX1_unclause_11 ?_
    refine r_getI (pc := 12) ckX1 2 (by decide) rfl q259 dX1_unclause_12 ?_
    refine r_top (nI (P + 1)) hc ?_
    refine r_iconst (pc := 15) (v := nI 1) dX1_unclause_15 (by decide) ?_
    refine r_isub (pc := 16) dX1_unclause_16 ?_
    refine r_top (nI P) (nI_pred P) ?_
    refine r_put (pc := 17) (ty := .int) ckX1 2 (by decide) rfl rfl (by decide +kernel) rfl rfl q259 dX1_unclause_17 ?_
    refine r_aload_n (pc := 20) (i := 0) dX1_unclause_20 rfl rfl ?_
    refine r_getI (pc := 21) ckX1 2 (by decide) rfl q259 dX1_unclause_21 ?_
    refine r_top (nI P) (su_eq _ _ _ _) ?_
    refine r_iret (pc := 24) dX1_unclause_24 ?_
    exact Or.inr ⟨rfl, P, rfl, rfl, rfl⟩
abbrev P1_clause (τ : St) (N D : Nat) : Int32 → St → Prop := fun r σ' => (N = 14 ∧ r = -2 ∧ σ' = τ) ∨ (N < 14 ∧ r = nI N ∧ σ' 1 14 = nI 0 ∧ σ' 2 0 = nI (N + 1) ∧ σ' 3 = τ 3 ∧ σ' 1 N = nI D ∧ (∀ c, c < N → σ' 1 c = τ 1 c) ∧ (∀ p, p < 3 * N → σ' 0 p = τ 0 p) ∧ ∀ i, i < D → σ' 0 (3 * N + i) = τ 0 (42 + i))
theorem m1_clause (τ : St) (N D : Nat) (hN : N ≤ 14) (hc : τ 2 0 = nI N) (hD : D ≤ 3) (h0 : τ 1 14 = nI D) : CN shX1 yX1_clause cX1_clause 2 0 (some .int) [] τ (P1_clause τ N D) := by
  refine CN.ofV (own := RX1) (by decide) rfl (Nat.le_of_ble_eq_true rfl) ?_
  show V shX1 RX1 cX1_clause 2 0 (some .int) _ 0 [some (.inr 0), none] [] _
  refine r_aload_n (pc := 0) (i := 0) dX1_clause_0 rfl rfl ?_
  refine r_getI (pc := 1) ckX1 2 (by decide) rfl q259 dX1_clause_1 ?_
  refine r_bipush (pc := 4) (v := nI 14) dX1_clause_4 (by decide) ?_
  by_cases e : N = 14
  · refine r_icmp_ne (pc := 6) (tgt := 12) dX1_clause_6 (by decide) (fun z => absurd (by rw [hc, e]) z) (fun _ => ?_)
    refine r_bipush (pc := 9) (v := (-2)) dX1_clause_9 (by decide) ?_
    refine r_iret (pc := 11) dX1_clause_11 ?_
    exact Or.inl ⟨e, rfl, rfl⟩
  · refine r_icmp_ne (pc := 6) (tgt := 12) dX1_clause_6 (by decide) (fun _ => ?_) (fun z => absurd z (fun z => e ((nI_eq (by omega) (by decide)).mp (hc.symm.trans z))))
    have hN' : N < 14 := by omega
    refine r_iconst (pc := 12) (v := nI 0) dX1_clause_12 (by decide) ?_
    refine r_istore_n (pc := 13) (i := 1) (L' := [_, _]) dX1_clause_13 rfl (by decide) rfl ?_
    suffices h : ∀ k i τ1, i + k = D → (∀ q, q ≠ 0 → τ1 q = τ q) → (∀ p, p < 3 * N ∨ 42 ≤ p → τ1 0 p = τ 0 p) → (∀ j, j < i → τ1 0 (3 * N + j) = τ 0 (42 + j)) → V shX1 RX1 cX1_clause 2 0 (some .int) (P1_clause τ N D) 14 [some (.inr 0), some (.inl (nI i))] [] τ1 from h D 0 τ (by omega) (fun _ _ => rfl) (fun _ _ => rfl) (fun j h => absurd h (by omega))
    intro k
    induction k with
    | zero =>
      intro i τ1 hi hk ho hb
      have h01 : τ1 1 14 = nI D := by rw [hk 1 (by omega)]; exact h0
      have hc1 : τ1 2 0 = nI N := by rw [hk 2 (by omega)]; exact hc
      refine r_iload_n (pc := 14) (i := 1) dX1_clause_14 rfl rfl ?_
      refine r_aload_n (pc := 15) (i := 0) dX1_clause_15 rfl rfl ?_
      refine r_getA (pc := 16) ckX1 1 (by decide) rfl q258 dX1_clause_16 ?_
      refine r_bipush (pc := 19) (v := nI 14) dX1_clause_19 (by decide) ?_
      refine r_iald (pc := 21) ckX1 rfl dX1_clause_21 (rfl) (by omega) ?_
      refine r_icmp_ge (pc := 22) (tgt := 53) dX1_clause_22 (by decide) (fun _ => ?_) (fun z => absurd (by show τ1 1 14 ≤ _; rw [h01]; exact nI_le (by omega) (by omega)) z)
      refine r_aload_n (pc := 53) (i := 0) dX1_clause_53 rfl rfl ?_
      refine r_getA (pc := 54) ckX1 1 (by decide) rfl q258 dX1_clause_54 ?_
      refine r_aload_n (pc := 57) (i := 0) dX1_clause_57 rfl rfl ?_
      refine r_getI (pc := 58) ckX1 2 (by decide) rfl q259 dX1_clause_58 ?_
      refine r_aload_n (pc := 61) (i := 0) dX1_clause_61 rfl rfl ?_
      refine r_getA (pc := 62) ckX1 1 (by decide) rfl q258 dX1_clause_62 ?_
      refine r_bipush (pc := 65) (v := nI 14) dX1_clause_65 (by decide) ?_
      refine r_iald (pc := 67) ckX1 rfl dX1_clause_67 (rfl) (by omega) ?_
      refine r_top (nI D) h01 ?_
      refine r_iast (pc := 68) ckX1 rfl dX1_clause_68 (hc1) (by omega) ?_
      refine r_aload_n (pc := 69) (i := 0) dX1_clause_69 rfl rfl ?_
      refine r_getA (pc := 70) ckX1 1 (by decide) rfl q258 dX1_clause_70 ?_
      refine r_bipush (pc := 73) (v := nI 14) dX1_clause_73 (by decide) ?_
      refine r_iconst (pc := 75) (v := nI 0) dX1_clause_75 (by decide) ?_
      refine r_iast (pc := 76) ckX1 rfl dX1_clause_76 (rfl) (by omega) ?_
      refine r_aload_n (pc := 77) (i := 0) dX1_clause_77 rfl rfl ?_
      refine r_dup (pc := 78) dX1_clause_78 ?_
      refine r_getI (pc := 79) ckX1 2 (by decide) rfl q259 dX1_clause_79 ?_
      refine r_top (nI N) hc1 ?_
      refine r_iconst (pc := 82) (v := nI 1) dX1_clause_82 (by decide) ?_
      refine r_iadd (pc := 83) dX1_clause_83 ?_
      refine r_top (nI (N + 1)) (nI_add N 1) ?_
      refine r_put (pc := 84) (ty := .int) ckX1 2 (by decide) rfl rfl (by decide +kernel) rfl rfl q259 dX1_clause_84 ?_
      refine r_aload_n (pc := 87) (i := 0) dX1_clause_87 rfl rfl ?_
      refine r_getI (pc := 88) ckX1 2 (by decide) rfl q259 dX1_clause_88 ?_
      refine r_top (nI (N + 1)) (su_eq _ _ _ _) ?_
      refine r_iconst (pc := 91) (v := nI 1) dX1_clause_91 (by decide) ?_
      refine r_isub (pc := 92) dX1_clause_92 ?_
      refine r_top (nI N) (nI_pred N) ?_
      refine r_iret (pc := 93) dX1_clause_93 ?_
      refine Or.inr ⟨hN', rfl, rfl, rfl, hk 3 (by omega), ?_, fun c hc' => ?_, fun p hp => ho p (Or.inl hp), fun j hj => hb j (by omega)⟩
      · show upd (upd (τ1 1) N (nI D)) 14 (nI 0) N = nI D
        rw [pk_un (by omega)]
        exact pk_us
      · show upd (upd (τ1 1) N (nI D)) 14 (nI 0) c = τ 1 c
        rw [pk_un (by omega), pk_un (by omega), hk 1 (by omega)]
    | succ k ih =>
      intro i τ1 hi hk ho hb
      have h01 : τ1 1 14 = nI D := by rw [hk 1 (by omega)]; exact h0
      have hc1 : τ1 2 0 = nI N := by rw [hk 2 (by omega)]; exact hc
      refine r_iload_n (pc := 14) (i := 1) dX1_clause_14 rfl rfl ?_
      refine r_aload_n (pc := 15) (i := 0) dX1_clause_15 rfl rfl ?_
      refine r_getA (pc := 16) ckX1 1 (by decide) rfl q258 dX1_clause_16 ?_
      refine r_bipush (pc := 19) (v := nI 14) dX1_clause_19 (by decide) ?_
      refine r_iald (pc := 21) ckX1 rfl dX1_clause_21 (rfl) (by omega) ?_
      refine r_icmp_ge (pc := 22) (tgt := 53) dX1_clause_22 (by decide) (fun z => absurd z (by show ¬ τ1 1 14 ≤ _; rw [h01]; exact nI_ge (by omega) (by omega))) (fun _ => ?_)
      refine r_aload_n (pc := 25) (i := 0) dX1_clause_25 rfl rfl ?_
      refine r_getA (pc := 26) ckX1 0 (by decide) rfl q257 dX1_clause_26 ?_
      refine r_iconst (pc := 29) (v := nI 3) dX1_clause_29 (by decide) ?_
      refine r_aload_n (pc := 30) (i := 0) dX1_clause_30 rfl rfl ?_
      refine r_getI (pc := 31) ckX1 2 (by decide) rfl q259 dX1_clause_31 ?_
      refine r_imul (pc := 34) dX1_clause_34 ?_
      refine r_iload_n (pc := 35) (i := 1) dX1_clause_35 rfl rfl ?_
      refine r_iadd (pc := 36) dX1_clause_36 ?_
      refine r_top (nI (3 * N + i)) (by rw [hc1, pk_mul, nI_add]) ?_
      refine r_aload_n (pc := 37) (i := 0) dX1_clause_37 rfl rfl ?_
      refine r_getA (pc := 38) ckX1 0 (by decide) rfl q257 dX1_clause_38 ?_
      refine r_bipush (pc := 41) (v := nI 42) dX1_clause_41 (by decide) ?_
      refine r_iload_n (pc := 43) (i := 1) dX1_clause_43 rfl rfl ?_
      refine r_iadd (pc := 44) dX1_clause_44 ?_
      refine r_iald (pc := 45) ckX1 rfl dX1_clause_45 (nI_add 42 i) (by omega) ?_
      refine r_iast (pc := 46) ckX1 rfl dX1_clause_46 (rfl) (by omega) ?_
      refine r_iinc (pc := 47) (v := _) (L' := [_, _]) dX1_clause_47 rfl (inc1 _) (by decide) rfl ?_
      refine r_goto (pc := 50) (tgt := 14) dX1_clause_50 (by decide) ?_
      refine ih (i + 1) _ (by omega) (fun q h => (su_ne _ _ _ h).trans (hk q h)) (fun p hp => ?_) (fun j hj => ?_)
      · rw [su_off _ _ (Or.inr (by omega))]
        exact ho p hp
      · by_cases ej : j = i
        · rw [ej, su_eq]
          exact ho _ (Or.inr (by omega))
        · rw [su_off _ _ (Or.inr (by omega))]
          exact hb j (by omega)
theorem gt7 {v : Int32} : nI 7 < v ↔ nI 8 ≤ v := ge8.symm
theorem ix_w {v b : Int32} {j t : Nat} (hv : v = nI j) (hb : b = nI t) : nI 2 * v + b = nI (2 * j + t) := by rw [hv, hb, pk_mul, nI_add]
abbrev P1_weight (τ : St) (v b w : Int32) : Int32 → St → Prop := fun r σ' => (badW v b w ∧ r = -1 ∧ σ' = τ) ∨ (¬ badW v b w ∧ ∃ j, j < 8 ∧ v = nI j ∧ ((b = nI 0 ∧ r = τ 3 (2 * j) ∧ σ' = su τ 3 (2 * j) w) ∨ (b = nI 1 ∧ r = τ 3 (2 * j + 1) ∧ σ' = su τ 3 (2 * j + 1) w)))
theorem m1_weight (τ : St) (v b w : Int32) : CN shX1 yX1_weight cX1_weight 5 0 (some .int) [v, b, w] τ (P1_weight τ v b w) := by
  refine CN.ofV (own := RX1) (by decide) rfl (Nat.le_of_ble_eq_true rfl) ?_
  show V shX1 RX1 cX1_weight 5 0 (some .int) _ 0 [some (.inr 0), some (.inl v), some (.inl b), some (.inl w), none] [] _
  have bad : badW v b w → V shX1 RX1 cX1_weight 5 0 (some .int) (P1_weight τ v b w) 29 [some (.inr 0), some (.inl (v)), some (.inl (b)), some (.inl (w)), none] [] τ := by
    intro h
    refine r_iconst (pc := 29) (v := (-1)) dX1_weight_29 (by decide) ?_
    refine r_iret (pc := 30) dX1_weight_30 ?_
    exact Or.inl ⟨h, rfl, rfl⟩
  refine r_iload_n (pc := 0) (i := 1) dX1_weight_0 rfl rfl ?_
  refine r_if_lt (pc := 1) (tgt := 29) dX1_weight_1 (by decide) (fun h1 => ?_) (fun h1 => ?_)
  · exact bad (Or.inl h1)
  · refine r_iload_n (pc := 4) (i := 1) dX1_weight_4 rfl rfl ?_
    refine r_bipush (pc := 5) (v := nI 7) dX1_weight_5 (by decide) ?_
    refine r_icmp_gt (pc := 7) (tgt := 29) dX1_weight_7 (by decide) (fun h2 => ?_) (fun h2 => ?_)
    · exact bad (Or.inr (Or.inl h2))
    · refine r_iload_n (pc := 10) (i := 2) dX1_weight_10 rfl rfl ?_
      refine r_if_lt (pc := 11) (tgt := 29) dX1_weight_11 (by decide) (fun h3 => ?_) (fun h3 => ?_)
      · exact bad (Or.inr (Or.inr (Or.inl h3)))
      · refine r_iload_n (pc := 14) (i := 2) dX1_weight_14 rfl rfl ?_
        refine r_iconst (pc := 15) (v := nI 1) dX1_weight_15 (by decide) ?_
        refine r_icmp_gt (pc := 16) (tgt := 29) dX1_weight_16 (by decide) (fun h4 => ?_) (fun h4 => ?_)
        · exact bad (Or.inr (Or.inr (Or.inr (Or.inl h4))))
        · refine r_iload_n (pc := 19) (i := 3) dX1_weight_19 rfl rfl ?_
          refine r_if_lt (pc := 20) (tgt := 29) dX1_weight_20 (by decide) (fun h5 => ?_) (fun h5 => ?_)
          · exact bad (Or.inr (Or.inr (Or.inr (Or.inr (Or.inl h5)))))
          · refine r_iload_n (pc := 23) (i := 3) dX1_weight_23 rfl rfl ?_
            refine r_bipush (pc := 24) (v := nI 9) dX1_weight_24 (by decide) ?_
            refine r_icmp_le (pc := 26) (tgt := 31) dX1_weight_26 (by decide) (fun h6 => ?_) (fun h6 => ?_)
            · have hnb : ¬ badW v b w := by
                rintro (h | h | h | h | h | h)
                · exact h1 h
                · exact h2 h
                · exact h3 h
                · exact h4 h
                · exact h5 h
                · exact (fa_of_lt h).2.1 h6
              obtain ⟨j, hj, hv⟩ : ∃ j, j < 8 ∧ v = nI j := by
                rcases pk_ix v (n := 8) (by decide) with h | h | h
                · exact absurd h h1
                · exact absurd (ge8.mp h) h2
                · exact h
              rcases bit_of h3 h4 with hb | hb
              · refine r_aload_n (pc := 31) (i := 0) dX1_weight_31 rfl rfl ?_
                refine r_getA (pc := 32) ckX1 3 (by decide) rfl q260 dX1_weight_32 ?_
                refine r_iconst (pc := 35) (v := nI 2) dX1_weight_35 (by decide) ?_
                refine r_iload_n (pc := 36) (i := 1) dX1_weight_36 rfl rfl ?_
                refine r_imul (pc := 37) dX1_weight_37 ?_
                refine r_iload_n (pc := 38) (i := 2) dX1_weight_38 rfl rfl ?_
                refine r_iadd (pc := 39) dX1_weight_39 ?_
                refine r_iald (pc := 40) ckX1 rfl dX1_weight_40 (ix_w hv hb) (by omega) ?_
                refine r_istore (pc := 41) (L' := [_, _, _, _, _]) dX1_weight_41 (by decide) rfl ?_
                refine r_aload_n (pc := 43) (i := 0) dX1_weight_43 rfl rfl ?_
                refine r_getA (pc := 44) ckX1 3 (by decide) rfl q260 dX1_weight_44 ?_
                refine r_iconst (pc := 47) (v := nI 2) dX1_weight_47 (by decide) ?_
                refine r_iload_n (pc := 48) (i := 1) dX1_weight_48 rfl rfl ?_
                refine r_imul (pc := 49) dX1_weight_49 ?_
                refine r_iload_n (pc := 50) (i := 2) dX1_weight_50 rfl rfl ?_
                refine r_iadd (pc := 51) dX1_weight_51 ?_
                refine r_iload_n (pc := 52) (i := 3) dX1_weight_52 rfl rfl ?_
                refine r_iast (pc := 53) ckX1 rfl dX1_weight_53 (ix_w hv hb) (by omega) ?_
                refine r_iload (pc := 54) dX1_weight_54 rfl ?_
                refine r_iret (pc := 56) dX1_weight_56 ?_
                exact Or.inr ⟨hnb, j, hj, hv, Or.inl ⟨hb, rfl, rfl⟩⟩
              · refine r_aload_n (pc := 31) (i := 0) dX1_weight_31 rfl rfl ?_
                refine r_getA (pc := 32) ckX1 3 (by decide) rfl q260 dX1_weight_32 ?_
                refine r_iconst (pc := 35) (v := nI 2) dX1_weight_35 (by decide) ?_
                refine r_iload_n (pc := 36) (i := 1) dX1_weight_36 rfl rfl ?_
                refine r_imul (pc := 37) dX1_weight_37 ?_
                refine r_iload_n (pc := 38) (i := 2) dX1_weight_38 rfl rfl ?_
                refine r_iadd (pc := 39) dX1_weight_39 ?_
                refine r_iald (pc := 40) ckX1 rfl dX1_weight_40 (ix_w hv hb) (by omega) ?_
                refine r_istore (pc := 41) (L' := [_, _, _, _, _]) dX1_weight_41 (by decide) rfl ?_
                refine r_aload_n (pc := 43) (i := 0) dX1_weight_43 rfl rfl ?_
                refine r_getA (pc := 44) ckX1 3 (by decide) rfl q260 dX1_weight_44 ?_
                refine r_iconst (pc := 47) (v := nI 2) dX1_weight_47 (by decide) ?_
                refine r_iload_n (pc := 48) (i := 1) dX1_weight_48 rfl rfl ?_
                refine r_imul (pc := 49) dX1_weight_49 ?_
                refine r_iload_n (pc := 50) (i := 2) dX1_weight_50 rfl rfl ?_
                refine r_iadd (pc := 51) dX1_weight_51 ?_
                refine r_iload_n (pc := 52) (i := 3) dX1_weight_52 rfl rfl ?_
                refine r_iast (pc := 53) ckX1 rfl dX1_weight_53 (ix_w hv hb) (by omega) ?_
                refine r_iload (pc := 54) dX1_weight_54 rfl ?_
                refine r_iret (pc := 56) dX1_weight_56 ?_
                exact Or.inr ⟨hnb, j, hj, hv, Or.inr ⟨hb, rfl, rfl⟩⟩
            · exact bad (Or.inr (Or.inr (Or.inr (Or.inr (Or.inr (fa_of_nle h6))))))
end
section
/-! X1: the reference's questions; m stands for MT1 τ N -/
theorem m1_rank (τ : St) (N : Nat) (hC : C1 τ N) (a : Int32) : CN shX1 yX1_rank cX1_rank 4 3 (some .int) [a] τ (fun r σ' => σ' = τ ∧ ((r = -1 ∧ (a < 0 ∨ nI 256 < a)) ∨ ∃ A, A ≤ 256 ∧ a = nI A ∧ r = nI (fb_ct (MT1 τ N) A))) := by
  refine CN.ofV (own := RX1) (by decide) rfl (Nat.le_of_ble_eq_true rfl) ?_
  show V shX1 RX1 cX1_rank 4 3 (some .int) _ 0 [some (.inr 0), some (.inl a), none, none] [] _
  have bad : (a < 0 ∨ nI 256 < a) → V shX1 RX1 cX1_rank 4 3 (some .int) (fun r σ' => σ' = τ ∧ ((r = -1 ∧ (a < 0 ∨ nI 256 < a)) ∨ ∃ A, A ≤ 256 ∧ a = nI A ∧ r = nI (fb_ct (MT1 τ N) A))) 11 [some (.inr 0), some (.inl (a)), none, none] [] τ := by
    intro h
    refine r_iconst (pc := 11) (v := (-1)) dX1_rank_11 (by decide) ?_
    refine r_iret (pc := 12) dX1_rank_12 ?_
    exact ⟨rfl, Or.inl ⟨rfl, h⟩⟩
  refine r_iload_n (pc := 0) (i := 1) dX1_rank_0 rfl rfl ?_
  refine r_if_lt (pc := 1) (tgt := 11) dX1_rank_1 (by decide) (fun h1 => ?_) (fun h1 => ?_)
  · exact bad (Or.inl h1)
  · refine r_iload_n (pc := 4) (i := 1) dX1_rank_4 rfl rfl ?_
    refine r_sipush (pc := 5) (v := nI 256) dX1_rank_5 (by decide) ?_
    refine r_icmp_le (pc := 8) (tgt := 13) dX1_rank_8 (by decide) (fun h2 => ?_) (fun h2 => ?_)
    · obtain ⟨A, hA, e⟩ := nI_of2 (M := nI 256) (n := 256) (by decide) h1 h2
      subst e
      refine r_iconst (pc := 13) (v := nI 0) dX1_rank_13 (by decide) ?_
      refine r_istore_n (pc := 14) (i := 2) (L' := [_, _, _, _]) dX1_rank_14 rfl (by decide) rfl ?_
      refine r_iconst (pc := 15) (v := nI 0) dX1_rank_15 (by decide) ?_
      refine r_istore_n (pc := 16) (i := 3) (L' := [_, _, _, _]) dX1_rank_16 rfl (by decide) rfl ?_
      suffices h : ∀ k i, i + k = A → V shX1 RX1 cX1_rank 4 3 (some .int) (fun r σ' => σ' = τ ∧ ((r = -1 ∧ (nI A < 0 ∨ nI 256 < nI A)) ∨ ∃ B, B ≤ 256 ∧ nI A = nI B ∧ r = nI (fb_ct (MT1 τ N) B))) 17 [some (.inr 0), some (.inl (nI A)), some (.inl (nI (fb_ct (MT1 τ N) i))), some (.inl (nI i))] [] τ from h A 0 (by omega)
      intro k
      induction k with
      | zero =>
        intro i hi
        refine r_iload_n (pc := 17) (i := 3) dX1_rank_17 rfl rfl ?_
        refine r_iload_n (pc := 18) (i := 1) dX1_rank_18 rfl rfl ?_
        refine r_icmp_ge (pc := 19) (tgt := 44) dX1_rank_19 (by decide) (fun _ => ?_) (fun z => absurd (nI_le (by omega) (by omega)) z)
        refine r_iload_n (pc := 44) (i := 2) dX1_rank_44 rfl rfl ?_
        refine r_iret (pc := 45) dX1_rank_45 ?_
        exact ⟨rfl, Or.inr ⟨A, hA, rfl, by rw [show i = A by omega]⟩⟩
      | succ k ih =>
        intro i hi
        refine r_iload_n (pc := 17) (i := 3) dX1_rank_17 rfl rfl ?_
        refine r_iload_n (pc := 18) (i := 1) dX1_rank_18 rfl rfl ?_
        refine r_icmp_ge (pc := 19) (tgt := 44) dX1_rank_19 (by decide) (fun z => absurd z (nI_ge (by omega) (by omega))) (fun _ => ?_)
        refine r_aload_n (pc := 22) (i := 0) dX1_rank_22 rfl rfl ?_
        refine r_iload_n (pc := 23) (i := 3) dX1_rank_23 rfl rfl ?_
        refine r_callI (pc := 24) ckX1 (m1_makesTrue τ N i hC) mf_X1_makesTrue q302 (by decide) (by decide) dX1_rank_24 rfl (Nat.le_of_ble_eq_true rfl) (fun r τ hr => ?_)
        obtain ⟨rfl, rfl⟩ := hr
        have hn := ih (i + 1) (by omega)
        rw [← ct_b _ i] at hn
        cases hm : MT1 τ N i
        · rw [hm] at hn
          refine r_if_eq (pc := 27) (tgt := 36) dX1_rank_27 (by decide) (fun _ => ?_) (fun z => absurd (rfl) z)
          refine r_iload_n (pc := 36) (i := 2) dX1_rank_36 rfl rfl ?_
          refine r_istore_n (pc := 37) (i := 2) (L' := [_, _, _, _]) dX1_rank_37 rfl (by decide) rfl ?_
          refine r_iinc (pc := 38) (v := _) (L' := [_, _, _, _]) dX1_rank_38 rfl (inc1 _) (by decide) rfl ?_
          refine r_goto (pc := 41) (tgt := 17) dX1_rank_41 (by decide) ?_
          exact hn
        · rw [hm] at hn
          refine r_if_eq (pc := 27) (tgt := 36) dX1_rank_27 (by decide) (fun z => absurd z (by decide)) (fun _ => ?_)
          refine r_iload_n (pc := 30) (i := 2) dX1_rank_30 rfl rfl ?_
          refine r_iconst (pc := 31) (v := nI 1) dX1_rank_31 (by decide) ?_
          refine r_iadd (pc := 32) dX1_rank_32 ?_
          refine r_top _ (nI_add _ 1) ?_
          refine r_goto (pc := 33) (tgt := 37) dX1_rank_33 (by decide) ?_
          refine r_istore_n (pc := 37) (i := 2) (L' := [_, _, _, _]) dX1_rank_37 rfl (by decide) rfl ?_
          refine r_iinc (pc := 38) (v := _) (L' := [_, _, _, _]) dX1_rank_38 rfl (inc1 _) (by decide) rfl ?_
          refine r_goto (pc := 41) (tgt := 17) dX1_rank_41 (by decide) ?_
          exact hn
    · exact bad (Or.inr (fa_of_nle h2))
theorem m1_count (τ : St) (N : Nat) (hC : C1 τ N) : CN shX1 yX1_count cX1_count 1 4 (some .int) [] τ (fun r σ' => σ' = τ ∧ r = nI (fb_ct (MT1 τ N) 256)) := by
  refine CN.ofV (own := RX1) (by decide) rfl (Nat.le_of_ble_eq_true rfl) ?_
  show V shX1 RX1 cX1_count 1 4 (some .int) _ 0 [some (.inr 0)] [] _
  refine r_aload_n (pc := 0) (i := 0) dX1_count_0 rfl rfl ?_
  refine r_sipush (pc := 1) (v := nI 256) dX1_count_1 (by decide) ?_
  refine r_callI (pc := 4) ckX1 (m1_rank τ N hC (nI 256)) mf_X1_rank q298 (by decide) (by decide) dX1_count_4 rfl (Nat.le_of_ble_eq_true rfl) (fun r τ hr => ?_)
  obtain ⟨rfl, hr⟩ := hr
  rcases hr with ⟨-, h | h⟩ | ⟨A, hA, e, rfl⟩
  · exact absurd h (by decide)
  · exact absurd h (by decide)
  · have e := (nI_eq (by decide) (by omega)).mp e
    subst e
    refine r_iret (pc := 7) dX1_count_7 ?_
    exact ⟨rfl, rfl⟩
theorem nI_and_bits {a : Nat} {set tr : Int32} (ha : a < 256) (hs : lowB 8 set) : (nI a &&& set = tr &&& set) ↔ agB set tr 8 a = true := by
  rw [agB_iff]
  constructor
  · intro h v hv hb
    have h1 : bt (nI a &&& set) v = bt (tr &&& set) v := by rw [h]
    rw [b_and, b_and, hb, Bool.and_true, Bool.and_true, bt_nI a (by omega)] at h1
    exact h1
  · intro h
    apply b_ext
    intro i hi
    rw [b_and, b_and, bt_nI a hi]
    by_cases h8 : i < 8
    · cases hb : bt set i
      · rw [Bool.and_false, Bool.and_false]
      · rw [h i h8 hb]
    · rw [hs i (by omega), Bool.and_false, Bool.and_false]
abbrev P1_countWith (τ : St) (N : Nat) (set tr : Int32) : Int32 → St → Prop := fun r σ' => σ' = τ ∧ ((r = -1 ∧ (badS set ∨ badS tr)) ∨ (r = nI (fb_ct (fun a => MT1 τ N a && agB set tr 8 a) 256) ∧ ¬ badS set ∧ ¬ badS tr))
theorem m1_countWith (τ : St) (N : Nat) (hC : C1 τ N) (set tr : Int32) : CN shX1 yX1_countWith cX1_countWith 5 3 (some .int) [set, tr] τ (P1_countWith τ N set tr) := by
  refine CN.ofV (own := RX1) (by decide) rfl (Nat.le_of_ble_eq_true rfl) ?_
  show V shX1 RX1 cX1_countWith 5 3 (some .int) _ 0 [some (.inr 0), some (.inl set), some (.inl tr), none, none] [] _
  have bad : (badS set ∨ badS tr) → V shX1 RX1 cX1_countWith 5 3 (some .int) (P1_countWith τ N set tr) 22 [some (.inr 0), some (.inl (set)), some (.inl (tr)), none, none] [] τ := by
    intro h
    refine r_iconst (pc := 22) (v := (-1)) dX1_countWith_22 (by decide) ?_
    refine r_iret (pc := 23) dX1_countWith_23 ?_
    exact ⟨rfl, Or.inl ⟨rfl, h⟩⟩
  refine r_iload_n (pc := 0) (i := 1) dX1_countWith_0 rfl rfl ?_
  refine r_if_lt (pc := 1) (tgt := 22) dX1_countWith_1 (by decide) (fun h1 => ?_) (fun h1 => ?_)
  · exact bad (Or.inl (Or.inl h1))
  · refine r_iload_n (pc := 4) (i := 1) dX1_countWith_4 rfl rfl ?_
    refine r_sipush (pc := 5) (v := nI 255) dX1_countWith_5 (by decide) ?_
    refine r_icmp_gt (pc := 8) (tgt := 22) dX1_countWith_8 (by decide) (fun h2 => ?_) (fun h2 => ?_)
    · exact bad (Or.inl (Or.inr h2))
    · refine r_iload_n (pc := 11) (i := 2) dX1_countWith_11 rfl rfl ?_
      refine r_if_lt (pc := 12) (tgt := 22) dX1_countWith_12 (by decide) (fun h3 => ?_) (fun h3 => ?_)
      · exact bad (Or.inr (Or.inl h3))
      · refine r_iload_n (pc := 15) (i := 2) dX1_countWith_15 rfl rfl ?_
        refine r_sipush (pc := 16) (v := nI 255) dX1_countWith_16 (by decide) ?_
        refine r_icmp_le (pc := 19) (tgt := 24) dX1_countWith_19 (by decide) (fun h4 => ?_) (fun h4 => ?_)
        · have hnb : ¬ badS set := fun z => z.elim h1 h2
          have hnb2 : ¬ badS tr := not_badS.mpr ⟨h3, h4⟩
          obtain ⟨s, hs, es⟩ := set_of h1 (fa_of_nlt h2)
          have hlow : lowB 8 set := by rw [es]; exact lowB_nI hs
          refine r_iconst (pc := 24) (v := nI 0) dX1_countWith_24 (by decide) ?_
          refine r_istore_n (pc := 25) (i := 3) (L' := [_, _, _, _, _]) dX1_countWith_25 rfl (by decide) rfl ?_
          refine r_iconst (pc := 26) (v := nI 0) dX1_countWith_26 (by decide) ?_
          refine r_istore (pc := 27) (L' := [_, _, _, _, _]) dX1_countWith_27 (by decide) rfl ?_
          suffices h : ∀ k i, i + k = 256 → V shX1 RX1 cX1_countWith 5 3 (some .int) (P1_countWith τ N set tr) 29 [some (.inr 0), some (.inl (set)), some (.inl (tr)), some (.inl (nI (fb_ct (fun a => MT1 τ N a && agB set tr 8 a) i))), some (.inl (nI i))] [] τ from h 256 0 (by omega)
          intro k
          induction k with
          | zero =>
            intro i hi
            refine r_iload (pc := 29) dX1_countWith_29 rfl ?_
            refine r_sipush (pc := 31) (v := nI 256) dX1_countWith_31 (by decide) ?_
            refine r_icmp_ge (pc := 34) (tgt := 70) dX1_countWith_34 (by decide) (fun _ => ?_) (fun z => absurd (nI_le (by omega) (by omega)) z)
            refine r_iload_n (pc := 70) (i := 3) dX1_countWith_70 rfl rfl ?_
            refine r_iret (pc := 71) dX1_countWith_71 ?_
            exact ⟨rfl, Or.inr ⟨by rw [show i = 256 by omega], hnb, hnb2⟩⟩
          | succ k ih =>
            intro i hi
            refine r_iload (pc := 29) dX1_countWith_29 rfl ?_
            refine r_sipush (pc := 31) (v := nI 256) dX1_countWith_31 (by decide) ?_
            refine r_icmp_ge (pc := 34) (tgt := 70) dX1_countWith_34 (by decide) (fun z => absurd z (nI_ge (by omega) (by omega))) (fun _ => ?_)
            have hn := ih (i + 1) (by omega)
            rw [← ct_b _ i] at hn
            have hag := nI_and_bits (a := i) (set := set) (tr := tr) (by omega) hlow
            refine r_iload (pc := 37) dX1_countWith_37 rfl ?_
            refine r_iload_n (pc := 39) (i := 1) dX1_countWith_39 rfl rfl ?_
            refine r_iand (pc := 40) dX1_countWith_40 ?_
            refine r_iload_n (pc := 41) (i := 2) dX1_countWith_41 rfl rfl ?_
            refine r_iload_n (pc := 42) (i := 1) dX1_countWith_42 rfl rfl ?_
            refine r_iand (pc := 43) dX1_countWith_43 ?_
            cases hg : agB set tr 8 i
            · rw [hg, Bool.and_false] at hn
              refine r_icmp_ne (pc := 44) (tgt := 62) dX1_countWith_44 (by decide) (fun _ => ?_) (fun z => absurd z (fun z => by rw [hag.mp z] at hg; cases hg))
              refine r_iload_n (pc := 62) (i := 3) dX1_countWith_62 rfl rfl ?_
              refine r_istore_n (pc := 63) (i := 3) (L' := [_, _, _, _, _]) dX1_countWith_63 rfl (by decide) rfl ?_
              refine r_iinc (pc := 64) (v := _) (L' := [_, _, _, _, _]) dX1_countWith_64 rfl (inc1 _) (by decide) rfl ?_
              refine r_goto (pc := 67) (tgt := 29) dX1_countWith_67 (by decide) ?_
              exact hn
            · refine r_icmp_ne (pc := 44) (tgt := 62) dX1_countWith_44 (by decide) (fun z => absurd (hag.mpr hg) z) (fun _ => ?_)
              refine r_aload_n (pc := 47) (i := 0) dX1_countWith_47 rfl rfl ?_
              refine r_iload (pc := 48) dX1_countWith_48 rfl ?_
              refine r_callI (pc := 50) ckX1 (m1_makesTrue τ N i hC) mf_X1_makesTrue q302 (by decide) (by decide) dX1_countWith_50 rfl (Nat.le_of_ble_eq_true rfl) (fun r τ hr => ?_)
              obtain ⟨rfl, rfl⟩ := hr
              cases hm : MT1 τ N i
              · rw [hm, Bool.false_and] at hn
                refine r_if_eq (pc := 53) (tgt := 62) dX1_countWith_53 (by decide) (fun _ => ?_) (fun z => absurd (rfl) z)
                refine r_iload_n (pc := 62) (i := 3) dX1_countWith_62 rfl rfl ?_
                refine r_istore_n (pc := 63) (i := 3) (L' := [_, _, _, _, _]) dX1_countWith_63 rfl (by decide) rfl ?_
                refine r_iinc (pc := 64) (v := _) (L' := [_, _, _, _, _]) dX1_countWith_64 rfl (inc1 _) (by decide) rfl ?_
                refine r_goto (pc := 67) (tgt := 29) dX1_countWith_67 (by decide) ?_
                exact hn
              · rw [hm, hg] at hn
                refine r_if_eq (pc := 53) (tgt := 62) dX1_countWith_53 (by decide) (fun z => absurd z (by decide)) (fun _ => ?_)
                refine r_iload_n (pc := 56) (i := 3) dX1_countWith_56 rfl rfl ?_
                refine r_iconst (pc := 57) (v := nI 1) dX1_countWith_57 (by decide) ?_
                refine r_iadd (pc := 58) dX1_countWith_58 ?_
                refine r_top _ (nI_add _ 1) ?_
                refine r_goto (pc := 59) (tgt := 63) dX1_countWith_59 (by decide) ?_
                refine r_istore_n (pc := 63) (i := 3) (L' := [_, _, _, _, _]) dX1_countWith_63 rfl (by decide) rfl ?_
                refine r_iinc (pc := 64) (v := _) (L' := [_, _, _, _, _]) dX1_countWith_64 rfl (inc1 _) (by decide) rfl ?_
                refine r_goto (pc := 67) (tgt := 29) dX1_countWith_67 (by decide) ?_
                exact hn
        · exact bad (Or.inr (Or.inr (fa_of_nle h4)))
theorem m1_sizeOf (τ : St) (a : Nat) : CN shX1 yX1_sizeOf cX1_sizeOf 4 1 (some .int) [nI a] τ (fun r σ' => σ' = τ ∧ r = nI (pcn 8 a)) := by
  refine CN.ofV (own := RX1) (by decide) rfl (Nat.le_of_ble_eq_true rfl) ?_
  show V shX1 RX1 cX1_sizeOf 4 1 (some .int) _ 0 [some (.inr 0), some (.inl (nI a)), none, none] [] _
  refine r_iconst (pc := 0) (v := nI 0) dX1_sizeOf_0 (by decide) ?_
  refine r_istore_n (pc := 1) (i := 2) (L' := [_, _, _, _]) dX1_sizeOf_1 rfl (by decide) rfl ?_
  refine r_iconst (pc := 2) (v := nI 0) dX1_sizeOf_2 (by decide) ?_
  refine r_istore_n (pc := 3) (i := 3) (L' := [_, _, _, _]) dX1_sizeOf_3 rfl (by decide) rfl ?_
  suffices h : ∀ k i, i + k = 8 → V shX1 RX1 cX1_sizeOf 4 1 (some .int) (fun r σ' => σ' = τ ∧ r = nI (pcn 8 a)) 4 [some (.inr 0), some (.inl (nI a)), some (.inl (nI (pcn i a))), some (.inl (nI i))] [] τ from h 8 0 (by omega)
  intro k
  induction k with
  | zero =>
    intro i hi
    refine r_iload_n (pc := 4) (i := 3) dX1_sizeOf_4 rfl rfl ?_
    refine r_bipush (pc := 5) (v := nI 8) dX1_sizeOf_5 (by decide) ?_
    refine r_icmp_ge (pc := 7) (tgt := 25) dX1_sizeOf_7 (by decide) (fun _ => ?_) (fun z => absurd (nI_le (by omega) (by omega)) z)
    refine r_iload_n (pc := 25) (i := 2) dX1_sizeOf_25 rfl rfl ?_
    refine r_iret (pc := 26) dX1_sizeOf_26 ?_
    exact ⟨rfl, by rw [show i = 8 by omega]⟩
  | succ k ih =>
    intro i hi
    refine r_iload_n (pc := 4) (i := 3) dX1_sizeOf_4 rfl rfl ?_
    refine r_bipush (pc := 5) (v := nI 8) dX1_sizeOf_5 (by decide) ?_
    refine r_icmp_ge (pc := 7) (tgt := 25) dX1_sizeOf_7 (by decide) (fun z => absurd z (nI_ge (by omega) (by omega))) (fun _ => ?_)
    refine r_iload_n (pc := 10) (i := 2) dX1_sizeOf_10 rfl rfl ?_
    refine r_aload_n (pc := 11) (i := 0) dX1_sizeOf_11 rfl rfl ?_
    refine r_iload_n (pc := 12) (i := 1) dX1_sizeOf_12 rfl rfl ?_
    refine r_iload_n (pc := 13) (i := 3) dX1_sizeOf_13 rfl rfl ?_
    refine r_callI (pc := 14) ckX1 (m1_truth τ (nI a) i (by omega)) mf_X1_truth q310 (by decide) (by decide) dX1_sizeOf_14 rfl (Nat.le_of_ble_eq_true rfl) (fun r τ hr => ?_)
    obtain ⟨rfl, rfl⟩ := hr
    rw [bt_nI a (by omega)]
    refine r_iadd (pc := 17) dX1_sizeOf_17 ?_
    refine r_top (nI (pcn (i + 1) a)) (by unfold pcn; rw [nI_add, ct_b]) ?_
    refine r_istore_n (pc := 18) (i := 2) (L' := [_, _, _, _]) dX1_sizeOf_18 rfl (by decide) rfl ?_
    refine r_iinc (pc := 19) (v := _) (L' := [_, _, _, _]) dX1_sizeOf_19 rfl (inc1 _) (by decide) rfl ?_
    refine r_goto (pc := 22) (tgt := 4) dX1_sizeOf_22 (by decide) ?_
    exact ih (i + 1) (by omega)
theorem m1_countSize (τ : St) (N : Nat) (hC : C1 τ N) (q : Int32) : CN shX1 yX1_countSize cX1_countSize 4 3 (some .int) [q] τ (fun r σ' => σ' = τ ∧ r = nI (fb_ct (fun a => MT1 τ N a && decide (nI (pcn 8 a) = q)) 256)) := by
  refine CN.ofV (own := RX1) (by decide) rfl (Nat.le_of_ble_eq_true rfl) ?_
  show V shX1 RX1 cX1_countSize 4 3 (some .int) _ 0 [some (.inr 0), some (.inl q), none, none] [] _
  refine r_iconst (pc := 0) (v := nI 0) dX1_countSize_0 (by decide) ?_
  refine r_istore_n (pc := 1) (i := 2) (L' := [_, _, _, _]) dX1_countSize_1 rfl (by decide) rfl ?_
  refine r_iconst (pc := 2) (v := nI 0) dX1_countSize_2 (by decide) ?_
  refine r_istore_n (pc := 3) (i := 3) (L' := [_, _, _, _]) dX1_countSize_3 rfl (by decide) rfl ?_
  suffices h : ∀ k i, i + k = 256 → V shX1 RX1 cX1_countSize 4 3 (some .int) (fun r σ' => σ' = τ ∧ r = nI (fb_ct (fun a => MT1 τ N a && decide (nI (pcn 8 a) = q)) 256)) 4 [some (.inr 0), some (.inl (q)), some (.inl (nI (fb_ct (fun a => MT1 τ N a && decide (nI (pcn 8 a) = q)) i))), some (.inl (nI i))] [] τ from h 256 0 (by omega)
  intro k
  induction k with
  | zero =>
    intro i hi
    refine r_iload_n (pc := 4) (i := 3) dX1_countSize_4 rfl rfl ?_
    refine r_sipush (pc := 5) (v := nI 256) dX1_countSize_5 (by decide) ?_
    refine r_icmp_ge (pc := 8) (tgt := 42) dX1_countSize_8 (by decide) (fun _ => ?_) (fun z => absurd (nI_le (by omega) (by omega)) z)
    refine r_iload_n (pc := 42) (i := 2) dX1_countSize_42 rfl rfl ?_
    refine r_iret (pc := 43) dX1_countSize_43 ?_
    exact ⟨rfl, by rw [show i = 256 by omega]⟩
  | succ k ih =>
    intro i hi
    refine r_iload_n (pc := 4) (i := 3) dX1_countSize_4 rfl rfl ?_
    refine r_sipush (pc := 5) (v := nI 256) dX1_countSize_5 (by decide) ?_
    refine r_icmp_ge (pc := 8) (tgt := 42) dX1_countSize_8 (by decide) (fun z => absurd z (nI_ge (by omega) (by omega))) (fun _ => ?_)
    have hn := ih (i + 1) (by omega)
    rw [← ct_b _ i] at hn
    refine r_aload_n (pc := 11) (i := 0) dX1_countSize_11 rfl rfl ?_
    refine r_iload_n (pc := 12) (i := 3) dX1_countSize_12 rfl rfl ?_
    refine r_callI (pc := 13) ckX1 (m1_sizeOf τ i) mf_X1_sizeOf q322 (by decide) (by decide) dX1_countSize_13 rfl (Nat.le_of_ble_eq_true rfl) (fun r τ hr => ?_)
    obtain ⟨rfl, rfl⟩ := hr
    refine r_iload_n (pc := 16) (i := 1) dX1_countSize_16 rfl rfl ?_
    by_cases hg : nI (pcn 8 i) = q
    · refine r_icmp_ne (pc := 17) (tgt := 34) dX1_countSize_17 (by decide) (fun z => absurd (hg) z) (fun _ => ?_)
      refine r_aload_n (pc := 20) (i := 0) dX1_countSize_20 rfl rfl ?_
      refine r_iload_n (pc := 21) (i := 3) dX1_countSize_21 rfl rfl ?_
      refine r_callI (pc := 22) ckX1 (m1_makesTrue τ N i hC) mf_X1_makesTrue q302 (by decide) (by decide) dX1_countSize_22 rfl (Nat.le_of_ble_eq_true rfl) (fun r τ hr => ?_)
      obtain ⟨rfl, rfl⟩ := hr
      cases hm : MT1 τ N i
      · rw [hm, Bool.false_and] at hn
        refine r_if_eq (pc := 25) (tgt := 34) dX1_countSize_25 (by decide) (fun _ => ?_) (fun z => absurd (rfl) z)
        refine r_iload_n (pc := 34) (i := 2) dX1_countSize_34 rfl rfl ?_
        refine r_istore_n (pc := 35) (i := 2) (L' := [_, _, _, _]) dX1_countSize_35 rfl (by decide) rfl ?_
        refine r_iinc (pc := 36) (v := _) (L' := [_, _, _, _]) dX1_countSize_36 rfl (inc1 _) (by decide) rfl ?_
        refine r_goto (pc := 39) (tgt := 4) dX1_countSize_39 (by decide) ?_
        exact hn
      · rw [hm, decide_eq_true hg] at hn
        refine r_if_eq (pc := 25) (tgt := 34) dX1_countSize_25 (by decide) (fun z => absurd z (by decide)) (fun _ => ?_)
        refine r_iload_n (pc := 28) (i := 2) dX1_countSize_28 rfl rfl ?_
        refine r_iconst (pc := 29) (v := nI 1) dX1_countSize_29 (by decide) ?_
        refine r_iadd (pc := 30) dX1_countSize_30 ?_
        refine r_top _ (nI_add _ 1) ?_
        refine r_goto (pc := 31) (tgt := 35) dX1_countSize_31 (by decide) ?_
        refine r_istore_n (pc := 35) (i := 2) (L' := [_, _, _, _]) dX1_countSize_35 rfl (by decide) rfl ?_
        refine r_iinc (pc := 36) (v := _) (L' := [_, _, _, _]) dX1_countSize_36 rfl (inc1 _) (by decide) rfl ?_
        refine r_goto (pc := 39) (tgt := 4) dX1_countSize_39 (by decide) ?_
        exact hn
    · rw [decide_eq_false hg, Bool.and_false] at hn
      refine r_icmp_ne (pc := 17) (tgt := 34) dX1_countSize_17 (by decide) (fun _ => ?_) (fun z => absurd z (hg))
      refine r_iload_n (pc := 34) (i := 2) dX1_countSize_34 rfl rfl ?_
      refine r_istore_n (pc := 35) (i := 2) (L' := [_, _, _, _]) dX1_countSize_35 rfl (by decide) rfl ?_
      refine r_iinc (pc := 36) (v := _) (L' := [_, _, _, _]) dX1_countSize_36 rfl (inc1 _) (by decide) rfl ?_
      refine r_goto (pc := 39) (tgt := 4) dX1_countSize_39 (by decide) ?_
      exact hn
/-- the reference's weights -/
abbrev w1T (τ : St) : Nat → Int32 := fun v => τ 3 (2 * v + 1)
abbrev w1F (τ : St) : Nat → Int32 := fun v => τ 3 (2 * v)
theorem ix_t (i : Nat) (b : Bool) : nI 2 * nI i + nI b.toNat = nI (2 * i + b.toNat) := by rw [pk_mul, nI_add]
theorem m1_weightOf (τ : St) (a : Nat) : CN shX1 yX1_weightOf cX1_weightOf 4 1 (some .int) [nI a] τ (fun r σ' => σ' = τ ∧ r = wpr (w1T τ) (w1F τ) 8 a) := by
  refine CN.ofV (own := RX1) (by decide) rfl (Nat.le_of_ble_eq_true rfl) ?_
  show V shX1 RX1 cX1_weightOf 4 1 (some .int) _ 0 [some (.inr 0), some (.inl (nI a)), none, none] [] _
  refine r_iconst (pc := 0) (v := nI 1) dX1_weightOf_0 (by decide) ?_
  refine r_istore_n (pc := 1) (i := 2) (L' := [_, _, _, _]) dX1_weightOf_1 rfl (by decide) rfl ?_
  refine r_iconst (pc := 2) (v := nI 0) dX1_weightOf_2 (by decide) ?_
  refine r_istore_n (pc := 3) (i := 3) (L' := [_, _, _, _]) dX1_weightOf_3 rfl (by decide) rfl ?_
  suffices h : ∀ k i, i + k = 8 → V shX1 RX1 cX1_weightOf 4 1 (some .int) (fun r σ' => σ' = τ ∧ r = wpr (w1T τ) (w1F τ) 8 a) 4 [some (.inr 0), some (.inl (nI a)), some (.inl (wpr (w1T τ) (w1F τ) i a)), some (.inl (nI i))] [] τ from h 8 0 (by omega)
  intro k
  induction k with
  | zero =>
    intro i hi
    refine r_iload_n (pc := 4) (i := 3) dX1_weightOf_4 rfl rfl ?_
    refine r_bipush (pc := 5) (v := nI 8) dX1_weightOf_5 (by decide) ?_
    refine r_icmp_ge (pc := 7) (tgt := 34) dX1_weightOf_7 (by decide) (fun _ => ?_) (fun z => absurd (nI_le (by omega) (by omega)) z)
    refine r_iload_n (pc := 34) (i := 2) dX1_weightOf_34 rfl rfl ?_
    refine r_iret (pc := 35) dX1_weightOf_35 ?_
    exact ⟨rfl, by rw [show i = 8 by omega]⟩
  | succ k ih =>
    intro i hi
    have hb2 : (a.testBit i).toNat < 2 := by cases a.testBit i <;> decide
    refine r_iload_n (pc := 4) (i := 3) dX1_weightOf_4 rfl rfl ?_
    refine r_bipush (pc := 5) (v := nI 8) dX1_weightOf_5 (by decide) ?_
    refine r_icmp_ge (pc := 7) (tgt := 34) dX1_weightOf_7 (by decide) (fun z => absurd z (nI_ge (by omega) (by omega))) (fun _ => ?_)
    refine r_iload_n (pc := 10) (i := 2) dX1_weightOf_10 rfl rfl ?_
    refine r_aload_n (pc := 11) (i := 0) dX1_weightOf_11 rfl rfl ?_
    refine r_getA (pc := 12) ckX1 3 (by decide) rfl q260 dX1_weightOf_12 ?_
    refine r_iconst (pc := 15) (v := nI 2) dX1_weightOf_15 (by decide) ?_
    refine r_iload_n (pc := 16) (i := 3) dX1_weightOf_16 rfl rfl ?_
    refine r_imul (pc := 17) dX1_weightOf_17 ?_
    refine r_aload_n (pc := 18) (i := 0) dX1_weightOf_18 rfl rfl ?_
    refine r_iload_n (pc := 19) (i := 1) dX1_weightOf_19 rfl rfl ?_
    refine r_iload_n (pc := 20) (i := 3) dX1_weightOf_20 rfl rfl ?_
    refine r_callI (pc := 21) ckX1 (m1_truth τ (nI a) i (by omega)) mf_X1_truth q310 (by decide) (by decide) dX1_weightOf_21 rfl (Nat.le_of_ble_eq_true rfl) (fun r τ hr => ?_)
    obtain ⟨rfl, rfl⟩ := hr
    rw [bt_nI a (by omega)]
    refine r_iadd (pc := 24) dX1_weightOf_24 ?_
    refine r_iald (pc := 25) ckX1 rfl dX1_weightOf_25 (ix_t i (a.testBit i)) (by omega) ?_
    refine r_imul (pc := 26) dX1_weightOf_26 ?_
    refine r_top (wpr (w1T τ) (w1F τ) (i + 1) a) (by
      rw [wpr_succ, Int32.mul_comm]
      congr 1
      cases a.testBit i
      · rfl
      · rfl) ?_
    refine r_istore_n (pc := 27) (i := 2) (L' := [_, _, _, _]) dX1_weightOf_27 rfl (by decide) rfl ?_
    refine r_iinc (pc := 28) (v := _) (L' := [_, _, _, _]) dX1_weightOf_28 rfl (inc1 _) (by decide) rfl ?_
    refine r_goto (pc := 31) (tgt := 4) dX1_weightOf_31 (by decide) ?_
    exact ih (i + 1) (by omega)
/-- the reference's share -/
abbrev sh1 (τ : St) (N j : Nat) (b : Int32) : Int32 := sumI (fun a => if decide (nI (a.testBit j).toNat = b) && MT1 τ N a then wpr (w1T τ) (w1F τ) 8 a else 0) 256
abbrev P1_share (τ : St) (N : Nat) (v b : Int32) : Int32 → St → Prop := fun r σ' => σ' = τ ∧ ((r = 0 ∧ badV v b) ∨ (¬ badV v b ∧ ∃ j, j < 8 ∧ v = nI j ∧ r = sh1 τ N j b))
theorem m1_share (τ : St) (N : Nat) (hC : C1 τ N) (v b : Int32) : CN shX1 yX1_share cX1_share 5 3 (some .int) [v, b] τ (P1_share τ N v b) := by
  refine CN.ofV (own := RX1) (by decide) rfl (Nat.le_of_ble_eq_true rfl) ?_
  show V shX1 RX1 cX1_share 5 3 (some .int) _ 0 [some (.inr 0), some (.inl v), some (.inl b), none, none] [] _
  have bad : badV v b → V shX1 RX1 cX1_share 5 3 (some .int) (P1_share τ N v b) 19 [some (.inr 0), some (.inl (v)), some (.inl (b)), none, none] [] τ := by
    intro h
    refine r_iconst (pc := 19) (v := nI 0) dX1_share_19 (by decide) ?_
    refine r_iret (pc := 20) dX1_share_20 ?_
    exact ⟨rfl, Or.inl ⟨rfl, h⟩⟩
  refine r_iload_n (pc := 0) (i := 1) dX1_share_0 rfl rfl ?_
  refine r_if_lt (pc := 1) (tgt := 19) dX1_share_1 (by decide) (fun h1 => ?_) (fun h1 => ?_)
  · exact bad (Or.inl h1)
  · refine r_iload_n (pc := 4) (i := 1) dX1_share_4 rfl rfl ?_
    refine r_bipush (pc := 5) (v := nI 7) dX1_share_5 (by decide) ?_
    refine r_icmp_gt (pc := 7) (tgt := 19) dX1_share_7 (by decide) (fun h2 => ?_) (fun h2 => ?_)
    · exact bad (Or.inr (Or.inl (ge8.mpr h2)))
    · refine r_iload_n (pc := 10) (i := 2) dX1_share_10 rfl rfl ?_
      refine r_if_lt (pc := 11) (tgt := 19) dX1_share_11 (by decide) (fun h3 => ?_) (fun h3 => ?_)
      · exact bad (Or.inr (Or.inr (Or.inl h3)))
      · refine r_iload_n (pc := 14) (i := 2) dX1_share_14 rfl rfl ?_
        refine r_iconst (pc := 15) (v := nI 1) dX1_share_15 (by decide) ?_
        refine r_icmp_le (pc := 16) (tgt := 21) dX1_share_16 (by decide) (fun h4 => ?_) (fun h4 => ?_)
        · have hnb : ¬ badV v b := by
            rintro (h | h | h | h)
            · exact h1 h
            · exact h2 (ge8.mp h)
            · exact h3 h
            · exact (fa_of_lt h).2.1 h4
          obtain ⟨j, hj, hv⟩ : ∃ j, j < 8 ∧ v = nI j := by
            rcases pk_ix v (n := 8) (by decide) with h | h | h
            · exact absurd h h1
            · exact absurd (ge8.mp h) h2
            · exact h
          subst hv
          refine r_iconst (pc := 21) (v := nI 0) dX1_share_21 (by decide) ?_
          refine r_istore_n (pc := 22) (i := 3) (L' := [_, _, _, _, _]) dX1_share_22 rfl (by decide) rfl ?_
          refine r_iconst (pc := 23) (v := nI 0) dX1_share_23 (by decide) ?_
          refine r_istore (pc := 24) (L' := [_, _, _, _, _]) dX1_share_24 (by decide) rfl ?_
          suffices h : ∀ k i, i + k = 256 → V shX1 RX1 cX1_share 5 3 (some .int) (P1_share τ N (nI j) b) 26 [some (.inr 0), some (.inl (nI j)), some (.inl (b)), some (.inl (sumI (fun a => if decide (nI (a.testBit j).toNat = b) && MT1 τ N a then wpr (w1T τ) (w1F τ) 8 a else 0) i)), some (.inl (nI i))] [] τ from h 256 0 (by omega)
          intro k
          induction k with
          | zero =>
            intro i hi
            refine r_iload (pc := 26) dX1_share_26 rfl ?_
            refine r_sipush (pc := 28) (v := nI 256) dX1_share_28 (by decide) ?_
            refine r_icmp_ge (pc := 31) (tgt := 73) dX1_share_31 (by decide) (fun _ => ?_) (fun z => absurd (nI_le (by omega) (by omega)) z)
            refine r_iload_n (pc := 73) (i := 3) dX1_share_73 rfl rfl ?_
            refine r_iret (pc := 74) dX1_share_74 ?_
            exact ⟨rfl, Or.inr ⟨hnb, j, hj, rfl, by rw [show i = 256 by omega]⟩⟩
          | succ k ih =>
            intro i hi
            refine r_iload (pc := 26) dX1_share_26 rfl ?_
            refine r_sipush (pc := 28) (v := nI 256) dX1_share_28 (by decide) ?_
            refine r_icmp_ge (pc := 31) (tgt := 73) dX1_share_31 (by decide) (fun z => absurd z (nI_ge (by omega) (by omega))) (fun _ => ?_)
            have hn := ih (i + 1) (by omega)
            rw [sumI_succ] at hn
            refine r_aload_n (pc := 34) (i := 0) dX1_share_34 rfl rfl ?_
            refine r_iload (pc := 35) dX1_share_35 rfl ?_
            refine r_iload_n (pc := 37) (i := 1) dX1_share_37 rfl rfl ?_
            refine r_callI (pc := 38) ckX1 (m1_truth τ (nI i) j (by omega)) mf_X1_truth q310 (by decide) (by decide) dX1_share_38 rfl (Nat.le_of_ble_eq_true rfl) (fun r τ hr => ?_)
            obtain ⟨rfl, rfl⟩ := hr
            rw [bt_nI i (by omega)]
            refine r_iload_n (pc := 41) (i := 2) dX1_share_41 rfl rfl ?_
            by_cases hg : nI (i.testBit j).toNat = b
            · refine r_icmp_ne (pc := 42) (tgt := 65) dX1_share_42 (by decide) (fun z => absurd (hg) z) (fun _ => ?_)
              refine r_aload_n (pc := 45) (i := 0) dX1_share_45 rfl rfl ?_
              refine r_iload (pc := 46) dX1_share_46 rfl ?_
              refine r_callI (pc := 48) ckX1 (m1_makesTrue τ N i hC) mf_X1_makesTrue q302 (by decide) (by decide) dX1_share_48 rfl (Nat.le_of_ble_eq_true rfl) (fun r τ hr => ?_)
              obtain ⟨rfl, rfl⟩ := hr
              cases hm : MT1 τ N i
              · rw [hm, Bool.and_false, if_neg (by decide), i_add0] at hn
                refine r_if_eq (pc := 51) (tgt := 65) dX1_share_51 (by decide) (fun _ => ?_) (fun z => absurd (rfl) z)
                refine r_iload_n (pc := 65) (i := 3) dX1_share_65 rfl rfl ?_
                refine r_istore_n (pc := 66) (i := 3) (L' := [_, _, _, _, _]) dX1_share_66 rfl (by decide) rfl ?_
                refine r_iinc (pc := 67) (v := _) (L' := [_, _, _, _, _]) dX1_share_67 rfl (inc1 _) (by decide) rfl ?_
                refine r_goto (pc := 70) (tgt := 26) dX1_share_70 (by decide) ?_
                exact hn
              · rw [hm, decide_eq_true hg, if_pos (by decide)] at hn
                refine r_if_eq (pc := 51) (tgt := 65) dX1_share_51 (by decide) (fun z => absurd z (by decide)) (fun _ => ?_)
                refine r_iload_n (pc := 54) (i := 3) dX1_share_54 rfl rfl ?_
                refine r_aload_n (pc := 55) (i := 0) dX1_share_55 rfl rfl ?_
                refine r_iload (pc := 56) dX1_share_56 rfl ?_
                refine r_callI (pc := 58) ckX1 (m1_weightOf τ i) mf_X1_weightOf q334 (by decide) (by decide) dX1_share_58 rfl (Nat.le_of_ble_eq_true rfl) (fun r τ hr => ?_)
                obtain ⟨rfl, rfl⟩ := hr
                refine r_iadd (pc := 61) dX1_share_61 ?_
                refine r_goto (pc := 62) (tgt := 66) dX1_share_62 (by decide) ?_
                refine r_istore_n (pc := 66) (i := 3) (L' := [_, _, _, _, _]) dX1_share_66 rfl (by decide) rfl ?_
                refine r_iinc (pc := 67) (v := _) (L' := [_, _, _, _, _]) dX1_share_67 rfl (inc1 _) (by decide) rfl ?_
                refine r_goto (pc := 70) (tgt := 26) dX1_share_70 (by decide) ?_
                exact hn
            · rw [decide_eq_false hg, Bool.false_and, if_neg (by decide), i_add0] at hn
              refine r_icmp_ne (pc := 42) (tgt := 65) dX1_share_42 (by decide) (fun _ => ?_) (fun z => absurd z (hg))
              refine r_iload_n (pc := 65) (i := 3) dX1_share_65 rfl rfl ?_
              refine r_istore_n (pc := 66) (i := 3) (L' := [_, _, _, _, _]) dX1_share_66 rfl (by decide) rfl ?_
              refine r_iinc (pc := 67) (v := _) (L' := [_, _, _, _, _]) dX1_share_67 rfl (inc1 _) (by decide) rfl ?_
              refine r_goto (pc := 70) (tgt := 26) dX1_share_70 (by decide) ?_
              exact hn
        · exact bad (Or.inr (Or.inr (Or.inr (fa_of_nle h4))))
theorem m1_weighted (τ : St) (N : Nat) (hC : C1 τ N) : CN shX1 yX1_weighted cX1_weighted 1 4 (some .int) [] τ (fun r σ' => σ' = τ ∧ r = sh1 τ N 0 (nI 0) + sh1 τ N 0 (nI 1)) := by
  refine CN.ofV (own := RX1) (by decide) rfl (Nat.le_of_ble_eq_true rfl) ?_
  show V shX1 RX1 cX1_weighted 1 4 (some .int) _ 0 [some (.inr 0)] [] _
  have hg : ∀ (b r : Int32), (b = nI 0 ∨ b = nI 1) → ((r = 0 ∧ badV (nI 0) b) ∨ (¬ badV (nI 0) b ∧ ∃ j, j < 8 ∧ nI 0 = nI j ∧ r = sh1 τ N j b)) → r = sh1 τ N 0 b := by
    intro b r hb h
    rcases h with ⟨-, h⟩ | ⟨-, j, hj, e, h⟩
    · exfalso
      rcases hb with rfl | rfl
      · exact absurd h (by decide)
      · exact absurd h (by decide)
    · have e := (nI_eq (by decide) (by omega)).mp e
      subst e
      exact h
  refine r_aload_n (pc := 0) (i := 0) dX1_weighted_0 rfl rfl ?_
  refine r_iconst (pc := 1) (v := nI 0) dX1_weighted_1 (by decide) ?_
  refine r_iconst (pc := 2) (v := nI 0) dX1_weighted_2 (by decide) ?_
  refine r_callI (pc := 3) ckX1 (m1_share τ N hC (nI 0) (nI 0)) mf_X1_share q330 (by decide) (by decide) dX1_weighted_3 rfl (Nat.le_of_ble_eq_true rfl) (fun r τ hr => ?_)
  obtain ⟨rfl, hr⟩ := hr
  have e := hg _ _ (Or.inl rfl) hr
  subst e
  refine r_aload_n (pc := 6) (i := 0) dX1_weighted_6 rfl rfl ?_
  refine r_iconst (pc := 7) (v := nI 0) dX1_weighted_7 (by decide) ?_
  refine r_iconst (pc := 8) (v := nI 1) dX1_weighted_8 (by decide) ?_
  refine r_callI (pc := 9) ckX1 (m1_share τ N hC (nI 0) (nI 1)) mf_X1_share q330 (by decide) (by decide) dX1_weighted_9 rfl (Nat.le_of_ble_eq_true rfl) (fun r τ hr => ?_)
  obtain ⟨rfl, hr⟩ := hr
  have e := hg _ _ (Or.inr rfl) hr
  subst e
  refine r_iadd (pc := 12) dX1_weighted_12 ?_
  refine r_iret (pc := 13) dX1_weighted_13 ?_
  exact ⟨rfl, rfl⟩
abbrev P1_model (τ : St) (N : Nat) (q : Int32) : Int32 → St → Prop := fun r σ' => σ' = τ ∧ ((∃ a, a < 256 ∧ r = nI a ∧ MT1 τ N a = true ∧ nI (fb_ct (MT1 τ N) a) = q) ∨ (r = -4 ∧ ∀ a, a < 256 → MT1 τ N a = true → ¬ nI (fb_ct (MT1 τ N) a) = q))
theorem m1_model (τ : St) (N : Nat) (hC : C1 τ N) (q : Int32) : CN shX1 yX1_model cX1_model 4 3 (some .int) [q] τ (P1_model τ N q) := by
  refine CN.ofV (own := RX1) (by decide) rfl (Nat.le_of_ble_eq_true rfl) ?_
  show V shX1 RX1 cX1_model 4 3 (some .int) _ 0 [some (.inr 0), some (.inl q), none, none] [] _
  refine r_iconst (pc := 0) (v := nI 0) dX1_model_0 (by decide) ?_
  refine r_istore_n (pc := 1) (i := 2) (L' := [_, _, _, _]) dX1_model_1 rfl (by decide) rfl ?_
  refine r_iconst (pc := 2) (v := nI 0) dX1_model_2 (by decide) ?_
  refine r_istore_n (pc := 3) (i := 3) (L' := [_, _, _, _]) dX1_model_3 rfl (by decide) rfl ?_
  suffices h : ∀ k i, i + k = 256 → (∀ a, a < i → MT1 τ N a = true → ¬ nI (fb_ct (MT1 τ N) a) = q) → V shX1 RX1 cX1_model 4 3 (some .int) (P1_model τ N q) 4 [some (.inr 0), some (.inl (q)), some (.inl (nI (fb_ct (MT1 τ N) i))), some (.inl (nI i))] [] τ from h 256 0 (by omega) (fun a h => absurd h (by omega))
  intro k
  induction k with
  | zero =>
    intro i hi hp
    refine r_iload_n (pc := 4) (i := 3) dX1_model_4 rfl rfl ?_
    refine r_sipush (pc := 5) (v := nI 256) dX1_model_5 (by decide) ?_
    refine r_icmp_ge (pc := 8) (tgt := 35) dX1_model_8 (by decide) (fun _ => ?_) (fun z => absurd (nI_le (by omega) (by omega)) z)
    refine r_bipush (pc := 35) (v := (-4)) dX1_model_35 (by decide) ?_
    refine r_iret (pc := 37) dX1_model_37 ?_
    exact ⟨rfl, Or.inr ⟨rfl, fun a ha => hp a (by omega)⟩⟩
  | succ k ih =>
    intro i hi hp
    refine r_iload_n (pc := 4) (i := 3) dX1_model_4 rfl rfl ?_
    refine r_sipush (pc := 5) (v := nI 256) dX1_model_5 (by decide) ?_
    refine r_icmp_ge (pc := 8) (tgt := 35) dX1_model_8 (by decide) (fun z => absurd z (nI_ge (by omega) (by omega))) (fun _ => ?_)
    have hn := ih (i + 1) (by omega)
    rw [← ct_b _ i] at hn
    refine r_aload_n (pc := 11) (i := 0) dX1_model_11 rfl rfl ?_
    refine r_iload_n (pc := 12) (i := 3) dX1_model_12 rfl rfl ?_
    refine r_callI (pc := 13) ckX1 (m1_makesTrue τ N i hC) mf_X1_makesTrue q302 (by decide) (by decide) dX1_model_13 rfl (Nat.le_of_ble_eq_true rfl) (fun r τ hr => ?_)
    obtain ⟨rfl, rfl⟩ := hr
    cases hm : MT1 τ N i
    · rw [hm] at hn
      refine r_if_eq (pc := 16) (tgt := 29) dX1_model_16 (by decide) (fun _ => ?_) (fun z => absurd (rfl) z)
      refine r_iinc (pc := 29) (v := _) (L' := [_, _, _, _]) dX1_model_29 rfl (inc1 _) (by decide) rfl ?_
      refine r_goto (pc := 32) (tgt := 4) dX1_model_32 (by decide) ?_
      refine hn (fun a ha h => ?_)
      by_cases e : a = i
      · rw [e, hm] at h; cases h
      · exact hp a (by omega) h
    · rw [hm] at hn
      refine r_if_eq (pc := 16) (tgt := 29) dX1_model_16 (by decide) (fun z => absurd z (by decide)) (fun _ => ?_)
      refine r_iload_n (pc := 19) (i := 2) dX1_model_19 rfl rfl ?_
      refine r_iload_n (pc := 20) (i := 1) dX1_model_20 rfl rfl ?_
      by_cases hg : nI (fb_ct (MT1 τ N) i) = q
      · refine r_icmp_ne (pc := 21) (tgt := 26) dX1_model_21 (by decide) (fun z => absurd (hg) z) (fun _ => ?_)
        refine r_iload_n (pc := 24) (i := 3) dX1_model_24 rfl rfl ?_
        refine r_iret (pc := 25) dX1_model_25 ?_
        exact ⟨rfl, Or.inl ⟨i, by omega, rfl, hm, hg⟩⟩
      · refine r_icmp_ne (pc := 21) (tgt := 26) dX1_model_21 (by decide) (fun _ => ?_) (fun z => absurd z (hg))
        refine r_iinc (pc := 26) (v := _) (L' := [_, _, _, _]) dX1_model_26 rfl (inc1 _) (by decide) rfl ?_
        refine r_iinc (pc := 29) (v := _) (L' := [_, _, _, _]) dX1_model_29 rfl (inc1 _) (by decide) rfl ?_
        refine r_goto (pc := 32) (tgt := 4) dX1_model_32 (by decide) ?_
        refine hn (fun a ha h => ?_)
        by_cases e : a = i
        · rw [e]; exact hg
        · exact hp a (by omega) h
theorem m1_isModel (τ : St) (N : Nat) (hC : C1 τ N) (a : Int32) : CN shX1 yX1_isModel cX1_isModel 2 3 (some .boolean) [a] τ (fun r σ' => σ' = τ ∧ ((badS a ∧ r = nI 0) ∨ ∃ A, A < 256 ∧ a = nI A ∧ r = nI (MT1 τ N A).toNat)) := by
  refine CN.ofV (own := RX1) (by decide) rfl (Nat.le_of_ble_eq_true rfl) ?_
  show V shX1 RX1 cX1_isModel 2 3 (some .boolean) _ 0 [some (.inr 0), some (.inl a)] [] _
  have bad : badS a → V shX1 RX1 cX1_isModel 2 3 (some .boolean) (fun r σ' => σ' = τ ∧ ((badS a ∧ r = nI 0) ∨ ∃ A, A < 256 ∧ a = nI A ∧ r = nI (MT1 τ N A).toNat)) 23 [some (.inr 0), some (.inl (a))] [] τ := by
    intro h
    refine r_iconst (pc := 23) (v := nI 0) dX1_isModel_23 (by decide) ?_
    refine r_zret (pc := 24) dX1_isModel_24 (by decide) ?_
    exact ⟨rfl, Or.inl ⟨h, rfl⟩⟩
  refine r_iload_n (pc := 0) (i := 1) dX1_isModel_0 rfl rfl ?_
  refine r_if_lt (pc := 1) (tgt := 23) dX1_isModel_1 (by decide) (fun h1 => ?_) (fun h1 => ?_)
  · exact bad (Or.inl h1)
  · refine r_iload_n (pc := 4) (i := 1) dX1_isModel_4 rfl rfl ?_
    refine r_sipush (pc := 5) (v := nI 255) dX1_isModel_5 (by decide) ?_
    refine r_icmp_gt (pc := 8) (tgt := 23) dX1_isModel_8 (by decide) (fun h2 => ?_) (fun h2 => ?_)
    · exact bad (Or.inr h2)
    · obtain ⟨A, hA, e⟩ := set_of h1 (fa_of_nlt h2)
      subst e
      clear bad
      refine r_aload_n (pc := 11) (i := 0) dX1_isModel_11 rfl rfl ?_
      refine r_iload_n (pc := 12) (i := 1) dX1_isModel_12 rfl rfl ?_
      refine r_callI (pc := 13) ckX1 (m1_makesTrue τ N A hC) mf_X1_makesTrue q302 (by decide) (by decide) dX1_isModel_13 rfl (Nat.le_of_ble_eq_true rfl) (fun r τ hr => ?_)
      obtain ⟨rfl, rfl⟩ := hr
      cases hm : MT1 τ N A
      · refine r_if_eq (pc := 16) (tgt := 23) dX1_isModel_16 (by decide) (fun _ => ?_) (fun z => absurd (rfl) z)
        refine r_iconst (pc := 23) (v := nI 0) dX1_isModel_23 (by decide) ?_
        refine r_zret (pc := 24) dX1_isModel_24 (by decide) ?_
        exact ⟨rfl, Or.inr ⟨A, hA, rfl, by rw [hm]; rfl⟩⟩
      · refine r_if_eq (pc := 16) (tgt := 23) dX1_isModel_16 (by decide) (fun z => absurd z (by decide)) (fun _ => ?_)
        refine r_iconst (pc := 19) (v := nI 1) dX1_isModel_19 (by decide) ?_
        refine r_goto (pc := 20) (tgt := 24) dX1_isModel_20 (by decide) ?_
        refine r_zret (pc := 24) dX1_isModel_24 (by decide) ?_
        exact ⟨rfl, Or.inr ⟨A, hA, rfl, by rw [hm]; rfl⟩⟩
abbrev noMb (m : Nat → Bool) (n v : Nat) (b : Bool) : Prop := ∀ a, a < n → m a = true → a.testBit v = !b
abbrev P1_always (τ : St) (N : Nat) (b : Bool) : Int32 → St → Prop := fun r σ' => σ' = τ ∧ ((fb_ct (MT1 τ N) 256 = 0 ∧ r = -4) ∨ (¬ fb_ct (MT1 τ N) 256 = 0 ∧ ∀ v, v < 32 → (bt r v = true ↔ v < 8 ∧ noM (MT1 τ N) v b)))
theorem noMb_next {m : Nat → Bool} {n v : Nat} {b : Bool} (hm : m n = true) : noMb m (n + 1) v b ↔ noMb m n v b ∧ n.testBit v = !b := by
  constructor
  · intro h
    exact ⟨fun a ha h' => h a (by omega) h', h n (by omega) hm⟩
  · rintro ⟨h1, h2⟩ a ha h'
    by_cases e : a = n
    · rw [e]; exact h2
    · exact h1 a (by omega) h'
theorem noMb_skip {m : Nat → Bool} {n v : Nat} {b : Bool} (hm : m n = false) : noMb m (n + 1) v b ↔ noMb m n v b := by
  constructor
  · intro h a ha h'
    exact h a (by omega) h'
  · intro h a ha h'
    by_cases e : a = n
    · rw [e, hm] at h'; cases h'
    · exact h a (by omega) h'
theorem some_next {m : Nat → Bool} {n : Nat} : nI (decide (¬ fb_ct m (n + 1) = 0)).toNat = if m n then nI 1 else nI (decide (¬ fb_ct m n = 0)).toNat := by
  rw [fb_ct_succ]
  cases m n
  · rfl
  · rw [if_pos rfl, if_pos rfl, decide_eq_true (by omega)]
    rfl
theorem m1_alwaysTrue (τ : St) (N : Nat) (hC : C1 τ N) : CN shX1 yX1_alwaysTrue cX1_alwaysTrue 4 3 (some .int) [] τ (P1_always τ N false) := by
  refine CN.ofV (own := RX1) (by decide) rfl (Nat.le_of_ble_eq_true rfl) ?_
  show V shX1 RX1 cX1_alwaysTrue 4 3 (some .int) _ 0 [some (.inr 0), none, none, none] [] _
  refine r_sipush (pc := 0) (v := nI 255) dX1_alwaysTrue_0 (by decide) ?_
  refine r_istore_n (pc := 3) (i := 1) (L' := [_, _, _, _]) dX1_alwaysTrue_3 rfl (by decide) rfl ?_
  refine r_iconst (pc := 4) (v := nI 0) dX1_alwaysTrue_4 (by decide) ?_
  refine r_istore_n (pc := 5) (i := 2) (L' := [_, _, _, _]) dX1_alwaysTrue_5 rfl (by decide) rfl ?_
  refine r_iconst (pc := 6) (v := nI 0) dX1_alwaysTrue_6 (by decide) ?_
  refine r_istore_n (pc := 7) (i := 3) (L' := [_, _, _, _]) dX1_alwaysTrue_7 rfl (by decide) rfl ?_
  suffices h : ∀ k i set, i + k = 256 → (∀ v, v < 32 → (bt set v = true ↔ v < 8 ∧ noMb (MT1 τ N) i v false)) → V shX1 RX1 cX1_alwaysTrue 4 3 (some .int) (P1_always τ N false) 8 [some (.inr 0), some (.inl (set)), some (.inl (nI (decide (¬ fb_ct (MT1 τ N) i = 0)).toNat)), some (.inl (nI i))] [] τ from h 256 0 (nI 255) (by omega) (fun v hv => by
    rw [show bt (nI 255) v = decide (v < 8) from b_255 v, decide_eq_true_iff]
    exact ⟨fun h => ⟨h, fun a ha => absurd ha (by omega)⟩, fun h => h.1⟩)
  intro k
  induction k with
  | zero =>
    intro i set hi hs
    have e : i = 256 := by omega
    subst e
    refine r_iload_n (pc := 8) (i := 3) dX1_alwaysTrue_8 rfl rfl ?_
    refine r_sipush (pc := 9) (v := nI 256) dX1_alwaysTrue_9 (by decide) ?_
    refine r_icmp_ge (pc := 12) (tgt := 35) dX1_alwaysTrue_12 (by decide) (fun _ => ?_) (fun z => absurd (nI_le (by omega) (by omega)) z)
    refine r_iload_n (pc := 35) (i := 2) dX1_alwaysTrue_35 rfl rfl ?_
    by_cases hz : fb_ct (MT1 τ N) 256 = 0
    · rw [decide_eq_false (fun z => z hz)]
      refine r_if_eq (pc := 36) (tgt := 43) dX1_alwaysTrue_36 (by decide) (fun _ => ?_) (fun z => absurd (rfl) z)
      refine r_bipush (pc := 43) (v := (-4)) dX1_alwaysTrue_43 (by decide) ?_
      refine r_iret (pc := 45) dX1_alwaysTrue_45 ?_
      exact ⟨rfl, Or.inl ⟨hz, rfl⟩⟩
    · rw [decide_eq_true hz]
      refine r_if_eq (pc := 36) (tgt := 43) dX1_alwaysTrue_36 (by decide) (fun z => absurd z (by decide)) (fun _ => ?_)
      refine r_iload_n (pc := 39) (i := 1) dX1_alwaysTrue_39 rfl rfl ?_
      refine r_goto (pc := 40) (tgt := 45) dX1_alwaysTrue_40 (by decide) ?_
      refine r_iret (pc := 45) dX1_alwaysTrue_45 ?_
      exact ⟨rfl, Or.inr ⟨hz, hs⟩⟩
  | succ k ih =>
    intro i set hi hs
    refine r_iload_n (pc := 8) (i := 3) dX1_alwaysTrue_8 rfl rfl ?_
    refine r_sipush (pc := 9) (v := nI 256) dX1_alwaysTrue_9 (by decide) ?_
    refine r_icmp_ge (pc := 12) (tgt := 35) dX1_alwaysTrue_12 (by decide) (fun z => absurd z (nI_ge (by omega) (by omega))) (fun _ => ?_)
    have hsn := some_next (m := MT1 τ N) (n := i)
    refine r_aload_n (pc := 15) (i := 0) dX1_alwaysTrue_15 rfl rfl ?_
    refine r_iload_n (pc := 16) (i := 3) dX1_alwaysTrue_16 rfl rfl ?_
    refine r_callI (pc := 17) ckX1 (m1_makesTrue τ N i hC) mf_X1_makesTrue q302 (by decide) (by decide) dX1_alwaysTrue_17 rfl (Nat.le_of_ble_eq_true rfl) (fun r τ hr => ?_)
    obtain ⟨rfl, rfl⟩ := hr
    cases hm : MT1 τ N i
    · rw [hm, if_neg (by decide)] at hsn
      have hn := ih (i + 1) set (by omega) (fun v hv => by rw [hs v hv, noMb_skip hm])
      rw [hsn] at hn
      refine r_if_eq (pc := 20) (tgt := 29) dX1_alwaysTrue_20 (by decide) (fun _ => ?_) (fun z => absurd (rfl) z)
      refine r_iinc (pc := 29) (v := _) (L' := [_, _, _, _]) dX1_alwaysTrue_29 rfl (inc1 _) (by decide) rfl ?_
      refine r_goto (pc := 32) (tgt := 8) dX1_alwaysTrue_32 (by decide) ?_
      exact hn
    · rw [hm, if_pos rfl] at hsn
      have hn := ih (i + 1) (set &&& nI i) (by omega) (fun v hv => by
        rw [b_and, Bool.and_eq_true_iff, hs v hv, noMb_next hm, bt_nI i hv, and_assoc]
        rfl)
      rw [hsn] at hn
      refine r_if_eq (pc := 20) (tgt := 29) dX1_alwaysTrue_20 (by decide) (fun z => absurd z (by decide)) (fun _ => ?_)
      refine r_iload_n (pc := 23) (i := 1) dX1_alwaysTrue_23 rfl rfl ?_
      refine r_iload_n (pc := 24) (i := 3) dX1_alwaysTrue_24 rfl rfl ?_
      refine r_iand (pc := 25) dX1_alwaysTrue_25 ?_
      refine r_istore_n (pc := 26) (i := 1) (L' := [_, _, _, _]) dX1_alwaysTrue_26 rfl (by decide) rfl ?_
      refine r_iconst (pc := 27) (v := nI 1) dX1_alwaysTrue_27 (by decide) ?_
      refine r_istore_n (pc := 28) (i := 2) (L' := [_, _, _, _]) dX1_alwaysTrue_28 rfl (by decide) rfl ?_
      refine r_iinc (pc := 29) (v := _) (L' := [_, _, _, _]) dX1_alwaysTrue_29 rfl (inc1 _) (by decide) rfl ?_
      refine r_goto (pc := 32) (tgt := 8) dX1_alwaysTrue_32 (by decide) ?_
      exact hn
theorem m1_alwaysFalse (τ : St) (N : Nat) (hC : C1 τ N) : CN shX1 yX1_alwaysFalse cX1_alwaysFalse 4 3 (some .int) [] τ (P1_always τ N true) := by
  refine CN.ofV (own := RX1) (by decide) rfl (Nat.le_of_ble_eq_true rfl) ?_
  show V shX1 RX1 cX1_alwaysFalse 4 3 (some .int) _ 0 [some (.inr 0), none, none, none] [] _
  refine r_iconst (pc := 0) (v := nI 0) dX1_alwaysFalse_0 (by decide) ?_
  refine r_istore_n (pc := 1) (i := 1) (L' := [_, _, _, _]) dX1_alwaysFalse_1 rfl (by decide) rfl ?_
  refine r_iconst (pc := 2) (v := nI 0) dX1_alwaysFalse_2 (by decide) ?_
  refine r_istore_n (pc := 3) (i := 2) (L' := [_, _, _, _]) dX1_alwaysFalse_3 rfl (by decide) rfl ?_
  refine r_iconst (pc := 4) (v := nI 0) dX1_alwaysFalse_4 (by decide) ?_
  refine r_istore_n (pc := 5) (i := 3) (L' := [_, _, _, _]) dX1_alwaysFalse_5 rfl (by decide) rfl ?_
  suffices h : ∀ k i s, i + k = 256 → s < 256 → (∀ v, v < 8 → (s.testBit v = false ↔ noMb (MT1 τ N) i v true)) → V shX1 RX1 cX1_alwaysFalse 4 3 (some .int) (P1_always τ N true) 6 [some (.inr 0), some (.inl (nI s)), some (.inl (nI (decide (¬ fb_ct (MT1 τ N) i = 0)).toNat)), some (.inl (nI i))] [] τ from h 256 0 0 (by omega) (by omega) (fun v hv => by
    rw [Nat.zero_testBit]
    exact ⟨fun _ a ha => absurd ha (by omega), fun _ => rfl⟩)
  intro k
  induction k with
  | zero =>
    intro i s hi hs8 hs
    have e : i = 256 := by omega
    subst e
    refine r_iload_n (pc := 6) (i := 3) dX1_alwaysFalse_6 rfl rfl ?_
    refine r_sipush (pc := 7) (v := nI 256) dX1_alwaysFalse_7 (by decide) ?_
    refine r_icmp_ge (pc := 10) (tgt := 33) dX1_alwaysFalse_10 (by decide) (fun _ => ?_) (fun z => absurd (nI_le (by omega) (by omega)) z)
    refine r_iload_n (pc := 33) (i := 2) dX1_alwaysFalse_33 rfl rfl ?_
    by_cases hz : fb_ct (MT1 τ N) 256 = 0
    · rw [decide_eq_false (fun z => z hz)]
      refine r_if_eq (pc := 34) (tgt := 45) dX1_alwaysFalse_34 (by decide) (fun _ => ?_) (fun z => absurd (rfl) z)
      refine r_bipush (pc := 45) (v := (-4)) dX1_alwaysFalse_45 (by decide) ?_
      refine r_iret (pc := 47) dX1_alwaysFalse_47 ?_
      exact ⟨rfl, Or.inl ⟨hz, rfl⟩⟩
    · rw [decide_eq_true hz]
      refine r_if_eq (pc := 34) (tgt := 45) dX1_alwaysFalse_34 (by decide) (fun z => absurd z (by decide)) (fun _ => ?_)
      refine r_sipush (pc := 37) (v := nI 255) dX1_alwaysFalse_37 (by decide) ?_
      refine r_iload_n (pc := 40) (i := 1) dX1_alwaysFalse_40 rfl rfl ?_
      refine r_isub (pc := 41) dX1_alwaysFalse_41 ?_
      refine r_top _ (pk_sub (show s ≤ 255 by omega)) ?_
      refine r_goto (pc := 42) (tgt := 47) dX1_alwaysFalse_42 (by decide) ?_
      refine r_iret (pc := 47) dX1_alwaysFalse_47 ?_
      refine ⟨rfl, Or.inr ⟨hz, fun v hv => ?_⟩⟩
      have e1 : 255 - s = 2 ^ 8 - (s + 1) := by omega
      rw [e1, bt_nI _ hv, Nat.testBit_two_pow_sub_succ hs8, Bool.and_eq_true_iff, decide_eq_true_iff]
      constructor
      · rintro ⟨h1, h2⟩
        exact ⟨h1, (hs v h1).mp (by simpa using h2)⟩
      · rintro ⟨h1, h2⟩
        exact ⟨h1, by rw [(hs v h1).mpr h2]; rfl⟩
  | succ k ih =>
    intro i s hi hs8 hs
    refine r_iload_n (pc := 6) (i := 3) dX1_alwaysFalse_6 rfl rfl ?_
    refine r_sipush (pc := 7) (v := nI 256) dX1_alwaysFalse_7 (by decide) ?_
    refine r_icmp_ge (pc := 10) (tgt := 33) dX1_alwaysFalse_10 (by decide) (fun z => absurd z (nI_ge (by omega) (by omega))) (fun _ => ?_)
    have hsn := some_next (m := MT1 τ N) (n := i)
    refine r_aload_n (pc := 13) (i := 0) dX1_alwaysFalse_13 rfl rfl ?_
    refine r_iload_n (pc := 14) (i := 3) dX1_alwaysFalse_14 rfl rfl ?_
    refine r_callI (pc := 15) ckX1 (m1_makesTrue τ N i hC) mf_X1_makesTrue q302 (by decide) (by decide) dX1_alwaysFalse_15 rfl (Nat.le_of_ble_eq_true rfl) (fun r τ hr => ?_)
    obtain ⟨rfl, rfl⟩ := hr
    cases hm : MT1 τ N i
    · rw [hm, if_neg (by decide)] at hsn
      have hn := ih (i + 1) s (by omega) hs8 (fun v hv => by rw [hs v hv, noMb_skip hm])
      rw [hsn] at hn
      refine r_if_eq (pc := 18) (tgt := 27) dX1_alwaysFalse_18 (by decide) (fun _ => ?_) (fun z => absurd (rfl) z)
      refine r_iinc (pc := 27) (v := _) (L' := [_, _, _, _]) dX1_alwaysFalse_27 rfl (inc1 _) (by decide) rfl ?_
      refine r_goto (pc := 30) (tgt := 6) dX1_alwaysFalse_30 (by decide) ?_
      exact hn
    · rw [hm, if_pos rfl] at hsn
      have hn := ih (i + 1) (s ||| i) (by omega) (Nat.or_lt_two_pow (n := 8) hs8 (by omega)) (fun v hv => by
        rw [Nat.testBit_or, Bool.or_eq_false_iff, hs v hv, noMb_next hm]
        rfl)
      rw [hsn] at hn
      refine r_if_eq (pc := 18) (tgt := 27) dX1_alwaysFalse_18 (by decide) (fun z => absurd z (by decide)) (fun _ => ?_)
      refine r_iload_n (pc := 21) (i := 1) dX1_alwaysFalse_21 rfl rfl ?_
      refine r_iload_n (pc := 22) (i := 3) dX1_alwaysFalse_22 rfl rfl ?_
      refine r_ior (pc := 23) dX1_alwaysFalse_23 ?_
      refine r_top _ (fa_or s i) ?_
      refine r_istore_n (pc := 24) (i := 1) (L' := [_, _, _, _]) dX1_alwaysFalse_24 rfl (by decide) rfl ?_
      refine r_iconst (pc := 25) (v := nI 1) dX1_alwaysFalse_25 (by decide) ?_
      refine r_istore_n (pc := 26) (i := 2) (L' := [_, _, _, _]) dX1_alwaysFalse_26 rfl (by decide) rfl ?_
      refine r_iinc (pc := 27) (v := _) (L' := [_, _, _, _]) dX1_alwaysFalse_27 rfl (inc1 _) (by decide) rfl ?_
      refine r_goto (pc := 30) (tgt := 6) dX1_alwaysFalse_30 (by decide) ?_
      exact hn
theorem xor_nI (a : Nat) {v : Nat} (hv : v < 8) : nI a ^^^ nI 1 <<< (nI v &&& 31) = nI (a ^^^ 2 ^ v) := by
  apply b_ext
  intro i hi
  rw [b_xor, bt_pow (by omega) hi, bt_nI _ hi, bt_nI _ hi, flip_bit]
  congr 1
  exact decide_eq_decide.mpr ⟨fun h => h.symm, fun h => h.symm⟩
abbrev P1_isIdle (τ : St) (N v : Nat) : Int32 → St → Prop := fun r σ' => σ' = τ ∧ ((r = nI 1 ∧ idM (MT1 τ N) v) ∨ (r = nI 0 ∧ ¬ idM (MT1 τ N) v))
theorem m1_isIdle (τ : St) (N : Nat) (hC : C1 τ N) (v : Nat) (hv : v < 8) : CN shX1 yX1_isIdle cX1_isIdle 3 3 (some .boolean) [nI v] τ (P1_isIdle τ N v) := by
  refine CN.ofV (own := RX1) (by decide) rfl (Nat.le_of_ble_eq_true rfl) ?_
  show V shX1 RX1 cX1_isIdle 3 3 (some .boolean) _ 0 [some (.inr 0), some (.inl (nI v)), none] [] _
  refine r_iconst (pc := 0) (v := nI 0) dX1_isIdle_0 (by decide) ?_
  refine r_istore_n (pc := 1) (i := 2) (L' := [_, _, _]) dX1_isIdle_1 rfl (by decide) rfl ?_
  suffices h : ∀ k i, i + k = 256 → (∀ a, a < i → MT1 τ N a = true → MT1 τ N (a ^^^ 2 ^ v) = true) → V shX1 RX1 cX1_isIdle 3 3 (some .boolean) (P1_isIdle τ N v) 2 [some (.inr 0), some (.inl (nI v)), some (.inl (nI i))] [] τ from h 256 0 (by omega) (fun a h => absurd h (by omega))
  intro k
  induction k with
  | zero =>
    intro i hi hp
    refine r_iload_n (pc := 2) (i := 2) dX1_isIdle_2 rfl rfl ?_
    refine r_sipush (pc := 3) (v := nI 256) dX1_isIdle_3 (by decide) ?_
    refine r_icmp_ge (pc := 6) (tgt := 37) dX1_isIdle_6 (by decide) (fun _ => ?_) (fun z => absurd (nI_le (by omega) (by omega)) z)
    refine r_iconst (pc := 37) (v := nI 1) dX1_isIdle_37 (by decide) ?_
    refine r_zret (pc := 38) dX1_isIdle_38 (by decide) ?_
    exact ⟨rfl, Or.inl ⟨rfl, fun a ha => hp a (by omega)⟩⟩
  | succ k ih =>
    intro i hi hp
    refine r_iload_n (pc := 2) (i := 2) dX1_isIdle_2 rfl rfl ?_
    refine r_sipush (pc := 3) (v := nI 256) dX1_isIdle_3 (by decide) ?_
    refine r_icmp_ge (pc := 6) (tgt := 37) dX1_isIdle_6 (by decide) (fun z => absurd z (nI_ge (by omega) (by omega))) (fun _ => ?_)
    refine r_aload_n (pc := 9) (i := 0) dX1_isIdle_9 rfl rfl ?_
    refine r_iload_n (pc := 10) (i := 2) dX1_isIdle_10 rfl rfl ?_
    refine r_callI (pc := 11) ckX1 (m1_makesTrue τ N i hC) mf_X1_makesTrue q302 (by decide) (by decide) dX1_isIdle_11 rfl (Nat.le_of_ble_eq_true rfl) (fun r τ hr => ?_)
    obtain ⟨rfl, rfl⟩ := hr
    cases hm : MT1 τ N i
    · refine r_if_eq (pc := 14) (tgt := 31) dX1_isIdle_14 (by decide) (fun _ => ?_) (fun z => absurd (rfl) z)
      refine r_iinc (pc := 31) (v := _) (L' := [_, _, _]) dX1_isIdle_31 rfl (inc1 _) (by decide) rfl ?_
      refine r_goto (pc := 34) (tgt := 2) dX1_isIdle_34 (by decide) ?_
      refine ih (i + 1) (by omega) (fun a ha h => ?_)
      by_cases e : a = i
      · rw [e, hm] at h; cases h
      · exact hp a (by omega) h
    · refine r_if_eq (pc := 14) (tgt := 31) dX1_isIdle_14 (by decide) (fun z => absurd z (by decide)) (fun _ => ?_)
      refine r_aload_n (pc := 17) (i := 0) dX1_isIdle_17 rfl rfl ?_
      refine r_iload_n (pc := 18) (i := 2) dX1_isIdle_18 rfl rfl ?_
      refine r_iconst (pc := 19) (v := nI 1) dX1_isIdle_19 (by decide) ?_
      refine r_iload_n (pc := 20) (i := 1) dX1_isIdle_20 rfl rfl ?_
      refine r_ishl (pc := 21) dX1_isIdle_21 ?_
      refine r_ixor (pc := 22) dX1_isIdle_22 ?_
      refine r_top _ (xor_nI i hv) ?_
      refine r_callI (pc := 23) ckX1 (m1_makesTrue τ N (i ^^^ 2 ^ v) hC) mf_X1_makesTrue q302 (by decide) (by decide) dX1_isIdle_23 rfl (Nat.le_of_ble_eq_true rfl) (fun r τ hr => ?_)
      obtain ⟨rfl, rfl⟩ := hr
      cases hm2 : MT1 τ N (i ^^^ 2 ^ v)
      · refine r_if_ne (pc := 26) (tgt := 31) dX1_isIdle_26 (by decide) (fun z => absurd (rfl) z) (fun _ => ?_)
        refine r_iconst (pc := 29) (v := nI 0) dX1_isIdle_29 (by decide) ?_
        refine r_zret (pc := 30) dX1_isIdle_30 (by decide) ?_
        exact ⟨rfl, Or.inr ⟨rfl, fun z => by rw [z i (by omega) hm] at hm2; cases hm2⟩⟩
      · refine r_if_ne (pc := 26) (tgt := 31) dX1_isIdle_26 (by decide) (fun _ => ?_) (fun z => absurd z (by decide))
        refine r_iinc (pc := 31) (v := _) (L' := [_, _, _]) dX1_isIdle_31 rfl (inc1 _) (by decide) rfl ?_
        refine r_goto (pc := 34) (tgt := 2) dX1_isIdle_34 (by decide) ?_
        refine ih (i + 1) (by omega) (fun a ha h => ?_)
        by_cases e : a = i
        · rw [e]; exact hm2
        · exact hp a (by omega) h
abbrev P1_idle (τ : St) (N : Nat) : Int32 → St → Prop := fun r σ' => σ' = τ ∧ ∀ v, v < 32 → (bt r v = true ↔ v < 8 ∧ idM (MT1 τ N) v)
theorem m1_idle (τ : St) (N : Nat) (hC : C1 τ N) : CN shX1 yX1_idle cX1_idle 3 4 (some .int) [] τ (P1_idle τ N) := by
  refine CN.ofV (own := RX1) (by decide) rfl (Nat.le_of_ble_eq_true rfl) ?_
  show V shX1 RX1 cX1_idle 3 4 (some .int) _ 0 [some (.inr 0), none, none] [] _
  refine r_iconst (pc := 0) (v := nI 0) dX1_idle_0 (by decide) ?_
  refine r_istore_n (pc := 1) (i := 1) (L' := [_, _, _]) dX1_idle_1 rfl (by decide) rfl ?_
  refine r_iconst (pc := 2) (v := nI 0) dX1_idle_2 (by decide) ?_
  refine r_istore_n (pc := 3) (i := 2) (L' := [_, _, _]) dX1_idle_3 rfl (by decide) rfl ?_
  suffices h : ∀ k i set, i + k = 8 → (∀ v, v < 32 → (bt set v = true ↔ v < i ∧ idM (MT1 τ N) v)) → V shX1 RX1 cX1_idle 3 4 (some .int) (P1_idle τ N) 4 [some (.inr 0), some (.inl (set)), some (.inl (nI i))] [] τ from h 8 0 (nI 0) (by omega) (fun v _ => by rw [show bt (nI 0) v = false from b_0 v]; exact ⟨(fun z => by cases z), fun z => absurd z.1 (by omega)⟩)
  intro k
  induction k with
  | zero =>
    intro i set hi hs
    refine r_iload_n (pc := 4) (i := 2) dX1_idle_4 rfl rfl ?_
    refine r_bipush (pc := 5) (v := nI 8) dX1_idle_5 (by decide) ?_
    refine r_icmp_ge (pc := 7) (tgt := 34) dX1_idle_7 (by decide) (fun _ => ?_) (fun z => absurd (nI_le (by omega) (by omega)) z)
    refine r_iload_n (pc := 34) (i := 1) dX1_idle_34 rfl rfl ?_
    refine r_iret (pc := 35) dX1_idle_35 ?_
    refine ⟨rfl, ?_⟩
    rw [show (8 : Nat) = i by omega]
    exact hs
  | succ k ih =>
    intro i set hi hs
    refine r_iload_n (pc := 4) (i := 2) dX1_idle_4 rfl rfl ?_
    refine r_bipush (pc := 5) (v := nI 8) dX1_idle_5 (by decide) ?_
    refine r_icmp_ge (pc := 7) (tgt := 34) dX1_idle_7 (by decide) (fun z => absurd z (nI_ge (by omega) (by omega))) (fun _ => ?_)
    refine r_aload_n (pc := 10) (i := 0) dX1_idle_10 rfl rfl ?_
    refine r_iload_n (pc := 11) (i := 2) dX1_idle_11 rfl rfl ?_
    refine r_callI (pc := 12) ckX1 (m1_isIdle τ N hC i (by omega)) mf_X1_isIdle q360 (by decide) (by decide) dX1_idle_12 rfl (Nat.le_of_ble_eq_true rfl) (fun r τ hr => ?_)
    obtain ⟨rfl, hr⟩ := hr
    rcases hr with ⟨rfl, hd⟩ | ⟨rfl, hd⟩
    · refine r_if_eq (pc := 15) (tgt := 26) dX1_idle_15 (by decide) (fun z => absurd z (by decide)) (fun _ => ?_)
      refine r_iload_n (pc := 18) (i := 1) dX1_idle_18 rfl rfl ?_
      refine r_iconst (pc := 19) (v := nI 1) dX1_idle_19 (by decide) ?_
      refine r_iload_n (pc := 20) (i := 2) dX1_idle_20 rfl rfl ?_
      refine r_ishl (pc := 21) dX1_idle_21 ?_
      refine r_ior (pc := 22) dX1_idle_22 ?_
      refine r_goto (pc := 23) (tgt := 27) dX1_idle_23 (by decide) ?_
      refine r_istore_n (pc := 27) (i := 1) (L' := [_, _, _]) dX1_idle_27 rfl (by decide) rfl ?_
      refine r_iinc (pc := 28) (v := _) (L' := [_, _, _]) dX1_idle_28 rfl (inc1 _) (by decide) rfl ?_
      refine r_goto (pc := 31) (tgt := 4) dX1_idle_31 (by decide) ?_
      exact ih (i + 1) _ (by omega) (bits_next (by omega) hs hd)
    · refine r_if_eq (pc := 15) (tgt := 26) dX1_idle_15 (by decide) (fun _ => ?_) (fun z => absurd (rfl) z)
      refine r_iload_n (pc := 26) (i := 1) dX1_idle_26 rfl rfl ?_
      refine r_istore_n (pc := 27) (i := 1) (L' := [_, _, _]) dX1_idle_27 rfl (by decide) rfl ?_
      refine r_iinc (pc := 28) (v := _) (L' := [_, _, _]) dX1_idle_28 rfl (inc1 _) (by decide) rfl ?_
      refine r_goto (pc := 31) (tgt := 4) dX1_idle_31 (by decide) ?_
      exact ih (i + 1) _ (by omega) (bits_skip hs hd)
/-- how many have j true variables -/
abbrev ctM (m : Nat → Bool) (j : Nat) : Nat := fb_ct (fun a => m a && decide (pcn 8 a = j)) 256
theorem pcn_le (k n : Nat) : pcn k n ≤ k := fb_ct_le _ _
theorem ctM_nI (m : Nat → Bool) {j : Nat} (hj : j < 2 ^ 31) : fb_ct (fun a => m a && decide (nI (pcn 8 a) = nI j)) 256 = ctM m j := by
  refine fb_ct_cong (fun a _ => ?_)
  have := pcn_le 8 a
  congr 1
  exact decide_eq_decide.mpr (nI_eq (by omega) hj)
theorem ctM_bad (m : Nat → Bool) {q : Int32} (h : q < 0 ∨ nI 8 < q) : fb_ct (fun a => m a && decide (nI (pcn 8 a) = q)) 256 = 0 := by
  refine fb_ct_zero.mpr (fun a _ => ?_)
  have hp := pcn_le 8 a
  rw [decide_eq_false, Bool.and_false]
  intro e
  rw [← e] at h
  rcases h with h | h
  · exact nI_pos (by omega) h
  · exact nI_nlt hp (by omega) h
theorem m1_leastTrue (τ : St) (N : Nat) (hC : C1 τ N) : CN shX1 yX1_leastTrue cX1_leastTrue 2 4 (some .int) [] τ (fun r σ' => σ' = τ ∧ leastP (ctM (MT1 τ N)) r) := by
  refine CN.ofV (own := RX1) (by decide) rfl (Nat.le_of_ble_eq_true rfl) ?_
  show V shX1 RX1 cX1_leastTrue 2 4 (some .int) _ 0 [some (.inr 0), none] [] _
  refine r_iconst (pc := 0) (v := nI 0) dX1_leastTrue_0 (by decide) ?_
  refine r_istore_n (pc := 1) (i := 1) (L' := [_, _]) dX1_leastTrue_1 rfl (by decide) rfl ?_
  suffices h : ∀ k i, i + k = 9 → (∀ j, j < i → ctM (MT1 τ N) j = 0) → V shX1 RX1 cX1_leastTrue 2 4 (some .int) (fun r σ' => σ' = τ ∧ leastP (ctM (MT1 τ N)) r) 2 [some (.inr 0), some (.inl (nI i))] [] τ from h 9 0 (by omega) (fun j h => absurd h (by omega))
  intro k
  induction k with
  | zero =>
    intro i hi hz
    refine r_iload_n (pc := 2) (i := 1) dX1_leastTrue_2 rfl rfl ?_
    refine r_bipush (pc := 3) (v := nI 9) dX1_leastTrue_3 (by decide) ?_
    refine r_icmp_ge (pc := 5) (tgt := 24) dX1_leastTrue_5 (by decide) (fun _ => ?_) (fun z => absurd (nI_le (by omega) (by omega)) z)
    refine r_bipush (pc := 24) (v := (-4)) dX1_leastTrue_24 (by decide) ?_
    refine r_iret (pc := 26) dX1_leastTrue_26 ?_
    exact ⟨rfl, Or.inr ⟨rfl, fun j hj => hz j (by omega)⟩⟩
  | succ k ih =>
    intro i hi hz
    refine r_iload_n (pc := 2) (i := 1) dX1_leastTrue_2 rfl rfl ?_
    refine r_bipush (pc := 3) (v := nI 9) dX1_leastTrue_3 (by decide) ?_
    refine r_icmp_ge (pc := 5) (tgt := 24) dX1_leastTrue_5 (by decide) (fun z => absurd z (nI_ge (by omega) (by omega))) (fun _ => ?_)
    refine r_aload_n (pc := 8) (i := 0) dX1_leastTrue_8 rfl rfl ?_
    refine r_iload_n (pc := 9) (i := 1) dX1_leastTrue_9 rfl rfl ?_
    refine r_callI (pc := 10) ckX1 (m1_countSize τ N hC (nI i)) mf_X1_countSize q368 (by decide) (by decide) dX1_leastTrue_10 rfl (Nat.le_of_ble_eq_true rfl) (fun r τ hr => ?_)
    obtain ⟨rfl, rfl⟩ := hr
    rw [ctM_nI _ (by omega)]
    have hcs : ctM (MT1 τ N) i ≤ 256 := fb_ct_le _ _
    by_cases e : ctM (MT1 τ N) i = 0
    · rw [e]
      refine r_if_le (pc := 13) (tgt := 18) dX1_leastTrue_13 (by decide) (fun _ => ?_) (fun z => absurd (by decide) z)
      refine r_iinc (pc := 18) (v := _) (L' := [_, _]) dX1_leastTrue_18 rfl (inc1 _) (by decide) rfl ?_
      refine r_goto (pc := 21) (tgt := 2) dX1_leastTrue_21 (by decide) ?_
      refine ih (i + 1) (by omega) (fun j hj => ?_)
      by_cases ej : j = i
      · rw [ej]; exact e
      · exact hz j (by omega)
    · refine r_if_le (pc := 13) (tgt := 18) dX1_leastTrue_13 (by decide) (fun z => absurd z (nI_nle (by omega) (by omega))) (fun _ => ?_)
      refine r_iload_n (pc := 16) (i := 1) dX1_leastTrue_16 rfl rfl ?_
      refine r_iret (pc := 17) dX1_leastTrue_17 ?_
      exact ⟨rfl, Or.inl ⟨i, by omega, rfl, e, hz⟩⟩
end
section
/-! PURE: the relation between the class's state and the reference's, and one lemma for each call of the law -/
def clR (σ τ : St) (c : Nat) : Prop := ∀ v, v < 8 → (bt (σ 3 c) v = true ↔ ∃ i, i < sz1 τ c ∧ lt1 τ (3 * c + i) = 2 * v) ∧ (bt (σ 4 c) v = true ↔ ∃ i, i < sz1 τ c ∧ lt1 τ (3 * c + i) = 2 * v + 1)
def RelN (σ τ : St) (N D : Nat) : Prop := QI σ N ∧ C1 τ N ∧ (D ≤ 3 ∧ σ 0 0 = nI D ∧ τ 1 14 = nI D ∧ ∀ i, i < D → ∃ l, l < 16 ∧ σ 1 i = nI l ∧ τ 0 (42 + i) = nI l) ∧ (∀ c, c < N → clR σ τ c) ∧ ∀ v, v < 8 → σ 5 v = τ 3 (2 * v) ∧ σ 6 v = τ 3 (2 * v + 1)
def Rel (σ τ : St) : Prop := ∃ N D, RelN σ τ N D
theorem RelN.kp {σ σ' τ : St} {N D : Nat} (h : RelN σ τ N D) (hq : QI σ' N) (hk : Kp σ σ') : Rel σ' τ := by
  obtain ⟨-, h1, h2, h3, h4⟩ := h
  have e0 := hk 0 (by omega)
  have e1 := hk 1 (by omega)
  have e3 := hk 3 (by omega)
  have e4 := hk 4 (by omega)
  have e5 := hk 5 (by omega)
  have e6 := hk 6 (by omega)
  refine ⟨N, D, hq, h1, ?_, ?_, ?_⟩
  · rw [e0, e1]; exact h2
  · unfold clR at h3 ⊢
    rw [e3, e4]
    exact h3
  · rw [e5, e6]; exact h4
theorem MT_eq {σ τ : St} {N D : Nat} (h : RelN σ τ N D) : MT σ N = MT1 τ N := by
  obtain ⟨-, h1, -, h3, -⟩ := h
  funext a
  unfold MT
  rw [Bool.eq_iff_iff, satA_iff, MT1_iff]
  have key : ∀ c, c < N → (satc σ (fun _ => true) c (fun v => a.testBit v) = true ↔ tr1 τ c a = true) := by
    intro c hc
    rw [satc_iff, tr1_iff]
    constructor
    · rintro ⟨v, hv, -, h | h⟩
      · obtain ⟨i, hi, e⟩ := ((h3 c hc v hv).1).mp h.1
        refine ⟨i, hi, ?_⟩
        rw [e]
        unfold litT
        rw [Nat.mul_div_cancel_left v (by decide), show (2 * v) % 2 = 0 by omega]
        have := h.2
        rw [this]
        rfl
      · obtain ⟨i, hi, e⟩ := ((h3 c hc v hv).2).mp h.1
        refine ⟨i, hi, ?_⟩
        rw [e]
        unfold litT
        rw [show (2 * v + 1) / 2 = v by omega, show (2 * v + 1) % 2 = 1 by omega]
        have := h.2
        rw [this]
        rfl
    · rintro ⟨i, hi, h⟩
      have hl : lt1 τ (3 * c + i) < 16 := (((h1.2.2 c hc).2.2) i hi).1
      generalize hL : lt1 τ (3 * c + i) = l at h hl
      refine ⟨l / 2, by omega, rfl, ?_⟩
      unfold litT at h
      have hp : l % 2 = 0 ∨ l % 2 = 1 := by omega
      rcases hp with hp | hp
      · left
        rw [hp] at h
        refine ⟨((h3 c hc (l / 2) (by omega)).1).mpr ⟨i, hi, by omega⟩, ?_⟩
        simpa using h
      · right
        rw [hp] at h
        refine ⟨((h3 c hc (l / 2) (by omega)).2).mpr ⟨i, hi, by omega⟩, ?_⟩
        simpa using h
  constructor
  · intro h c hc
    exact (key c hc).mp (h c hc rfl)
  · intro h c hc _
    exact (key c hc).mpr (h c hc)
/-! questions -/
theorem st_count {σ σ' τ τ' : St} {N D : Nat} {r0 r1 : Int32} (hR : RelN σ τ N D) (h0 : QI σ' N ∧ Kp σ σ' ∧ r0 = nI (cnt σ N)) (h1 : τ' = τ ∧ r1 = nI (fb_ct (MT1 τ N) 256)) : r0 = r1 ∧ Rel σ' τ' := by
  obtain ⟨hq, hk, e0⟩ := h0
  obtain ⟨rfl, e1⟩ := h1
  refine ⟨?_, hR.kp hq hk⟩
  rw [e0, e1, ← MT_eq hR]
theorem st_countWith {σ σ' τ τ' : St} {N D : Nat} {r0 r1 set tr : Int32} (hR : RelN σ τ N D) (h0 : QI σ' N ∧ Kp σ σ' ∧ ((r0 = -1 ∧ (badS set ∨ badS tr)) ∨ (r0 = nI (CW σ N set tr) ∧ ¬ badS set ∧ ¬ badS tr))) (h1 : P1_countWith τ N set tr r1 τ') : r0 = r1 ∧ Rel σ' τ' := by
  obtain ⟨hq, hk, e0⟩ := h0
  obtain ⟨rfl, e1⟩ := h1
  refine ⟨?_, hR.kp hq hk⟩
  rcases e0 with ⟨e0, b0⟩ | ⟨e0, b0, c0⟩
  · rcases e1 with ⟨e1, b1⟩ | ⟨e1, b1, c1⟩
    · rw [e0, e1]
    · exact absurd b0 (fun z => z.elim b1 c1)
  · rcases e1 with ⟨e1, b1⟩ | ⟨e1, b1, c1⟩
    · exact absurd b1 (fun z => z.elim b0 c0)
    · rw [e0, e1, ← MT_eq hR]
      rfl
theorem st_countSize {σ σ' τ τ' : St} {N D : Nat} {r0 r1 q : Int32} (hR : RelN σ τ N D) (h0 : QI σ' N ∧ Kp σ σ' ∧ ((r0 = nI 0 ∧ (q < 0 ∨ nI 8 < q)) ∨ ∃ K, K < 9 ∧ q = nI K ∧ r0 = nI (CS σ N K))) (h1 : τ' = τ ∧ r1 = nI (fb_ct (fun a => MT1 τ N a && decide (nI (pcn 8 a) = q)) 256)) : r0 = r1 ∧ Rel σ' τ' := by
  obtain ⟨hq, hk, e0⟩ := h0
  obtain ⟨rfl, e1⟩ := h1
  refine ⟨?_, hR.kp hq hk⟩
  rcases e0 with ⟨e0, b0⟩ | ⟨K, hK, e, e0⟩
  · rw [e0, e1, ctM_bad _ b0]
  · rw [e0, e1, e, ctM_nI _ (by omega), ← MT_eq hR]
    rfl
theorem w_eq {σ τ : St} {N D : Nat} (hR : RelN σ τ N D) (a : Nat) : wpr (σ 6) (σ 5) 8 a = wpr (w1T τ) (w1F τ) 8 a := wpr_congW (fun j hj => ⟨(hR.2.2.2.2 j hj).2, (hR.2.2.2.2 j hj).1⟩)
theorem st_weighted {σ σ' τ τ' : St} {N D : Nat} {r0 r1 : Int32} (hR : RelN σ τ N D) (h0 : QI σ' N ∧ Kp σ σ' ∧ r0 = WS σ N (σ 6) (σ 5)) (h1 : τ' = τ ∧ r1 = sh1 τ N 0 (nI 0) + sh1 τ N 0 (nI 1)) : r0 = r1 ∧ Rel σ' τ' := by
  obtain ⟨hq, hk, e0⟩ := h0
  obtain ⟨rfl, e1⟩ := h1
  refine ⟨?_, hR.kp hq hk⟩
  rw [e0, e1]
  unfold WS sh1
  rw [← sumI_add]
  refine sumI_cong (fun a _ => ?_)
  show (if MT σ N a = true then wpr (σ 6) (σ 5) 8 a else 0) = (if (decide (nI (a.testBit 0).toNat = nI 0) && MT1 τ' N a) = true then wpr (w1T τ') (w1F τ') 8 a else 0) + (if (decide (nI (a.testBit 0).toNat = nI 1) && MT1 τ' N a) = true then wpr (w1T τ') (w1F τ') 8 a else 0)
  rw [w_eq hR a, MT_eq hR]
  cases MT1 τ' N a
  · rw [Bool.and_false, Bool.and_false, if_neg (by decide), i_add0]
  · cases a.testBit 0
    · show _ = wpr _ _ 8 a + 0
      rw [i_add0]
      rfl
    · show _ = 0 + wpr _ _ 8 a
      rw [i_0add]
      rfl
theorem wpr_bar {wT wF : Nat → Int32} {j a : Nat} {b : Int32} (hb : b = nI 0 ∨ b = nI 1) : ∀ k, wpr (barT wT j b) (barF wF j b) k a = if j < k ∧ ¬ nI (a.testBit j).toNat = b then 0 else wpr wT wF k a
  | 0 => by
    rw [if_neg (by omega)]
    rfl
  | k + 1 => by
    rw [wpr_succ, wpr_bar hb k]
    by_cases e : k = j
    · subst e
      rw [if_neg (show ¬ (k < k ∧ ¬ nI (a.testBit k).toNat = b) from fun z => absurd z.1 (by omega))]
      unfold barT barF
      rcases hb with hb | hb
      · subst hb
        cases ht : a.testBit k
        · rw [if_neg (by decide), if_neg (fun z => z.1 rfl), if_neg (fun z => z.2 rfl), wpr_succ, ht]
          rfl
        · rw [if_pos rfl, if_pos ⟨rfl, rfl⟩, if_pos ⟨by omega, by decide⟩, i_0mul]
      · subst hb
        cases ht : a.testBit k
        · rw [if_neg (by decide), if_pos ⟨by decide, rfl⟩, if_pos ⟨by omega, by decide⟩, i_0mul]
        · rw [if_pos rfl, if_neg (fun z => absurd z.1 (by decide)), if_neg (fun z => z.2 rfl), wpr_succ, ht]
          rfl
    · have f1 : barT wT j b k = wT k := if_neg (fun z => e z.2)
      have f2 : barF wF j b k = wF k := if_neg (fun z => e z.2)
      rw [f1, f2]
      by_cases h : j < k ∧ ¬ nI (a.testBit j).toNat = b
      · rw [if_pos h, if_pos (show j < k + 1 ∧ ¬ nI (a.testBit j).toNat = b from ⟨by omega, h.2⟩), i_mul0]
      · rw [if_neg h, if_neg (show ¬ (j < k + 1 ∧ ¬ nI (a.testBit j).toNat = b) from fun z => h ⟨by omega, z.2⟩), wpr_succ]
theorem st_share {σ σ' τ τ' : St} {N D : Nat} {r0 r1 v b : Int32} (hR : RelN σ τ N D) (h0 : QI σ' N ∧ Kp σ σ' ∧ ((r0 = 0 ∧ badV v b) ∨ (¬ badV v b ∧ ∃ j, j < 8 ∧ v = nI j ∧ r0 = WS σ N (barT (σ 6) j b) (barF (σ 5) j b)))) (h1 : P1_share τ N v b r1 τ') : r0 = r1 ∧ Rel σ' τ' := by
  obtain ⟨hq, hk, e0⟩ := h0
  obtain ⟨rfl, e1⟩ := h1
  refine ⟨?_, hR.kp hq hk⟩
  rcases e0 with ⟨e0, b0⟩ | ⟨b0, j, hj, ej, e0⟩
  · rcases e1 with ⟨e1, b1⟩ | ⟨b1, -⟩
    · rw [e0, e1]
    · exact absurd b0 b1
  · rcases e1 with ⟨e1, b1⟩ | ⟨b1, i, hi, ei, e1⟩
    · exact absurd b1 b0
    · have eij : i = j := (nI_eq (by omega) (by omega)).mp (ei.symm.trans ej)
      subst eij
      have hb : b = nI 0 ∨ b = nI 1 := bit_of (fun z => b0 (Or.inr (Or.inr (Or.inl z)))) (fun z => b0 (Or.inr (Or.inr (Or.inr z))))
      rw [e0, e1]
      unfold WS sh1
      refine sumI_cong (fun a _ => ?_)
      show (if MT σ N a = true then wpr (barT (σ 6) i b) (barF (σ 5) i b) 8 a else 0) = (if (decide (nI (a.testBit i).toNat = b) && MT1 τ' N a) = true then wpr (w1T τ') (w1F τ') 8 a else 0)
      rw [wpr_bar hb 8, ← w_eq hR a, MT_eq hR]
      cases MT1 τ' N a
      · rw [Bool.and_false]
        rfl
      · rw [if_pos rfl, Bool.and_true]
        by_cases hg : nI (a.testBit i).toNat = b
        · rw [if_neg (fun z => z.2 hg), decide_eq_true hg, if_pos rfl]
        · rw [if_pos ⟨hj, hg⟩, decide_eq_false hg, if_neg (by decide)]
theorem st_model {σ σ' τ τ' : St} {N D : Nat} {r0 r1 q : Int32} (hR : RelN σ τ N D) (h0 : P_model σ N q r0 σ') (h1 : P1_model τ N q r1 τ') : r0 = r1 ∧ Rel σ' τ' := by
  obtain ⟨hq, hk, e0⟩ := h0
  obtain ⟨rfl, e1⟩ := h1
  refine ⟨?_, hR.kp hq hk⟩
  have hm := MT_eq hR
  unfold cnt at e0
  rw [hm] at e0
  have hle : ∀ a, a < 256 → MT1 τ' N a = true → fb_ct (MT1 τ' N) a < fb_ct (MT1 τ' N) 256 := by
    intro a ha h
    have h1 : fb_ct (MT1 τ' N) (a + 1) ≤ fb_ct (MT1 τ' N) 256 := fb_ct_mono _ (by omega)
    rw [fb_ct_succ, h] at h1
    simp at h1
    omega
  have h256 := fb_ct_le (MT1 τ' N) 256
  rcases e0 with ⟨e0, b0⟩ | ⟨K, T, eK, hK, hT, hmT, hc, e0⟩
  · rcases e1 with ⟨a, ha, -, hma, e1⟩ | ⟨e1, -⟩
    · exfalso
      have := hle a ha hma
      rw [← e1] at b0
      rcases b0 with b0 | b0
      · exact nI_pos (by omega) b0
      · exact nI_ge this (by omega) b0
    · rw [e0, e1]
  · rcases e1 with ⟨a, ha, er, hma, e1⟩ | ⟨-, e1⟩
    · rw [e0, er]
      congr 1
      rw [eK] at e1
      have := hle a ha hma
      have e2 := (nI_eq (by omega) (by omega)).mp e1
      exact fb_ct_kth_one hmT hma (by omega)
    · exact absurd (by rw [hc, eK]) (e1 T hT hmT)
theorem st_rank {σ σ' τ τ' : St} {N D : Nat} {r0 r1 a : Int32} (hR : RelN σ τ N D) (h0 : P_rank σ N a r0 σ') (h1 : τ' = τ ∧ ((r1 = -1 ∧ (a < 0 ∨ nI 256 < a)) ∨ ∃ A, A ≤ 256 ∧ a = nI A ∧ r1 = nI (fb_ct (MT1 τ N) A))) : r0 = r1 ∧ Rel σ' τ' := by
  obtain ⟨hq, hk, e0⟩ := h0
  obtain ⟨rfl, e1⟩ := h1
  refine ⟨?_, hR.kp hq hk⟩
  rw [MT_eq hR] at e0
  have ex : (a < 0 ∨ nI 256 < a) → ∀ A, A ≤ 256 → a = nI A → False := by
    intro h A hA e
    rw [e] at h
    rcases h with h | h
    · exact nI_pos (by omega) h
    · exact nI_nlt hA (by omega) h
  rcases e0 with ⟨e0, b0⟩ | ⟨A, hA, eA, e0⟩
  · rcases e1 with ⟨e1, -⟩ | ⟨B, hB, eB, -⟩
    · rw [e0, e1]
    · exact (ex b0 B hB eB).elim
  · rcases e1 with ⟨-, b1⟩ | ⟨B, hB, eB, e1⟩
    · exact (ex b1 A hA eA).elim
    · have : A = B := (nI_eq (by omega) (by omega)).mp (eA.symm.trans eB)
      rw [e0, e1, this]
theorem st_isModel {σ σ' τ τ' : St} {N D : Nat} {r0 r1 a : Int32} (hR : RelN σ τ N D) (h0 : QI σ' N ∧ Kp σ σ' ∧ ((badS a ∧ r0 = nI 0) ∨ ∃ A, A < 256 ∧ a = nI A ∧ r0 = nI (MT σ N A).toNat)) (h1 : τ' = τ ∧ ((badS a ∧ r1 = nI 0) ∨ ∃ A, A < 256 ∧ a = nI A ∧ r1 = nI (MT1 τ N A).toNat)) : r0 = r1 ∧ Rel σ' τ' := by
  obtain ⟨hq, hk, e0⟩ := h0
  obtain ⟨rfl, e1⟩ := h1
  refine ⟨?_, hR.kp hq hk⟩
  rw [MT_eq hR] at e0
  have ex : badS a → ∀ A, A < 256 → a = nI A → False := by
    intro h A hA e
    rw [e] at h
    rcases h with h | h
    · exact nI_pos (by omega) h
    · exact nI_nlt (show A ≤ 255 by omega) (by omega) h
  rcases e0 with ⟨b0, e0⟩ | ⟨A, hA, eA, e0⟩
  · rcases e1 with ⟨-, e1⟩ | ⟨B, hB, eB, -⟩
    · rw [e0, e1]
    · exact (ex b0 B hB eB).elim
  · rcases e1 with ⟨b1, -⟩ | ⟨B, hB, eB, e1⟩
    · exact (ex b1 A hA eA).elim
    · have : A = B := (nI_eq (by omega) (by omega)).mp (eA.symm.trans eB)
      rw [e0, e1, this]
theorem bits_eq {P : Nat → Prop} {x y : Int32} (hx : ∀ v, v < 32 → (bt x v = true ↔ v < 8 ∧ P v)) (hy : ∀ v, v < 32 → (bt y v = true ↔ v < 8 ∧ P v)) : x = y := by
  apply b_ext
  intro i hi
  rw [Bool.eq_iff_iff, hx i hi, hy i hi]
theorem st_always {σ σ' τ τ' : St} {N D : Nat} {r0 r1 : Int32} {b : Bool} (hR : RelN σ τ N D) (h0 : P_always σ N b r0 σ') (h1 : P1_always τ N b r1 τ') : r0 = r1 ∧ Rel σ' τ' := by
  obtain ⟨hq, hk, e0⟩ := h0
  obtain ⟨rfl, e1⟩ := h1
  refine ⟨?_, hR.kp hq hk⟩
  unfold cnt at e0
  rw [MT_eq hR] at e0
  rcases e0 with ⟨b0, e0⟩ | ⟨b0, e0⟩
  · rcases e1 with ⟨-, e1⟩ | ⟨b1, -⟩
    · rw [e0, e1]
    · exact absurd b0 b1
  · rcases e1 with ⟨b1, -⟩ | ⟨-, e1⟩
    · exact absurd b1 b0
    · exact bits_eq e0 e1
theorem st_idle {σ σ' τ τ' : St} {N D : Nat} {r0 r1 : Int32} (hR : RelN σ τ N D) (h0 : P_idle σ N r0 σ') (h1 : P1_idle τ N r1 τ') : r0 = r1 ∧ Rel σ' τ' := by
  obtain ⟨hq, hk, e0⟩ := h0
  obtain ⟨rfl, e1⟩ := h1
  refine ⟨?_, hR.kp hq hk⟩
  rw [MT_eq hR] at e0
  exact bits_eq e0 e1
theorem leastP_one {C : Nat → Nat} {x y : Int32} (hx : leastP C x) (hy : leastP C y) : x = y := by
  rcases hx with ⟨k, hk, ex, h1, h2⟩ | ⟨ex, h1⟩
  · rcases hy with ⟨j, hj, ey, g1, g2⟩ | ⟨ey, g1⟩
    · have : k = j := by
        rcases Nat.lt_trichotomy k j with h | h | h
        · exact absurd (g2 k h) h1
        · exact h
        · exact absurd (h2 j h) g1
      rw [ex, ey, this]
    · exact absurd (g1 k hk) h1
  · rcases hy with ⟨j, hj, ey, g1, g2⟩ | ⟨ey, g1⟩
    · exact absurd (h1 j hj) g1
    · rw [ex, ey]
theorem st_leastTrue {σ σ' τ τ' : St} {N D : Nat} {r0 r1 : Int32} (hR : RelN σ τ N D) (h0 : QI σ' N ∧ Kp σ σ' ∧ leastP (CS σ N) r0) (h1 : τ' = τ ∧ leastP (ctM (MT1 τ N)) r1) : r0 = r1 ∧ Rel σ' τ' := by
  obtain ⟨hq, hk, e0⟩ := h0
  obtain ⟨rfl, e1⟩ := h1
  refine ⟨?_, hR.kp hq hk⟩
  have : CS σ N = ctM (MT1 τ' N) := by
    funext j
    unfold CS
    rw [MT_eq hR]
  rw [this] at e0
  exact leastP_one e0 e1
/-! edits -/
theorem QI.keep2 {σ σ' : St} {N : Nat} (h : QI σ N) (hk : ∀ k, k = 2 ∨ k = 3 ∨ k = 4 ∨ (7 ≤ k ∧ k ≤ 16) → σ' k = σ k) : QI σ' N := by
  obtain ⟨h1, h2, h3⟩ := h
  refine ⟨h1, by rw [hk 2 (by omega)]; exact h2, ?_⟩
  rw [hk 7 (by omega)]
  rcases h3 with h3 | ⟨h3, M, hI⟩
  · exact Or.inl h3
  · exact Or.inr ⟨h3, M, BI_keep (fun k h => hk k (by omega)) hI⟩
theorem CL1_keep {τ τ' : St} {c : Nat} (h1 : τ' 1 c = τ 1 c) (h0 : ∀ i, i < 3 → τ' 0 (3 * c + i) = τ 0 (3 * c + i)) (h : CL1 τ c) : CL1 τ' c := by
  have e : sz1 τ' c = sz1 τ c := by unfold sz1; rw [h1]
  obtain ⟨a1, a2, a3⟩ := h
  refine ⟨by rw [e]; exact a1, by rw [e, h1]; exact a2, fun i hi => ?_⟩
  rw [e] at hi
  have el : lt1 τ' (3 * c + i) = lt1 τ (3 * c + i) := by unfold lt1; rw [h0 i (by omega)]
  rw [el, h0 i (by omega)]
  exact a3 i hi
theorem clR_keep {σ σ' τ τ' : St} {c : Nat} (hs : sz1 τ c ≤ 3) (h3 : σ' 3 c = σ 3 c) (h4 : σ' 4 c = σ 4 c) (h1 : τ' 1 c = τ 1 c) (h0 : ∀ i, i < 3 → τ' 0 (3 * c + i) = τ 0 (3 * c + i)) (h : clR σ τ c) : clR σ' τ' c := by
  have e : sz1 τ' c = sz1 τ c := by unfold sz1; rw [h1]
  have el : ∀ i, i < sz1 τ c → lt1 τ' (3 * c + i) = lt1 τ (3 * c + i) := fun i hi => by unfold lt1; rw [h0 i (by omega)]
  intro v hv
  rw [h3, h4, e, (h v hv).1, (h v hv).2]
  constructor
  · constructor
    · rintro ⟨i, hi, hl⟩
      exact ⟨i, hi, by rw [el i hi]; exact hl⟩
    · rintro ⟨i, hi, hl⟩
      exact ⟨i, hi, by rw [← el i hi]; exact hl⟩
  · constructor
    · rintro ⟨i, hi, hl⟩
      exact ⟨i, hi, by rw [el i hi]; exact hl⟩
    · rintro ⟨i, hi, hl⟩
      exact ⟨i, hi, by rw [← el i hi]; exact hl⟩
theorem st_literal {σ σ' τ τ' : St} {N D : Nat} {r0 r1 l : Int32} (hR : RelN σ τ N D) (h0 : P_literal σ D l r0 σ') (h1 : P1_literal τ D l r1 τ') : r0 = r1 ∧ Rel σ' τ' := by
  obtain ⟨hq, hC, ⟨hD, d0, d1, dl⟩, hcl, hw⟩ := id hR
  rcases h0 with ⟨e0, b0, rfl⟩ | ⟨e0, b0, c0, rfl⟩ | ⟨⟨j, hj, ej⟩, c0, e0, rfl⟩
  · rcases h1 with ⟨e1, b1, rfl⟩ | ⟨e1, b1, c1, rfl⟩ | ⟨b1, c1, e1, rfl⟩
    · exact ⟨by rw [e0, e1], N, D, hR⟩
    · exact absurd b0 b1
    · exact absurd b0 b1
  · rcases h1 with ⟨e1, b1, rfl⟩ | ⟨e1, b1, c1, rfl⟩ | ⟨b1, c1, e1, rfl⟩
    · exact absurd b1 b0
    · exact ⟨by rw [e0, e1], N, D, hR⟩
    · omega
  · rcases h1 with ⟨e1, b1, rfl⟩ | ⟨e1, b1, c1, rfl⟩ | ⟨b1, c1, e1, rfl⟩
    · exfalso
      rw [ej] at b1
      rcases b1 with b1 | b1
      · exact nI_pos (by omega) b1
      · exact nI_nlt (show j ≤ 15 by omega) (by omega) b1
    · omega
    · refine ⟨by rw [e0, e1], N, D + 1, ?_, ?_, ⟨by omega, su_eq _ _ _ _, su_eq _ _ _ _, ?_⟩, ?_, hw⟩
      · exact hq.keep2 (fun k hk => (su_ne _ _ _ (by omega)).trans (su_ne _ _ _ (by omega)))
      · refine ⟨hC.1, hC.2.1, fun c hc => CL1_keep ?_ ?_ (hC.2.2 c hc)⟩
        · have := hC.1
          exact su_off _ _ (Or.inr (by omega))
        · intro i hi
          have := hC.1
          show upd (τ 0) (42 + D) l (3 * c + i) = τ 0 (3 * c + i)
          exact pk_un (by omega)
      · intro i hi
        show ∃ q, q < 16 ∧ upd (σ 1) D l i = nI q ∧ upd (τ 0) (42 + D) l (42 + i) = nI q
        by_cases e : i = D
        · rw [e, pk_us, pk_us]
          exact ⟨j, hj, ej, ej⟩
        · rw [pk_un e, pk_un (by omega)]
          exact dl i (by omega)
      · intro c hc
        have hc14 := hC.1
        refine clR_keep (hC.2.2 c hc).1 rfl rfl ?_ ?_ (hcl c hc)
        · exact su_off _ _ (Or.inr (by omega))
        · intro i hi
          show upd (τ 0) (42 + D) l (3 * c + i) = τ 0 (3 * c + i)
          exact pk_un (by omega)
theorem st_scrap {σ σ' τ τ' : St} {N D : Nat} (hR : RelN σ τ N D) (h0 : σ' = su σ 0 0 (nI 0)) (h1 : τ' = su τ 1 14 (nI 0)) : Rel σ' τ' := by
  obtain ⟨hq, hC, -, hcl, hw⟩ := hR
  have hc14 := hC.1
  subst h0
  subst h1
  refine ⟨N, 0, hq.keep2 (fun k hk => su_ne _ _ _ (by omega)), ⟨hC.1, hC.2.1, fun c hc => CL1_keep (su_off _ _ (Or.inr (by omega))) (fun _ _ => rfl) (hC.2.2 c hc)⟩, ⟨by omega, su_eq _ _ _ _, su_eq _ _ _ _, fun i hi => absurd hi (by omega)⟩, fun c hc => clR_keep (hC.2.2 c hc).1 rfl rfl (su_off _ _ (Or.inr (by omega))) (fun _ _ => rfl) (hcl c hc), hw⟩
theorem st_clauses {σ σ' τ τ' : St} {N D : Nat} {r0 r1 : Int32} (hR : RelN σ τ N D) (h0 : σ' = σ ∧ r0 = nI N) (h1 : τ' = τ ∧ r1 = nI N) : r0 = r1 ∧ Rel σ' τ' := by
  obtain ⟨rfl, e0⟩ := h0
  obtain ⟨rfl, e1⟩ := h1
  exact ⟨by rw [e0, e1], N, D, hR⟩
theorem st_unclause {σ σ' τ τ' : St} {N D : Nat} {r0 r1 : Int32} (hR : RelN σ τ N D) (h0 : P_unclause σ N 0 (fun s => su s 7 0 (nI 0)) r0 σ') (h1 : P_unclause τ N 0 (fun s => s) r1 τ') : r0 = r1 ∧ Rel σ' τ' := by
  obtain ⟨hq, hC, hd, hcl, hw⟩ := id hR
  rcases h0 with ⟨n0, e0, rfl⟩ | ⟨-, P, n0, e0, rfl⟩
  · rcases h1 with ⟨n1, e1, rfl⟩ | ⟨-, Q, n1, e1, rfl⟩
    · exact ⟨by rw [e0, e1], N, D, hR⟩
    · omega
  · rcases h1 with ⟨n1, e1, rfl⟩ | ⟨-, Q, n1, e1, rfl⟩
    · omega
    · have : Q = P := by omega
      subst this
      have hN := hq.1
      refine ⟨by rw [e0, e1], Q, D, ⟨by omega, rfl, Or.inl (su_eq _ _ _ _)⟩, ⟨by omega, su_eq _ _ _ _, fun c hc => CL1_keep rfl (fun _ _ => rfl) (hC.2.2 c (by omega))⟩, hd, fun c hc => clR_keep (hC.2.2 c (by omega)).1 rfl rfl rfl (fun _ _ => rfl) (hcl c (by omega)), hw⟩
theorem st_clause {σ σ' τ τ' : St} {N D : Nat} {r0 r1 : Int32} (hR : RelN σ τ N D) (h0 : P_clause σ N D r0 σ') (h1 : P1_clause τ N D r1 τ') : r0 = r1 ∧ Rel σ' τ' := by
  obtain ⟨hq, hC, ⟨hD, d0, d1, dl⟩, hcl, hw⟩ := id hR
  rcases h0 with ⟨n0, e0, rfl⟩ | ⟨n0, e0, a0, a2, a7, a5, a6, ao, ab⟩
  · rcases h1 with ⟨n1, e1, rfl⟩ | ⟨n1, e1, -⟩
    · exact ⟨by rw [e0, e1], N, D, hR⟩
    · omega
  · rcases h1 with ⟨n1, e1, rfl⟩ | ⟨n1, e1, b14, b2, b3, bN, bc, bp, bi⟩
    · omega
    · have szN : sz1 τ' N = D := by
        unfold sz1
        rw [bN]
        exact nI_clamp (by omega)
      have ltN : ∀ i, i < D → ∃ q, q < 16 ∧ σ 1 i = nI q ∧ lt1 τ' (3 * N + i) = q ∧ τ' 0 (3 * N + i) = nI q := by
        intro i hi
        obtain ⟨q, hq16, s1, t1⟩ := dl i hi
        refine ⟨q, hq16, s1, ?_, by rw [bi i hi]; exact t1⟩
        unfold lt1
        rw [bi i hi, t1]
        exact nI_clamp (by omega)
      refine ⟨by rw [e0, e1], N + 1, 0, ⟨by omega, a2, Or.inl a7⟩, ⟨by omega, b2, fun c hc => ?_⟩, ⟨by omega, a0, b14, fun i hi => absurd hi (by omega)⟩, fun c hc => ?_, by rw [a5, a6, b3]; exact hw⟩
      · by_cases e : c = N
        · subst e
          refine ⟨by omega, by rw [szN]; exact bN, fun i hi => ?_⟩
          rw [szN] at hi
          obtain ⟨q, hq16, s1, l1, t1⟩ := ltN i hi
          rw [l1]
          exact ⟨hq16, t1⟩
        · exact CL1_keep (bc c (by omega)) (fun i hi => bp _ (by omega)) (hC.2.2 c (by omega))
      · by_cases e : c = N
        · subst e
          intro v hv
          rw [(ab v hv).1, (ab v hv).2, szN]
          have tie : ∀ k, k < 2 → (dbit σ D k v ↔ ∃ i, i < D ∧ lt1 τ' (3 * c + i) = 2 * v + k) := by
            intro k hk
            constructor
            · rintro ⟨i, hi, h⟩
              obtain ⟨q, hq16, s1, l1, t1⟩ := ltN i hi
              refine ⟨i, hi, ?_⟩
              rw [l1]
              exact (nI_eq (by omega) (by omega)).mp (s1.symm.trans h)
            · rintro ⟨i, hi, h⟩
              obtain ⟨q, hq16, s1, l1, t1⟩ := ltN i hi
              refine ⟨i, hi, ?_⟩
              rw [s1, ← l1, h]
          exact ⟨tie 0 (by omega), tie 1 (by omega)⟩
        · exact clR_keep (hC.2.2 c (by omega)).1 (ao c e).1 (ao c e).2 (bc c (by omega)) (fun i hi => bp _ (by omega)) (hcl c (by omega))
theorem st_weight {σ σ' τ τ' : St} {N D : Nat} {r0 r1 v b w : Int32} (hR : RelN σ τ N D) (h0 : P_weight σ v b w 5 6 id r0 σ') (h1 : P1_weight τ v b w r1 τ') : r0 = r1 ∧ Rel σ' τ' := by
  obtain ⟨hq, hC, hd, hcl, hw⟩ := id hR
  rcases h0 with ⟨b0, e0, rfl⟩ | ⟨b0, j, hj, ej, h0⟩
  · rcases h1 with ⟨b1, e1, rfl⟩ | ⟨b1, -⟩
    · exact ⟨by rw [e0, e1], N, D, hR⟩
    · exact absurd b0 b1
  · rcases h1 with ⟨b1, e1, rfl⟩ | ⟨b1, i, hi, ei, h1⟩
    · exact absurd b1 b0
    · have eij : i = j := (nI_eq (by omega) (by omega)).mp (ei.symm.trans ej)
      subst eij
      rcases h0 with ⟨c0, e0, rfl⟩ | ⟨c0, e0, rfl⟩
      · rcases h1 with ⟨c1, e1, rfl⟩ | ⟨c1, e1, rfl⟩
        · refine ⟨by rw [e0, e1]; exact (hw i hi).1, N, D, hq.keep2 (fun k hk => su_ne _ _ _ (by omega)), ⟨hC.1, hC.2.1, fun c hc => CL1_keep rfl (fun _ _ => rfl) (hC.2.2 c hc)⟩, hd, fun c hc => clR_keep (hC.2.2 c hc).1 rfl rfl rfl (fun _ _ => rfl) (hcl c hc), fun u hu => ?_⟩
          show upd (σ 5) i w u = upd (τ 3) (2 * i) w (2 * u) ∧ σ 6 u = upd (τ 3) (2 * i) w (2 * u + 1)
          rw [pk_un (show 2 * u + 1 ≠ 2 * i by omega)]
          refine ⟨?_, (hw u hu).2⟩
          by_cases e : u = i
          · rw [e, pk_us, pk_us]
          · rw [pk_un e, pk_un (by omega)]
            exact (hw u hu).1
        · rw [c0] at c1
          exact absurd c1 (by decide)
      · rcases h1 with ⟨c1, e1, rfl⟩ | ⟨c1, e1, rfl⟩
        · rw [c0] at c1
          exact absurd c1 (by decide)
        · refine ⟨by rw [e0, e1]; exact (hw i hi).2, N, D, hq.keep2 (fun k hk => su_ne _ _ _ (by omega)), ⟨hC.1, hC.2.1, fun c hc => CL1_keep rfl (fun _ _ => rfl) (hC.2.2 c hc)⟩, hd, fun c hc => clR_keep (hC.2.2 c hc).1 rfl rfl rfl (fun _ _ => rfl) (hcl c hc), fun u hu => ?_⟩
          show σ 5 u = upd (τ 3) (2 * i + 1) w (2 * u) ∧ upd (σ 6) i w u = upd (τ 3) (2 * i + 1) w (2 * u + 1)
          rw [pk_un (show 2 * u ≠ 2 * i + 1 by omega)]
          refine ⟨(hw u hu).1, ?_⟩
          by_cases e : u = i
          · rw [e, pk_us, pk_us]
          · rw [pk_un e, pk_un (by omega)]
            exact (hw u hu).2
/-- what the constructors leave -/
theorem rel_start {σ τ : St} (h2 : σ 2 0 = nI 0) (h7 : σ 7 0 = nI 0) (h0 : σ 0 0 = nI 0) (t2 : τ 2 0 = nI 0) (t14 : τ 1 14 = nI 0) (hw : ∀ v, v < 8 → σ 5 v = nI 1 ∧ σ 6 v = nI 1) (tw : ∀ v, v < 16 → τ 3 v = nI 1) : Rel σ τ := by
  refine ⟨0, 0, ⟨by omega, h2, Or.inl h7⟩, ⟨by omega, t2, fun c hc => absurd hc (by omega)⟩, ⟨by omega, h0, t14, fun i hi => absurd hi (by omega)⟩, fun c hc => absurd hc (by omega), fun v hv => ?_⟩
  rw [(hw v hv).1, (hw v hv).2, tw _ (by omega), tw _ (by omega)]
  exact ⟨rfl, rfl⟩
end
section
/-! CONSTRUCTORS -/
theorem W.imp {p : Program} {l : Launch} {e : Env} {R : Room} {s : State} {m : MethodId} {args : Array Value} {below : List Frame} {meth : Method} {c : Code} {H : Heap} {locs : List Loc} {cells slots : Nat} {Q Q' : State → Prop} {g : JFrame} (h : ∀ t, Q t → Q' t) (k : W p l e R s m args below meth c H locs cells slots Q g) : W p l e R s m args below meth c H locs cells slots Q' g := fun T hT X => by
  obtain ⟨t, a, b⟩ := k T hT X
  exact ⟨t, a, h t b⟩
theorem arr_one {D : va_G} {s : State} {a b : ClassId} (ha : va_K D vwCl [(a, .int)] s) (hb : va_K D vwCl [(b, .int)] s) : b = a := by
  have h1 : s.vm.findClass ("[" ++ FieldType.int.toString) = some a := (ha.2 0 _ rfl).2
  have h2 : s.vm.findClass ("[" ++ FieldType.int.toString) = some b := (hb.2 0 _ rfl).2
  exact Option.some.inj (h2.symm.trans h1)
set_option maxHeartbeats 1000000 in
/-- new int[n] into a final field -/
theorem na_step {p : Program} {l : Launch} {e : Env} {R : Room} {s : State} {m : MethodId} {args : Array Value} {below : List Frame} {meth : Method} {c : Code} {H : Heap} {locs : List Loc} {cells slots : Nat} {Q : State → Prop} {cc : ByteArray} {pc : Nat} {ls : Array Slot} {rest : List Value} {own : String} {T : u_T} {N ci : Nat} {D : va_G} {A : Nat → Prop} {H0 : Heap} {tys : List (ClassId × FieldType)} {h0 : Nat} {fs : List Value} {arrs : va_W}
    (hx : p.tables.exec = Jvm.exec) (hb : c.code = cc) (hts : ∀ w ∈ lw_all, w.before args s = true) (hin : ∀ w ∈ u_ws own T N, w ∈ lw_all) (ty0 : Nat → FieldType) (hty : ∀ k, k < N → parseFieldDescriptor (T k).2.2.1 = some (ty0 k)) (hnm : ∀ a, a < N → ∀ b, b < N → a ≠ b → (T a).2.1 ≠ (T b).2.1) (hown : s.vm.findClass own = some m.cls) (hname : meth.name = "<init>")
    (hK : va_K D vwCl tys s) (hP : va_P D vwCl ((h0, .inr (ci, fs)) :: arrs) H) (hD : va_D A ((h0, .inr (ci, fs)) :: arrs)) (hS : va_S A H0 H locs) (hA : ∀ q, H0.size ≤ q → A q) (hc : vwCl[ci]? = some (own, T, N))
    {n : Nat} (hn : n < 100000) (hcells : cells + 1 ≤ R.cells) (hslots : slots + n ≤ R.slots) (d1 : decode cc pc = .ok (.newarray .int, 2))
    (f : Nat) (hf : f < N) {index : Nat} (hlink : Cond.fieldLink own index (T f).1 (T f).2.1 (T f).2.2.1 ∈ lw_all) (hfin : (T f).2.2.2 = true) (hdecl : (T f).1 = own) (hd : parseFieldDescriptor (T f).2.2.1 = some (.array .int)) (hl : f < fs.length) (d2 : decode cc (pc + 2) = .ok (.putfield index, 3))
    (kk : ∀ (q : Nat) (cA : ClassId) (H1 : Heap) (locs1 : List Loc), va_K D vwCl [(cA, .int)] s → va_P D vwCl ((h0, .inr (ci, fs.set f (.ref q))) :: (arrs ++ [(q, .inl (cA, n, .inl (fun _ => 0)))])) H1 → va_D A ((h0, .inr (ci, fs.set f (.ref q))) :: (arrs ++ [(q, .inl (cA, n, .inl (fun _ => 0)))])) → va_S A H0 H1 locs1 → W p l e R s m args below meth c H1 locs1 (cells + 1) (slots + n) Q (F0 m (pc + 2 + 3) ls rest)) :
    W p l e R s m args below meth c H locs cells slots Q (F0 m pc ls (.int (nI n) :: .ref h0 :: rest)) := by
  refine va_newa (atype := .int) hx hb (hts _ q100) (ty := .int) rfl hK hP hD hS hA (N' := n) (a0 := (n, .inl (fun _ => 0))) (fun cA => rfl) (nI_pos (by omega)) (nI_clamp (by omega)) (by show n * 4 ≤ 536870912; omega) hcells hslots d1 (fun q cA H1 hK1 hP1 hD1 hS1 => ?_)
  have hK2 : va_K D vwCl [(cA, .int)] s := ⟨hK1.1, fun k x hk => by
    have hz : k < 1 := (List.getElem?_eq_some_iff.mp hk).1
    rw [show k = 0 by omega] at hk
    cases hk
    exact hK1.2 tys.length _ (by simp)⟩
  exact va_putF hx hb hts hin ty0 hty hnm hown hK1 hP1 hD1 hS1 0 rfl hc f hf (hts _ hlink) (fun _ h => h) hfin hname hdecl hd rfl rfl hl d2 (fun H2 locs2 hP2 hD2 hS2 => kk q cA H2 locs2 hK2 hP2 hD2 hS2)
/-- a constructor's contract -/
def CI (sh : Shp) (y : MethodName) (cb : ByteArray) (fs0 : List Value) (mc ms : Nat) (post : St → Prop) : Prop :=
  ∀ (l : Launch) (D : va_G) (h0 sz : Nat), Met l y (ws_ y cb 2 none) ({ frames := 1, cells := mc, slots := ms, locals := 40 }) (va_Pc [.ref h0] (fun U => U.heap.size = sz ∧ va_P D vwCl [(h0, .inr (sh.1, fs0))] U.heap ∧ va_K D vwCl [] U ∧ va_D (fun _ => True) [(h0, .inr (sh.1, fs0))])) (va_Qv (fun u : St × (Nat → Nat) × ClassId => post u.1) (fun u t => va_P D vwCl (wd sh h0 u.2.1 u.2.2 u.1) t.heap ∧ va_K D vwCl [(u.2.2, .int)] t ∧ va_D (va_A [(h0, .inr (sh.1, fs0))] sz) (wd sh h0 u.2.1 u.2.2 u.1)) (va_A [(h0, .inr (sh.1, fs0))] sz)) mc ms (va_A [(h0, .inr (sh.1, fs0))] sz)
abbrev P_initX0 (σ : St) : Int32 → St → Prop := fun _ σ' => (∀ k, k ≠ 5 → k ≠ 6 → σ' k = σ k) ∧ ∀ v, v < 8 → σ' 5 v = nI 1 ∧ σ' 6 v = nI 1
theorem v_initX0 (σ : St) : V shX0 RX0 cX0_init 2 0 none (P_initX0 σ) 149 [some (.inr 0), none] [] σ := by
  refine r_iconst (pc := 149) (v := nI 0) dX0_init_149 (by decide) ?_
  refine r_istore_n (pc := 150) (i := 1) (L' := [_, _]) dX0_init_150 rfl (by decide) rfl ?_
  suffices h : ∀ k i σ1, i + k = 8 → (∀ k, k ≠ 5 → k ≠ 6 → σ1 k = σ k) → (∀ v, v < i → σ1 5 v = nI 1 ∧ σ1 6 v = nI 1) → V shX0 RX0 cX0_init 2 0 none (P_initX0 σ) 151 [some (.inr 0), some (.inl (nI i))] [] σ1 from h 8 0 σ (by omega) (fun _ _ _ => rfl) (fun v h => absurd h (by omega))
  intro k
  induction k with
  | zero =>
    intro i σ1 hi hk hv
    refine r_iload_n (pc := 151) (i := 1) dX0_init_151 rfl rfl ?_
    refine r_bipush (pc := 152) (v := nI 8) dX0_init_152 (by decide) ?_
    refine r_icmp_ge (pc := 154) (tgt := 177) dX0_init_154 (by decide) (fun _ => ?_) (fun z => absurd (nI_le (by omega) (by omega)) z)
    refine r_vret (pc := 177) dX0_init_177 ?_
    exact ⟨hk, fun v h => hv v (by omega)⟩
  | succ k ih =>
    intro i σ1 hi hk hv
    refine r_iload_n (pc := 151) (i := 1) dX0_init_151 rfl rfl ?_
    refine r_bipush (pc := 152) (v := nI 8) dX0_init_152 (by decide) ?_
    refine r_icmp_ge (pc := 154) (tgt := 177) dX0_init_154 (by decide) (fun z => absurd z (nI_ge (by omega) (by omega))) (fun _ => ?_)
    refine r_aload_n (pc := 157) (i := 0) dX0_init_157 rfl rfl ?_
    refine r_getA (pc := 158) ckX0 5 (by decide) rfl q41 dX0_init_158 ?_
    refine r_iload_n (pc := 161) (i := 1) dX0_init_161 rfl rfl ?_
    refine r_iconst (pc := 162) (v := nI 1) dX0_init_162 (by decide) ?_
    refine r_iast (pc := 163) ckX0 rfl dX0_init_163 (rfl) (by omega) ?_
    refine r_aload_n (pc := 164) (i := 0) dX0_init_164 rfl rfl ?_
    refine r_getA (pc := 165) ckX0 6 (by decide) rfl q42 dX0_init_165 ?_
    refine r_iload_n (pc := 168) (i := 1) dX0_init_168 rfl rfl ?_
    refine r_iconst (pc := 169) (v := nI 1) dX0_init_169 (by decide) ?_
    refine r_iast (pc := 170) ckX0 rfl dX0_init_170 (rfl) (by omega) ?_
    refine r_iinc (pc := 171) (v := _) (L' := [_, _]) dX0_init_171 rfl (inc1 _) (by decide) rfl ?_
    refine r_goto (pc := 174) (tgt := 151) dX0_init_174 (by decide) ?_
    refine ih (i + 1) _ (by omega) (fun k h1 h2 => (su_ne _ _ _ h2).trans ((su_ne _ _ _ h1).trans (hk k h1 h2))) (fun v hv' => ?_)
    show upd (σ1 5) i (nI 1) v = nI 1 ∧ upd (σ1 6) i (nI 1) v = nI 1
    by_cases e : v = i
    · rw [e, pk_us, pk_us]
      exact ⟨rfl, rfl⟩
    · rw [pk_un e, pk_un e]
      exact hv v (by omega)
abbrev P_initX1 (σ : St) : Int32 → St → Prop := fun _ σ' => (∀ k, k ≠ 3 → σ' k = σ k) ∧ ∀ v, v < 16 → σ' 3 v = nI 1
theorem v_initX1 (σ : St) : V shX1 RX1 cX1_init 2 0 none (P_initX1 σ) 28 [some (.inr 0), none] [] σ := by
  refine r_iconst (pc := 28) (v := nI 0) dX1_init_28 (by decide) ?_
  refine r_istore_n (pc := 29) (i := 1) (L' := [_, _]) dX1_init_29 rfl (by decide) rfl ?_
  suffices h : ∀ k i σ1, i + k = 16 → (∀ k, k ≠ 3 → σ1 k = σ k) → (∀ v, v < i → σ1 3 v = nI 1) → V shX1 RX1 cX1_init 2 0 none (P_initX1 σ) 30 [some (.inr 0), some (.inl (nI i))] [] σ1 from h 16 0 σ (by omega) (fun _ _ => rfl) (fun v h => absurd h (by omega))
  intro k
  induction k with
  | zero =>
    intro i σ1 hi hk hv
    refine r_iload_n (pc := 30) (i := 1) dX1_init_30 rfl rfl ?_
    refine r_bipush (pc := 31) (v := nI 16) dX1_init_31 (by decide) ?_
    refine r_icmp_ge (pc := 33) (tgt := 49) dX1_init_33 (by decide) (fun _ => ?_) (fun z => absurd (nI_le (by omega) (by omega)) z)
    refine r_vret (pc := 49) dX1_init_49 ?_
    exact ⟨hk, fun v h => hv v (by omega)⟩
  | succ k ih =>
    intro i σ1 hi hk hv
    refine r_iload_n (pc := 30) (i := 1) dX1_init_30 rfl rfl ?_
    refine r_bipush (pc := 31) (v := nI 16) dX1_init_31 (by decide) ?_
    refine r_icmp_ge (pc := 33) (tgt := 49) dX1_init_33 (by decide) (fun z => absurd z (nI_ge (by omega) (by omega))) (fun _ => ?_)
    refine r_aload_n (pc := 36) (i := 0) dX1_init_36 rfl rfl ?_
    refine r_getA (pc := 37) ckX1 3 (by decide) rfl q260 dX1_init_37 ?_
    refine r_iload_n (pc := 40) (i := 1) dX1_init_40 rfl rfl ?_
    refine r_iconst (pc := 41) (v := nI 1) dX1_init_41 (by decide) ?_
    refine r_iast (pc := 42) ckX1 rfl dX1_init_42 (rfl) (by omega) ?_
    refine r_iinc (pc := 43) (v := _) (L' := [_, _]) dX1_init_43 rfl (inc1 _) (by decide) rfl ?_
    refine r_goto (pc := 46) (tgt := 30) dX1_init_46 (by decide) ?_
    refine ih (i + 1) _ (by omega) (fun k h1 => (su_ne _ _ _ h1).trans (hk k h1)) (fun v hv' => ?_)
    by_cases e : v = i
    · rw [e]
      exact su_eq _ _ _ _
    · rw [su_off _ _ (Or.inr e)]
      exact hv v (by omega)
abbrev fsX0 : List Value := [.int 0, .null, .int 0, .null, .null, .null, .null, .int 0, .int 0, .null, .null, .null, .null, .null, .null, .null, .null, .null, .null, .null, .null]
set_option maxHeartbeats 4000000 in
set_option maxRecDepth 100000 in
theorem c_initX0 : CI shX0 yX0_init cX0_init fsX0 17 9791 (fun σ' => P_initX0 (fun _ _ => 0) 0 σ') := by
  intro l D h0 sz
  refine Met.ofW (cc := cX0_init) (maxL := 2) (ret := none) (by decide) rfl ?_
  intro p e s m args below meth c s₁ B hml hv
  obtain ⟨rfl, hsz, hP, hK, hD0⟩ := hv
  subst hsz
  have hx := B.exec
  have hb := B.bytes
  have hts := atoms_spec (ws := ws_ yX0_init cX0_init 2 none) B.pre
  have hts : ∀ w ∈ lw_all, w.before _ s = true := fun w h => hts w (List.mem_cons_of_mem _ h)
  have hown : s.vm.findClass RX0 = some m.cls := findClass_of_methodNamed B.named
  have hin : meth.name = "<init>" := (name_of_methodNamed B.named B.method).1
  have hD := hD0.self (sz := s.heap.size)
  generalize hAe : va_A [(h0, .inr (shX0.1, fsX0))] s.heap.size = A at hD ⊢
  have hA : ∀ q : Nat, s.heap.size ≤ q → A q := fun q h => by rw [← hAe]; exact Or.inr h
  have hS : va_S A s.heap s.heap [] := va_S.rf
  rw [lg_entry_eq]
  have hL : ∀ ad : Nat → Nat, LH ((lg_sl ([.ref h0]) ++ List.replicate (2 - (lg_sl ([.ref h0])).length) Slot.unset).toArray) 2 h0 ad [some (.inr 0), none] := fun ad => L0_LH (av := []) (nL := 2) (by decide)
  generalize (lg_sl ([.ref h0]) ++ List.replicate (2 - (lg_sl ([.ref h0])).length) Slot.unset).toArray = ls at hL ⊢
  have h0l : ls[0]? = some (.val (.ref h0)) := (hL (fun _ => 0)).2.2 0 (.inr 0) rfl
  refine lv_aload_n hx hb dX0_init_0 rfl h0l ?_
  refine W.objInit hx hb hown (hts _ q33) (hts _ q34) (hts _ q35) rfl (by rw [hml]; exact (hL (fun _ => 0)).1) rfl dX0_init_1 (Nat.le_of_ble_eq_true rfl) (Nat.le_of_ble_eq_true rfl) ?_
  refine W.eq (g2 := F0 m 4 ls []) rfl ?_
  refine lv_aload_n (pc := 4) hx hb dX0_init_4 rfl h0l ?_
  refine lv_iconst (pc := 5) (v := nI 3) hx hb dX0_init_5 (by decide) ?_
  refine na_step (pc := 6) hx hb hts in_X0 tyX0 tyX0_ok nmX0 hown hin hK hP hD hS hA rfl (n := 3) (by decide) (Nat.le_of_ble_eq_true rfl) (Nat.le_of_ble_eq_true rfl) dX0_init_6 1 (by decide) q37 rfl rfl (by decide +kernel) (Nat.le_of_ble_eq_true rfl) dX0_init_8 (fun q1 cA1 H locs hK1 hP hD hS => ?_)
  have hK := hK1
  refine lv_aload_n (pc := 11) hx hb dX0_init_11 rfl h0l ?_
  refine lv_bipush (pc := 12) (v := nI 14) hx hb dX0_init_12 (by decide) ?_
  refine na_step (pc := 14) hx hb hts in_X0 tyX0 tyX0_ok nmX0 hown hin hK hP hD hS hA rfl (n := 14) (by decide) (Nat.le_of_ble_eq_true rfl) (Nat.le_of_ble_eq_true rfl) dX0_init_14 3 (by decide) q39 rfl rfl (by decide +kernel) (Nat.le_of_ble_eq_true rfl) dX0_init_16 (fun q3 cA2 H locs hK2 hP hD hS => ?_)
  obtain rfl := arr_one hK hK2
  refine lv_aload_n (pc := 19) hx hb dX0_init_19 rfl h0l ?_
  refine lv_bipush (pc := 20) (v := nI 14) hx hb dX0_init_20 (by decide) ?_
  refine na_step (pc := 22) hx hb hts in_X0 tyX0 tyX0_ok nmX0 hown hin hK hP hD hS hA rfl (n := 14) (by decide) (Nat.le_of_ble_eq_true rfl) (Nat.le_of_ble_eq_true rfl) dX0_init_22 4 (by decide) q40 rfl rfl (by decide +kernel) (Nat.le_of_ble_eq_true rfl) dX0_init_24 (fun q4 cA3 H locs hK3 hP hD hS => ?_)
  obtain rfl := arr_one hK hK3
  refine lv_aload_n (pc := 27) hx hb dX0_init_27 rfl h0l ?_
  refine lv_bipush (pc := 28) (v := nI 8) hx hb dX0_init_28 (by decide) ?_
  refine na_step (pc := 30) hx hb hts in_X0 tyX0 tyX0_ok nmX0 hown hin hK hP hD hS hA rfl (n := 8) (by decide) (Nat.le_of_ble_eq_true rfl) (Nat.le_of_ble_eq_true rfl) dX0_init_30 5 (by decide) q41 rfl rfl (by decide +kernel) (Nat.le_of_ble_eq_true rfl) dX0_init_32 (fun q5 cA4 H locs hK4 hP hD hS => ?_)
  obtain rfl := arr_one hK hK4
  refine lv_aload_n (pc := 35) hx hb dX0_init_35 rfl h0l ?_
  refine lv_bipush (pc := 36) (v := nI 8) hx hb dX0_init_36 (by decide) ?_
  refine na_step (pc := 38) hx hb hts in_X0 tyX0 tyX0_ok nmX0 hown hin hK hP hD hS hA rfl (n := 8) (by decide) (Nat.le_of_ble_eq_true rfl) (Nat.le_of_ble_eq_true rfl) dX0_init_38 6 (by decide) q42 rfl rfl (by decide +kernel) (Nat.le_of_ble_eq_true rfl) dX0_init_40 (fun q6 cA5 H locs hK5 hP hD hS => ?_)
  obtain rfl := arr_one hK hK5
  refine lv_aload_n (pc := 43) hx hb dX0_init_43 rfl h0l ?_
  refine lv_sipush (pc := 44) (v := nI 512) hx hb dX0_init_44 (by decide) ?_
  refine na_step (pc := 47) hx hb hts in_X0 tyX0 tyX0_ok nmX0 hown hin hK hP hD hS hA rfl (n := 512) (by decide) (Nat.le_of_ble_eq_true rfl) (Nat.le_of_ble_eq_true rfl) dX0_init_47 9 (by decide) q45 rfl rfl (by decide +kernel) (Nat.le_of_ble_eq_true rfl) dX0_init_49 (fun q9 cA6 H locs hK6 hP hD hS => ?_)
  obtain rfl := arr_one hK hK6
  refine lv_aload_n (pc := 52) hx hb dX0_init_52 rfl h0l ?_
  refine lv_sipush (pc := 53) (v := nI 512) hx hb dX0_init_53 (by decide) ?_
  refine na_step (pc := 56) hx hb hts in_X0 tyX0 tyX0_ok nmX0 hown hin hK hP hD hS hA rfl (n := 512) (by decide) (Nat.le_of_ble_eq_true rfl) (Nat.le_of_ble_eq_true rfl) dX0_init_56 10 (by decide) q46 rfl rfl (by decide +kernel) (Nat.le_of_ble_eq_true rfl) dX0_init_58 (fun q10 cA7 H locs hK7 hP hD hS => ?_)
  obtain rfl := arr_one hK hK7
  refine lv_aload_n (pc := 61) hx hb dX0_init_61 rfl h0l ?_
  refine lv_sipush (pc := 62) (v := nI 512) hx hb dX0_init_62 (by decide) ?_
  refine na_step (pc := 65) hx hb hts in_X0 tyX0 tyX0_ok nmX0 hown hin hK hP hD hS hA rfl (n := 512) (by decide) (Nat.le_of_ble_eq_true rfl) (Nat.le_of_ble_eq_true rfl) dX0_init_65 11 (by decide) q47 rfl rfl (by decide +kernel) (Nat.le_of_ble_eq_true rfl) dX0_init_67 (fun q11 cA8 H locs hK8 hP hD hS => ?_)
  obtain rfl := arr_one hK hK8
  refine lv_aload_n (pc := 70) hx hb dX0_init_70 rfl h0l ?_
  refine lv_sipush (pc := 71) (v := nI 512) hx hb dX0_init_71 (by decide) ?_
  refine na_step (pc := 74) hx hb hts in_X0 tyX0 tyX0_ok nmX0 hown hin hK hP hD hS hA rfl (n := 512) (by decide) (Nat.le_of_ble_eq_true rfl) (Nat.le_of_ble_eq_true rfl) dX0_init_74 12 (by decide) q48 rfl rfl (by decide +kernel) (Nat.le_of_ble_eq_true rfl) dX0_init_76 (fun q12 cA9 H locs hK9 hP hD hS => ?_)
  obtain rfl := arr_one hK hK9
  refine lv_aload_n (pc := 79) hx hb dX0_init_79 rfl h0l ?_
  refine lv_sipush (pc := 80) (v := nI 512) hx hb dX0_init_80 (by decide) ?_
  refine na_step (pc := 83) hx hb hts in_X0 tyX0 tyX0_ok nmX0 hown hin hK hP hD hS hA rfl (n := 512) (by decide) (Nat.le_of_ble_eq_true rfl) (Nat.le_of_ble_eq_true rfl) dX0_init_83 13 (by decide) q49 rfl rfl (by decide +kernel) (Nat.le_of_ble_eq_true rfl) dX0_init_85 (fun q13 cA10 H locs hK10 hP hD hS => ?_)
  obtain rfl := arr_one hK hK10
  refine lv_aload_n (pc := 88) hx hb dX0_init_88 rfl h0l ?_
  refine lv_sipush (pc := 89) (v := nI 512) hx hb dX0_init_89 (by decide) ?_
  refine na_step (pc := 92) hx hb hts in_X0 tyX0 tyX0_ok nmX0 hown hin hK hP hD hS hA rfl (n := 512) (by decide) (Nat.le_of_ble_eq_true rfl) (Nat.le_of_ble_eq_true rfl) dX0_init_92 14 (by decide) q50 rfl rfl (by decide +kernel) (Nat.le_of_ble_eq_true rfl) dX0_init_94 (fun q14 cA11 H locs hK11 hP hD hS => ?_)
  obtain rfl := arr_one hK hK11
  refine lv_aload_n (pc := 97) hx hb dX0_init_97 rfl h0l ?_
  refine lv_sipush (pc := 98) (v := nI 512) hx hb dX0_init_98 (by decide) ?_
  refine na_step (pc := 101) hx hb hts in_X0 tyX0 tyX0_ok nmX0 hown hin hK hP hD hS hA rfl (n := 512) (by decide) (Nat.le_of_ble_eq_true rfl) (Nat.le_of_ble_eq_true rfl) dX0_init_101 15 (by decide) q51 rfl rfl (by decide +kernel) (Nat.le_of_ble_eq_true rfl) dX0_init_103 (fun q15 cA12 H locs hK12 hP hD hS => ?_)
  obtain rfl := arr_one hK hK12
  refine lv_aload_n (pc := 106) hx hb dX0_init_106 rfl h0l ?_
  refine lv_sipush (pc := 107) (v := nI 1024) hx hb dX0_init_107 (by decide) ?_
  refine na_step (pc := 110) hx hb hts in_X0 tyX0 tyX0_ok nmX0 hown hin hK hP hD hS hA rfl (n := 1024) (by decide) (Nat.le_of_ble_eq_true rfl) (Nat.le_of_ble_eq_true rfl) dX0_init_110 16 (by decide) q52 rfl rfl (by decide +kernel) (Nat.le_of_ble_eq_true rfl) dX0_init_112 (fun q16 cA13 H locs hK13 hP hD hS => ?_)
  obtain rfl := arr_one hK hK13
  refine lv_aload_n (pc := 115) hx hb dX0_init_115 rfl h0l ?_
  refine lv_sipush (pc := 116) (v := nI 512) hx hb dX0_init_116 (by decide) ?_
  refine na_step (pc := 119) hx hb hts in_X0 tyX0 tyX0_ok nmX0 hown hin hK hP hD hS hA rfl (n := 512) (by decide) (Nat.le_of_ble_eq_true rfl) (Nat.le_of_ble_eq_true rfl) dX0_init_119 17 (by decide) q53 rfl rfl (by decide +kernel) (Nat.le_of_ble_eq_true rfl) dX0_init_121 (fun q17 cA14 H locs hK14 hP hD hS => ?_)
  obtain rfl := arr_one hK hK14
  refine lv_aload_n (pc := 124) hx hb dX0_init_124 rfl h0l ?_
  refine lv_sipush (pc := 125) (v := nI 4608) hx hb dX0_init_125 (by decide) ?_
  refine na_step (pc := 128) hx hb hts in_X0 tyX0 tyX0_ok nmX0 hown hin hK hP hD hS hA rfl (n := 4608) (by decide) (Nat.le_of_ble_eq_true rfl) (Nat.le_of_ble_eq_true rfl) dX0_init_128 18 (by decide) q54 rfl rfl (by decide +kernel) (Nat.le_of_ble_eq_true rfl) dX0_init_130 (fun q18 cA15 H locs hK15 hP hD hS => ?_)
  obtain rfl := arr_one hK hK15
  refine lv_aload_n (pc := 133) hx hb dX0_init_133 rfl h0l ?_
  refine lv_bipush (pc := 134) (v := nI 8) hx hb dX0_init_134 (by decide) ?_
  refine na_step (pc := 136) hx hb hts in_X0 tyX0 tyX0_ok nmX0 hown hin hK hP hD hS hA rfl (n := 8) (by decide) (Nat.le_of_ble_eq_true rfl) (Nat.le_of_ble_eq_true rfl) dX0_init_136 19 (by decide) q55 rfl rfl (by decide +kernel) (Nat.le_of_ble_eq_true rfl) dX0_init_138 (fun q19 cA16 H locs hK16 hP hD hS => ?_)
  obtain rfl := arr_one hK hK16
  refine lv_aload_n (pc := 141) hx hb dX0_init_141 rfl h0l ?_
  refine lv_bipush (pc := 142) (v := nI 8) hx hb dX0_init_142 (by decide) ?_
  refine na_step (pc := 144) hx hb hts in_X0 tyX0 tyX0_ok nmX0 hown hin hK hP hD hS hA rfl (n := 8) (by decide) (Nat.le_of_ble_eq_true rfl) (Nat.le_of_ble_eq_true rfl) dX0_init_144 20 (by decide) q56 rfl rfl (by decide +kernel) (Nat.le_of_ble_eq_true rfl) dX0_init_146 (fun q20 cA17 H locs hK17 hP hD hS => ?_)
  obtain rfl := arr_one hK hK17
  refine W.widen (k := 17) (n := 9791) (Nat.le_of_ble_eq_true rfl) (Nat.le_of_ble_eq_true rfl) ?_
  refine W.imp ?_ (v_initX0 (fun _ _ => 0) p l e _ s m _ below meth c D h0 (fun k => match k with | 1 => q1 | 3 => q3 | 4 => q4 | 5 => q5 | 6 => q6 | 9 => q9 | 10 => q10 | 11 => q11 | 12 => q12 | 13 => q13 | 14 => q14 | 15 => q15 | 16 => q16 | 17 => q17 | 18 => q18 | 19 => q19 | 20 => q20 | _ => 0) _ A 17 9791 ⟨⟨hx, hb, hml, hown, hts⟩, B.returns, B.notSynchronized, hK, hA, Nat.zero_le _, Nat.zero_le _, Nat.le_refl _, Nat.le_refl _⟩ _ _ ls hP hD hS (hL _))
  rintro t ⟨o, t1, t2, ⟨⟨u, hv, hp, hB⟩, hF⟩, t3⟩
  exact ⟨o, t1, t2, ⟨⟨(u, _, _), hv, hp, hB⟩, hF⟩, t3⟩
abbrev fsX1 : List Value := [.null, .null, .int 0, .null]
set_option maxHeartbeats 4000000 in
set_option maxRecDepth 100000 in
theorem c_initX1 : CI shX1 yX1_init cX1_init fsX1 3 76 (fun σ' => P_initX1 (fun _ _ => 0) 0 σ') := by
  intro l D h0 sz
  refine Met.ofW (cc := cX1_init) (maxL := 2) (ret := none) (by decide) rfl ?_
  intro p e s m args below meth c s₁ B hml hv
  obtain ⟨rfl, hsz, hP, hK, hD0⟩ := hv
  subst hsz
  have hx := B.exec
  have hb := B.bytes
  have hts := atoms_spec (ws := ws_ yX1_init cX1_init 2 none) B.pre
  have hts : ∀ w ∈ lw_all, w.before _ s = true := fun w h => hts w (List.mem_cons_of_mem _ h)
  have hown : s.vm.findClass RX1 = some m.cls := findClass_of_methodNamed B.named
  have hin : meth.name = "<init>" := (name_of_methodNamed B.named B.method).1
  have hD := hD0.self (sz := s.heap.size)
  generalize hAe : va_A [(h0, .inr (shX1.1, fsX1))] s.heap.size = A at hD ⊢
  have hA : ∀ q : Nat, s.heap.size ≤ q → A q := fun q h => by rw [← hAe]; exact Or.inr h
  have hS : va_S A s.heap s.heap [] := va_S.rf
  rw [lg_entry_eq]
  have hL : ∀ ad : Nat → Nat, LH ((lg_sl ([.ref h0]) ++ List.replicate (2 - (lg_sl ([.ref h0])).length) Slot.unset).toArray) 2 h0 ad [some (.inr 0), none] := fun ad => L0_LH (av := []) (nL := 2) (by decide)
  generalize (lg_sl ([.ref h0]) ++ List.replicate (2 - (lg_sl ([.ref h0])).length) Slot.unset).toArray = ls at hL ⊢
  have h0l : ls[0]? = some (.val (.ref h0)) := (hL (fun _ => 0)).2.2 0 (.inr 0) rfl
  refine lv_aload_n hx hb dX1_init_0 rfl h0l ?_
  refine W.objInit hx hb hown (hts _ q256) (hts _ q34) (hts _ q35) rfl (by rw [hml]; exact (hL (fun _ => 0)).1) rfl dX1_init_1 (Nat.le_of_ble_eq_true rfl) (Nat.le_of_ble_eq_true rfl) ?_
  refine W.eq (g2 := F0 m 4 ls []) rfl ?_
  refine lv_aload_n (pc := 4) hx hb dX1_init_4 rfl h0l ?_
  refine lv_bipush (pc := 5) (v := nI 45) hx hb dX1_init_5 (by decide) ?_
  refine na_step (pc := 7) hx hb hts in_X1 tyX1 tyX1_ok nmX1 hown hin hK hP hD hS hA rfl (n := 45) (by decide) (Nat.le_of_ble_eq_true rfl) (Nat.le_of_ble_eq_true rfl) dX1_init_7 0 (by decide) q257 rfl rfl (by decide +kernel) (Nat.le_of_ble_eq_true rfl) dX1_init_9 (fun q0 cA1 H locs hK1 hP hD hS => ?_)
  have hK := hK1
  refine lv_aload_n (pc := 12) hx hb dX1_init_12 rfl h0l ?_
  refine lv_bipush (pc := 13) (v := nI 15) hx hb dX1_init_13 (by decide) ?_
  refine na_step (pc := 15) hx hb hts in_X1 tyX1 tyX1_ok nmX1 hown hin hK hP hD hS hA rfl (n := 15) (by decide) (Nat.le_of_ble_eq_true rfl) (Nat.le_of_ble_eq_true rfl) dX1_init_15 1 (by decide) q258 rfl rfl (by decide +kernel) (Nat.le_of_ble_eq_true rfl) dX1_init_17 (fun q1 cA2 H locs hK2 hP hD hS => ?_)
  obtain rfl := arr_one hK hK2
  refine lv_aload_n (pc := 20) hx hb dX1_init_20 rfl h0l ?_
  refine lv_bipush (pc := 21) (v := nI 16) hx hb dX1_init_21 (by decide) ?_
  refine na_step (pc := 23) hx hb hts in_X1 tyX1 tyX1_ok nmX1 hown hin hK hP hD hS hA rfl (n := 16) (by decide) (Nat.le_of_ble_eq_true rfl) (Nat.le_of_ble_eq_true rfl) dX1_init_23 3 (by decide) q260 rfl rfl (by decide +kernel) (Nat.le_of_ble_eq_true rfl) dX1_init_25 (fun q3 cA3 H locs hK3 hP hD hS => ?_)
  obtain rfl := arr_one hK hK3
  refine W.widen (k := 3) (n := 76) (Nat.le_of_ble_eq_true rfl) (Nat.le_of_ble_eq_true rfl) ?_
  refine W.imp ?_ (v_initX1 (fun _ _ => 0) p l e _ s m _ below meth c D h0 (fun k => match k with | 0 => q0 | 1 => q1 | 3 => q3 | _ => 0) _ A 3 76 ⟨⟨hx, hb, hml, hown, hts⟩, B.returns, B.notSynchronized, hK, hA, Nat.zero_le _, Nat.zero_le _, Nat.le_refl _, Nat.le_refl _⟩ _ _ ls hP hD hS (hL _))
  rintro t ⟨o, t1, t2, ⟨⟨u, hv, hp, hB⟩, hF⟩, t3⟩
  exact ⟨o, t1, t2, ⟨⟨(u, _, _), hv, hp, hB⟩, hF⟩, t3⟩
end
section
/-! STARTING TEXT (the skeleton's head), then the law's judgement and its rows -/
/-! THE CLAIM OUT OF ONE WALK OF THE LAW'S BODY. Your part is whole_start (and what it stands on); all else here is the same for every law, but numbers. -/
def R_law : String := "ModelCounterLaw"
def lw_P (b : Addr) (xs : List Int32) (args : Array Value) (s : State) : Prop := args = #[.ref b] ∧ s.IntsAt b xs ∧ xs.length ≤ 256 ∧ (Jvm.Cond.and given_1 narrow_1).before args s = true
def lw_Q (_ : Array Value) (s : State) (o : Outcome) (t : State) : Prop := o = .returned (some (.int 1)) ∧ Framed s o t [] 600000 7290000
def lw_Z (below : List Frame) (a : Array Value) (s : State) : State → Prop := fun t => ∃ o, t.status = .running ∧ Ended t below o ∧ lw_Q a s o t
/-- the law's own end, with 1 on the stack, nothing written that was there before, its room as the claim has it -/
theorem lw_ret {p : Program} {l : Launch} {e : Env} {s : State} {m : MethodId} {below : List Frame} {meth : Method} {c : Code} {b : Nat} (hx : p.tables.exec = Jvm.exec) (hb : c.code = code) (hr : meth.sig.returnType = ret) (hlocks : meth.locks = false) {pc : Nat} {H : Heap} {ls : Array Slot} (hdg : decode code pc = .ok (.ireturn, 1)) : W p l e room_1 s m #[Value.ref b] below meth c H [] 600000 7290000 (lw_Z below #[Value.ref b] s) (F0 m pc ls [.int 1]) := by
  intro T hT X
  obtain ⟨fs, hret, hrun, hended, hW, hframe⟩ := X.leave (v := some (.int 1)) (hlocks := hlocks) (fun h => by rw [hr] at h; cases h)
  have hmeth' : T.vm.method? m = some meth := X.method'
  refine ⟨T.setFrames fs, ?_, .returned (some (.int 1)), hrun, hended, rfl, ⟨_, rfl⟩, hW, hframe⟩
  jvm_step X.here [X.here.top, hx, hb, hdg, hmeth', hr, ret, narrow_b1]
  (try refine ⟨rfl, ?_⟩); (try refine ⟨rfl, ?_⟩)
  first | (intro acts; rw [hret _ acts rfl rfl rfl]) | rw [hret _ _ rfl rfl rfl]
  exact Steps.refl _
/-- what holds at the law's entry: the machine, the code, the tables' words (any of lw_tbl by 'hts w (by decide +kernel)'), the script of L ints xs at the cell b, what the Statement gives of the start (any of its parts by flat_of_before) -/
def lw_At (p : Program) (s : State) (m : MethodId) (meth : Method) (c : Code) (b L : Nat) (xs : Nat → Int32) : Prop :=
  p.tables.exec = Jvm.exec ∧ c.code = code ∧ meth.sig.returnType = ret ∧ c.maxLocals = 4 ∧ s.vm.findClass R_law = some m.cls ∧ (∀ w ∈ lw_tbl, w.before #[Value.ref b] s = true) ∧ va_X b L xs s s.heap ∧ b < s.heap.size ∧ meth.locks = false ∧ (Jvm.Cond.and given_1 narrow_1).before #[Value.ref b] s = true
/-! two objects side by side -/
theorem P_left {D : va_G} {cl : List vw_C} {a b : va_W} {H : Heap} (h : va_P D cl (a ++ b) H) : va_P D cl a H := fun k q hk => h k q (by
  rw [List.getElem?_append_left (List.getElem?_eq_some_iff.mp hk).1]
  exact hk)
theorem P_right {D : va_G} {cl : List vw_C} {a b : va_W} {H : Heap} (h : va_P D cl (a ++ b) H) : va_P D cl b H := fun k q hk => h (a.length + k) q (by
  rw [List.getElem?_append_right (by omega), Nat.add_sub_cancel_left]
  exact hk)
theorem D_left {A : Nat → Prop} {a b : va_W} (h : va_D A (a ++ b)) : va_D A a := by
  have up : ∀ (k : Nat) (q : Nat × va_E), a[k]? = some q → (a ++ b)[k]? = some q := fun k q hk => by
    rw [List.getElem?_append_left (List.getElem?_eq_some_iff.mp hk).1]
    exact hk
  exact ⟨fun i j p q hi hj e => h.1 i j p q (up i p hi) (up j q hj) e, fun k q hk => h.2 k q (up k q hk)⟩
theorem D_right {A : Nat → Prop} {a b : va_W} (h : va_D A (a ++ b)) : va_D A b := by
  have up : ∀ (k : Nat) (q : Nat × va_E), b[k]? = some q → (a ++ b)[a.length + k]? = some q := fun k q hk => by
    rw [List.getElem?_append_right (by omega), Nat.add_sub_cancel_left]
    exact hk
  refine ⟨fun i j p q hi hj e => ?_, fun k q hk => h.2 _ q (up k q hk)⟩
  have := h.1 _ _ p q (up i p hi) (up j q hj) e
  omega
theorem D_apart {A : Nat → Prop} {a b : va_W} (h : va_D A (a ++ b)) {i j : Nat} {p q : Nat × va_E} (hi : a[i]? = some p) (hj : b[j]? = some q) : p.1 ≠ q.1 := by
  intro e
  have hl := (List.getElem?_eq_some_iff.mp hi).1
  have := h.1 i (a.length + j) p q (by rw [List.getElem?_append_left hl]; exact hi) (by rw [List.getElem?_append_right (by omega), Nat.add_sub_cancel_left]; exact hj) e
  omega
theorem D_app {A : Nat → Prop} {a b : va_W} (ha : va_D A a) (hb : va_D A b) (hd : ∀ (i j : Nat) (p q : Nat × va_E), a[i]? = some p → b[j]? = some q → p.1 ≠ q.1) : va_D A (a ++ b) := by
  have split : ∀ (k : Nat) (q : Nat × va_E), (a ++ b)[k]? = some q → (k < a.length ∧ a[k]? = some q) ∨ (a.length ≤ k ∧ b[k - a.length]? = some q) := by
    intro k q hk
    by_cases hl : k < a.length
    · rw [List.getElem?_append_left hl] at hk
      exact Or.inl ⟨hl, hk⟩
    · rw [List.getElem?_append_right (by omega)] at hk
      exact Or.inr ⟨by omega, hk⟩
  refine ⟨fun i j p q hi hj e => ?_, fun k q hk => ?_⟩
  · rcases split i p hi with ⟨i1, i2⟩ | ⟨i1, i2⟩
    · rcases split j q hj with ⟨j1, j2⟩ | ⟨j1, j2⟩
      · exact ha.1 i j p q i2 j2 e
      · exact absurd e (hd _ _ _ _ i2 j2)
    · rcases split j q hj with ⟨j1, j2⟩ | ⟨j1, j2⟩
      · exact absurd e.symm (hd _ _ _ _ j2 i2)
      · have := hb.1 _ _ p q i2 j2 e
        omega
  · rcases split k q hk with ⟨-, k2⟩ | ⟨-, k2⟩
    · exact ha.2 _ q k2
    · exact hb.2 _ q k2
theorem D_swap {A : Nat → Prop} {a b : va_W} (h : va_D A (a ++ b)) : va_D A (b ++ a) := D_app (D_right h) (D_left h) (fun _ _ _ _ hi hj e => D_apart h hj hi e.symm)
theorem w_join {A : Nat → Prop} {D : va_G} {cl : List vw_C} {w0 w1 w0' : va_W} {H H1 : Heap} (hP : va_P D cl (w0 ++ w1) H) (hD : va_D A (w0 ++ w1)) (hk : ∀ q : Nat, q < H.size → ¬ va_A w0 H.size q → H1[q]? = H[q]?) (hF : ∀ q, va_A w0 H.size q → A q) (hP1 : va_P D cl w0' H1) (hD1 : va_D (va_A w0 H.size) w0') : va_P D cl (w0' ++ w1) H1 ∧ va_D A (w0' ++ w1) := by
  have out : ∀ (k : Nat) (q : Nat × va_E), w1[k]? = some q → q.1 < H.size ∧ ¬ va_A w0 H.size q.1 := by
    intro k q hk'
    have hlt := (P_right hP k q hk').lt
    refine ⟨hlt, ?_⟩
    rintro (⟨i, e, hi⟩ | h)
    · exact D_apart hD hi hk' rfl
    · omega
  refine ⟨hP1.app ((P_right hP).kept (fun k q hk' => hk q.1 (out k q hk').1 (out k q hk').2)), D_app (hD1.weaken (fun i q _ h => hF q.1 h)) (D_right hD) ?_⟩
  intro i j p q hi hj e
  have h1 := hD1.2 i p hi
  rw [e] at h1
  exact (out j q hj).2 h1
theorem w_joinR {A : Nat → Prop} {D : va_G} {cl : List vw_C} {w0 w1 w1' : va_W} {H H1 : Heap} (hP : va_P D cl (w0 ++ w1) H) (hD : va_D A (w0 ++ w1)) (hk : ∀ q : Nat, q < H.size → ¬ va_A w1 H.size q → H1[q]? = H[q]?) (hF : ∀ q, va_A w1 H.size q → A q) (hP1 : va_P D cl w1' H1) (hD1 : va_D (va_A w1 H.size) w1') : va_P D cl (w0 ++ w1') H1 ∧ va_D A (w0 ++ w1') := by
  obtain ⟨h1, h2⟩ := w_join ((P_right hP).app (P_left hP)) (D_swap hD) hk hF hP1 hD1
  exact ⟨(P_right h1).app (P_left h1), D_swap h2⟩
/-! the law's judgement -/
def adL (x y : Nat) : Nat → Nat := fun k => if k = 0 then x else y
abbrev A0 (s : State) : Nat → Prop := fun q => s.heap.size ≤ q
def LC (p : Program) (s : State) (m : MethodId) (meth : Method) (c : Code) (D : va_G) (dA : ClassId) (b L : Nat) (xs : Nat → Int32) : Prop :=
  CallFix p m c cL_law 4 s #[Value.ref b] lw_all R_law ∧ meth.sig.returnType = ret ∧ meth.locks = false ∧ va_K D vwCl [(dA, .int)] s ∧ va_X b L xs s s.heap ∧ b < s.heap.size
def VL (b L : Nat) (xs : Nat → Int32) (pc : Nat) (Ls : List (Option AV)) (st : List AV) (σ τ : St) : Prop :=
  ∀ (p : Program) (l : Launch) (e : Env) (s : State) (m : MethodId) (below : List Frame) (meth : Method) (c : Code) (D : va_G) (dA : ClassId) (x y : Nat) (ad0 ad1 : Nat → Nat), LC p s m meth c D dA b L xs → ∀ (H : Heap) (locs : List Loc) (ls : Array Slot),
    va_P D vwCl (wd shX0 x ad0 dA σ ++ wd shX1 y ad1 dA τ) H → va_D (A0 s) (wd shX0 x ad0 dA σ ++ wd shX1 y ad1 dA τ) → va_S (A0 s) s.heap H locs → LH ls 4 b (adL x y) Ls →
      W p l e room_1 s m #[Value.ref b] below meth c H locs 30 10000 (lw_Z below #[Value.ref b] s) (F0 m pc ls (st.map (vl b (adL x y))))
section LROWS
variable {b L : Nat} {xs : Nat → Int32} {pc : Nat} {Ls Ls' : List (Option AV)} {st : List AV} {σ τ : St}
theorem l_iconst {n : Int} {v : Int32} (dg : decode cL_law pc = .ok (.iconst n, 1)) (hv : Int32.ofInt n = v) (k : VL b L xs (pc + 1) Ls (.inl v :: st) σ τ) : VL b L xs pc Ls st σ τ := fun p l e s m below meth c D dA x y ad0 ad1 C H locs ls hP hD hS hL => lv_iconst C.1.1 C.1.2.1 dg hv (k p l e s m below meth c D dA x y ad0 ad1 C H locs ls hP hD hS hL)
theorem l_bipush {n : Int} {v : Int32} (dg : decode cL_law pc = .ok (.bipush n, 2)) (hv : (Int8.ofInt n).toInt32 = v) (k : VL b L xs (pc + 2) Ls (.inl v :: st) σ τ) : VL b L xs pc Ls st σ τ := fun p l e s m below meth c D dA x y ad0 ad1 C H locs ls hP hD hS hL => lv_bipush C.1.1 C.1.2.1 dg hv (k p l e s m below meth c D dA x y ad0 ad1 C H locs ls hP hD hS hL)
theorem l_iload_n {q : Fin 4} {i : Nat} {z : Int32} (dg : decode cL_law pc = .ok (.iload_n q, 1)) (hi : (q : Nat) = i) (hl : Ls[i]? = some (some (.inl z))) (k : VL b L xs (pc + 1) Ls (.inl z :: st) σ τ) : VL b L xs pc Ls st σ τ := fun p l e s m below meth c D dA x y ad0 ad1 C H locs ls hP hD hS hL => lv_iload_n C.1.1 C.1.2.1 dg hi (hL.2.2 i (.inl z) hl) (k p l e s m below meth c D dA x y ad0 ad1 C H locs ls hP hD hS hL)
theorem l_aload_0 {q : Fin 4} (dg : decode cL_law pc = .ok (.aload_n q, 1)) (hi : (q : Nat) = 0) (hl : Ls[0]? = some (some (.inr 0))) (k : VL b L xs (pc + 1) Ls (.inr 0 :: st) σ τ) : VL b L xs pc Ls st σ τ := fun p l e s m below meth c D dA x y ad0 ad1 C H locs ls hP hD hS hL => lv_aload_n C.1.1 C.1.2.1 dg hi (hL.2.2 0 (.inr 0) hl) (k p l e s m below meth c D dA x y ad0 ad1 C H locs ls hP hD hS hL)
theorem l_aload_n {q : Fin 4} {i j : Nat} (dg : decode cL_law pc = .ok (.aload_n q, 1)) (hi : (q : Nat) = i) (hl : Ls[i]? = some (some (.inr (j + 1)))) (k : VL b L xs (pc + 1) Ls (.inr (j + 1) :: st) σ τ) : VL b L xs pc Ls st σ τ := fun p l e s m below meth c D dA x y ad0 ad1 C H locs ls hP hD hS hL => lv_aload_n C.1.1 C.1.2.1 dg hi (hL.2.2 i (.inr (j + 1)) hl) (k p l e s m below meth c D dA x y ad0 ad1 C H locs ls hP hD hS hL)
theorem l_iadd {u v : Int32} (dg : decode cL_law pc = .ok (.iadd, 1)) (k : VL b L xs (pc + 1) Ls (.inl (u + v) :: st) σ τ) : VL b L xs pc Ls (.inl v :: .inl u :: st) σ τ := fun p l e s m below meth c D dA x y ad0 ad1 C H locs ls hP hD hS hL => lv_iadd C.1.1 C.1.2.1 dg (k p l e s m below meth c D dA x y ad0 ad1 C H locs ls hP hD hS hL)
theorem l_isub {u v : Int32} (dg : decode cL_law pc = .ok (.isub, 1)) (k : VL b L xs (pc + 1) Ls (.inl (u - v) :: st) σ τ) : VL b L xs pc Ls (.inl v :: .inl u :: st) σ τ := fun p l e s m below meth c D dA x y ad0 ad1 C H locs ls hP hD hS hL => lv_isub C.1.1 C.1.2.1 dg (k p l e s m below meth c D dA x y ad0 ad1 C H locs ls hP hD hS hL)
theorem l_iand {u v : Int32} (dg : decode cL_law pc = .ok (.iand, 1)) (k : VL b L xs (pc + 1) Ls (.inl (u &&& v) :: st) σ τ) : VL b L xs pc Ls (.inl v :: .inl u :: st) σ τ := fun p l e s m below meth c D dA x y ad0 ad1 C H locs ls hP hD hS hL => lv_iand C.1.1 C.1.2.1 dg (k p l e s m below meth c D dA x y ad0 ad1 C H locs ls hP hD hS hL)
theorem l_icmp_gt {u v : Int32} {off : Int} {tgt : Nat} (dg : decode cL_law pc = .ok (.if_icmp .gt off, 3)) (ht : (pc : Int) + off = (tgt : Int)) (kt : v < u → VL b L xs tgt Ls st σ τ) (kf : ¬ v < u → VL b L xs (pc + 3) Ls st σ τ) : VL b L xs pc Ls (.inl v :: .inl u :: st) σ τ := fun p l e s m below meth c D dA x y ad0 ad1 C H locs ls hP hD hS hL => lv_icmp_gt C.1.1 C.1.2.1 dg ht (fun z => kt z p l e s m below meth c D dA x y ad0 ad1 C H locs ls hP hD hS hL) (fun z => kf z p l e s m below meth c D dA x y ad0 ad1 C H locs ls hP hD hS hL)
theorem l_icmp_eq {u v : Int32} {off : Int} {tgt : Nat} (dg : decode cL_law pc = .ok (.if_icmp .eq off, 3)) (ht : (pc : Int) + off = (tgt : Int)) (kt : u = v → VL b L xs tgt Ls st σ τ) (kf : ¬ u = v → VL b L xs (pc + 3) Ls st σ τ) : VL b L xs pc Ls (.inl v :: .inl u :: st) σ τ := fun p l e s m below meth c D dA x y ad0 ad1 C H locs ls hP hD hS hL => lv_icmp_eq C.1.1 C.1.2.1 dg ht (fun z => kt z p l e s m below meth c D dA x y ad0 ad1 C H locs ls hP hD hS hL) (fun z => kf z p l e s m below meth c D dA x y ad0 ad1 C H locs ls hP hD hS hL)
theorem l_goto {off : Int} {tgt : Nat} (dg : decode cL_law pc = .ok (.goto off, 3)) (ht : (pc : Int) + off = (tgt : Int)) (k : VL b L xs tgt Ls st σ τ) : VL b L xs pc Ls st σ τ := fun p l e s m below meth c D dA x y ad0 ad1 C H locs ls hP hD hS hL => lv_goto C.1.1 C.1.2.1 dg ht (k p l e s m below meth c D dA x y ad0 ad1 C H locs ls hP hD hS hL)
theorem l_iinc {i : Nat} {n : Int} {u v : Int32} (dg : decode cL_law pc = .ok (.iinc i n, 3)) (hx : Ls[i]? = some (some (.inl u))) (hv : u + Int32.ofInt n = v) (hn : i < 4) (hl : Ls.set i (some (.inl v)) = Ls') (k : VL b L xs (pc + 3) Ls' st σ τ) : VL b L xs pc Ls st σ τ := fun p l e s m below meth c D dA x y ad0 ad1 C H locs ls hP hD hS hL => by
  obtain ⟨q, hq⟩ := List.getElem?_of_mem (mem_lvL (h0 := b) (ad := adL x y) hx)
  exact lv_iinc C.1.1 C.1.2.1 dg hL.has hq hv hn rfl (fun ls' h' => k p l e s m below meth c D dA x y ad0 ad1 C H locs ls' hP hD hS (hl ▸ LH.store h'))
theorem l_alen (dg : decode cL_law pc = .ok (.arraylength, 1)) (k : VL b L xs (pc + 1) Ls (.inl (nI L) :: st) σ τ) : VL b L xs pc Ls (.inr 0 :: st) σ τ := fun p l e s m below meth c D dA x y ad0 ad1 C H locs ls hP hD hS hL => va_slen C.1.1 C.1.2.1 C.2.2.2.2.1 C.2.2.2.2.2 (show ¬ s.heap.size ≤ b from Nat.not_le.mpr C.2.2.2.2.2) hS dg (k p l e s m below meth c D dA x y ad0 ad1 C H locs ls hP hD hS hL)
theorem l_iald {j : Nat} {u : Int32} (dg : decode cL_law pc = .ok (.iaload, 1)) (hu : u = nI j) (hj : j < L) (h32 : L < 2 ^ 31) (k : VL b L xs (pc + 1) Ls (.inl (xs j) :: st) σ τ) : VL b L xs pc Ls (.inl u :: .inr 0 :: st) σ τ := fun p l e s m below meth c D dA x y ad0 ad1 C H locs ls hP hD hS hL => by
  subst hu
  have k := k p l e s m below meth c D dA x y ad0 ad1 C H locs ls hP hD hS hL
  refine va_sld C.1.1 C.1.2.1 C.2.2.2.2.1 C.2.2.2.2.2 (show ¬ s.heap.size ≤ b from Nat.not_le.mpr C.2.2.2.2.2) hS (vp_in_nI hj h32) dg ?_
  rw [nI_clamp (n := j) (by omega)]
  exact k
theorem l_tableIn {dflt lo hi : Int} {offs : Array Int} {len : Nat} {u : Int32} {off : Int} {tgt : Nat} (dg : decode cL_law pc = .ok (.tableswitch dflt lo hi offs, len)) (h1 : ¬ u.toInt < lo) (h2 : ¬ hi < u.toInt) (ho : offs[(u.toInt - lo).toNat]? = some off) (ht : (pc : Int) + off = (tgt : Int)) (k : VL b L xs tgt Ls st σ τ) : VL b L xs pc Ls (.inl u :: st) σ τ := fun p l e s m below meth c D dA x y ad0 ad1 C H locs ls hP hD hS hL => lv_tableIn C.1.1 C.1.2.1 dg h1 h2 ho ht (k p l e s m below meth c D dA x y ad0 ad1 C H locs ls hP hD hS hL)
theorem l_tableOut {dflt lo hi : Int} {offs : Array Int} {len : Nat} {u : Int32} {tgt : Nat} (dg : decode cL_law pc = .ok (.tableswitch dflt lo hi offs, len)) (h : u.toInt < lo ∨ hi < u.toInt) (ht : (pc : Int) + dflt = (tgt : Int)) (k : VL b L xs tgt Ls st σ τ) : VL b L xs pc Ls (.inl u :: st) σ τ := fun p l e s m below meth c D dA x y ad0 ad1 C H locs ls hP hD hS hL => lv_tableOut C.1.1 C.1.2.1 dg h ht (k p l e s m below meth c D dA x y ad0 ad1 C H locs ls hP hD hS hL)
theorem l_top {u : Int32} (v : Int32) (h : u = v) (k : VL b L xs pc Ls (.inl v :: st) σ τ) : VL b L xs pc Ls (.inl u :: st) σ τ := h ▸ k
theorem l_end (dg : decode cL_law pc = .ok (.ireturn, 1)) : VL b L xs pc Ls [.inl 1] σ τ := fun p l e s m below meth c D dA x y ad0 ad1 C H locs ls hP hD hS hL => va_forget (fun q hq => hS.2.2 q hq) (W.widen (k := 600000) (n := 7290000) (Nat.le_of_ble_eq_true rfl) (Nat.le_of_ble_eq_true rfl) (lw_ret C.1.1 C.1.2.1 C.2.1 C.2.2.1 dg))
theorem stk_eqL (h0 : Nat) (ad : Nat → Nat) (av : List Int32) (j : Nat) (rest : List AV) : ((av.map (fun x => (Sum.inl x : AV))).reverse ++ Sum.inr (j + 1) :: rest).map (vl h0 ad) = (av.map Value.int).reverse ++ Value.ref (ad j) :: rest.map (vl h0 ad) := by
  rw [List.map_append, List.map_reverse, vl_args]
  rfl
set_option maxHeartbeats 2000000 in
theorem l_call0I {y' : MethodName} {cb : ByteArray} {nL' d' index : Nat} {rt : FieldType} {av : List Int32} {post' : Int32 → St → Prop} {rest : List AV} (hM : CN shX0 y' cb nL' d' (some rt) av σ post') (mf : MF RX0 y' cb nL' (some rt) av.length) (hlink : Cond.methodLink R_law index y' ∈ lw_all) (hd : d' ≤ 7) (h21 : nL' ≤ 21) (dg : decode cL_law pc = .ok (.invokevirtual index, 3)) (hst : st = (av.map (fun x => (Sum.inl x : AV))).reverse ++ Sum.inr (0 + 1) :: rest) (h8 : rest.length ≤ 8) (kk : ∀ (r : Int32) (σ' : St), post' r σ' → VL b L xs (pc + 3) Ls (.inl r :: rest) σ' τ) : VL b L xs pc Ls st σ τ := by
  intro p l e s m below meth c D dA x y ad0 ad1 C H locs ls hP hD hS hL
  subst hst
  rw [stk_eqL]
  show W p l e room_1 s m #[Value.ref b] below meth c H locs 30 10000 (lw_Z below #[Value.ref b] s) (F0 m pc ls ((av.map Value.int).reverse ++ Value.ref x :: rest.map (vl b (adL x y))))
  obtain ⟨hC, hr, hlk, hK, hX, hbl⟩ := C
  have hts := hC.2.2.2.2
  have hP0 := P_left hP
  have hD0 := D_left hD
  have hFc : ∀ q, va_A (wd shX0 x ad0 dA σ) H.size q → A0 s q := by
    intro q h
    rcases h with ⟨i, w, h⟩ | h
    · exact hD0.2 i (q, w) h
    · exact Nat.le_trans hS.1 h
  have hM' : Met l y' (ws_ y' cb nL' (some rt)) (lvl d') (va_Pc (.ref x :: av.map Value.int) (fun U => U.heap.size = H.size ∧ va_P D vwCl (wd shX0 x ad0 dA σ) U.heap ∧ va_K D vwCl [(dA, .int)] U ∧ va_D (fun _ => True) (wd shX0 x ad0 dA σ))) (va_Qi post' (qB shX0 D x ad0 dA (va_A (wd shX0 x ad0 dA σ) H.size)) (va_A (wd shX0 x ad0 dA σ) H.size)) 0 0 (va_A (wd shX0 x ad0 dA σ) H.size) := hM l D x ad0 dA H.size
  refine va_calli (va_runV (As := av.map Value.int) (rest := rest.map (vl b (adL x y))) hC hM' (cwV av.length hts (lw_V hlink mf.1 mf.2.1 mf.2.2.1 mf.2.2.2.1) rfl rfl rfl mf.2.2.2.2 ⟨by show d' + 1 ≤ 10; omega, by show 8 + (nL' + 11) + 40 * d' ≤ 384; omega⟩) ⟨fun a U g mk q => by obtain ⟨q0, q1, qP, qK, qD⟩ := q; exact ⟨q0, q1, qP, va_K.moved (u := U) (U := U.calling g mk a) (Vm.Alike.refl U.vm) qK, qD⟩, va_recv hK hP0 (ci := shX0.1) (q0 := 0) (q := (RX0, TX0, shX0.2.1)) rfl rfl, fun U hU hW => ⟨rfl, by rw [hU], by rw [hU]; exact hP0, va_K.moved hW.alike hK, hD0.weaken (fun _ _ _ _ => trivial)⟩⟩ rfl (by simp) hL.1 rfl (lv_room (by rw [cat_sum]; exact h8)) dg ⟨Nat.le_of_ble_eq_true rfl, Nat.le_of_ble_eq_true rfl⟩) hS (fun q _ h => hFc q h) hFc (fun r σ' t H1 locs1 ht hvm hw hB hz1 hk1 hS1 => ?_)
  obtain ⟨hP1, hK1, hD1⟩ := hB
  rw [ht] at hP1
  obtain ⟨hP2, hD2⟩ := w_join hP hD hk1 hFc hP1 hD1
  exact kk r σ' hw p l e s m below meth c D dA x y ad0 ad1 ⟨hC, hr, hlk, hK, hX, hbl⟩ H1 locs1 ls hP2 hD2 hS1 hL
set_option maxHeartbeats 2000000 in
theorem l_call0V {y' : MethodName} {cb : ByteArray} {nL' d' index : Nat} {av : List Int32} {post' : Int32 → St → Prop} {rest : List AV} (hM : CN shX0 y' cb nL' d' none av σ post') (mf : MF RX0 y' cb nL' none av.length) (hlink : Cond.methodLink R_law index y' ∈ lw_all) (hd : d' ≤ 7) (h21 : nL' ≤ 21) (dg : decode cL_law pc = .ok (.invokevirtual index, 3)) (hst : st = (av.map (fun x => (Sum.inl x : AV))).reverse ++ Sum.inr (0 + 1) :: rest) (h8 : rest.length ≤ 8) (kk : ∀ (σ' : St), post' 0 σ' → VL b L xs (pc + 3) Ls rest σ' τ) : VL b L xs pc Ls st σ τ := by
  intro p l e s m below meth c D dA x y ad0 ad1 C H locs ls hP hD hS hL
  subst hst
  rw [stk_eqL]
  show W p l e room_1 s m #[Value.ref b] below meth c H locs 30 10000 (lw_Z below #[Value.ref b] s) (F0 m pc ls ((av.map Value.int).reverse ++ Value.ref x :: rest.map (vl b (adL x y))))
  obtain ⟨hC, hr, hlk, hK, hX, hbl⟩ := C
  have hts := hC.2.2.2.2
  have hP0 := P_left hP
  have hD0 := D_left hD
  have hFc : ∀ q, va_A (wd shX0 x ad0 dA σ) H.size q → A0 s q := by
    intro q h
    rcases h with ⟨i, w, h⟩ | h
    · exact hD0.2 i (q, w) h
    · exact Nat.le_trans hS.1 h
  have hM' : Met l y' (ws_ y' cb nL' none) (lvl d') (va_Pc (.ref x :: av.map Value.int) (fun U => U.heap.size = H.size ∧ va_P D vwCl (wd shX0 x ad0 dA σ) U.heap ∧ va_K D vwCl [(dA, .int)] U ∧ va_D (fun _ => True) (wd shX0 x ad0 dA σ))) (va_Qv (fun u => post' 0 u) (qB shX0 D x ad0 dA (va_A (wd shX0 x ad0 dA σ) H.size)) (va_A (wd shX0 x ad0 dA σ) H.size)) 0 0 (va_A (wd shX0 x ad0 dA σ) H.size) := hM l D x ad0 dA H.size
  refine va_callv (va_runV (As := av.map Value.int) (rest := rest.map (vl b (adL x y))) hC hM' (cwV av.length hts (lw_V hlink mf.1 mf.2.1 mf.2.2.1 mf.2.2.2.1) rfl rfl rfl mf.2.2.2.2 ⟨by show d' + 1 ≤ 10; omega, by show 8 + (nL' + 11) + 40 * d' ≤ 384; omega⟩) ⟨fun a U g mk q => by obtain ⟨q0, q1, qP, qK, qD⟩ := q; exact ⟨q0, q1, qP, va_K.moved (u := U) (U := U.calling g mk a) (Vm.Alike.refl U.vm) qK, qD⟩, va_recv hK hP0 (ci := shX0.1) (q0 := 0) (q := (RX0, TX0, shX0.2.1)) rfl rfl, fun U hU hW => ⟨rfl, by rw [hU], by rw [hU]; exact hP0, va_K.moved hW.alike hK, hD0.weaken (fun _ _ _ _ => trivial)⟩⟩ rfl (by simp) hL.1 rfl (lv_room (by rw [cat_sum]; exact h8)) dg ⟨Nat.le_of_ble_eq_true rfl, Nat.le_of_ble_eq_true rfl⟩) hS (fun q _ h => hFc q h) hFc (fun σ' t H1 locs1 ht hvm hw hB hz1 hk1 hS1 => ?_)
  obtain ⟨hP1, hK1, hD1⟩ := hB
  rw [ht] at hP1
  obtain ⟨hP2, hD2⟩ := w_join hP hD hk1 hFc hP1 hD1
  exact kk σ' hw p l e s m below meth c D dA x y ad0 ad1 ⟨hC, hr, hlk, hK, hX, hbl⟩ H1 locs1 ls hP2 hD2 hS1 hL
set_option maxHeartbeats 2000000 in
theorem l_call1I {y' : MethodName} {cb : ByteArray} {nL' d' index : Nat} {rt : FieldType} {av : List Int32} {post' : Int32 → St → Prop} {rest : List AV} (hM : CN shX1 y' cb nL' d' (some rt) av τ post') (mf : MF RX1 y' cb nL' (some rt) av.length) (hlink : Cond.methodLink R_law index y' ∈ lw_all) (hd : d' ≤ 7) (h21 : nL' ≤ 21) (dg : decode cL_law pc = .ok (.invokevirtual index, 3)) (hst : st = (av.map (fun x => (Sum.inl x : AV))).reverse ++ Sum.inr (1 + 1) :: rest) (h8 : rest.length ≤ 8) (kk : ∀ (r : Int32) (σ' : St), post' r σ' → VL b L xs (pc + 3) Ls (.inl r :: rest) σ σ') : VL b L xs pc Ls st σ τ := by
  intro p l e s m below meth c D dA x y ad0 ad1 C H locs ls hP hD hS hL
  subst hst
  rw [stk_eqL]
  show W p l e room_1 s m #[Value.ref b] below meth c H locs 30 10000 (lw_Z below #[Value.ref b] s) (F0 m pc ls ((av.map Value.int).reverse ++ Value.ref y :: rest.map (vl b (adL x y))))
  obtain ⟨hC, hr, hlk, hK, hX, hbl⟩ := C
  have hts := hC.2.2.2.2
  have hP0 := P_right hP
  have hD0 := D_right hD
  have hFc : ∀ q, va_A (wd shX1 y ad1 dA τ) H.size q → A0 s q := by
    intro q h
    rcases h with ⟨i, w, h⟩ | h
    · exact hD0.2 i (q, w) h
    · exact Nat.le_trans hS.1 h
  have hM' : Met l y' (ws_ y' cb nL' (some rt)) (lvl d') (va_Pc (.ref y :: av.map Value.int) (fun U => U.heap.size = H.size ∧ va_P D vwCl (wd shX1 y ad1 dA τ) U.heap ∧ va_K D vwCl [(dA, .int)] U ∧ va_D (fun _ => True) (wd shX1 y ad1 dA τ))) (va_Qi post' (qB shX1 D y ad1 dA (va_A (wd shX1 y ad1 dA τ) H.size)) (va_A (wd shX1 y ad1 dA τ) H.size)) 0 0 (va_A (wd shX1 y ad1 dA τ) H.size) := hM l D y ad1 dA H.size
  refine va_calli (va_runV (As := av.map Value.int) (rest := rest.map (vl b (adL x y))) hC hM' (cwV av.length hts (lw_V hlink mf.1 mf.2.1 mf.2.2.1 mf.2.2.2.1) rfl rfl rfl mf.2.2.2.2 ⟨by show d' + 1 ≤ 10; omega, by show 8 + (nL' + 11) + 40 * d' ≤ 384; omega⟩) ⟨fun a U g mk q => by obtain ⟨q0, q1, qP, qK, qD⟩ := q; exact ⟨q0, q1, qP, va_K.moved (u := U) (U := U.calling g mk a) (Vm.Alike.refl U.vm) qK, qD⟩, va_recv hK hP0 (ci := shX1.1) (q0 := 0) (q := (RX1, TX1, shX1.2.1)) rfl rfl, fun U hU hW => ⟨rfl, by rw [hU], by rw [hU]; exact hP0, va_K.moved hW.alike hK, hD0.weaken (fun _ _ _ _ => trivial)⟩⟩ rfl (by simp) hL.1 rfl (lv_room (by rw [cat_sum]; exact h8)) dg ⟨Nat.le_of_ble_eq_true rfl, Nat.le_of_ble_eq_true rfl⟩) hS (fun q _ h => hFc q h) hFc (fun r σ' t H1 locs1 ht hvm hw hB hz1 hk1 hS1 => ?_)
  obtain ⟨hP1, hK1, hD1⟩ := hB
  rw [ht] at hP1
  obtain ⟨hP2, hD2⟩ := w_joinR hP hD hk1 hFc hP1 hD1
  exact kk r σ' hw p l e s m below meth c D dA x y ad0 ad1 ⟨hC, hr, hlk, hK, hX, hbl⟩ H1 locs1 ls hP2 hD2 hS1 hL
set_option maxHeartbeats 2000000 in
theorem l_call1V {y' : MethodName} {cb : ByteArray} {nL' d' index : Nat} {av : List Int32} {post' : Int32 → St → Prop} {rest : List AV} (hM : CN shX1 y' cb nL' d' none av τ post') (mf : MF RX1 y' cb nL' none av.length) (hlink : Cond.methodLink R_law index y' ∈ lw_all) (hd : d' ≤ 7) (h21 : nL' ≤ 21) (dg : decode cL_law pc = .ok (.invokevirtual index, 3)) (hst : st = (av.map (fun x => (Sum.inl x : AV))).reverse ++ Sum.inr (1 + 1) :: rest) (h8 : rest.length ≤ 8) (kk : ∀ (σ' : St), post' 0 σ' → VL b L xs (pc + 3) Ls rest σ σ') : VL b L xs pc Ls st σ τ := by
  intro p l e s m below meth c D dA x y ad0 ad1 C H locs ls hP hD hS hL
  subst hst
  rw [stk_eqL]
  show W p l e room_1 s m #[Value.ref b] below meth c H locs 30 10000 (lw_Z below #[Value.ref b] s) (F0 m pc ls ((av.map Value.int).reverse ++ Value.ref y :: rest.map (vl b (adL x y))))
  obtain ⟨hC, hr, hlk, hK, hX, hbl⟩ := C
  have hts := hC.2.2.2.2
  have hP0 := P_right hP
  have hD0 := D_right hD
  have hFc : ∀ q, va_A (wd shX1 y ad1 dA τ) H.size q → A0 s q := by
    intro q h
    rcases h with ⟨i, w, h⟩ | h
    · exact hD0.2 i (q, w) h
    · exact Nat.le_trans hS.1 h
  have hM' : Met l y' (ws_ y' cb nL' none) (lvl d') (va_Pc (.ref y :: av.map Value.int) (fun U => U.heap.size = H.size ∧ va_P D vwCl (wd shX1 y ad1 dA τ) U.heap ∧ va_K D vwCl [(dA, .int)] U ∧ va_D (fun _ => True) (wd shX1 y ad1 dA τ))) (va_Qv (fun u => post' 0 u) (qB shX1 D y ad1 dA (va_A (wd shX1 y ad1 dA τ) H.size)) (va_A (wd shX1 y ad1 dA τ) H.size)) 0 0 (va_A (wd shX1 y ad1 dA τ) H.size) := hM l D y ad1 dA H.size
  refine va_callv (va_runV (As := av.map Value.int) (rest := rest.map (vl b (adL x y))) hC hM' (cwV av.length hts (lw_V hlink mf.1 mf.2.1 mf.2.2.1 mf.2.2.2.1) rfl rfl rfl mf.2.2.2.2 ⟨by show d' + 1 ≤ 10; omega, by show 8 + (nL' + 11) + 40 * d' ≤ 384; omega⟩) ⟨fun a U g mk q => by obtain ⟨q0, q1, qP, qK, qD⟩ := q; exact ⟨q0, q1, qP, va_K.moved (u := U) (U := U.calling g mk a) (Vm.Alike.refl U.vm) qK, qD⟩, va_recv hK hP0 (ci := shX1.1) (q0 := 0) (q := (RX1, TX1, shX1.2.1)) rfl rfl, fun U hU hW => ⟨rfl, by rw [hU], by rw [hU]; exact hP0, va_K.moved hW.alike hK, hD0.weaken (fun _ _ _ _ => trivial)⟩⟩ rfl (by simp) hL.1 rfl (lv_room (by rw [cat_sum]; exact h8)) dg ⟨Nat.le_of_ble_eq_true rfl, Nat.le_of_ble_eq_true rfl⟩) hS (fun q _ h => hFc q h) hFc (fun σ' t H1 locs1 ht hvm hw hB hz1 hk1 hS1 => ?_)
  obtain ⟨hP1, hK1, hD1⟩ := hB
  rw [ht] at hP1
  obtain ⟨hP2, hD2⟩ := w_joinR hP hD hk1 hFc hP1 hD1
  exact kk σ' hw p l e s m below meth c D dA x y ad0 ad1 ⟨hC, hr, hlk, hK, hX, hbl⟩ H1 locs1 ls hP2 hD2 hS1 hL
end LROWS
end
section
set_option maxHeartbeats 1000000 in
theorem case_0 {b L : Nat} {xs : Nat → Int32} {i : Nat} {σ τ : St} (hi : i + 4 ≤ L) (h32 : L ≤ 256) (hRel : Rel σ τ) (next : ∀ σ' τ', Rel σ' τ' → VL b L xs 472 [some (.inr 0), some (.inr 1), some (.inr 2), some (.inl (nI i))] [] σ' τ') : VL b L xs 120 [some (.inr 0), some (.inr 1), some (.inr 2), some (.inl (nI i))] [] σ τ := by
  obtain ⟨N, D, hR⟩ := hRel
  refine l_aload_n (pc := 120) (i := 1) dL_law_120 rfl rfl ?_
  refine l_aload_0 (pc := 121) dL_law_121 rfl rfl ?_
  refine l_iload_n (pc := 122) (i := 3) dL_law_122 rfl rfl ?_
  refine l_iconst (pc := 123) (v := nI 1) dL_law_123 (by decide) ?_
  refine l_iadd (pc := 124) dL_law_124 ?_
  refine l_iald (pc := 125) dL_law_125 (nI_add i 1) (by omega) (by omega) ?_
  refine l_call0I (pc := 126) (m_literal σ D hR.2.2.1.1 hR.2.2.1.2.1 (xs (i + 1))) mf_X0_literal q101 (by decide) (by decide) dL_law_126 rfl (Nat.le_of_ble_eq_true rfl) (fun r0 σ' g0 => ?_)
  refine l_aload_n (pc := 129) (i := 2) dL_law_129 rfl rfl ?_
  refine l_aload_0 (pc := 130) dL_law_130 rfl rfl ?_
  refine l_iload_n (pc := 131) (i := 3) dL_law_131 rfl rfl ?_
  refine l_iconst (pc := 132) (v := nI 1) dL_law_132 (by decide) ?_
  refine l_iadd (pc := 133) dL_law_133 ?_
  refine l_iald (pc := 134) dL_law_134 (nI_add i 1) (by omega) (by omega) ?_
  refine l_call1I (pc := 135) (m1_literal τ D hR.2.2.1.1 hR.2.2.1.2.2.1 (xs (i + 1))) mf_X1_literal q270 (by decide) (by decide) dL_law_135 rfl (Nat.le_of_ble_eq_true rfl) (fun r1 τ' g1 => ?_)
  obtain ⟨e, hR'⟩ := st_literal hR g0 g1
  refine l_icmp_eq (pc := 138) (tgt := 472) dL_law_138 (by decide) (fun _ => ?_) (fun z => absurd e z)
  exact next _ _ hR'
set_option maxHeartbeats 1000000 in
theorem case_1 {b L : Nat} {xs : Nat → Int32} {i : Nat} {σ τ : St} (hi : i + 4 ≤ L) (h32 : L ≤ 256) (hRel : Rel σ τ) (next : ∀ σ' τ', Rel σ' τ' → VL b L xs 472 [some (.inr 0), some (.inr 1), some (.inr 2), some (.inl (nI i))] [] σ' τ') : VL b L xs 143 [some (.inr 0), some (.inr 1), some (.inr 2), some (.inl (nI i))] [] σ τ := by
  obtain ⟨N, D, hR⟩ := hRel
  refine l_aload_n (pc := 143) (i := 1) dL_law_143 rfl rfl ?_
  refine l_call0V (pc := 144) (m_scrap σ) mf_X0_scrap q105 (by decide) (by decide) dL_law_144 rfl (Nat.le_of_ble_eq_true rfl) (fun σ' g0 => ?_)
  refine l_aload_n (pc := 147) (i := 2) dL_law_147 rfl rfl ?_
  refine l_call1V (pc := 148) (m1_scrap τ) mf_X1_scrap q274 (by decide) (by decide) dL_law_148 rfl (Nat.le_of_ble_eq_true rfl) (fun τ' g1 => ?_)
  have hR' := st_scrap hR g0 g1
  refine l_goto (pc := 151) (tgt := 472) dL_law_151 (by decide) ?_
  exact next _ _ hR'
set_option maxHeartbeats 1000000 in
theorem case_2 {b L : Nat} {xs : Nat → Int32} {i : Nat} {σ τ : St} (hi : i + 4 ≤ L) (h32 : L ≤ 256) (hRel : Rel σ τ) (next : ∀ σ' τ', Rel σ' τ' → VL b L xs 472 [some (.inr 0), some (.inr 1), some (.inr 2), some (.inl (nI i))] [] σ' τ') : VL b L xs 154 [some (.inr 0), some (.inr 1), some (.inr 2), some (.inl (nI i))] [] σ τ := by
  obtain ⟨N, D, hR⟩ := hRel
  refine l_aload_n (pc := 154) (i := 1) dL_law_154 rfl rfl ?_
  refine l_call0I (pc := 155) (m_clause σ N D hR.1.1 hR.1.2.1 hR.2.2.1.1 hR.2.2.1.2.1 (fun j hj => ⟨_, (hR.2.2.1.2.2.2 j hj).choose_spec.1, (hR.2.2.1.2.2.2 j hj).choose_spec.2.1⟩)) mf_X0_clause q109 (by decide) (by decide) dL_law_155 rfl (Nat.le_of_ble_eq_true rfl) (fun r0 σ' g0 => ?_)
  refine l_aload_n (pc := 158) (i := 2) dL_law_158 rfl rfl ?_
  refine l_call1I (pc := 159) (m1_clause τ N D hR.2.1.1 hR.2.1.2.1 hR.2.2.1.1 hR.2.2.1.2.2.1) mf_X1_clause q278 (by decide) (by decide) dL_law_159 rfl (Nat.le_of_ble_eq_true rfl) (fun r1 τ' g1 => ?_)
  obtain ⟨e, hR'⟩ := st_clause hR g0 g1
  refine l_icmp_eq (pc := 162) (tgt := 472) dL_law_162 (by decide) (fun _ => ?_) (fun z => absurd e z)
  exact next _ _ hR'
set_option maxHeartbeats 1000000 in
theorem case_3 {b L : Nat} {xs : Nat → Int32} {i : Nat} {σ τ : St} (hi : i + 4 ≤ L) (h32 : L ≤ 256) (hRel : Rel σ τ) (next : ∀ σ' τ', Rel σ' τ' → VL b L xs 472 [some (.inr 0), some (.inr 1), some (.inr 2), some (.inl (nI i))] [] σ' τ') : VL b L xs 167 [some (.inr 0), some (.inr 1), some (.inr 2), some (.inl (nI i))] [] σ τ := by
  obtain ⟨N, D, hR⟩ := hRel
  refine l_aload_n (pc := 167) (i := 1) dL_law_167 rfl rfl ?_
  refine l_call0I (pc := 168) (m_unclause σ N hR.1.1 hR.1.2.1) mf_X0_unclause q113 (by decide) (by decide) dL_law_168 rfl (Nat.le_of_ble_eq_true rfl) (fun r0 σ' g0 => ?_)
  refine l_aload_n (pc := 171) (i := 2) dL_law_171 rfl rfl ?_
  refine l_call1I (pc := 172) (m1_unclause τ N hR.2.1.1 hR.2.1.2.1) mf_X1_unclause q282 (by decide) (by decide) dL_law_172 rfl (Nat.le_of_ble_eq_true rfl) (fun r1 τ' g1 => ?_)
  obtain ⟨e, hR'⟩ := st_unclause hR g0 g1
  refine l_icmp_eq (pc := 175) (tgt := 472) dL_law_175 (by decide) (fun _ => ?_) (fun z => absurd e z)
  exact next _ _ hR'
set_option maxHeartbeats 1000000 in
theorem case_4 {b L : Nat} {xs : Nat → Int32} {i : Nat} {σ τ : St} (hi : i + 4 ≤ L) (h32 : L ≤ 256) (hRel : Rel σ τ) (next : ∀ σ' τ', Rel σ' τ' → VL b L xs 472 [some (.inr 0), some (.inr 1), some (.inr 2), some (.inl (nI i))] [] σ' τ') : VL b L xs 180 [some (.inr 0), some (.inr 1), some (.inr 2), some (.inl (nI i))] [] σ τ := by
  obtain ⟨N, D, hR⟩ := hRel
  refine l_aload_n (pc := 180) (i := 1) dL_law_180 rfl rfl ?_
  refine l_call0I (pc := 181) (m_clauses σ N hR.1.2.1) mf_X0_clauses q117 (by decide) (by decide) dL_law_181 rfl (Nat.le_of_ble_eq_true rfl) (fun r0 σ' g0 => ?_)
  refine l_aload_n (pc := 184) (i := 2) dL_law_184 rfl rfl ?_
  refine l_call1I (pc := 185) (m1_clauses τ N hR.2.1.2.1) mf_X1_clauses q286 (by decide) (by decide) dL_law_185 rfl (Nat.le_of_ble_eq_true rfl) (fun r1 τ' g1 => ?_)
  obtain ⟨e, hR'⟩ := st_clauses hR g0 g1
  refine l_icmp_eq (pc := 188) (tgt := 472) dL_law_188 (by decide) (fun _ => ?_) (fun z => absurd e z)
  exact next _ _ hR'
set_option maxHeartbeats 1000000 in
theorem case_5 {b L : Nat} {xs : Nat → Int32} {i : Nat} {σ τ : St} (hi : i + 4 ≤ L) (h32 : L ≤ 256) (hRel : Rel σ τ) (next : ∀ σ' τ', Rel σ' τ' → VL b L xs 472 [some (.inr 0), some (.inr 1), some (.inr 2), some (.inl (nI i))] [] σ' τ') : VL b L xs 193 [some (.inr 0), some (.inr 1), some (.inr 2), some (.inl (nI i))] [] σ τ := by
  obtain ⟨N, D, hR⟩ := hRel
  refine l_aload_n (pc := 193) (i := 1) dL_law_193 rfl rfl ?_
  refine l_aload_0 (pc := 194) dL_law_194 rfl rfl ?_
  refine l_iload_n (pc := 195) (i := 3) dL_law_195 rfl rfl ?_
  refine l_iconst (pc := 196) (v := nI 1) dL_law_196 (by decide) ?_
  refine l_iadd (pc := 197) dL_law_197 ?_
  refine l_iald (pc := 198) dL_law_198 (nI_add i 1) (by omega) (by omega) ?_
  refine l_aload_0 (pc := 199) dL_law_199 rfl rfl ?_
  refine l_iload_n (pc := 200) (i := 3) dL_law_200 rfl rfl ?_
  refine l_iconst (pc := 201) (v := nI 2) dL_law_201 (by decide) ?_
  refine l_iadd (pc := 202) dL_law_202 ?_
  refine l_iald (pc := 203) dL_law_203 (nI_add i 2) (by omega) (by omega) ?_
  refine l_aload_0 (pc := 204) dL_law_204 rfl rfl ?_
  refine l_iload_n (pc := 205) (i := 3) dL_law_205 rfl rfl ?_
  refine l_iconst (pc := 206) (v := nI 3) dL_law_206 (by decide) ?_
  refine l_iadd (pc := 207) dL_law_207 ?_
  refine l_iald (pc := 208) dL_law_208 (nI_add i 3) (by omega) (by omega) ?_
  refine l_call0I (pc := 209) (m_weight σ (xs (i + 1)) (xs (i + 2)) (xs (i + 3))) mf_X0_weight q121 (by decide) (by decide) dL_law_209 rfl (Nat.le_of_ble_eq_true rfl) (fun r0 σ' g0 => ?_)
  refine l_aload_n (pc := 212) (i := 2) dL_law_212 rfl rfl ?_
  refine l_aload_0 (pc := 213) dL_law_213 rfl rfl ?_
  refine l_iload_n (pc := 214) (i := 3) dL_law_214 rfl rfl ?_
  refine l_iconst (pc := 215) (v := nI 1) dL_law_215 (by decide) ?_
  refine l_iadd (pc := 216) dL_law_216 ?_
  refine l_iald (pc := 217) dL_law_217 (nI_add i 1) (by omega) (by omega) ?_
  refine l_aload_0 (pc := 218) dL_law_218 rfl rfl ?_
  refine l_iload_n (pc := 219) (i := 3) dL_law_219 rfl rfl ?_
  refine l_iconst (pc := 220) (v := nI 2) dL_law_220 (by decide) ?_
  refine l_iadd (pc := 221) dL_law_221 ?_
  refine l_iald (pc := 222) dL_law_222 (nI_add i 2) (by omega) (by omega) ?_
  refine l_aload_0 (pc := 223) dL_law_223 rfl rfl ?_
  refine l_iload_n (pc := 224) (i := 3) dL_law_224 rfl rfl ?_
  refine l_iconst (pc := 225) (v := nI 3) dL_law_225 (by decide) ?_
  refine l_iadd (pc := 226) dL_law_226 ?_
  refine l_iald (pc := 227) dL_law_227 (nI_add i 3) (by omega) (by omega) ?_
  refine l_call1I (pc := 228) (m1_weight τ (xs (i + 1)) (xs (i + 2)) (xs (i + 3))) mf_X1_weight q290 (by decide) (by decide) dL_law_228 rfl (Nat.le_of_ble_eq_true rfl) (fun r1 τ' g1 => ?_)
  obtain ⟨e, hR'⟩ := st_weight hR g0 g1
  refine l_icmp_eq (pc := 231) (tgt := 472) dL_law_231 (by decide) (fun _ => ?_) (fun z => absurd e z)
  exact next _ _ hR'
set_option maxHeartbeats 1000000 in
theorem case_6 {b L : Nat} {xs : Nat → Int32} {i : Nat} {σ τ : St} (hi : i + 4 ≤ L) (h32 : L ≤ 256) (hRel : Rel σ τ) (next : ∀ σ' τ', Rel σ' τ' → VL b L xs 472 [some (.inr 0), some (.inr 1), some (.inr 2), some (.inl (nI i))] [] σ' τ') : VL b L xs 236 [some (.inr 0), some (.inr 1), some (.inr 2), some (.inl (nI i))] [] σ τ := by
  obtain ⟨N, D, hR⟩ := hRel
  refine l_aload_n (pc := 236) (i := 1) dL_law_236 rfl rfl ?_
  refine l_call0I (pc := 237) (m_count σ N hR.1) mf_X0_count q125 (by decide) (by decide) dL_law_237 rfl (Nat.le_of_ble_eq_true rfl) (fun r0 σ' g0 => ?_)
  refine l_aload_n (pc := 240) (i := 2) dL_law_240 rfl rfl ?_
  refine l_call1I (pc := 241) (m1_count τ N hR.2.1) mf_X1_count q294 (by decide) (by decide) dL_law_241 rfl (Nat.le_of_ble_eq_true rfl) (fun r1 τ' g1 => ?_)
  obtain ⟨e, hR'⟩ := st_count hR g0 g1
  refine l_icmp_eq (pc := 244) (tgt := 472) dL_law_244 (by decide) (fun _ => ?_) (fun z => absurd e z)
  exact next _ _ hR'
set_option maxHeartbeats 1000000 in
theorem case_7 {b L : Nat} {xs : Nat → Int32} {i : Nat} {σ τ : St} (hi : i + 4 ≤ L) (h32 : L ≤ 256) (hRel : Rel σ τ) (next : ∀ σ' τ', Rel σ' τ' → VL b L xs 472 [some (.inr 0), some (.inr 1), some (.inr 2), some (.inl (nI i))] [] σ' τ') : VL b L xs 249 [some (.inr 0), some (.inr 1), some (.inr 2), some (.inl (nI i))] [] σ τ := by
  obtain ⟨N, D, hR⟩ := hRel
  refine l_aload_n (pc := 249) (i := 1) dL_law_249 rfl rfl ?_
  refine l_aload_0 (pc := 250) dL_law_250 rfl rfl ?_
  refine l_iload_n (pc := 251) (i := 3) dL_law_251 rfl rfl ?_
  refine l_iconst (pc := 252) (v := nI 1) dL_law_252 (by decide) ?_
  refine l_iadd (pc := 253) dL_law_253 ?_
  refine l_iald (pc := 254) dL_law_254 (nI_add i 1) (by omega) (by omega) ?_
  refine l_aload_0 (pc := 255) dL_law_255 rfl rfl ?_
  refine l_iload_n (pc := 256) (i := 3) dL_law_256 rfl rfl ?_
  refine l_iconst (pc := 257) (v := nI 2) dL_law_257 (by decide) ?_
  refine l_iadd (pc := 258) dL_law_258 ?_
  refine l_iald (pc := 259) dL_law_259 (nI_add i 2) (by omega) (by omega) ?_
  refine l_call0I (pc := 260) (m_countWith σ N hR.1 (xs (i + 1)) (xs (i + 2))) mf_X0_countWith q186 (by decide) (by decide) dL_law_260 rfl (Nat.le_of_ble_eq_true rfl) (fun r0 σ' g0 => ?_)
  refine l_aload_n (pc := 263) (i := 2) dL_law_263 rfl rfl ?_
  refine l_aload_0 (pc := 264) dL_law_264 rfl rfl ?_
  refine l_iload_n (pc := 265) (i := 3) dL_law_265 rfl rfl ?_
  refine l_iconst (pc := 266) (v := nI 1) dL_law_266 (by decide) ?_
  refine l_iadd (pc := 267) dL_law_267 ?_
  refine l_iald (pc := 268) dL_law_268 (nI_add i 1) (by omega) (by omega) ?_
  refine l_aload_0 (pc := 269) dL_law_269 rfl rfl ?_
  refine l_iload_n (pc := 270) (i := 3) dL_law_270 rfl rfl ?_
  refine l_iconst (pc := 271) (v := nI 2) dL_law_271 (by decide) ?_
  refine l_iadd (pc := 272) dL_law_272 ?_
  refine l_iald (pc := 273) dL_law_273 (nI_add i 2) (by omega) (by omega) ?_
  refine l_call1I (pc := 274) (m1_countWith τ N hR.2.1 (xs (i + 1)) (xs (i + 2))) mf_X1_countWith q314 (by decide) (by decide) dL_law_274 rfl (Nat.le_of_ble_eq_true rfl) (fun r1 τ' g1 => ?_)
  obtain ⟨e, hR'⟩ := st_countWith hR g0 g1
  refine l_icmp_eq (pc := 277) (tgt := 472) dL_law_277 (by decide) (fun _ => ?_) (fun z => absurd e z)
  exact next _ _ hR'
set_option maxHeartbeats 1000000 in
theorem case_8 {b L : Nat} {xs : Nat → Int32} {i : Nat} {σ τ : St} (hi : i + 4 ≤ L) (h32 : L ≤ 256) (hRel : Rel σ τ) (next : ∀ σ' τ', Rel σ' τ' → VL b L xs 472 [some (.inr 0), some (.inr 1), some (.inr 2), some (.inl (nI i))] [] σ' τ') : VL b L xs 282 [some (.inr 0), some (.inr 1), some (.inr 2), some (.inl (nI i))] [] σ τ := by
  obtain ⟨N, D, hR⟩ := hRel
  refine l_aload_n (pc := 282) (i := 1) dL_law_282 rfl rfl ?_
  refine l_aload_0 (pc := 283) dL_law_283 rfl rfl ?_
  refine l_iload_n (pc := 284) (i := 3) dL_law_284 rfl rfl ?_
  refine l_iconst (pc := 285) (v := nI 1) dL_law_285 (by decide) ?_
  refine l_iadd (pc := 286) dL_law_286 ?_
  refine l_iald (pc := 287) dL_law_287 (nI_add i 1) (by omega) (by omega) ?_
  refine l_call0I (pc := 288) (m_countSize σ N hR.1 (xs (i + 1))) mf_X0_countSize q194 (by decide) (by decide) dL_law_288 rfl (Nat.le_of_ble_eq_true rfl) (fun r0 σ' g0 => ?_)
  refine l_aload_n (pc := 291) (i := 2) dL_law_291 rfl rfl ?_
  refine l_aload_0 (pc := 292) dL_law_292 rfl rfl ?_
  refine l_iload_n (pc := 293) (i := 3) dL_law_293 rfl rfl ?_
  refine l_iconst (pc := 294) (v := nI 1) dL_law_294 (by decide) ?_
  refine l_iadd (pc := 295) dL_law_295 ?_
  refine l_iald (pc := 296) dL_law_296 (nI_add i 1) (by omega) (by omega) ?_
  refine l_call1I (pc := 297) (m1_countSize τ N hR.2.1 (xs (i + 1))) mf_X1_countSize q318 (by decide) (by decide) dL_law_297 rfl (Nat.le_of_ble_eq_true rfl) (fun r1 τ' g1 => ?_)
  obtain ⟨e, hR'⟩ := st_countSize hR g0 g1
  refine l_icmp_eq (pc := 300) (tgt := 472) dL_law_300 (by decide) (fun _ => ?_) (fun z => absurd e z)
  exact next _ _ hR'
set_option maxHeartbeats 1000000 in
theorem case_9 {b L : Nat} {xs : Nat → Int32} {i : Nat} {σ τ : St} (hi : i + 4 ≤ L) (h32 : L ≤ 256) (hRel : Rel σ τ) (next : ∀ σ' τ', Rel σ' τ' → VL b L xs 472 [some (.inr 0), some (.inr 1), some (.inr 2), some (.inl (nI i))] [] σ' τ') : VL b L xs 305 [some (.inr 0), some (.inr 1), some (.inr 2), some (.inl (nI i))] [] σ τ := by
  obtain ⟨N, D, hR⟩ := hRel
  refine l_aload_n (pc := 305) (i := 1) dL_law_305 rfl rfl ?_
  refine l_call0I (pc := 306) (m_weighted σ N hR.1) mf_X0_weighted q206 (by decide) (by decide) dL_law_306 rfl (Nat.le_of_ble_eq_true rfl) (fun r0 σ' g0 => ?_)
  refine l_aload_n (pc := 309) (i := 2) dL_law_309 rfl rfl ?_
  refine l_call1I (pc := 310) (m1_weighted τ N hR.2.1) mf_X1_weighted q326 (by decide) (by decide) dL_law_310 rfl (Nat.le_of_ble_eq_true rfl) (fun r1 τ' g1 => ?_)
  obtain ⟨e, hR'⟩ := st_weighted hR g0 g1
  refine l_icmp_eq (pc := 313) (tgt := 472) dL_law_313 (by decide) (fun _ => ?_) (fun z => absurd e z)
  exact next _ _ hR'
set_option maxHeartbeats 1000000 in
theorem case_10 {b L : Nat} {xs : Nat → Int32} {i : Nat} {σ τ : St} (hi : i + 4 ≤ L) (h32 : L ≤ 256) (hRel : Rel σ τ) (next : ∀ σ' τ', Rel σ' τ' → VL b L xs 472 [some (.inr 0), some (.inr 1), some (.inr 2), some (.inl (nI i))] [] σ' τ') : VL b L xs 318 [some (.inr 0), some (.inr 1), some (.inr 2), some (.inl (nI i))] [] σ τ := by
  obtain ⟨N, D, hR⟩ := hRel
  refine l_aload_n (pc := 318) (i := 1) dL_law_318 rfl rfl ?_
  refine l_aload_0 (pc := 319) dL_law_319 rfl rfl ?_
  refine l_iload_n (pc := 320) (i := 3) dL_law_320 rfl rfl ?_
  refine l_iconst (pc := 321) (v := nI 1) dL_law_321 (by decide) ?_
  refine l_iadd (pc := 322) dL_law_322 ?_
  refine l_iald (pc := 323) dL_law_323 (nI_add i 1) (by omega) (by omega) ?_
  refine l_aload_0 (pc := 324) dL_law_324 rfl rfl ?_
  refine l_iload_n (pc := 325) (i := 3) dL_law_325 rfl rfl ?_
  refine l_iconst (pc := 326) (v := nI 2) dL_law_326 (by decide) ?_
  refine l_iadd (pc := 327) dL_law_327 ?_
  refine l_iald (pc := 328) dL_law_328 (nI_add i 2) (by omega) (by omega) ?_
  refine l_call0I (pc := 329) (m_share σ N hR.1 (xs (i + 1)) (xs (i + 2))) mf_X0_share q214 (by decide) (by decide) dL_law_329 rfl (Nat.le_of_ble_eq_true rfl) (fun r0 σ' g0 => ?_)
  refine l_aload_n (pc := 332) (i := 2) dL_law_332 rfl rfl ?_
  refine l_aload_0 (pc := 333) dL_law_333 rfl rfl ?_
  refine l_iload_n (pc := 334) (i := 3) dL_law_334 rfl rfl ?_
  refine l_iconst (pc := 335) (v := nI 1) dL_law_335 (by decide) ?_
  refine l_iadd (pc := 336) dL_law_336 ?_
  refine l_iald (pc := 337) dL_law_337 (nI_add i 1) (by omega) (by omega) ?_
  refine l_aload_0 (pc := 338) dL_law_338 rfl rfl ?_
  refine l_iload_n (pc := 339) (i := 3) dL_law_339 rfl rfl ?_
  refine l_iconst (pc := 340) (v := nI 2) dL_law_340 (by decide) ?_
  refine l_iadd (pc := 341) dL_law_341 ?_
  refine l_iald (pc := 342) dL_law_342 (nI_add i 2) (by omega) (by omega) ?_
  refine l_call1I (pc := 343) (m1_share τ N hR.2.1 (xs (i + 1)) (xs (i + 2))) mf_X1_share q338 (by decide) (by decide) dL_law_343 rfl (Nat.le_of_ble_eq_true rfl) (fun r1 τ' g1 => ?_)
  obtain ⟨e, hR'⟩ := st_share hR g0 g1
  refine l_icmp_eq (pc := 346) (tgt := 472) dL_law_346 (by decide) (fun _ => ?_) (fun z => absurd e z)
  exact next _ _ hR'
set_option maxHeartbeats 1000000 in
theorem case_11 {b L : Nat} {xs : Nat → Int32} {i : Nat} {σ τ : St} (hi : i + 4 ≤ L) (h32 : L ≤ 256) (hRel : Rel σ τ) (next : ∀ σ' τ', Rel σ' τ' → VL b L xs 472 [some (.inr 0), some (.inr 1), some (.inr 2), some (.inl (nI i))] [] σ' τ') : VL b L xs 351 [some (.inr 0), some (.inr 1), some (.inr 2), some (.inl (nI i))] [] σ τ := by
  obtain ⟨N, D, hR⟩ := hRel
  refine l_aload_n (pc := 351) (i := 1) dL_law_351 rfl rfl ?_
  refine l_aload_0 (pc := 352) dL_law_352 rfl rfl ?_
  refine l_iload_n (pc := 353) (i := 3) dL_law_353 rfl rfl ?_
  refine l_iconst (pc := 354) (v := nI 1) dL_law_354 (by decide) ?_
  refine l_iadd (pc := 355) dL_law_355 ?_
  refine l_iald (pc := 356) dL_law_356 (nI_add i 1) (by omega) (by omega) ?_
  refine l_call0I (pc := 357) (m_model σ N hR.1 (xs (i + 1))) mf_X0_model q218 (by decide) (by decide) dL_law_357 rfl (Nat.le_of_ble_eq_true rfl) (fun r0 σ' g0 => ?_)
  refine l_aload_n (pc := 360) (i := 2) dL_law_360 rfl rfl ?_
  refine l_aload_0 (pc := 361) dL_law_361 rfl rfl ?_
  refine l_iload_n (pc := 362) (i := 3) dL_law_362 rfl rfl ?_
  refine l_iconst (pc := 363) (v := nI 1) dL_law_363 (by decide) ?_
  refine l_iadd (pc := 364) dL_law_364 ?_
  refine l_iald (pc := 365) dL_law_365 (nI_add i 1) (by omega) (by omega) ?_
  refine l_call1I (pc := 366) (m1_model τ N hR.2.1 (xs (i + 1))) mf_X1_model q339 (by decide) (by decide) dL_law_366 rfl (Nat.le_of_ble_eq_true rfl) (fun r1 τ' g1 => ?_)
  obtain ⟨e, hR'⟩ := st_model hR g0 g1
  refine l_icmp_eq (pc := 369) (tgt := 472) dL_law_369 (by decide) (fun _ => ?_) (fun z => absurd e z)
  exact next _ _ hR'
set_option maxHeartbeats 1000000 in
theorem case_12 {b L : Nat} {xs : Nat → Int32} {i : Nat} {σ τ : St} (hi : i + 4 ≤ L) (h32 : L ≤ 256) (hRel : Rel σ τ) (next : ∀ σ' τ', Rel σ' τ' → VL b L xs 472 [some (.inr 0), some (.inr 1), some (.inr 2), some (.inl (nI i))] [] σ' τ') : VL b L xs 374 [some (.inr 0), some (.inr 1), some (.inr 2), some (.inl (nI i))] [] σ τ := by
  obtain ⟨N, D, hR⟩ := hRel
  refine l_aload_n (pc := 374) (i := 1) dL_law_374 rfl rfl ?_
  refine l_aload_0 (pc := 375) dL_law_375 rfl rfl ?_
  refine l_iload_n (pc := 376) (i := 3) dL_law_376 rfl rfl ?_
  refine l_iconst (pc := 377) (v := nI 1) dL_law_377 (by decide) ?_
  refine l_iadd (pc := 378) dL_law_378 ?_
  refine l_iald (pc := 379) dL_law_379 (nI_add i 1) (by omega) (by omega) ?_
  refine l_call0I (pc := 380) (m_rank σ N hR.1 (xs (i + 1))) mf_X0_rank q223 (by decide) (by decide) dL_law_380 rfl (Nat.le_of_ble_eq_true rfl) (fun r0 σ' g0 => ?_)
  refine l_aload_n (pc := 383) (i := 2) dL_law_383 rfl rfl ?_
  refine l_aload_0 (pc := 384) dL_law_384 rfl rfl ?_
  refine l_iload_n (pc := 385) (i := 3) dL_law_385 rfl rfl ?_
  refine l_iconst (pc := 386) (v := nI 1) dL_law_386 (by decide) ?_
  refine l_iadd (pc := 387) dL_law_387 ?_
  refine l_iald (pc := 388) dL_law_388 (nI_add i 1) (by omega) (by omega) ?_
  refine l_call1I (pc := 389) (m1_rank τ N hR.2.1 (xs (i + 1))) mf_X1_rank q343 (by decide) (by decide) dL_law_389 rfl (Nat.le_of_ble_eq_true rfl) (fun r1 τ' g1 => ?_)
  obtain ⟨e, hR'⟩ := st_rank hR g0 g1
  refine l_icmp_eq (pc := 392) (tgt := 472) dL_law_392 (by decide) (fun _ => ?_) (fun z => absurd e z)
  exact next _ _ hR'
set_option maxHeartbeats 1000000 in
theorem case_13 {b L : Nat} {xs : Nat → Int32} {i : Nat} {σ τ : St} (hi : i + 4 ≤ L) (h32 : L ≤ 256) (hRel : Rel σ τ) (next : ∀ σ' τ', Rel σ' τ' → VL b L xs 472 [some (.inr 0), some (.inr 1), some (.inr 2), some (.inl (nI i))] [] σ' τ') : VL b L xs 397 [some (.inr 0), some (.inr 1), some (.inr 2), some (.inl (nI i))] [] σ τ := by
  obtain ⟨N, D, hR⟩ := hRel
  refine l_aload_n (pc := 397) (i := 1) dL_law_397 rfl rfl ?_
  refine l_aload_0 (pc := 398) dL_law_398 rfl rfl ?_
  refine l_iload_n (pc := 399) (i := 3) dL_law_399 rfl rfl ?_
  refine l_iconst (pc := 400) (v := nI 1) dL_law_400 (by decide) ?_
  refine l_iadd (pc := 401) dL_law_401 ?_
  refine l_iald (pc := 402) dL_law_402 (nI_add i 1) (by omega) (by omega) ?_
  refine l_call0I (pc := 403) (m_isModel σ N hR.1 (xs (i + 1))) mf_X0_isModel q227 (by decide) (by decide) dL_law_403 rfl (Nat.le_of_ble_eq_true rfl) (fun r0 σ' g0 => ?_)
  refine l_aload_n (pc := 406) (i := 2) dL_law_406 rfl rfl ?_
  refine l_aload_0 (pc := 407) dL_law_407 rfl rfl ?_
  refine l_iload_n (pc := 408) (i := 3) dL_law_408 rfl rfl ?_
  refine l_iconst (pc := 409) (v := nI 1) dL_law_409 (by decide) ?_
  refine l_iadd (pc := 410) dL_law_410 ?_
  refine l_iald (pc := 411) dL_law_411 (nI_add i 1) (by omega) (by omega) ?_
  refine l_call1I (pc := 412) (m1_isModel τ N hR.2.1 (xs (i + 1))) mf_X1_isModel q344 (by decide) (by decide) dL_law_412 rfl (Nat.le_of_ble_eq_true rfl) (fun r1 τ' g1 => ?_)
  obtain ⟨e, hR'⟩ := st_isModel hR g0 g1
  refine l_icmp_eq (pc := 415) (tgt := 472) dL_law_415 (by decide) (fun _ => ?_) (fun z => absurd e z)
  exact next _ _ hR'
set_option maxHeartbeats 1000000 in
theorem case_14 {b L : Nat} {xs : Nat → Int32} {i : Nat} {σ τ : St} (hi : i + 4 ≤ L) (h32 : L ≤ 256) (hRel : Rel σ τ) (next : ∀ σ' τ', Rel σ' τ' → VL b L xs 472 [some (.inr 0), some (.inr 1), some (.inr 2), some (.inl (nI i))] [] σ' τ') : VL b L xs 420 [some (.inr 0), some (.inr 1), some (.inr 2), some (.inl (nI i))] [] σ τ := by
  obtain ⟨N, D, hR⟩ := hRel
  refine l_aload_n (pc := 420) (i := 1) dL_law_420 rfl rfl ?_
  refine l_call0I (pc := 421) (m_alwaysTrue σ N hR.1) mf_X0_alwaysTrue q231 (by decide) (by decide) dL_law_421 rfl (Nat.le_of_ble_eq_true rfl) (fun r0 σ' g0 => ?_)
  refine l_aload_n (pc := 424) (i := 2) dL_law_424 rfl rfl ?_
  refine l_call1I (pc := 425) (m1_alwaysTrue τ N hR.2.1) mf_X1_alwaysTrue q348 (by decide) (by decide) dL_law_425 rfl (Nat.le_of_ble_eq_true rfl) (fun r1 τ' g1 => ?_)
  obtain ⟨e, hR'⟩ := st_always hR g0 g1
  refine l_icmp_eq (pc := 428) (tgt := 472) dL_law_428 (by decide) (fun _ => ?_) (fun z => absurd e z)
  exact next _ _ hR'
set_option maxHeartbeats 1000000 in
theorem case_15 {b L : Nat} {xs : Nat → Int32} {i : Nat} {σ τ : St} (hi : i + 4 ≤ L) (h32 : L ≤ 256) (hRel : Rel σ τ) (next : ∀ σ' τ', Rel σ' τ' → VL b L xs 472 [some (.inr 0), some (.inr 1), some (.inr 2), some (.inl (nI i))] [] σ' τ') : VL b L xs 433 [some (.inr 0), some (.inr 1), some (.inr 2), some (.inl (nI i))] [] σ τ := by
  obtain ⟨N, D, hR⟩ := hRel
  refine l_aload_n (pc := 433) (i := 1) dL_law_433 rfl rfl ?_
  refine l_call0I (pc := 434) (m_alwaysFalse σ N hR.1) mf_X0_alwaysFalse q235 (by decide) (by decide) dL_law_434 rfl (Nat.le_of_ble_eq_true rfl) (fun r0 σ' g0 => ?_)
  refine l_aload_n (pc := 437) (i := 2) dL_law_437 rfl rfl ?_
  refine l_call1I (pc := 438) (m1_alwaysFalse τ N hR.2.1) mf_X1_alwaysFalse q352 (by decide) (by decide) dL_law_438 rfl (Nat.le_of_ble_eq_true rfl) (fun r1 τ' g1 => ?_)
  obtain ⟨e, hR'⟩ := st_always hR g0 g1
  refine l_icmp_eq (pc := 441) (tgt := 472) dL_law_441 (by decide) (fun _ => ?_) (fun z => absurd e z)
  exact next _ _ hR'
set_option maxHeartbeats 1000000 in
theorem case_16 {b L : Nat} {xs : Nat → Int32} {i : Nat} {σ τ : St} (hi : i + 4 ≤ L) (h32 : L ≤ 256) (hRel : Rel σ τ) (next : ∀ σ' τ', Rel σ' τ' → VL b L xs 472 [some (.inr 0), some (.inr 1), some (.inr 2), some (.inl (nI i))] [] σ' τ') : VL b L xs 446 [some (.inr 0), some (.inr 1), some (.inr 2), some (.inl (nI i))] [] σ τ := by
  obtain ⟨N, D, hR⟩ := hRel
  refine l_aload_n (pc := 446) (i := 1) dL_law_446 rfl rfl ?_
  refine l_call0I (pc := 447) (m_idle σ N hR.1) mf_X0_idle q239 (by decide) (by decide) dL_law_447 rfl (Nat.le_of_ble_eq_true rfl) (fun r0 σ' g0 => ?_)
  refine l_aload_n (pc := 450) (i := 2) dL_law_450 rfl rfl ?_
  refine l_call1I (pc := 451) (m1_idle τ N hR.2.1) mf_X1_idle q356 (by decide) (by decide) dL_law_451 rfl (Nat.le_of_ble_eq_true rfl) (fun r1 τ' g1 => ?_)
  obtain ⟨e, hR'⟩ := st_idle hR g0 g1
  refine l_icmp_eq (pc := 454) (tgt := 472) dL_law_454 (by decide) (fun _ => ?_) (fun z => absurd e z)
  exact next _ _ hR'
set_option maxHeartbeats 1000000 in
theorem case_17 {b L : Nat} {xs : Nat → Int32} {i : Nat} {σ τ : St} (hi : i + 4 ≤ L) (h32 : L ≤ 256) (hRel : Rel σ τ) (next : ∀ σ' τ', Rel σ' τ' → VL b L xs 472 [some (.inr 0), some (.inr 1), some (.inr 2), some (.inl (nI i))] [] σ' τ') : VL b L xs 459 [some (.inr 0), some (.inr 1), some (.inr 2), some (.inl (nI i))] [] σ τ := by
  obtain ⟨N, D, hR⟩ := hRel
  refine l_aload_n (pc := 459) (i := 1) dL_law_459 rfl rfl ?_
  refine l_call0I (pc := 460) (m_leastTrue σ N hR.1) mf_X0_leastTrue q247 (by decide) (by decide) dL_law_460 rfl (Nat.le_of_ble_eq_true rfl) (fun r0 σ' g0 => ?_)
  refine l_aload_n (pc := 463) (i := 2) dL_law_463 rfl rfl ?_
  refine l_call1I (pc := 464) (m1_leastTrue τ N hR.2.1) mf_X1_leastTrue q364 (by decide) (by decide) dL_law_464 rfl (Nat.le_of_ble_eq_true rfl) (fun r1 τ' g1 => ?_)
  obtain ⟨e, hR'⟩ := st_leastTrue hR g0 g1
  refine l_icmp_eq (pc := 467) (tgt := 472) dL_law_467 (by decide) (fun _ => ?_) (fun z => absurd e z)
  exact next _ _ hR'
set_option maxHeartbeats 1000000 in
theorem law_loop {b L : Nat} {xs : Nat → Int32} (h32 : L ≤ 256) : ∀ n i σ τ, L ≤ i + n → i ≤ 300 → Rel σ τ → VL b L xs 18 [some (.inr 0), some (.inr 1), some (.inr 2), some (.inl (nI i))] [] σ τ := by
  intro n
  induction n with
  | zero =>
    intro i σ τ hn hi hRel
    refine l_iload_n (pc := 18) (i := 3) dL_law_18 rfl rfl ?_
    refine l_aload_0 (pc := 19) dL_law_19 rfl rfl ?_
    refine l_alen (pc := 20) dL_law_20 ?_
    refine l_iconst (pc := 21) (v := nI 4) dL_law_21 (by decide) ?_
    refine l_isub (pc := 22) dL_law_22 ?_
    have hlt : nI L - nI 4 < nI i := by
      rw [fa_lt, pk_sub_toInt (by omega) (by decide), nI_toInt (by omega)]
      omega
    refine l_icmp_gt (pc := 23) (tgt := 478) dL_law_23 (by decide) (fun _ => ?_) (fun z => absurd hlt z)
    refine l_iconst (pc := 478) (v := 1) dL_law_478 (by decide) ?_
    exact l_end (pc := 479) dL_law_479
  | succ n ih =>
    intro i σ τ hn hi hRel
    refine l_iload_n (pc := 18) (i := 3) dL_law_18 rfl rfl ?_
    refine l_aload_0 (pc := 19) dL_law_19 rfl rfl ?_
    refine l_alen (pc := 20) dL_law_20 ?_
    refine l_iconst (pc := 21) (v := nI 4) dL_law_21 (by decide) ?_
    refine l_isub (pc := 22) dL_law_22 ?_
    by_cases hb : i + 4 ≤ L
    · have hnlt : ¬ nI L - nI 4 < nI i := by
        rw [fa_lt, pk_sub_toInt (by omega) (by decide), nI_toInt (by omega)]
        omega
      refine l_icmp_gt (pc := 23) (tgt := 478) dL_law_23 (by decide) (fun z => absurd z hnlt) (fun _ => ?_)
      refine l_aload_0 (pc := 26) dL_law_26 rfl rfl ?_
      refine l_iload_n (pc := 27) (i := 3) dL_law_27 rfl rfl ?_
      refine l_iald (pc := 28) dL_law_28 rfl (by omega) (by omega) ?_
      refine l_bipush (pc := 29) (v := nI 31) dL_law_29 (by decide) ?_
      refine l_iand (pc := 31) dL_law_31 ?_
      have next : ∀ σ' τ', Rel σ' τ' → VL b L xs 472 [some (.inr 0), some (.inr 1), some (.inr 2), some (.inl (nI i))] [] σ' τ' := by
        intro σ' τ' hR'
        refine l_iinc (pc := 472) (v := nI (i + 4)) (Ls' := [_, _, _, _]) dL_law_472 rfl (nI_add i 4) (by decide) rfl ?_
        refine l_goto (pc := 475) (tgt := 18) dL_law_475 (by decide) ?_
        exact ih (i + 4) σ' τ' (by omega) (by omega) hR'
      obtain ⟨j, hj, ej⟩ := pk_andE (xs i) (m := nI 31) 5 (by decide)
      refine l_top (nI j) ej ?_
      have hcase : j = 0 ∨ j = 1 ∨ j = 2 ∨ j = 3 ∨ j = 4 ∨ j = 5 ∨ j = 6 ∨ j = 7 ∨ j = 8 ∨ j = 9 ∨ j = 10 ∨ j = 11 ∨ j = 12 ∨ j = 13 ∨ j = 14 ∨ j = 15 ∨ j = 16 ∨ j = 17 ∨ 18 ≤ j := by omega
      rcases hcase with rfl | rfl | rfl | rfl | rfl | rfl | rfl | rfl | rfl | rfl | rfl | rfl | rfl | rfl | rfl | rfl | rfl | rfl | hj18
      · exact l_tableIn (pc := 32) (off := 88) (tgt := 120) dL_law_32 (by decide) (by decide) (by decide) (by decide) (case_0 hb h32 hRel next)
      · exact l_tableIn (pc := 32) (off := 111) (tgt := 143) dL_law_32 (by decide) (by decide) (by decide) (by decide) (case_1 hb h32 hRel next)
      · exact l_tableIn (pc := 32) (off := 122) (tgt := 154) dL_law_32 (by decide) (by decide) (by decide) (by decide) (case_2 hb h32 hRel next)
      · exact l_tableIn (pc := 32) (off := 135) (tgt := 167) dL_law_32 (by decide) (by decide) (by decide) (by decide) (case_3 hb h32 hRel next)
      · exact l_tableIn (pc := 32) (off := 148) (tgt := 180) dL_law_32 (by decide) (by decide) (by decide) (by decide) (case_4 hb h32 hRel next)
      · exact l_tableIn (pc := 32) (off := 161) (tgt := 193) dL_law_32 (by decide) (by decide) (by decide) (by decide) (case_5 hb h32 hRel next)
      · exact l_tableIn (pc := 32) (off := 204) (tgt := 236) dL_law_32 (by decide) (by decide) (by decide) (by decide) (case_6 hb h32 hRel next)
      · exact l_tableIn (pc := 32) (off := 217) (tgt := 249) dL_law_32 (by decide) (by decide) (by decide) (by decide) (case_7 hb h32 hRel next)
      · exact l_tableIn (pc := 32) (off := 250) (tgt := 282) dL_law_32 (by decide) (by decide) (by decide) (by decide) (case_8 hb h32 hRel next)
      · exact l_tableIn (pc := 32) (off := 273) (tgt := 305) dL_law_32 (by decide) (by decide) (by decide) (by decide) (case_9 hb h32 hRel next)
      · exact l_tableIn (pc := 32) (off := 286) (tgt := 318) dL_law_32 (by decide) (by decide) (by decide) (by decide) (case_10 hb h32 hRel next)
      · exact l_tableIn (pc := 32) (off := 319) (tgt := 351) dL_law_32 (by decide) (by decide) (by decide) (by decide) (case_11 hb h32 hRel next)
      · exact l_tableIn (pc := 32) (off := 342) (tgt := 374) dL_law_32 (by decide) (by decide) (by decide) (by decide) (case_12 hb h32 hRel next)
      · exact l_tableIn (pc := 32) (off := 365) (tgt := 397) dL_law_32 (by decide) (by decide) (by decide) (by decide) (case_13 hb h32 hRel next)
      · exact l_tableIn (pc := 32) (off := 388) (tgt := 420) dL_law_32 (by decide) (by decide) (by decide) (by decide) (case_14 hb h32 hRel next)
      · exact l_tableIn (pc := 32) (off := 401) (tgt := 433) dL_law_32 (by decide) (by decide) (by decide) (by decide) (case_15 hb h32 hRel next)
      · exact l_tableIn (pc := 32) (off := 414) (tgt := 446) dL_law_32 (by decide) (by decide) (by decide) (by decide) (case_16 hb h32 hRel next)
      · exact l_tableIn (pc := 32) (off := 427) (tgt := 459) dL_law_32 (by decide) (by decide) (by decide) (by decide) (case_17 hb h32 hRel next)
      · refine l_tableOut (pc := 32) (tgt := 472) dL_law_32 (Or.inr ?_) (by decide) (next _ _ hRel)
        rw [nI_toInt (by omega)]
        omega
    · have hlt : nI L - nI 4 < nI i := by
        rw [fa_lt, pk_sub_toInt (by omega) (by decide), nI_toInt (by omega)]
        omega
      refine l_icmp_gt (pc := 23) (tgt := 478) dL_law_23 (by decide) (fun _ => ?_) (fun z => absurd hlt z)
      refine l_iconst (pc := 478) (v := 1) dL_law_478 (by decide) ?_
      exact l_end (pc := 479) dL_law_479
set_option maxHeartbeats 8000000 in
set_option maxRecDepth 100000 in
/-- YOUR PART: from the entry, for every script of at most 256 ints, the law comes to its end with true -/
theorem whole_start {p : Program} {e : Env} {s : State} {m : MethodId} {below : List Frame} {meth : Method} {c : Code} (l : Launch) {b L : Nat} {xs : Nat → Int32} (hL : L ≤ 256) (C0 : lw_At p s m meth c b L xs) : W p l e room_1 s m #[Value.ref b] below meth c s.heap [] 0 0 (lw_Z below #[Value.ref b] s) (entryFrame m ([Value.ref b] : List Value).toArray 4) := by
  obtain ⟨hx, hb, hr, hml, hown, hts0, hX, hbl, hlk, hgv⟩ := C0
  have hts : ∀ w ∈ lw_all, w.before #[Value.ref b] s = true := fun w h => hts0 w (lw_all_tbl h)
  obtain ⟨c0_, iS0, hKn0⟩ := u_known (C := RX0) (T := TX0) (N := 21) (n := 21) hts in_X0 (hts _ q29)
  obtain ⟨c1_, iS1, hKn1⟩ := u_known (C := RX1) (T := TX1) (N := 4) (n := 4) hts in_X1 (hts _ q252)
  obtain ⟨D, hK⟩ : ∃ D : va_G, va_K D vwCl [] s := by
    refine ⟨(fun k => if k = 0 then c0_ else c1_, fun k => if k = 0 then iS0 else iS1), ?_, fun k q h => by simp at h⟩
    intro k q hq
    match k, hq with
    | 0, hq => cases hq; exact hKn0
    | 1, hq => cases hq; exact hKn1
    | k + 2, hq => simp [vwCl] at hq
  have hA : ∀ q : Nat, s.heap.size ≤ q → A0 s q := fun q h => h
  have hP : va_P D vwCl [] s.heap := fun k q h => by simp at h
  have hD : va_D (A0 s) [] := ⟨fun i j p q h => by simp at h, fun k q h => by simp at h⟩
  have hS : va_S (A0 s) s.heap s.heap [] := va_S.rf
  have hl := lv_entry ([.ref b]) (n := 4) (Nat.le_of_ble_eq_true rfl)
  rw [lg_entry_eq]
  generalize (lg_sl ([.ref b]) ++ List.replicate (4 - (lg_sl ([.ref b])).length) Slot.unset).toArray = ls at hl ⊢
  have hl : lv_has ls 4 [(0, .ref b)] := hl
  have hC : CallFix p m c cL_law 4 s #[Value.ref b] lw_all R_law := ⟨hx, hb, hml, hown, hts⟩
  refine va_new (pc := 0) (ci := 0) (fs := fsX0) (C := RX0) (T := TX0) (N := 21) hx hb hts in_X0 tyX0 tyX0_ok hown (hts _ q28) (hts _ q29) (hts _ q26) hK hP hD hS hA rfl (fun j hj => match j, hj with | 0, _ => rfl | 1, _ => rfl | 2, _ => rfl | 3, _ => rfl | 4, _ => rfl | 5, _ => rfl | 6, _ => rfl | 7, _ => rfl | 8, _ => rfl | 9, _ => rfl | 10, _ => rfl | 11, _ => rfl | 12, _ => rfl | 13, _ => rfl | 14, _ => rfl | 15, _ => rfl | 16, _ => rfl | 17, _ => rfl | 18, _ => rfl | 19, _ => rfl | 20, _ => rfl | k + 21, h => absurd h (by omega)) (Nat.le_of_ble_eq_true rfl) (Nat.le_of_ble_eq_true rfl) dL_law_0 (fun x H hP hD hS => ?_)
  have hP : va_P D vwCl [(x, .inr (shX0.1, fsX0))] H := hP
  have hD : va_D (A0 s) [(x, .inr (shX0.1, fsX0))] := hD
  refine lv_dup (pc := 3) hx hb dL_law_3 rfl ?_
  have hFc : ∀ q, va_A [(x, .inr (shX0.1, fsX0))] H.size q → A0 s q := by
    intro q h
    rcases h with ⟨i, w, h⟩ | h
    · exact hD.2 i (q, w) h
    · exact Nat.le_trans hS.1 h
  refine va_callv (pc := 4) (va_runI (As := []) (rest := [.ref x]) hC (c_initX0 l D x H.size) (cwI 0 hts (lw_meth q32) rfl rfl rfl (hts _ q26) (hts _ q30) (hts _ q31) rfl (by decide +kernel) ⟨Nat.le_of_ble_eq_true rfl, Nat.le_of_ble_eq_true rfl⟩) ⟨fun a U g mk q => by obtain ⟨q0, q1, qP, qK, qD⟩ := q; exact ⟨q0, q1, qP, va_K.moved (u := U) (U := U.calling g mk a) (Vm.Alike.refl U.vm) qK, qD⟩, fun U hU hW => ⟨rfl, by rw [hU], by rw [hU]; exact hP, va_K.moved hW.alike hK, hD.weaken (fun _ _ _ _ => trivial)⟩⟩ rfl rfl hl.1 rfl (lv_room (Nat.le_of_ble_eq_true rfl)) dL_law_4 ⟨Nat.le_of_ble_eq_true rfl, Nat.le_of_ble_eq_true rfl⟩) hS (fun q _ h => hFc q h) hFc (fun u t H1 locs1 ht hvm hw hB hz1 hk1 hS1 => ?_)
  obtain ⟨σ, ad0, dA⟩ := u
  obtain ⟨hP1, hK1, hD1⟩ := hB
  rw [ht] at hP1
  have hw0 : P_initX0 (fun _ _ => 0) 0 σ := hw
  have hKd : va_K D vwCl [(dA, .int)] s := va_K.moved hvm.symm hK1
  have hP : va_P D vwCl (wd shX0 x ad0 dA σ) H1 := hP1
  have hD : va_D (A0 s) (wd shX0 x ad0 dA σ) := hD1.weaken (fun i q _ h => hFc q.1 h)
  clear hP1 hD1 hK1 hw hk1 hz1 hS hFc ht hvm
  refine lv_astore_n (pc := 7) (lv' := [(1, .ref x), (0, .ref b)]) hx hb dL_law_7 rfl hl (by decide) rfl (fun ls hl => ?_)
  refine va_new (pc := 8) (ci := 1) (fs := fsX1) (C := RX1) (T := TX1) (N := 4) hx hb hts in_X1 tyX1 tyX1_ok hown (hts _ q251) (hts _ q252) (hts _ q27) hK hP hD hS1 hA rfl (fun j hj => match j, hj with | 0, _ => rfl | 1, _ => rfl | 2, _ => rfl | 3, _ => rfl | k + 4, h => absurd h (by omega)) (Nat.le_of_ble_eq_true rfl) (Nat.le_of_ble_eq_true rfl) dL_law_8 (fun y H2 hP hD hS => ?_)
  have hP : va_P D vwCl (wd shX0 x ad0 dA σ ++ [(y, .inr (shX1.1, fsX1))]) H2 := hP
  have hD : va_D (A0 s) (wd shX0 x ad0 dA σ ++ [(y, .inr (shX1.1, fsX1))]) := hD
  refine lv_dup (pc := 11) hx hb dL_law_11 rfl ?_
  have hPc := P_right hP
  have hDc := D_right hD
  have hFc : ∀ q, va_A [(y, .inr (shX1.1, fsX1))] H2.size q → A0 s q := by
    intro q h
    rcases h with ⟨i, w, h⟩ | h
    · exact hDc.2 i (q, w) h
    · exact Nat.le_trans hS.1 h
  refine va_callv (pc := 12) (va_runI (As := []) (rest := [.ref y]) hC (c_initX1 l D y H2.size) (cwI 0 hts (lw_meth q255) rfl rfl rfl (hts _ q27) (hts _ q253) (hts _ q254) rfl (by decide +kernel) ⟨Nat.le_of_ble_eq_true rfl, Nat.le_of_ble_eq_true rfl⟩) ⟨fun a U g mk q => by obtain ⟨q0, q1, qP, qK, qD⟩ := q; exact ⟨q0, q1, qP, va_K.moved (u := U) (U := U.calling g mk a) (Vm.Alike.refl U.vm) qK, qD⟩, fun U hU hW => ⟨rfl, by rw [hU], by rw [hU]; exact hPc, va_K.moved hW.alike hK, hDc.weaken (fun _ _ _ _ => trivial)⟩⟩ rfl rfl hl.1 rfl (lv_room (Nat.le_of_ble_eq_true rfl)) dL_law_12 ⟨Nat.le_of_ble_eq_true rfl, Nat.le_of_ble_eq_true rfl⟩) hS (fun q _ h => hFc q h) hFc (fun u t H3 locs3 ht hvm hw hB hz1 hk1 hS3 => ?_)
  obtain ⟨τ, ad1, dB⟩ := u
  obtain ⟨hP1, hK1, hD1⟩ := hB
  rw [ht] at hP1
  have hw1 : P_initX1 (fun _ _ => 0) 0 τ := hw
  have hKe : va_K D vwCl [(dB, .int)] s := va_K.moved hvm.symm hK1
  obtain rfl := arr_one hKd hKe
  obtain ⟨hP, hD⟩ := w_joinR hP hD hk1 hFc hP1 hD1
  clear hP1 hD1 hK1 hw hk1 hz1 hS hS1 hFc ht hvm hPc hDc
  refine lv_astore_n (pc := 15) (lv' := [(2, .ref y), (1, .ref x), (0, .ref b)]) hx hb dL_law_15 rfl hl (by decide) rfl (fun ls hl => ?_)
  refine lv_iconst (pc := 16) (v := nI 0) hx hb dL_law_16 (by decide) ?_
  refine lv_istore_n (pc := 17) (lv' := [(3, .int (nI 0)), (2, .ref y), (1, .ref x), (0, .ref b)]) hx hb dL_law_17 rfl hl (by decide) rfl (fun ls hl => ?_)
  have hLH : LH ls 4 b (adL x y) [some (.inr 0), some (.inr 1), some (.inr 2), some (.inl (nI 0))] := by
    refine ⟨hl.1, hl.2.1, fun i v hi => ?_⟩
    match i, hi with
    | 0, hi => cases hi; exact hl.2.2 (0, .ref b) (by simp)
    | 1, hi => cases hi; exact hl.2.2 (1, .ref x) (by simp)
    | 2, hi => cases hi; exact hl.2.2 (2, .ref y) (by simp)
    | 3, hi => cases hi; exact hl.2.2 (3, .int (nI 0)) (by simp)
    | k + 4, hi => simp at hi
  have hRel : Rel σ τ := rel_start (by rw [hw0.1 2 (by decide) (by decide)]; rfl) (by rw [hw0.1 7 (by decide) (by decide)]; rfl) (by rw [hw0.1 0 (by decide) (by decide)]; rfl) (by rw [hw1.1 2 (by decide)]; rfl) (by rw [hw1.1 1 (by decide)]; rfl) hw0.2 hw1.2
  refine W.widen (k := 30) (n := 10000) (Nat.le_of_ble_eq_true rfl) (Nat.le_of_ble_eq_true rfl) ?_
  exact law_loop hL L 0 σ τ (by omega) (by omega) hRel p l e s m below meth c D _ x y ad0 ad1 ⟨hC, hr, hlk, hKd, hX, hbl⟩ H3 locs3 ls hP hD hS3 hLH
end
section
/-! STARTING TEXT (the skeleton's tail): the claim out of whole_start -/
set_option maxHeartbeats 4000000 in
theorem lw_walk (l : Launch) (b : Addr) (xs : List Int32) : MetFree l x (headSpec (Jvm.Cond.code x code maxLocals ret :: tables_1) room_1) (lw_P b xs) (fun _ _ _ _ _ => True) lw_Q := by
  refine MetFree.of_bodyS (code := code) (maxLocals := maxLocals) (ret := ret) (by decide) ?_ ?_
  · intro args s m h hn
    obtain ⟨meth, c, h1, h2, h3, h4, h5, h6, -, -⟩ := Cond.code_spec hn (atoms_spec (ws := Jvm.Cond.code x code maxLocals ret :: tables_1) h _ List.mem_cons_self)
    exact ⟨meth, c, h1, h2, h3, h4, h5, h6⟩
  · intro p e s m args below meth c s₁ B hml0 hP _
    obtain ⟨rfl, hx, hbd, hgv⟩ := hP
    obtain ⟨scr, harrAt, hlist, hof, hsmall⟩ := hx
    obtain ⟨hcb, hkn, -, -⟩ := State.arrayAt?_spec harrAt
    have hown : s.vm.findClass R_law = some m.cls := findClass_of_methodNamed B.named
    have hts0 : ∀ c ∈ (Jvm.Cond.code x code maxLocals ret :: tables_1), c.before #[Value.ref b] s = true := atoms_spec (ws := Jvm.Cond.code x code maxLocals ret :: tables_1) B.pre
    have hts : ∀ w ∈ lw_tbl, w.before #[Value.ref b] s = true := k2_hts_sels lw_privs (fun w hw => hts0 w (List.mem_cons_of_mem _ hw)) lw_privs_ok
    have hml : c.maxLocals = 4 := B.maxLocals_eq (hts0 _ List.mem_cons_self)
    have X₀ : Stand p l e room_1 s m #[Value.ref b] below meth c s₁ [] 0 0 := Stand.of_body B
    have hh0 : s₁.heap = s.heap := by rw [B.state]; rfl
    have hsz : scr.slots.size = xs.length := by rw [← Array.length_toList, hlist, List.length_map]
    have hval : ∀ j : Nat, j < xs.length → scr.slots[j]? = some (.int (xs.getD j 0)) := fun j hj => by
      rw [← Array.getElem?_toList, hlist]
      simp [hj]
    have hbl : b < s.heap.size := (Array.getElem?_eq_some_iff.mp hcb).1
    have hX : va_X b xs.length (fun j => xs.getD j 0) s s.heap := ⟨scr, hcb, hof, hkn, hsz, hval⟩
    have K : W p l e room_1 s m #[Value.ref b] below meth c s₁.heap [] 0 0 (lw_Z below #[Value.ref b] s) (entryFrame m ([Value.ref b] : List Value).toArray 4) := by
      rw [hh0]
      exact whole_start l hbd ⟨B.exec, B.bytes, B.returns, hml, hown, hts, hX, hbl, B.notSynchronized, hgv⟩
    obtain ⟨t, a1, o, b1, b2, b3⟩ := K s₁ rfl X₀
    exact ⟨t, o, a1, b1, b2, b3⟩
theorem lw_pre_spec {args : Array Value} {s : State} (h : (Jvm.Cond.and given_1 narrow_1).before args s = true) (hr : rest_1_c.before args s = true) : ∃ (b : Addr) (xs : List Int32), lw_P b xs args s := by
  have hs := flat_of_before _ h
  have hq := flat_of_before _ hr
  have hc : (Cond.count 1).before args s = true := hs _ (by decide +kernel)
  have harr : (Cond.arrayOf (.arg 0) .int).before args s = true := hs _ (by decide +kernel)
  have hle : (Cond.le (.length (.arg 0)) (.int 256)).before args s = true := hs _ (by decide +kernel)
  have hlen : (Cond.isInt (.length (.arg 0))).before args s = true := hq _ (by decide +kernel)
  have hall : (Cond.all (.arg 0) (.isInt (.elem (.arg 0) (.index 0)))).before args s = true := hq _ (by decide +kernel)
  obtain ⟨b, xs, hb, hx⟩ := State.ints_of_pre rfl harr hlen hall
  have hsm : xs.length < 2 ^ 31 := hx.choose_spec.2.2.2
  have hev : (Term.length (.arg 0)).eval args s none [] s = some (.int xs.length.toInt32) := hx.length_eval hb
  have hv := Cond.le_ints hev (show (Term.int 256).eval args s none [] s = some (.int 256) from rfl)
  have hd : xs.length.toInt32 ≤ 256 := by
    simpa [Cond.before, Cond.holds, hv] using hle
  have hN : xs.length ≤ 256 := (Int32.ofNat_le_ofNat hsm (by decide)).mp (show Int32.ofNat xs.length ≤ Int32.ofNat 256 from hd)
  exact ⟨b, xs, Cond.one_arg hc (show args[0]? = some (.ref b) from hb), hx, hN, h⟩
theorem lw_comes (l : Launch) : Comes l x (Jvm.Cond.code x code maxLocals ret :: tables_1) room_1 (fun tb e args s => Calls_1 tb e args s ∧ rest_1 tb e args s ∧ Pre_1 tb e args s)
    (fun _ _ args s o t => lw_Q args s o t) := by
  intro p e ha hc hk s m args below hf hfit hheap happ hpre
  obtain ⟨b, xs, hP⟩ := lw_pre_spec hpre.2.2 hpre.2.1
  obtain ⟨k, o, h1, h2, h3, hQ⟩ := lw_walk l b xs p e ha hc hk s m args below hf ((Spec.applies_iff_loose hf).mp happ).1 hP trivial
  exact ⟨k, o, h1, h2, h3, hQ⟩
theorem lw_frame {s t : State} {o : Outcome} {args : Array Value} (h : Framed s o t [] 600000 7290000) :
    Framed s o t (fieldLocs frame_1_writes args s ++ arrayLocs frame_1_arrays args s ++ staticLocs frame_1_statics s) 600000 7290000 := h
theorem lw_limb (L : Cond) (hL : ∀ (args : Array Value) (s t : State), L.after args s (.returned (some (.int 1))) t = true) :
    ArmFor flags0 classFile x code maxLocals ret World_1 tables_1 room_1 Calls_1 rest_1 Pre_1
      (fun tb e a s o t => postC L tb e a s o t ∧ Framed s o t (fieldLocs frame_1_writes a s ++ arrayLocs frame_1_arrays a s ++ staticLocs frame_1_statics s) 600000 7290000) := by
  intro l _ _ _ p e ha hc hk s m args below hf hfit hheap happ hpre
  obtain ⟨k, o, h1, h2, h3, rfl, hF⟩ := lw_comes l p e ha hc hk s m args below hf hfit hheap happ hpre
  exact ⟨k, _, h1, h2, h3, hL args s _, lw_frame hF⟩
theorem i_vc : Claimed_1_1 ∧ Claimed_1_2 := ⟨lw_limb limb_1_1 (fun args s t => by simp [limb_1_1, Cond.after, Cond.holds, Cond.value]), lw_limb limb_1_2 (fun args s t => Cond.after_iff.mpr (by
  first | (rw [show limb_1_2 = Cond.eq .result (.int 1) from rfl, Cond.eq_ints (x := 1) (y := 1) rfl rfl]; simp; done) | (simp [limb_1_2, Cond.value, Term.eval]; done)))⟩
end
