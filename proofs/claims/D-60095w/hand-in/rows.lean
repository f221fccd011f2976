section
-- ===== PART A: goes FIRST, ahead of the names: the tables' words, and 'selects' of the private methods out of them =====
/-- a private method of a class that the tables say can be made, by its rows of tables_1 -/
def lw_okq (q : MethodName × Nat) : Prop := (q.1.cls ≠ "java/lang/invoke/MethodHandle" ∧ q.1.cls ≠ "java/lang/invoke/VarHandle") ∧ Cond.instantiable q.1.cls q.2 ∈ tables_1 ∧ Cond.privateMethod q.1 ∈ tables_1 ∧ Cond.instanceMethod q.1 ∈ tables_1
set_option maxRecDepth 100000
theorem lw_t1 {w : Cond} (h : w ∈ tables_1_1) : w ∈ tables_1 := List.mem_append_left _ h
theorem lw_t2 {w : Cond} (h : w ∈ tables_1_2) : w ∈ tables_1 := List.mem_append_right _ h
theorem lw_p0 : lw_okq (⟨"LabelNet", "turn", "(IIZ)V"⟩, 13) := ⟨⟨by decide +kernel, by decide +kernel⟩, lw_t1 (List.mem_of_getElem? (i := 4) rfl), lw_t1 (List.mem_of_getElem? (i := 65) rfl), lw_t1 (List.mem_of_getElem? (i := 66) rfl)⟩
theorem lw_p1 : lw_okq (⟨"LabelNet", "linked", "(II)Z"⟩, 13) := ⟨⟨by decide +kernel, by decide +kernel⟩, lw_t1 (List.mem_of_getElem? (i := 4) rfl), lw_t1 (List.mem_of_getElem? (i := 73) rfl), lw_t1 (List.mem_of_getElem? (i := 74) rfl)⟩
theorem lw_p2 : lw_okq (⟨"LabelNet", "connected", "(II)Z"⟩, 13) := ⟨⟨by decide +kernel, by decide +kernel⟩, lw_t1 (List.mem_of_getElem? (i := 4) rfl), lw_t1 (List.mem_of_getElem? (i := 93) rfl), lw_t1 (List.mem_of_getElem? (i := 94) rfl)⟩
theorem lw_p3 : lw_okq (⟨"LabelNet", "learn", "()V"⟩, 13) := ⟨⟨by decide +kernel, by decide +kernel⟩, lw_t1 (List.mem_of_getElem? (i := 4) rfl), lw_t1 (List.mem_of_getElem? (i := 97) rfl), lw_t1 (List.mem_of_getElem? (i := 98) rfl)⟩
theorem lw_p4 : lw_okq (⟨"LabelNet", "measure", "(I)V"⟩, 13) := ⟨⟨by decide +kernel, by decide +kernel⟩, lw_t1 (List.mem_of_getElem? (i := 4) rfl), lw_t1 (List.mem_of_getElem? (i := 101) rfl), lw_t1 (List.mem_of_getElem? (i := 102) rfl)⟩
theorem lw_p5 : lw_okq (⟨"LabelNet", "nearest", "(II)I"⟩, 13) := ⟨⟨by decide +kernel, by decide +kernel⟩, lw_t1 (List.mem_of_getElem? (i := 4) rfl), lw_t1 (List.mem_of_getElem? (i := 105) rfl), lw_t1 (List.mem_of_getElem? (i := 106) rfl)⟩
theorem lw_p6 : lw_okq (⟨"LabelNet", "counts", "(II)Z"⟩, 13) := ⟨⟨by decide +kernel, by decide +kernel⟩, lw_t1 (List.mem_of_getElem? (i := 4) rfl), lw_t1 (List.mem_of_getElem? (i := 109) rfl), lw_t1 (List.mem_of_getElem? (i := 110) rfl)⟩
theorem lw_p7 : lw_okq (⟨"LabelNet", "chooseHop", "(II)I"⟩, 13) := ⟨⟨by decide +kernel, by decide +kernel⟩, lw_t1 (List.mem_of_getElem? (i := 4) rfl), lw_t1 (List.mem_of_getElem? (i := 113) rfl), lw_t1 (List.mem_of_getElem? (i := 114) rfl)⟩
theorem lw_p8 : lw_okq (⟨"LabelNet", "bind", "()V"⟩, 13) := ⟨⟨by decide +kernel, by decide +kernel⟩, lw_t1 (List.mem_of_getElem? (i := 4) rfl), lw_t1 (List.mem_of_getElem? (i := 117) rfl), lw_t1 (List.mem_of_getElem? (i := 118) rfl)⟩
theorem lw_p9 : lw_okq (⟨"LabelNet", "bindOne", "(II)V"⟩, 13) := ⟨⟨by decide +kernel, by decide +kernel⟩, lw_t1 (List.mem_of_getElem? (i := 4) rfl), lw_t1 (List.mem_of_getElem? (i := 121) rfl), lw_t1 (List.mem_of_getElem? (i := 122) rfl)⟩
theorem lw_p10 : lw_okq (⟨"LabelNet", "launch", "(II)V"⟩, 13) := ⟨⟨by decide +kernel, by decide +kernel⟩, lw_t1 (List.mem_of_getElem? (i := 4) rfl), lw_t1 (List.mem_of_getElem? (i := 133) rfl), lw_t1 (List.mem_of_getElem? (i := 134) rfl)⟩
theorem lw_p11 : lw_okq (⟨"LabelNet", "forward", "()Z"⟩, 13) := ⟨⟨by decide +kernel, by decide +kernel⟩, lw_t1 (List.mem_of_getElem? (i := 4) rfl), lw_t1 (List.mem_of_getElem? (i := 137) rfl), lw_t1 (List.mem_of_getElem? (i := 138) rfl)⟩
theorem lw_p12 : lw_okq (⟨"LabelNet", "comesThrough", "(III)Z"⟩, 13) := ⟨⟨by decide +kernel, by decide +kernel⟩, lw_t1 (List.mem_of_getElem? (i := 4) rfl), lw_t1 (List.mem_of_getElem? (i := 155) rfl), lw_t1 (List.mem_of_getElem? (i := 156) rfl)⟩
theorem lw_p13 : lw_okq (⟨"LabelNet", "goesAlong", "(III)Z"⟩, 13) := ⟨⟨by decide +kernel, by decide +kernel⟩, lw_t1 (List.mem_of_getElem? (i := 4) rfl), lw_t1 (List.mem_of_getElem? (i := 163) rfl), lw_t1 (List.mem_of_getElem? (i := 164) rfl)⟩
theorem lw_p14 : lw_okq (⟨"LabelNet", "routeDiffers", "(II)Z"⟩, 13) := ⟨⟨by decide +kernel, by decide +kernel⟩, lw_t1 (List.mem_of_getElem? (i := 4) rfl), lw_t1 (List.mem_of_getElem? (i := 179) rfl), lw_t1 (List.mem_of_getElem? (i := 180) rfl)⟩
theorem lw_p15 : lw_okq (⟨"LabelNetModel", "router", "(I)Z"⟩, 5) := ⟨⟨by decide +kernel, by decide +kernel⟩, lw_t1 (List.mem_of_getElem? (i := 183) rfl), lw_t1 (List.mem_of_getElem? (i := 210) rfl), lw_t1 (List.mem_of_getElem? (i := 211) rfl)⟩
def lw_privs_1 : List (MethodName × Nat) := [(⟨"LabelNet", "turn", "(IIZ)V"⟩, 13), (⟨"LabelNet", "linked", "(II)Z"⟩, 13), (⟨"LabelNet", "connected", "(II)Z"⟩, 13), (⟨"LabelNet", "learn", "()V"⟩, 13), (⟨"LabelNet", "measure", "(I)V"⟩, 13), (⟨"LabelNet", "nearest", "(II)I"⟩, 13), (⟨"LabelNet", "counts", "(II)Z"⟩, 13), (⟨"LabelNet", "chooseHop", "(II)I"⟩, 13), (⟨"LabelNet", "bind", "()V"⟩, 13), (⟨"LabelNet", "bindOne", "(II)V"⟩, 13), (⟨"LabelNet", "launch", "(II)V"⟩, 13), (⟨"LabelNet", "forward", "()Z"⟩, 13), (⟨"LabelNet", "comesThrough", "(III)Z"⟩, 13), (⟨"LabelNet", "goesAlong", "(III)Z"⟩, 13), (⟨"LabelNet", "routeDiffers", "(II)Z"⟩, 13), (⟨"LabelNetModel", "router", "(I)Z"⟩, 5)]
theorem lw_r1 : ∀ q ∈ lw_privs_1, lw_okq q := List.forall_mem_cons.mpr ⟨lw_p0, List.forall_mem_cons.mpr ⟨lw_p1, List.forall_mem_cons.mpr ⟨lw_p2, List.forall_mem_cons.mpr ⟨lw_p3, List.forall_mem_cons.mpr ⟨lw_p4, List.forall_mem_cons.mpr ⟨lw_p5, List.forall_mem_cons.mpr ⟨lw_p6, List.forall_mem_cons.mpr ⟨lw_p7, List.forall_mem_cons.mpr ⟨lw_p8, List.forall_mem_cons.mpr ⟨lw_p9, List.forall_mem_cons.mpr ⟨lw_p10, List.forall_mem_cons.mpr ⟨lw_p11, List.forall_mem_cons.mpr ⟨lw_p12, List.forall_mem_cons.mpr ⟨lw_p13, List.forall_mem_cons.mpr ⟨lw_p14, List.forall_mem_cons.mpr ⟨lw_p15, fun _ h => absurd h List.not_mem_nil⟩⟩⟩⟩⟩⟩⟩⟩⟩⟩⟩⟩⟩⟩⟩⟩
theorem lw_p16 : lw_okq (⟨"LabelNetModel", "link", "(II)Z"⟩, 5) := ⟨⟨by decide +kernel, by decide +kernel⟩, lw_t1 (List.mem_of_getElem? (i := 183) rfl), lw_t1 (List.mem_of_getElem? (i := 218) rfl), lw_t1 (List.mem_of_getElem? (i := 219) rfl)⟩
theorem lw_p17 : lw_okq (⟨"LabelNetModel", "work", "()V"⟩, 5) := ⟨⟨by decide +kernel, by decide +kernel⟩, lw_t1 (List.mem_of_getElem? (i := 183) rfl), lw_t1 (List.mem_of_getElem? (i := 238) rfl), lw_t1 (List.mem_of_getElem? (i := 239) rfl)⟩
theorem lw_p18 : lw_okq (⟨"LabelNetModel", "lower", "(II)V"⟩, 5) := ⟨⟨by decide +kernel, by decide +kernel⟩, lw_t1 (List.mem_of_getElem? (i := 183) rfl), lw_t2 (List.mem_of_getElem? (i := 2) rfl), lw_t2 (List.mem_of_getElem? (i := 3) rfl)⟩
theorem lw_p19 : lw_okq (⟨"LabelNetModel", "counts", "(II)Z"⟩, 5) := ⟨⟨by decide +kernel, by decide +kernel⟩, lw_t1 (List.mem_of_getElem? (i := 183) rfl), lw_t2 (List.mem_of_getElem? (i := 6) rfl), lw_t2 (List.mem_of_getElem? (i := 7) rfl)⟩
theorem lw_p20 : lw_okq (⟨"LabelNetModel", "has", "(II)Z"⟩, 5) := ⟨⟨by decide +kernel, by decide +kernel⟩, lw_t1 (List.mem_of_getElem? (i := 183) rfl), lw_t2 (List.mem_of_getElem? (i := 10) rfl), lw_t2 (List.mem_of_getElem? (i := 11) rfl)⟩
theorem lw_p21 : lw_okq (⟨"LabelNetModel", "hop", "(II)I"⟩, 5) := ⟨⟨by decide +kernel, by decide +kernel⟩, lw_t1 (List.mem_of_getElem? (i := 183) rfl), lw_t2 (List.mem_of_getElem? (i := 18) rfl), lw_t2 (List.mem_of_getElem? (i := 19) rfl)⟩
theorem lw_p22 : lw_okq (⟨"LabelNetModel", "count", "(II)I"⟩, 5) := ⟨⟨by decide +kernel, by decide +kernel⟩, lw_t1 (List.mem_of_getElem? (i := 183) rfl), lw_t2 (List.mem_of_getElem? (i := 26) rfl), lw_t2 (List.mem_of_getElem? (i := 27) rfl)⟩
theorem lw_p23 : lw_okq (⟨"LabelNetModel", "walk", "(III)I"⟩, 5) := ⟨⟨by decide +kernel, by decide +kernel⟩, lw_t1 (List.mem_of_getElem? (i := 183) rfl), lw_t2 (List.mem_of_getElem? (i := 34) rfl), lw_t2 (List.mem_of_getElem? (i := 35) rfl)⟩
theorem lw_p24 : lw_okq (⟨"LabelNetModel", "passes", "(IIII)Z"⟩, 5) := ⟨⟨by decide +kernel, by decide +kernel⟩, lw_t1 (List.mem_of_getElem? (i := 183) rfl), lw_t2 (List.mem_of_getElem? (i := 46) rfl), lw_t2 (List.mem_of_getElem? (i := 47) rfl)⟩
theorem lw_p25 : lw_okq (⟨"LabelNetModel", "route", "(II)I"⟩, 5) := ⟨⟨by decide +kernel, by decide +kernel⟩, lw_t1 (List.mem_of_getElem? (i := 183) rfl), lw_t2 (List.mem_of_getElem? (i := 66) rfl), lw_t2 (List.mem_of_getElem? (i := 67) rfl)⟩
def lw_privs_2 : List (MethodName × Nat) := [(⟨"LabelNetModel", "link", "(II)Z"⟩, 5), (⟨"LabelNetModel", "work", "()V"⟩, 5), (⟨"LabelNetModel", "lower", "(II)V"⟩, 5), (⟨"LabelNetModel", "counts", "(II)Z"⟩, 5), (⟨"LabelNetModel", "has", "(II)Z"⟩, 5), (⟨"LabelNetModel", "hop", "(II)I"⟩, 5), (⟨"LabelNetModel", "count", "(II)I"⟩, 5), (⟨"LabelNetModel", "walk", "(III)I"⟩, 5), (⟨"LabelNetModel", "passes", "(IIII)Z"⟩, 5), (⟨"LabelNetModel", "route", "(II)I"⟩, 5)]
theorem lw_r2 : ∀ q ∈ lw_privs_2, lw_okq q := List.forall_mem_cons.mpr ⟨lw_p16, List.forall_mem_cons.mpr ⟨lw_p17, List.forall_mem_cons.mpr ⟨lw_p18, List.forall_mem_cons.mpr ⟨lw_p19, List.forall_mem_cons.mpr ⟨lw_p20, List.forall_mem_cons.mpr ⟨lw_p21, List.forall_mem_cons.mpr ⟨lw_p22, List.forall_mem_cons.mpr ⟨lw_p23, List.forall_mem_cons.mpr ⟨lw_p24, List.forall_mem_cons.mpr ⟨lw_p25, fun _ h => absurd h List.not_mem_nil⟩⟩⟩⟩⟩⟩⟩⟩⟩⟩
def lw_privs : List (MethodName × Nat) := lw_privs_1 ++ (lw_privs_2)
def lw_tbl : List Cond := k2_sels lw_privs ++ tables_1
theorem lw_privs_ok : ∀ q ∈ lw_privs, lw_okq q := by
  show ∀ q ∈ lw_privs_1 ++ (lw_privs_2), lw_okq q
  exact List.forall_mem_append.mpr ⟨lw_r1, lw_r2⟩
-- ===== ONE list of words for every method: the tables' words that hold all through a run =====
def lw_all : List Cond := lw_tbl.filter goodWord
/-- a word of the tables by its place: claim/WORDS.tsv -/
theorem lw_w {w : Cond} (i : Nat) (h : lw_tbl[i]? = some w) (g : goodWord w = true) : w ∈ lw_all := List.mem_filter.mpr ⟨List.mem_of_getElem? h, g⟩
theorem lw_all_tbl {w : Cond} (h : w ∈ lw_all) : w ∈ lw_tbl := (List.mem_filter.mp h).1
theorem lw_self : GoodIn lw_all lw_all := fun w h => ⟨h, good_of_word (List.mem_filter.mp h).2⟩
/-- a class's field words, by their places -/
theorem lw_in (ws : List Cond) (ps : List Nat) (hp : ws = ps.filterMap (fun i => lw_tbl[i]?)) (hg : ws.all goodWord = true) : ∀ w ∈ ws, w ∈ lw_all := by
  intro w h
  have h1 := List.all_eq_true.mp hg w h
  rw [hp] at h
  obtain ⟨i, -, hi⟩ := List.mem_filterMap.mp h
  exact lw_w i hi h1
/-- the words of a contract for the method y with code b, L locals, answer r -/
abbrev ws_ (y : MethodName) (b : ByteArray) (L : Nat) (r : Option FieldType) : List Cond := Cond.code y b L r :: lw_all
theorem lw_meth {y : MethodName} {b : ByteArray} {L : Nat} {r : Option FieldType} (h : Cond.code y b L r ∈ lw_all) : GoodIn lw_all (ws_ y b L r) := by
  intro w hw
  rcases List.mem_cons.mp hw with e | e
  · rw [e]
    exact lw_self _ h
  · exact lw_self _ e
theorem lw_app {a c : List Cond} (ha : ∀ w ∈ a, w ∈ lw_all) (hc : GoodIn lw_all c) : GoodIn lw_all (a ++ c) := by
  intro w hw
  rcases List.mem_append.mp hw with e | e
  · exact lw_self w (ha w e)
  · exact hc w e
/-- what a call through an object asks: cwV n hts (lw_V ..) -/
theorem lw_V {own : String} {idx : Nat} {C : String} {y : MethodName} {b : ByteArray} {L : Nat} {r : Option FieldType} (h1 : Cond.methodLink own idx y ∈ lw_all) (h2 : Cond.instanceMethod y ∈ lw_all) (h3 : Cond.selects C y y ∈ lw_all) (h4 : Cond.initialized C ∈ lw_all) (h5 : Cond.code y b L r ∈ lw_all) : GoodIn lw_all (wsV own idx C y (ws_ y b L r)) := by
  refine lw_app ?_ (lw_meth h5)
  intro w hw
  simp only [List.mem_cons, List.not_mem_nil, or_false] at hw
  rcases hw with e | e | e | e
  · rw [e]; exact h1
  · rw [e]; exact h2
  · rw [e]; exact h3
  · rw [e]; exact h4
/-- what a static call asks: va_cwS n hts (lw_S ..) -/
theorem lw_S {own : String} {idx : Nat} {y : MethodName} {b : ByteArray} {L : Nat} {r : Option FieldType} (h1 : Cond.methodLink own idx y ∈ lw_all) (h2 : Cond.static y ∈ lw_all) (h3 : Cond.initialized y.cls ∈ lw_all) (h4 : Cond.code y b L r ∈ lw_all) : GoodIn lw_all (va_wsS own idx y (ws_ y b L r)) := by
  refine lw_app ?_ (lw_meth h4)
  intro w hw
  simp only [List.mem_cons, List.not_mem_nil, or_false] at hw
  rcases hw with e | e | e
  · rw [e]; exact h1
  · rw [e]; exact h2
  · rw [e]; exact h3
/-- the words of a contract for a method WITH HANDLERS (hh: its table) -/
abbrev wsW_ (y : MethodName) (b : ByteArray) (L : Nat) (r : Option FieldType) (hh : List (Nat × Nat × Nat × Nat)) : List Cond := Cond.codeWith y b L r hh :: lw_all
theorem lw_methW {y : MethodName} {b : ByteArray} {L : Nat} {r : Option FieldType} {hh : List (Nat × Nat × Nat × Nat)} (h : Cond.codeWith y b L r hh ∈ lw_all) : GoodIn lw_all (wsW_ y b L r hh) := by
  intro w hw
  rcases List.mem_cons.mp hw with e | e
  · rw [e]
    exact lw_self _ h
  · exact lw_self _ e
/-- any list of words by their places (lw_in), good -/
theorem lw_good {ws : List Cond} (h : ∀ w ∈ ws, w ∈ lw_all) : GoodIn lw_all ws := fun w hw => lw_self w (h w hw)
/-- what a call of a method with handlers asks: vx_cwVW n hts (lw_VW ..), vx_cwSW n hts (lw_SW ..) -/
theorem lw_VW {own : String} {idx : Nat} {C : String} {y : MethodName} {b : ByteArray} {L : Nat} {r : Option FieldType} {hh : List (Nat × Nat × Nat × Nat)} (h1 : Cond.methodLink own idx y ∈ lw_all) (h2 : Cond.instanceMethod y ∈ lw_all) (h3 : Cond.selects C y y ∈ lw_all) (h4 : Cond.initialized C ∈ lw_all) (h5 : Cond.codeWith y b L r hh ∈ lw_all) : GoodIn lw_all (wsV own idx C y (wsW_ y b L r hh)) := by
  refine lw_app ?_ (lw_methW h5)
  intro w hw
  simp only [List.mem_cons, List.not_mem_nil, or_false] at hw
  rcases hw with e | e | e | e
  · rw [e]; exact h1
  · rw [e]; exact h2
  · rw [e]; exact h3
  · rw [e]; exact h4
theorem lw_SW {own : String} {idx : Nat} {y : MethodName} {b : ByteArray} {L : Nat} {r : Option FieldType} {hh : List (Nat × Nat × Nat × Nat)} (h1 : Cond.methodLink own idx y ∈ lw_all) (h2 : Cond.static y ∈ lw_all) (h3 : Cond.initialized y.cls ∈ lw_all) (h4 : Cond.codeWith y b L r hh ∈ lw_all) : GoodIn lw_all (va_wsS own idx y (wsW_ y b L r hh)) := by
  refine lw_app ?_ (lw_methW h4)
  intro w hw
  simp only [List.mem_cons, List.not_mem_nil, or_false] at hw
  rcases hw with e | e | e
  · rw [e]; exact h1
  · rw [e]; exact h2
  · rw [e]; exact h3
/-- a word by its place in its run of the tables -/
theorem lw_at {r : List Cond} (hr : ∀ w ∈ r, w ∈ lw_tbl) {w : Cond} (i : Nat) (h : r[i]? = some w) : w ∈ lw_tbl := hr w (List.mem_of_getElem? h)
theorem lw_g {w : Cond} (h : w ∈ lw_tbl) (g : goodWord w = true) : w ∈ lw_all := List.mem_filter.mpr ⟨h, g⟩
theorem lw_ms : ∀ w ∈ k2_sels lw_privs, w ∈ lw_tbl := fun w h => show w ∈ k2_sels lw_privs ++ tables_1 from List.mem_append_left _ h
theorem lw_m1 : ∀ w ∈ tables_1_1, w ∈ lw_tbl := fun w h => show w ∈ k2_sels lw_privs ++ tables_1 from List.mem_append_right (k2_sels lw_privs) (show w ∈ tables_1 from List.mem_append_left _ h)
theorem lw_m2 : ∀ w ∈ tables_1_2, w ∈ lw_tbl := fun w h => show w ∈ k2_sels lw_privs ++ tables_1 from List.mem_append_right (k2_sels lw_privs) (show w ∈ tables_1 from List.mem_append_right _ h)
theorem qs0 : (Cond.selects "LabelNet" ⟨"LabelNet", "turn", "(IIZ)V"⟩ ⟨"LabelNet", "turn", "(IIZ)V"⟩) ∈ lw_all := lw_g (lw_at lw_ms 0 rfl) rfl
theorem qs1 : (Cond.selects "LabelNet" ⟨"LabelNet", "linked", "(II)Z"⟩ ⟨"LabelNet", "linked", "(II)Z"⟩) ∈ lw_all := lw_g (lw_at lw_ms 1 rfl) rfl
theorem qs2 : (Cond.selects "LabelNet" ⟨"LabelNet", "connected", "(II)Z"⟩ ⟨"LabelNet", "connected", "(II)Z"⟩) ∈ lw_all := lw_g (lw_at lw_ms 2 rfl) rfl
theorem qs3 : (Cond.selects "LabelNet" ⟨"LabelNet", "learn", "()V"⟩ ⟨"LabelNet", "learn", "()V"⟩) ∈ lw_all := lw_g (lw_at lw_ms 3 rfl) rfl
theorem qs4 : (Cond.selects "LabelNet" ⟨"LabelNet", "measure", "(I)V"⟩ ⟨"LabelNet", "measure", "(I)V"⟩) ∈ lw_all := lw_g (lw_at lw_ms 4 rfl) rfl
theorem qs5 : (Cond.selects "LabelNet" ⟨"LabelNet", "nearest", "(II)I"⟩ ⟨"LabelNet", "nearest", "(II)I"⟩) ∈ lw_all := lw_g (lw_at lw_ms 5 rfl) rfl
theorem qs6 : (Cond.selects "LabelNet" ⟨"LabelNet", "counts", "(II)Z"⟩ ⟨"LabelNet", "counts", "(II)Z"⟩) ∈ lw_all := lw_g (lw_at lw_ms 6 rfl) rfl
theorem qs7 : (Cond.selects "LabelNet" ⟨"LabelNet", "chooseHop", "(II)I"⟩ ⟨"LabelNet", "chooseHop", "(II)I"⟩) ∈ lw_all := lw_g (lw_at lw_ms 7 rfl) rfl
theorem qs8 : (Cond.selects "LabelNet" ⟨"LabelNet", "bind", "()V"⟩ ⟨"LabelNet", "bind", "()V"⟩) ∈ lw_all := lw_g (lw_at lw_ms 8 rfl) rfl
theorem qs9 : (Cond.selects "LabelNet" ⟨"LabelNet", "bindOne", "(II)V"⟩ ⟨"LabelNet", "bindOne", "(II)V"⟩) ∈ lw_all := lw_g (lw_at lw_ms 9 rfl) rfl
theorem qs10 : (Cond.selects "LabelNet" ⟨"LabelNet", "launch", "(II)V"⟩ ⟨"LabelNet", "launch", "(II)V"⟩) ∈ lw_all := lw_g (lw_at lw_ms 10 rfl) rfl
theorem qs11 : (Cond.selects "LabelNet" ⟨"LabelNet", "forward", "()Z"⟩ ⟨"LabelNet", "forward", "()Z"⟩) ∈ lw_all := lw_g (lw_at lw_ms 11 rfl) rfl
theorem qs12 : (Cond.selects "LabelNet" ⟨"LabelNet", "comesThrough", "(III)Z"⟩ ⟨"LabelNet", "comesThrough", "(III)Z"⟩) ∈ lw_all := lw_g (lw_at lw_ms 12 rfl) rfl
theorem qs13 : (Cond.selects "LabelNet" ⟨"LabelNet", "goesAlong", "(III)Z"⟩ ⟨"LabelNet", "goesAlong", "(III)Z"⟩) ∈ lw_all := lw_g (lw_at lw_ms 13 rfl) rfl
theorem qs14 : (Cond.selects "LabelNet" ⟨"LabelNet", "routeDiffers", "(II)Z"⟩ ⟨"LabelNet", "routeDiffers", "(II)Z"⟩) ∈ lw_all := lw_g (lw_at lw_ms 14 rfl) rfl
theorem qs15 : (Cond.selects "LabelNetModel" ⟨"LabelNetModel", "router", "(I)Z"⟩ ⟨"LabelNetModel", "router", "(I)Z"⟩) ∈ lw_all := lw_g (lw_at lw_ms 15 rfl) rfl
theorem qs16 : (Cond.selects "LabelNetModel" ⟨"LabelNetModel", "link", "(II)Z"⟩ ⟨"LabelNetModel", "link", "(II)Z"⟩) ∈ lw_all := lw_g (lw_at lw_ms 16 rfl) rfl
theorem qs17 : (Cond.selects "LabelNetModel" ⟨"LabelNetModel", "work", "()V"⟩ ⟨"LabelNetModel", "work", "()V"⟩) ∈ lw_all := lw_g (lw_at lw_ms 17 rfl) rfl
theorem qs18 : (Cond.selects "LabelNetModel" ⟨"LabelNetModel", "lower", "(II)V"⟩ ⟨"LabelNetModel", "lower", "(II)V"⟩) ∈ lw_all := lw_g (lw_at lw_ms 18 rfl) rfl
theorem qs19 : (Cond.selects "LabelNetModel" ⟨"LabelNetModel", "counts", "(II)Z"⟩ ⟨"LabelNetModel", "counts", "(II)Z"⟩) ∈ lw_all := lw_g (lw_at lw_ms 19 rfl) rfl
theorem qs20 : (Cond.selects "LabelNetModel" ⟨"LabelNetModel", "has", "(II)Z"⟩ ⟨"LabelNetModel", "has", "(II)Z"⟩) ∈ lw_all := lw_g (lw_at lw_ms 20 rfl) rfl
theorem qs21 : (Cond.selects "LabelNetModel" ⟨"LabelNetModel", "hop", "(II)I"⟩ ⟨"LabelNetModel", "hop", "(II)I"⟩) ∈ lw_all := lw_g (lw_at lw_ms 21 rfl) rfl
theorem qs22 : (Cond.selects "LabelNetModel" ⟨"LabelNetModel", "count", "(II)I"⟩ ⟨"LabelNetModel", "count", "(II)I"⟩) ∈ lw_all := lw_g (lw_at lw_ms 22 rfl) rfl
theorem qs23 : (Cond.selects "LabelNetModel" ⟨"LabelNetModel", "walk", "(III)I"⟩ ⟨"LabelNetModel", "walk", "(III)I"⟩) ∈ lw_all := lw_g (lw_at lw_ms 23 rfl) rfl
theorem qs24 : (Cond.selects "LabelNetModel" ⟨"LabelNetModel", "passes", "(IIII)Z"⟩ ⟨"LabelNetModel", "passes", "(IIII)Z"⟩) ∈ lw_all := lw_g (lw_at lw_ms 24 rfl) rfl
theorem qs25 : (Cond.selects "LabelNetModel" ⟨"LabelNetModel", "route", "(II)I"⟩ ⟨"LabelNetModel", "route", "(II)I"⟩) ∈ lw_all := lw_g (lw_at lw_ms 25 rfl) rfl
end
section
/-! java/lang/Object -/
set_option maxRecDepth 100000
def RJ0 : String := "java/lang/Object"
abbrev cJ0_init : ByteArray := object_method_1_code
def yJ0_init : MethodName := ⟨RJ0, "<init>", "()V"⟩
theorem dJ0_init_0 : decode cJ0_init 0 = .ok (.return_, 1) := by decide +kernel
theorem q35 : (Jvm.Cond.instanceMethod ({ cls := "java/lang/Object", name := "<init>", desc := "()V" } : Jvm.MethodName)) ∈ lw_all := lw_g (lw_at lw_m1 9 rfl) rfl
theorem q36 : (Jvm.Cond.code ({ cls := "java/lang/Object", name := "<init>", desc := "()V" } : Jvm.MethodName) object_method_1_code (1 : Nat) (Option.none : Option Jvm.ClassFile.FieldType)) ∈ lw_all := lw_g (lw_at lw_m1 10 rfl) rfl

set_option maxRecDepth 100000
theorem q77 : (Jvm.Cond.arrayClass Jvm.ClassFile.FieldType.byte) ∈ lw_all := lw_g (lw_at lw_m1 51 rfl) rfl
theorem q78 : (Jvm.Cond.arrayClass Jvm.ClassFile.FieldType.int) ∈ lw_all := lw_g (lw_at lw_m1 52 rfl) rfl
theorem q79 : (Jvm.Cond.arrayClass Jvm.ClassFile.FieldType.short) ∈ lw_all := lw_g (lw_at lw_m1 53 rfl) rfl
theorem q230 : (Jvm.Cond.arrayClass Jvm.ClassFile.FieldType.boolean) ∈ lw_all := lw_g (lw_at lw_m1 204 rfl) rfl

/-! LabelNet -/
set_option maxRecDepth 100000
def RX0 : String := "LabelNet"
def TX0 : u_T := fun k => match k with
  | 0 => ("LabelNet", "costs", "[B", true)
  | 1 => ("LabelNet", "linkUp", "[B", true)
  | 2 => ("LabelNet", "routerUp", "I", false)
  | 3 => ("LabelNet", "known", "Z", false)
  | 4 => ("LabelNet", "distances", "[I", true)
  | 5 => ("LabelNet", "hop", "[B", true)
  | 6 => ("LabelNet", "labelFor", "[S", true)
  | 7 => ("LabelNet", "outLabel", "[S", true)
  | 8 => ("LabelNet", "outRouter", "[B", true)
  | 9 => ("LabelNet", "pushed", "[S", true)
  | 10 => ("LabelNet", "packetAt", "I", false)
  | 11 => ("LabelNet", "packetLabel", "I", false)
  | _ => ("LabelNet", "before", "[B", true)
def tyX0 : Nat → FieldType := fun k => match k with
  | 0 => .array .byte
  | 1 => .array .byte
  | 2 => .int
  | 3 => .boolean
  | 4 => .array .int
  | 5 => .array .byte
  | 6 => .array .short
  | 7 => .array .short
  | 8 => .array .byte
  | 9 => .array .short
  | 10 => .int
  | 11 => .int
  | _ => .array .byte
abbrev wsX00 : List Cond := u_ws RX0 TX0 13
set_option maxRecDepth 100000 in
theorem nmX0 : ∀ a, a < 13 → ∀ b, b < 13 → a ≠ b → (TX0 a).2.1 ≠ (TX0 b).2.1 := by decide +kernel
set_option maxRecDepth 100000 in
theorem tyX0_ok : ∀ k, k < 13 → parseFieldDescriptor (TX0 k).2.2.1 = some (tyX0 k) := by decide +kernel
abbrev cX0_init : ByteArray := prog_1_method_1_code
def yX0_init : MethodName := ⟨RX0, "<init>", "()V"⟩
theorem dX0_init_0 : decode cX0_init 0 = .ok (.aload_n 0, 1) := by decide +kernel
theorem dX0_init_1 : decode cX0_init 1 = .ok (.invokespecial 1, 3) := by decide +kernel
theorem dX0_init_4 : decode cX0_init 4 = .ok (.aload_n 0, 1) := by decide +kernel
theorem dX0_init_5 : decode cX0_init 5 = .ok (.bipush 49, 2) := by decide +kernel
theorem dX0_init_7 : decode cX0_init 7 = .ok (.newarray .byte, 2) := by decide +kernel
theorem dX0_init_9 : decode cX0_init 9 = .ok (.putfield 7, 3) := by decide +kernel
theorem dX0_init_12 : decode cX0_init 12 = .ok (.aload_n 0, 1) := by decide +kernel
theorem dX0_init_13 : decode cX0_init 13 = .ok (.bipush 7, 2) := by decide +kernel
theorem dX0_init_15 : decode cX0_init 15 = .ok (.newarray .byte, 2) := by decide +kernel
theorem dX0_init_17 : decode cX0_init 17 = .ok (.putfield 13, 3) := by decide +kernel
theorem dX0_init_20 : decode cX0_init 20 = .ok (.aload_n 0, 1) := by decide +kernel
theorem dX0_init_21 : decode cX0_init 21 = .ok (.bipush 127, 2) := by decide +kernel
theorem dX0_init_23 : decode cX0_init 23 = .ok (.putfield 16, 3) := by decide +kernel
theorem dX0_init_26 : decode cX0_init 26 = .ok (.aload_n 0, 1) := by decide +kernel
theorem dX0_init_27 : decode cX0_init 27 = .ok (.bipush 49, 2) := by decide +kernel
theorem dX0_init_29 : decode cX0_init 29 = .ok (.newarray .int, 2) := by decide +kernel
theorem dX0_init_31 : decode cX0_init 31 = .ok (.putfield 20, 3) := by decide +kernel
theorem dX0_init_34 : decode cX0_init 34 = .ok (.aload_n 0, 1) := by decide +kernel
theorem dX0_init_35 : decode cX0_init 35 = .ok (.bipush 49, 2) := by decide +kernel
theorem dX0_init_37 : decode cX0_init 37 = .ok (.newarray .byte, 2) := by decide +kernel
theorem dX0_init_39 : decode cX0_init 39 = .ok (.putfield 24, 3) := by decide +kernel
theorem dX0_init_42 : decode cX0_init 42 = .ok (.aload_n 0, 1) := by decide +kernel
theorem dX0_init_43 : decode cX0_init 43 = .ok (.bipush 49, 2) := by decide +kernel
theorem dX0_init_45 : decode cX0_init 45 = .ok (.newarray .short, 2) := by decide +kernel
theorem dX0_init_47 : decode cX0_init 47 = .ok (.putfield 27, 3) := by decide +kernel
theorem dX0_init_50 : decode cX0_init 50 = .ok (.aload_n 0, 1) := by decide +kernel
theorem dX0_init_51 : decode cX0_init 51 = .ok (.bipush 112, 2) := by decide +kernel
theorem dX0_init_53 : decode cX0_init 53 = .ok (.newarray .short, 2) := by decide +kernel
theorem dX0_init_55 : decode cX0_init 55 = .ok (.putfield 31, 3) := by decide +kernel
theorem dX0_init_58 : decode cX0_init 58 = .ok (.aload_n 0, 1) := by decide +kernel
theorem dX0_init_59 : decode cX0_init 59 = .ok (.bipush 112, 2) := by decide +kernel
theorem dX0_init_61 : decode cX0_init 61 = .ok (.newarray .byte, 2) := by decide +kernel
theorem dX0_init_63 : decode cX0_init 63 = .ok (.putfield 34, 3) := by decide +kernel
theorem dX0_init_66 : decode cX0_init 66 = .ok (.aload_n 0, 1) := by decide +kernel
theorem dX0_init_67 : decode cX0_init 67 = .ok (.bipush 49, 2) := by decide +kernel
theorem dX0_init_69 : decode cX0_init 69 = .ok (.newarray .short, 2) := by decide +kernel
theorem dX0_init_71 : decode cX0_init 71 = .ok (.putfield 37, 3) := by decide +kernel
theorem dX0_init_74 : decode cX0_init 74 = .ok (.aload_n 0, 1) := by decide +kernel
theorem dX0_init_75 : decode cX0_init 75 = .ok (.bipush 49, 2) := by decide +kernel
theorem dX0_init_77 : decode cX0_init 77 = .ok (.newarray .byte, 2) := by decide +kernel
theorem dX0_init_79 : decode cX0_init 79 = .ok (.putfield 40, 3) := by decide +kernel
theorem dX0_init_82 : decode cX0_init 82 = .ok (.iconst 0, 1) := by decide +kernel
theorem dX0_init_83 : decode cX0_init 83 = .ok (.istore_n 1, 1) := by decide +kernel
theorem dX0_init_84 : decode cX0_init 84 = .ok (.iload_n 1, 1) := by decide +kernel
theorem dX0_init_85 : decode cX0_init 85 = .ok (.bipush 7, 2) := by decide +kernel
theorem dX0_init_87 : decode cX0_init 87 = .ok (.if_icmp .ge 52, 3) := by decide +kernel
theorem dX0_init_90 : decode cX0_init 90 = .ok (.iconst 0, 1) := by decide +kernel
theorem dX0_init_91 : decode cX0_init 91 = .ok (.istore_n 2, 1) := by decide +kernel
theorem dX0_init_92 : decode cX0_init 92 = .ok (.iload_n 2, 1) := by decide +kernel
theorem dX0_init_93 : decode cX0_init 93 = .ok (.bipush 7, 2) := by decide +kernel
theorem dX0_init_95 : decode cX0_init 95 = .ok (.if_icmp .ge 38, 3) := by decide +kernel
theorem dX0_init_98 : decode cX0_init 98 = .ok (.aload_n 0, 1) := by decide +kernel
theorem dX0_init_99 : decode cX0_init 99 = .ok (.getfield 27, 3) := by decide +kernel
theorem dX0_init_102 : decode cX0_init 102 = .ok (.iload_n 1, 1) := by decide +kernel
theorem dX0_init_103 : decode cX0_init 103 = .ok (.bipush 7, 2) := by decide +kernel
theorem dX0_init_105 : decode cX0_init 105 = .ok (.imul, 1) := by decide +kernel
theorem dX0_init_106 : decode cX0_init 106 = .ok (.iload_n 2, 1) := by decide +kernel
theorem dX0_init_107 : decode cX0_init 107 = .ok (.iadd, 1) := by decide +kernel
theorem dX0_init_108 : decode cX0_init 108 = .ok (.bipush 16, 2) := by decide +kernel
theorem dX0_init_110 : decode cX0_init 110 = .ok (.iload_n 1, 1) := by decide +kernel
theorem dX0_init_111 : decode cX0_init 111 = .ok (.iconst 1, 1) := by decide +kernel
theorem dX0_init_112 : decode cX0_init 112 = .ok (.iadd, 1) := by decide +kernel
theorem dX0_init_113 : decode cX0_init 113 = .ok (.imul, 1) := by decide +kernel
theorem dX0_init_114 : decode cX0_init 114 = .ok (.iconst 3, 1) := by decide +kernel
theorem dX0_init_115 : decode cX0_init 115 = .ok (.iload_n 2, 1) := by decide +kernel
theorem dX0_init_116 : decode cX0_init 116 = .ok (.imul, 1) := by decide +kernel
theorem dX0_init_117 : decode cX0_init 117 = .ok (.iload_n 1, 1) := by decide +kernel
theorem dX0_init_118 : decode cX0_init 118 = .ok (.iadd, 1) := by decide +kernel
theorem dX0_init_119 : decode cX0_init 119 = .ok (.bipush 7, 2) := by decide +kernel
theorem dX0_init_121 : decode cX0_init 121 = .ok (.irem, 1) := by decide +kernel
theorem dX0_init_122 : decode cX0_init 122 = .ok (.iadd, 1) := by decide +kernel
theorem dX0_init_123 : decode cX0_init 123 = .ok (.iconst 1, 1) := by decide +kernel
theorem dX0_init_124 : decode cX0_init 124 = .ok (.iadd, 1) := by decide +kernel
theorem dX0_init_125 : decode cX0_init 125 = .ok (.i2s, 1) := by decide +kernel
theorem dX0_init_126 : decode cX0_init 126 = .ok (.sastore, 1) := by decide +kernel
theorem dX0_init_127 : decode cX0_init 127 = .ok (.iinc 2 1, 3) := by decide +kernel
theorem dX0_init_130 : decode cX0_init 130 = .ok (.goto (-38), 3) := by decide +kernel
theorem dX0_init_133 : decode cX0_init 133 = .ok (.iinc 1 1, 3) := by decide +kernel
theorem dX0_init_136 : decode cX0_init 136 = .ok (.goto (-52), 3) := by decide +kernel
theorem dX0_init_139 : decode cX0_init 139 = .ok (.return_, 1) := by decide +kernel
abbrev cX0_join : ByteArray := prog_1_method_4_code
def yX0_join : MethodName := ⟨RX0, "join", "(III)Z"⟩
theorem dX0_join_0 : decode cX0_join 0 = .ok (.iload_n 1, 1) := by decide +kernel
theorem dX0_join_1 : decode cX0_join 1 = .ok (.iload_n 2, 1) := by decide +kernel
theorem dX0_join_2 : decode cX0_join 2 = .ok (.invokestatic 47, 3) := by decide +kernel
theorem dX0_join_5 : decode cX0_join 5 = .ok (.ifCond .eq 14, 3) := by decide +kernel
theorem dX0_join_8 : decode cX0_join 8 = .ok (.iload_n 3, 1) := by decide +kernel
theorem dX0_join_9 : decode cX0_join 9 = .ok (.iconst 1, 1) := by decide +kernel
theorem dX0_join_10 : decode cX0_join 10 = .ok (.if_icmp .lt 9, 3) := by decide +kernel
theorem dX0_join_13 : decode cX0_join 13 = .ok (.iload_n 3, 1) := by decide +kernel
theorem dX0_join_14 : decode cX0_join 14 = .ok (.bipush 9, 2) := by decide +kernel
theorem dX0_join_16 : decode cX0_join 16 = .ok (.if_icmp .le 5, 3) := by decide +kernel
theorem dX0_join_19 : decode cX0_join 19 = .ok (.iconst 0, 1) := by decide +kernel
theorem dX0_join_20 : decode cX0_join 20 = .ok (.ireturn, 1) := by decide +kernel
theorem dX0_join_21 : decode cX0_join 21 = .ok (.aload_n 0, 1) := by decide +kernel
theorem dX0_join_22 : decode cX0_join 22 = .ok (.getfield 7, 3) := by decide +kernel
theorem dX0_join_25 : decode cX0_join 25 = .ok (.iload_n 1, 1) := by decide +kernel
theorem dX0_join_26 : decode cX0_join 26 = .ok (.bipush 7, 2) := by decide +kernel
theorem dX0_join_28 : decode cX0_join 28 = .ok (.imul, 1) := by decide +kernel
theorem dX0_join_29 : decode cX0_join 29 = .ok (.iload_n 2, 1) := by decide +kernel
theorem dX0_join_30 : decode cX0_join 30 = .ok (.iadd, 1) := by decide +kernel
theorem dX0_join_31 : decode cX0_join 31 = .ok (.iload_n 3, 1) := by decide +kernel
theorem dX0_join_32 : decode cX0_join 32 = .ok (.i2b, 1) := by decide +kernel
theorem dX0_join_33 : decode cX0_join 33 = .ok (.bastore, 1) := by decide +kernel
theorem dX0_join_34 : decode cX0_join 34 = .ok (.aload_n 0, 1) := by decide +kernel
theorem dX0_join_35 : decode cX0_join 35 = .ok (.getfield 7, 3) := by decide +kernel
theorem dX0_join_38 : decode cX0_join 38 = .ok (.iload_n 2, 1) := by decide +kernel
theorem dX0_join_39 : decode cX0_join 39 = .ok (.bipush 7, 2) := by decide +kernel
theorem dX0_join_41 : decode cX0_join 41 = .ok (.imul, 1) := by decide +kernel
theorem dX0_join_42 : decode cX0_join 42 = .ok (.iload_n 1, 1) := by decide +kernel
theorem dX0_join_43 : decode cX0_join 43 = .ok (.iadd, 1) := by decide +kernel
theorem dX0_join_44 : decode cX0_join 44 = .ok (.iload_n 3, 1) := by decide +kernel
theorem dX0_join_45 : decode cX0_join 45 = .ok (.i2b, 1) := by decide +kernel
theorem dX0_join_46 : decode cX0_join 46 = .ok (.bastore, 1) := by decide +kernel
theorem dX0_join_47 : decode cX0_join 47 = .ok (.aload_n 0, 1) := by decide +kernel
theorem dX0_join_48 : decode cX0_join 48 = .ok (.iload_n 1, 1) := by decide +kernel
theorem dX0_join_49 : decode cX0_join 49 = .ok (.iload_n 2, 1) := by decide +kernel
theorem dX0_join_50 : decode cX0_join 50 = .ok (.iconst 1, 1) := by decide +kernel
theorem dX0_join_51 : decode cX0_join 51 = .ok (.invokevirtual 51, 3) := by decide +kernel
theorem dX0_join_54 : decode cX0_join 54 = .ok (.iconst 1, 1) := by decide +kernel
theorem dX0_join_55 : decode cX0_join 55 = .ok (.ireturn, 1) := by decide +kernel
abbrev cX0_isPair : ByteArray := prog_1_method_3_code
def yX0_isPair : MethodName := ⟨RX0, "isPair", "(II)Z"⟩
theorem dX0_isPair_0 : decode cX0_isPair 0 = .ok (.iload_n 0, 1) := by decide +kernel
theorem dX0_isPair_1 : decode cX0_isPair 1 = .ok (.invokestatic 43, 3) := by decide +kernel
theorem dX0_isPair_4 : decode cX0_isPair 4 = .ok (.ifCond .eq 19, 3) := by decide +kernel
theorem dX0_isPair_7 : decode cX0_isPair 7 = .ok (.iload_n 1, 1) := by decide +kernel
theorem dX0_isPair_8 : decode cX0_isPair 8 = .ok (.invokestatic 43, 3) := by decide +kernel
theorem dX0_isPair_11 : decode cX0_isPair 11 = .ok (.ifCond .eq 12, 3) := by decide +kernel
theorem dX0_isPair_14 : decode cX0_isPair 14 = .ok (.iload_n 0, 1) := by decide +kernel
theorem dX0_isPair_15 : decode cX0_isPair 15 = .ok (.iload_n 1, 1) := by decide +kernel
theorem dX0_isPair_16 : decode cX0_isPair 16 = .ok (.if_icmp .eq 7, 3) := by decide +kernel
theorem dX0_isPair_19 : decode cX0_isPair 19 = .ok (.iconst 1, 1) := by decide +kernel
theorem dX0_isPair_20 : decode cX0_isPair 20 = .ok (.goto 4, 3) := by decide +kernel
theorem dX0_isPair_23 : decode cX0_isPair 23 = .ok (.iconst 0, 1) := by decide +kernel
theorem dX0_isPair_24 : decode cX0_isPair 24 = .ok (.ireturn, 1) := by decide +kernel
abbrev cX0_isRouter : ByteArray := prog_1_method_2_code
def yX0_isRouter : MethodName := ⟨RX0, "isRouter", "(I)Z"⟩
theorem dX0_isRouter_0 : decode cX0_isRouter 0 = .ok (.iload_n 0, 1) := by decide +kernel
theorem dX0_isRouter_1 : decode cX0_isRouter 1 = .ok (.ifCond .lt 13, 3) := by decide +kernel
theorem dX0_isRouter_4 : decode cX0_isRouter 4 = .ok (.iload_n 0, 1) := by decide +kernel
theorem dX0_isRouter_5 : decode cX0_isRouter 5 = .ok (.bipush 7, 2) := by decide +kernel
theorem dX0_isRouter_7 : decode cX0_isRouter 7 = .ok (.if_icmp .ge 7, 3) := by decide +kernel
theorem dX0_isRouter_10 : decode cX0_isRouter 10 = .ok (.iconst 1, 1) := by decide +kernel
theorem dX0_isRouter_11 : decode cX0_isRouter 11 = .ok (.goto 4, 3) := by decide +kernel
theorem dX0_isRouter_14 : decode cX0_isRouter 14 = .ok (.iconst 0, 1) := by decide +kernel
theorem dX0_isRouter_15 : decode cX0_isRouter 15 = .ok (.ireturn, 1) := by decide +kernel
abbrev cX0_turn : ByteArray := prog_1_method_6_code
def yX0_turn : MethodName := ⟨RX0, "turn", "(IIZ)V"⟩
theorem dX0_turn_0 : decode cX0_turn 0 = .ok (.aload_n 0, 1) := by decide +kernel
theorem dX0_turn_1 : decode cX0_turn 1 = .ok (.getfield 13, 3) := by decide +kernel
theorem dX0_turn_4 : decode cX0_turn 4 = .ok (.iload_n 1, 1) := by decide +kernel
theorem dX0_turn_5 : decode cX0_turn 5 = .ok (.iload_n 3, 1) := by decide +kernel
theorem dX0_turn_6 : decode cX0_turn 6 = .ok (.ifCond .eq 16, 3) := by decide +kernel
theorem dX0_turn_9 : decode cX0_turn 9 = .ok (.aload_n 0, 1) := by decide +kernel
theorem dX0_turn_10 : decode cX0_turn 10 = .ok (.getfield 13, 3) := by decide +kernel
theorem dX0_turn_13 : decode cX0_turn 13 = .ok (.iload_n 1, 1) := by decide +kernel
theorem dX0_turn_14 : decode cX0_turn 14 = .ok (.baload, 1) := by decide +kernel
theorem dX0_turn_15 : decode cX0_turn 15 = .ok (.iconst 1, 1) := by decide +kernel
theorem dX0_turn_16 : decode cX0_turn 16 = .ok (.iload_n 2, 1) := by decide +kernel
theorem dX0_turn_17 : decode cX0_turn 17 = .ok (.ishl, 1) := by decide +kernel
theorem dX0_turn_18 : decode cX0_turn 18 = .ok (.ior, 1) := by decide +kernel
theorem dX0_turn_19 : decode cX0_turn 19 = .ok (.goto 15, 3) := by decide +kernel
theorem dX0_turn_22 : decode cX0_turn 22 = .ok (.aload_n 0, 1) := by decide +kernel
theorem dX0_turn_23 : decode cX0_turn 23 = .ok (.getfield 13, 3) := by decide +kernel
theorem dX0_turn_26 : decode cX0_turn 26 = .ok (.iload_n 1, 1) := by decide +kernel
theorem dX0_turn_27 : decode cX0_turn 27 = .ok (.baload, 1) := by decide +kernel
theorem dX0_turn_28 : decode cX0_turn 28 = .ok (.iconst 1, 1) := by decide +kernel
theorem dX0_turn_29 : decode cX0_turn 29 = .ok (.iload_n 2, 1) := by decide +kernel
theorem dX0_turn_30 : decode cX0_turn 30 = .ok (.ishl, 1) := by decide +kernel
theorem dX0_turn_31 : decode cX0_turn 31 = .ok (.iconst (-1), 1) := by decide +kernel
theorem dX0_turn_32 : decode cX0_turn 32 = .ok (.ixor, 1) := by decide +kernel
theorem dX0_turn_33 : decode cX0_turn 33 = .ok (.iand, 1) := by decide +kernel
theorem dX0_turn_34 : decode cX0_turn 34 = .ok (.i2b, 1) := by decide +kernel
theorem dX0_turn_35 : decode cX0_turn 35 = .ok (.bastore, 1) := by decide +kernel
theorem dX0_turn_36 : decode cX0_turn 36 = .ok (.aload_n 0, 1) := by decide +kernel
theorem dX0_turn_37 : decode cX0_turn 37 = .ok (.getfield 13, 3) := by decide +kernel
theorem dX0_turn_40 : decode cX0_turn 40 = .ok (.iload_n 2, 1) := by decide +kernel
theorem dX0_turn_41 : decode cX0_turn 41 = .ok (.iload_n 3, 1) := by decide +kernel
theorem dX0_turn_42 : decode cX0_turn 42 = .ok (.ifCond .eq 16, 3) := by decide +kernel
theorem dX0_turn_45 : decode cX0_turn 45 = .ok (.aload_n 0, 1) := by decide +kernel
theorem dX0_turn_46 : decode cX0_turn 46 = .ok (.getfield 13, 3) := by decide +kernel
theorem dX0_turn_49 : decode cX0_turn 49 = .ok (.iload_n 2, 1) := by decide +kernel
theorem dX0_turn_50 : decode cX0_turn 50 = .ok (.baload, 1) := by decide +kernel
theorem dX0_turn_51 : decode cX0_turn 51 = .ok (.iconst 1, 1) := by decide +kernel
theorem dX0_turn_52 : decode cX0_turn 52 = .ok (.iload_n 1, 1) := by decide +kernel
theorem dX0_turn_53 : decode cX0_turn 53 = .ok (.ishl, 1) := by decide +kernel
theorem dX0_turn_54 : decode cX0_turn 54 = .ok (.ior, 1) := by decide +kernel
theorem dX0_turn_55 : decode cX0_turn 55 = .ok (.goto 15, 3) := by decide +kernel
theorem dX0_turn_58 : decode cX0_turn 58 = .ok (.aload_n 0, 1) := by decide +kernel
theorem dX0_turn_59 : decode cX0_turn 59 = .ok (.getfield 13, 3) := by decide +kernel
theorem dX0_turn_62 : decode cX0_turn 62 = .ok (.iload_n 2, 1) := by decide +kernel
theorem dX0_turn_63 : decode cX0_turn 63 = .ok (.baload, 1) := by decide +kernel
theorem dX0_turn_64 : decode cX0_turn 64 = .ok (.iconst 1, 1) := by decide +kernel
theorem dX0_turn_65 : decode cX0_turn 65 = .ok (.iload_n 1, 1) := by decide +kernel
theorem dX0_turn_66 : decode cX0_turn 66 = .ok (.ishl, 1) := by decide +kernel
theorem dX0_turn_67 : decode cX0_turn 67 = .ok (.iconst (-1), 1) := by decide +kernel
theorem dX0_turn_68 : decode cX0_turn 68 = .ok (.ixor, 1) := by decide +kernel
theorem dX0_turn_69 : decode cX0_turn 69 = .ok (.iand, 1) := by decide +kernel
theorem dX0_turn_70 : decode cX0_turn 70 = .ok (.i2b, 1) := by decide +kernel
theorem dX0_turn_71 : decode cX0_turn 71 = .ok (.bastore, 1) := by decide +kernel
theorem dX0_turn_72 : decode cX0_turn 72 = .ok (.aload_n 0, 1) := by decide +kernel
theorem dX0_turn_73 : decode cX0_turn 73 = .ok (.iconst 0, 1) := by decide +kernel
theorem dX0_turn_74 : decode cX0_turn 74 = .ok (.putfield 55, 3) := by decide +kernel
theorem dX0_turn_77 : decode cX0_turn 77 = .ok (.return_, 1) := by decide +kernel
abbrev cX0_cut : ByteArray := prog_1_method_7_code
def yX0_cut : MethodName := ⟨RX0, "cut", "(II)Z"⟩
theorem dX0_cut_0 : decode cX0_cut 0 = .ok (.aload_n 0, 1) := by decide +kernel
theorem dX0_cut_1 : decode cX0_cut 1 = .ok (.iload_n 1, 1) := by decide +kernel
theorem dX0_cut_2 : decode cX0_cut 2 = .ok (.iload_n 2, 1) := by decide +kernel
theorem dX0_cut_3 : decode cX0_cut 3 = .ok (.invokevirtual 59, 3) := by decide +kernel
theorem dX0_cut_6 : decode cX0_cut 6 = .ok (.ifCond .ne 5, 3) := by decide +kernel
theorem dX0_cut_9 : decode cX0_cut 9 = .ok (.iconst 0, 1) := by decide +kernel
theorem dX0_cut_10 : decode cX0_cut 10 = .ok (.ireturn, 1) := by decide +kernel
theorem dX0_cut_11 : decode cX0_cut 11 = .ok (.aload_n 0, 1) := by decide +kernel
theorem dX0_cut_12 : decode cX0_cut 12 = .ok (.getfield 7, 3) := by decide +kernel
theorem dX0_cut_15 : decode cX0_cut 15 = .ok (.iload_n 1, 1) := by decide +kernel
theorem dX0_cut_16 : decode cX0_cut 16 = .ok (.bipush 7, 2) := by decide +kernel
theorem dX0_cut_18 : decode cX0_cut 18 = .ok (.imul, 1) := by decide +kernel
theorem dX0_cut_19 : decode cX0_cut 19 = .ok (.iload_n 2, 1) := by decide +kernel
theorem dX0_cut_20 : decode cX0_cut 20 = .ok (.iadd, 1) := by decide +kernel
theorem dX0_cut_21 : decode cX0_cut 21 = .ok (.iconst 0, 1) := by decide +kernel
theorem dX0_cut_22 : decode cX0_cut 22 = .ok (.bastore, 1) := by decide +kernel
theorem dX0_cut_23 : decode cX0_cut 23 = .ok (.aload_n 0, 1) := by decide +kernel
theorem dX0_cut_24 : decode cX0_cut 24 = .ok (.getfield 7, 3) := by decide +kernel
theorem dX0_cut_27 : decode cX0_cut 27 = .ok (.iload_n 2, 1) := by decide +kernel
theorem dX0_cut_28 : decode cX0_cut 28 = .ok (.bipush 7, 2) := by decide +kernel
theorem dX0_cut_30 : decode cX0_cut 30 = .ok (.imul, 1) := by decide +kernel
theorem dX0_cut_31 : decode cX0_cut 31 = .ok (.iload_n 1, 1) := by decide +kernel
theorem dX0_cut_32 : decode cX0_cut 32 = .ok (.iadd, 1) := by decide +kernel
theorem dX0_cut_33 : decode cX0_cut 33 = .ok (.iconst 0, 1) := by decide +kernel
theorem dX0_cut_34 : decode cX0_cut 34 = .ok (.bastore, 1) := by decide +kernel
theorem dX0_cut_35 : decode cX0_cut 35 = .ok (.aload_n 0, 1) := by decide +kernel
theorem dX0_cut_36 : decode cX0_cut 36 = .ok (.iload_n 1, 1) := by decide +kernel
theorem dX0_cut_37 : decode cX0_cut 37 = .ok (.iload_n 2, 1) := by decide +kernel
theorem dX0_cut_38 : decode cX0_cut 38 = .ok (.iconst 0, 1) := by decide +kernel
theorem dX0_cut_39 : decode cX0_cut 39 = .ok (.invokevirtual 51, 3) := by decide +kernel
theorem dX0_cut_42 : decode cX0_cut 42 = .ok (.iconst 1, 1) := by decide +kernel
theorem dX0_cut_43 : decode cX0_cut 43 = .ok (.ireturn, 1) := by decide +kernel
abbrev cX0_linked : ByteArray := prog_1_method_5_code
def yX0_linked : MethodName := ⟨RX0, "linked", "(II)Z"⟩
theorem dX0_linked_0 : decode cX0_linked 0 = .ok (.iload_n 1, 1) := by decide +kernel
theorem dX0_linked_1 : decode cX0_linked 1 = .ok (.iload_n 2, 1) := by decide +kernel
theorem dX0_linked_2 : decode cX0_linked 2 = .ok (.invokestatic 47, 3) := by decide +kernel
theorem dX0_linked_5 : decode cX0_linked 5 = .ok (.ifCond .eq 21, 3) := by decide +kernel
theorem dX0_linked_8 : decode cX0_linked 8 = .ok (.aload_n 0, 1) := by decide +kernel
theorem dX0_linked_9 : decode cX0_linked 9 = .ok (.getfield 7, 3) := by decide +kernel
theorem dX0_linked_12 : decode cX0_linked 12 = .ok (.iload_n 1, 1) := by decide +kernel
theorem dX0_linked_13 : decode cX0_linked 13 = .ok (.bipush 7, 2) := by decide +kernel
theorem dX0_linked_15 : decode cX0_linked 15 = .ok (.imul, 1) := by decide +kernel
theorem dX0_linked_16 : decode cX0_linked 16 = .ok (.iload_n 2, 1) := by decide +kernel
theorem dX0_linked_17 : decode cX0_linked 17 = .ok (.iadd, 1) := by decide +kernel
theorem dX0_linked_18 : decode cX0_linked 18 = .ok (.baload, 1) := by decide +kernel
theorem dX0_linked_19 : decode cX0_linked 19 = .ok (.ifCond .le 7, 3) := by decide +kernel
theorem dX0_linked_22 : decode cX0_linked 22 = .ok (.iconst 1, 1) := by decide +kernel
theorem dX0_linked_23 : decode cX0_linked 23 = .ok (.goto 4, 3) := by decide +kernel
theorem dX0_linked_26 : decode cX0_linked 26 = .ok (.iconst 0, 1) := by decide +kernel
theorem dX0_linked_27 : decode cX0_linked 27 = .ok (.ireturn, 1) := by decide +kernel
abbrev cX0_setLink : ByteArray := prog_1_method_8_code
def yX0_setLink : MethodName := ⟨RX0, "setLink", "(IIZ)Z"⟩
theorem dX0_setLink_0 : decode cX0_setLink 0 = .ok (.aload_n 0, 1) := by decide +kernel
theorem dX0_setLink_1 : decode cX0_setLink 1 = .ok (.iload_n 1, 1) := by decide +kernel
theorem dX0_setLink_2 : decode cX0_setLink 2 = .ok (.iload_n 2, 1) := by decide +kernel
theorem dX0_setLink_3 : decode cX0_setLink 3 = .ok (.invokevirtual 59, 3) := by decide +kernel
theorem dX0_setLink_6 : decode cX0_setLink 6 = .ok (.ifCond .ne 5, 3) := by decide +kernel
theorem dX0_setLink_9 : decode cX0_setLink 9 = .ok (.iconst 0, 1) := by decide +kernel
theorem dX0_setLink_10 : decode cX0_setLink 10 = .ok (.ireturn, 1) := by decide +kernel
theorem dX0_setLink_11 : decode cX0_setLink 11 = .ok (.aload_n 0, 1) := by decide +kernel
theorem dX0_setLink_12 : decode cX0_setLink 12 = .ok (.iload_n 1, 1) := by decide +kernel
theorem dX0_setLink_13 : decode cX0_setLink 13 = .ok (.iload_n 2, 1) := by decide +kernel
theorem dX0_setLink_14 : decode cX0_setLink 14 = .ok (.iload_n 3, 1) := by decide +kernel
theorem dX0_setLink_15 : decode cX0_setLink 15 = .ok (.invokevirtual 51, 3) := by decide +kernel
theorem dX0_setLink_18 : decode cX0_setLink 18 = .ok (.iconst 1, 1) := by decide +kernel
theorem dX0_setLink_19 : decode cX0_setLink 19 = .ok (.ireturn, 1) := by decide +kernel
abbrev cX0_setRouter : ByteArray := prog_1_method_9_code
def yX0_setRouter : MethodName := ⟨RX0, "setRouter", "(IZ)Z"⟩
theorem dX0_setRouter_0 : decode cX0_setRouter 0 = .ok (.iload_n 1, 1) := by decide +kernel
theorem dX0_setRouter_1 : decode cX0_setRouter 1 = .ok (.invokestatic 43, 3) := by decide +kernel
theorem dX0_setRouter_4 : decode cX0_setRouter 4 = .ok (.ifCond .ne 5, 3) := by decide +kernel
theorem dX0_setRouter_7 : decode cX0_setRouter 7 = .ok (.iconst 0, 1) := by decide +kernel
theorem dX0_setRouter_8 : decode cX0_setRouter 8 = .ok (.ireturn, 1) := by decide +kernel
theorem dX0_setRouter_9 : decode cX0_setRouter 9 = .ok (.aload_n 0, 1) := by decide +kernel
theorem dX0_setRouter_10 : decode cX0_setRouter 10 = .ok (.iload_n 2, 1) := by decide +kernel
theorem dX0_setRouter_11 : decode cX0_setRouter 11 = .ok (.ifCond .eq 14, 3) := by decide +kernel
theorem dX0_setRouter_14 : decode cX0_setRouter 14 = .ok (.aload_n 0, 1) := by decide +kernel
theorem dX0_setRouter_15 : decode cX0_setRouter 15 = .ok (.getfield 16, 3) := by decide +kernel
theorem dX0_setRouter_18 : decode cX0_setRouter 18 = .ok (.iconst 1, 1) := by decide +kernel
theorem dX0_setRouter_19 : decode cX0_setRouter 19 = .ok (.iload_n 1, 1) := by decide +kernel
theorem dX0_setRouter_20 : decode cX0_setRouter 20 = .ok (.ishl, 1) := by decide +kernel
theorem dX0_setRouter_21 : decode cX0_setRouter 21 = .ok (.ior, 1) := by decide +kernel
theorem dX0_setRouter_22 : decode cX0_setRouter 22 = .ok (.goto 13, 3) := by decide +kernel
theorem dX0_setRouter_25 : decode cX0_setRouter 25 = .ok (.aload_n 0, 1) := by decide +kernel
theorem dX0_setRouter_26 : decode cX0_setRouter 26 = .ok (.getfield 16, 3) := by decide +kernel
theorem dX0_setRouter_29 : decode cX0_setRouter 29 = .ok (.iconst 1, 1) := by decide +kernel
theorem dX0_setRouter_30 : decode cX0_setRouter 30 = .ok (.iload_n 1, 1) := by decide +kernel
theorem dX0_setRouter_31 : decode cX0_setRouter 31 = .ok (.ishl, 1) := by decide +kernel
theorem dX0_setRouter_32 : decode cX0_setRouter 32 = .ok (.iconst (-1), 1) := by decide +kernel
theorem dX0_setRouter_33 : decode cX0_setRouter 33 = .ok (.ixor, 1) := by decide +kernel
theorem dX0_setRouter_34 : decode cX0_setRouter 34 = .ok (.iand, 1) := by decide +kernel
theorem dX0_setRouter_35 : decode cX0_setRouter 35 = .ok (.putfield 16, 3) := by decide +kernel
theorem dX0_setRouter_38 : decode cX0_setRouter 38 = .ok (.aload_n 0, 1) := by decide +kernel
theorem dX0_setRouter_39 : decode cX0_setRouter 39 = .ok (.iconst 0, 1) := by decide +kernel
theorem dX0_setRouter_40 : decode cX0_setRouter 40 = .ok (.putfield 55, 3) := by decide +kernel
theorem dX0_setRouter_43 : decode cX0_setRouter 43 = .ok (.iconst 1, 1) := by decide +kernel
theorem dX0_setRouter_44 : decode cX0_setRouter 44 = .ok (.ireturn, 1) := by decide +kernel
abbrev cX0_cost : ByteArray := prog_1_method_10_code
def yX0_cost : MethodName := ⟨RX0, "cost", "(II)I"⟩
theorem dX0_cost_0 : decode cX0_cost 0 = .ok (.aload_n 0, 1) := by decide +kernel
theorem dX0_cost_1 : decode cX0_cost 1 = .ok (.iload_n 1, 1) := by decide +kernel
theorem dX0_cost_2 : decode cX0_cost 2 = .ok (.iload_n 2, 1) := by decide +kernel
theorem dX0_cost_3 : decode cX0_cost 3 = .ok (.invokevirtual 59, 3) := by decide +kernel
theorem dX0_cost_6 : decode cX0_cost 6 = .ok (.ifCond .eq 17, 3) := by decide +kernel
theorem dX0_cost_9 : decode cX0_cost 9 = .ok (.aload_n 0, 1) := by decide +kernel
theorem dX0_cost_10 : decode cX0_cost 10 = .ok (.getfield 7, 3) := by decide +kernel
theorem dX0_cost_13 : decode cX0_cost 13 = .ok (.iload_n 1, 1) := by decide +kernel
theorem dX0_cost_14 : decode cX0_cost 14 = .ok (.bipush 7, 2) := by decide +kernel
theorem dX0_cost_16 : decode cX0_cost 16 = .ok (.imul, 1) := by decide +kernel
theorem dX0_cost_17 : decode cX0_cost 17 = .ok (.iload_n 2, 1) := by decide +kernel
theorem dX0_cost_18 : decode cX0_cost 18 = .ok (.iadd, 1) := by decide +kernel
theorem dX0_cost_19 : decode cX0_cost 19 = .ok (.baload, 1) := by decide +kernel
theorem dX0_cost_20 : decode cX0_cost 20 = .ok (.goto 4, 3) := by decide +kernel
theorem dX0_cost_23 : decode cX0_cost 23 = .ok (.iconst (-1), 1) := by decide +kernel
theorem dX0_cost_24 : decode cX0_cost 24 = .ok (.ireturn, 1) := by decide +kernel
abbrev cX0_distance : ByteArray := prog_1_method_21_code
def yX0_distance : MethodName := ⟨RX0, "distance", "(II)I"⟩
theorem dX0_distance_0 : decode cX0_distance 0 = .ok (.aload_n 0, 1) := by decide +kernel
theorem dX0_distance_1 : decode cX0_distance 1 = .ok (.iload_n 1, 1) := by decide +kernel
theorem dX0_distance_2 : decode cX0_distance 2 = .ok (.iload_n 2, 1) := by decide +kernel
theorem dX0_distance_3 : decode cX0_distance 3 = .ok (.invokevirtual 92, 3) := by decide +kernel
theorem dX0_distance_6 : decode cX0_distance 6 = .ok (.ifCond .eq 17, 3) := by decide +kernel
theorem dX0_distance_9 : decode cX0_distance 9 = .ok (.aload_n 0, 1) := by decide +kernel
theorem dX0_distance_10 : decode cX0_distance 10 = .ok (.getfield 20, 3) := by decide +kernel
theorem dX0_distance_13 : decode cX0_distance 13 = .ok (.iload_n 1, 1) := by decide +kernel
theorem dX0_distance_14 : decode cX0_distance 14 = .ok (.bipush 7, 2) := by decide +kernel
theorem dX0_distance_16 : decode cX0_distance 16 = .ok (.imul, 1) := by decide +kernel
theorem dX0_distance_17 : decode cX0_distance 17 = .ok (.iload_n 2, 1) := by decide +kernel
theorem dX0_distance_18 : decode cX0_distance 18 = .ok (.iadd, 1) := by decide +kernel
theorem dX0_distance_19 : decode cX0_distance 19 = .ok (.iaload, 1) := by decide +kernel
theorem dX0_distance_20 : decode cX0_distance 20 = .ok (.goto 4, 3) := by decide +kernel
theorem dX0_distance_23 : decode cX0_distance 23 = .ok (.iconst (-1), 1) := by decide +kernel
theorem dX0_distance_24 : decode cX0_distance 24 = .ok (.ireturn, 1) := by decide +kernel
abbrev cX0_connected : ByteArray := prog_1_method_20_code
def yX0_connected : MethodName := ⟨RX0, "connected", "(II)Z"⟩
theorem dX0_connected_0 : decode cX0_connected 0 = .ok (.iload_n 1, 1) := by decide +kernel
theorem dX0_connected_1 : decode cX0_connected 1 = .ok (.invokestatic 43, 3) := by decide +kernel
theorem dX0_connected_4 : decode cX0_connected 4 = .ok (.ifCond .eq 10, 3) := by decide +kernel
theorem dX0_connected_7 : decode cX0_connected 7 = .ok (.iload_n 2, 1) := by decide +kernel
theorem dX0_connected_8 : decode cX0_connected 8 = .ok (.invokestatic 43, 3) := by decide +kernel
theorem dX0_connected_11 : decode cX0_connected 11 = .ok (.ifCond .ne 5, 3) := by decide +kernel
theorem dX0_connected_14 : decode cX0_connected 14 = .ok (.iconst 0, 1) := by decide +kernel
theorem dX0_connected_15 : decode cX0_connected 15 = .ok (.ireturn, 1) := by decide +kernel
theorem dX0_connected_16 : decode cX0_connected 16 = .ok (.aload_n 0, 1) := by decide +kernel
theorem dX0_connected_17 : decode cX0_connected 17 = .ok (.invokevirtual 89, 3) := by decide +kernel
theorem dX0_connected_20 : decode cX0_connected 20 = .ok (.aload_n 0, 1) := by decide +kernel
theorem dX0_connected_21 : decode cX0_connected 21 = .ok (.getfield 20, 3) := by decide +kernel
theorem dX0_connected_24 : decode cX0_connected 24 = .ok (.iload_n 1, 1) := by decide +kernel
theorem dX0_connected_25 : decode cX0_connected 25 = .ok (.bipush 7, 2) := by decide +kernel
theorem dX0_connected_27 : decode cX0_connected 27 = .ok (.imul, 1) := by decide +kernel
theorem dX0_connected_28 : decode cX0_connected 28 = .ok (.iload_n 2, 1) := by decide +kernel
theorem dX0_connected_29 : decode cX0_connected 29 = .ok (.iadd, 1) := by decide +kernel
theorem dX0_connected_30 : decode cX0_connected 30 = .ok (.iaload, 1) := by decide +kernel
theorem dX0_connected_31 : decode cX0_connected 31 = .ok (.sipush 10000, 3) := by decide +kernel
theorem dX0_connected_34 : decode cX0_connected 34 = .ok (.if_icmp .ge 7, 3) := by decide +kernel
theorem dX0_connected_37 : decode cX0_connected 37 = .ok (.iconst 1, 1) := by decide +kernel
theorem dX0_connected_38 : decode cX0_connected 38 = .ok (.goto 4, 3) := by decide +kernel
theorem dX0_connected_41 : decode cX0_connected 41 = .ok (.iconst 0, 1) := by decide +kernel
theorem dX0_connected_42 : decode cX0_connected 42 = .ok (.ireturn, 1) := by decide +kernel
abbrev cX0_learn : ByteArray := prog_1_method_12_code
def yX0_learn : MethodName := ⟨RX0, "learn", "()V"⟩
theorem dX0_learn_0 : decode cX0_learn 0 = .ok (.aload_n 0, 1) := by decide +kernel
theorem dX0_learn_1 : decode cX0_learn 1 = .ok (.getfield 55, 3) := by decide +kernel
theorem dX0_learn_4 : decode cX0_learn 4 = .ok (.ifCond .eq 4, 3) := by decide +kernel
theorem dX0_learn_7 : decode cX0_learn 7 = .ok (.return_, 1) := by decide +kernel
theorem dX0_learn_8 : decode cX0_learn 8 = .ok (.aload_n 0, 1) := by decide +kernel
theorem dX0_learn_9 : decode cX0_learn 9 = .ok (.iconst 1, 1) := by decide +kernel
theorem dX0_learn_10 : decode cX0_learn 10 = .ok (.putfield 55, 3) := by decide +kernel
theorem dX0_learn_13 : decode cX0_learn 13 = .ok (.iconst 0, 1) := by decide +kernel
theorem dX0_learn_14 : decode cX0_learn 14 = .ok (.istore_n 1, 1) := by decide +kernel
theorem dX0_learn_15 : decode cX0_learn 15 = .ok (.iload_n 1, 1) := by decide +kernel
theorem dX0_learn_16 : decode cX0_learn 16 = .ok (.bipush 7, 2) := by decide +kernel
theorem dX0_learn_18 : decode cX0_learn 18 = .ok (.if_icmp .ge 14, 3) := by decide +kernel
theorem dX0_learn_21 : decode cX0_learn 21 = .ok (.aload_n 0, 1) := by decide +kernel
theorem dX0_learn_22 : decode cX0_learn 22 = .ok (.iload_n 1, 1) := by decide +kernel
theorem dX0_learn_23 : decode cX0_learn 23 = .ok (.invokevirtual 62, 3) := by decide +kernel
theorem dX0_learn_26 : decode cX0_learn 26 = .ok (.iinc 1 1, 3) := by decide +kernel
theorem dX0_learn_29 : decode cX0_learn 29 = .ok (.goto (-14), 3) := by decide +kernel
theorem dX0_learn_32 : decode cX0_learn 32 = .ok (.iconst 0, 1) := by decide +kernel
theorem dX0_learn_33 : decode cX0_learn 33 = .ok (.istore_n 1, 1) := by decide +kernel
theorem dX0_learn_34 : decode cX0_learn 34 = .ok (.iload_n 1, 1) := by decide +kernel
theorem dX0_learn_35 : decode cX0_learn 35 = .ok (.bipush 7, 2) := by decide +kernel
theorem dX0_learn_37 : decode cX0_learn 37 = .ok (.if_icmp .ge 41, 3) := by decide +kernel
theorem dX0_learn_40 : decode cX0_learn 40 = .ok (.iconst 0, 1) := by decide +kernel
theorem dX0_learn_41 : decode cX0_learn 41 = .ok (.istore_n 2, 1) := by decide +kernel
theorem dX0_learn_42 : decode cX0_learn 42 = .ok (.iload_n 2, 1) := by decide +kernel
theorem dX0_learn_43 : decode cX0_learn 43 = .ok (.bipush 7, 2) := by decide +kernel
theorem dX0_learn_45 : decode cX0_learn 45 = .ok (.if_icmp .ge 27, 3) := by decide +kernel
theorem dX0_learn_48 : decode cX0_learn 48 = .ok (.aload_n 0, 1) := by decide +kernel
theorem dX0_learn_49 : decode cX0_learn 49 = .ok (.getfield 24, 3) := by decide +kernel
theorem dX0_learn_52 : decode cX0_learn 52 = .ok (.iload_n 1, 1) := by decide +kernel
theorem dX0_learn_53 : decode cX0_learn 53 = .ok (.bipush 7, 2) := by decide +kernel
theorem dX0_learn_55 : decode cX0_learn 55 = .ok (.imul, 1) := by decide +kernel
theorem dX0_learn_56 : decode cX0_learn 56 = .ok (.iload_n 2, 1) := by decide +kernel
theorem dX0_learn_57 : decode cX0_learn 57 = .ok (.iadd, 1) := by decide +kernel
theorem dX0_learn_58 : decode cX0_learn 58 = .ok (.aload_n 0, 1) := by decide +kernel
theorem dX0_learn_59 : decode cX0_learn 59 = .ok (.iload_n 1, 1) := by decide +kernel
theorem dX0_learn_60 : decode cX0_learn 60 = .ok (.iload_n 2, 1) := by decide +kernel
theorem dX0_learn_61 : decode cX0_learn 61 = .ok (.invokevirtual 66, 3) := by decide +kernel
theorem dX0_learn_64 : decode cX0_learn 64 = .ok (.i2b, 1) := by decide +kernel
theorem dX0_learn_65 : decode cX0_learn 65 = .ok (.bastore, 1) := by decide +kernel
theorem dX0_learn_66 : decode cX0_learn 66 = .ok (.iinc 2 1, 3) := by decide +kernel
theorem dX0_learn_69 : decode cX0_learn 69 = .ok (.goto (-27), 3) := by decide +kernel
theorem dX0_learn_72 : decode cX0_learn 72 = .ok (.iinc 1 1, 3) := by decide +kernel
theorem dX0_learn_75 : decode cX0_learn 75 = .ok (.goto (-41), 3) := by decide +kernel
theorem dX0_learn_78 : decode cX0_learn 78 = .ok (.aload_n 0, 1) := by decide +kernel
theorem dX0_learn_79 : decode cX0_learn 79 = .ok (.invokevirtual 70, 3) := by decide +kernel
theorem dX0_learn_82 : decode cX0_learn 82 = .ok (.return_, 1) := by decide +kernel
abbrev cX0_measure : ByteArray := prog_1_method_13_code
def yX0_measure : MethodName := ⟨RX0, "measure", "(I)V"⟩
theorem dX0_measure_0 : decode cX0_measure 0 = .ok (.iconst 0, 1) := by decide +kernel
theorem dX0_measure_1 : decode cX0_measure 1 = .ok (.istore_n 2, 1) := by decide +kernel
theorem dX0_measure_2 : decode cX0_measure 2 = .ok (.iload_n 2, 1) := by decide +kernel
theorem dX0_measure_3 : decode cX0_measure 3 = .ok (.bipush 7, 2) := by decide +kernel
theorem dX0_measure_5 : decode cX0_measure 5 = .ok (.if_icmp .ge 23, 3) := by decide +kernel
theorem dX0_measure_8 : decode cX0_measure 8 = .ok (.aload_n 0, 1) := by decide +kernel
theorem dX0_measure_9 : decode cX0_measure 9 = .ok (.getfield 20, 3) := by decide +kernel
theorem dX0_measure_12 : decode cX0_measure 12 = .ok (.iload_n 2, 1) := by decide +kernel
theorem dX0_measure_13 : decode cX0_measure 13 = .ok (.bipush 7, 2) := by decide +kernel
theorem dX0_measure_15 : decode cX0_measure 15 = .ok (.imul, 1) := by decide +kernel
theorem dX0_measure_16 : decode cX0_measure 16 = .ok (.iload_n 1, 1) := by decide +kernel
theorem dX0_measure_17 : decode cX0_measure 17 = .ok (.iadd, 1) := by decide +kernel
theorem dX0_measure_18 : decode cX0_measure 18 = .ok (.sipush 10000, 3) := by decide +kernel
theorem dX0_measure_21 : decode cX0_measure 21 = .ok (.iastore, 1) := by decide +kernel
theorem dX0_measure_22 : decode cX0_measure 22 = .ok (.iinc 2 1, 3) := by decide +kernel
theorem dX0_measure_25 : decode cX0_measure 25 = .ok (.goto (-23), 3) := by decide +kernel
theorem dX0_measure_28 : decode cX0_measure 28 = .ok (.aload_n 0, 1) := by decide +kernel
theorem dX0_measure_29 : decode cX0_measure 29 = .ok (.getfield 16, 3) := by decide +kernel
theorem dX0_measure_32 : decode cX0_measure 32 = .ok (.iload_n 1, 1) := by decide +kernel
theorem dX0_measure_33 : decode cX0_measure 33 = .ok (.ishr, 1) := by decide +kernel
theorem dX0_measure_34 : decode cX0_measure 34 = .ok (.iconst 1, 1) := by decide +kernel
theorem dX0_measure_35 : decode cX0_measure 35 = .ok (.iand, 1) := by decide +kernel
theorem dX0_measure_36 : decode cX0_measure 36 = .ok (.ifCond .ne 4, 3) := by decide +kernel
theorem dX0_measure_39 : decode cX0_measure 39 = .ok (.return_, 1) := by decide +kernel
theorem dX0_measure_40 : decode cX0_measure 40 = .ok (.aload_n 0, 1) := by decide +kernel
theorem dX0_measure_41 : decode cX0_measure 41 = .ok (.getfield 20, 3) := by decide +kernel
theorem dX0_measure_44 : decode cX0_measure 44 = .ok (.iload_n 1, 1) := by decide +kernel
theorem dX0_measure_45 : decode cX0_measure 45 = .ok (.bipush 7, 2) := by decide +kernel
theorem dX0_measure_47 : decode cX0_measure 47 = .ok (.imul, 1) := by decide +kernel
theorem dX0_measure_48 : decode cX0_measure 48 = .ok (.iload_n 1, 1) := by decide +kernel
theorem dX0_measure_49 : decode cX0_measure 49 = .ok (.iadd, 1) := by decide +kernel
theorem dX0_measure_50 : decode cX0_measure 50 = .ok (.iconst 0, 1) := by decide +kernel
theorem dX0_measure_51 : decode cX0_measure 51 = .ok (.iastore, 1) := by decide +kernel
theorem dX0_measure_52 : decode cX0_measure 52 = .ok (.iconst 0, 1) := by decide +kernel
theorem dX0_measure_53 : decode cX0_measure 53 = .ok (.istore_n 2, 1) := by decide +kernel
theorem dX0_measure_54 : decode cX0_measure 54 = .ok (.iconst 0, 1) := by decide +kernel
theorem dX0_measure_55 : decode cX0_measure 55 = .ok (.istore_n 3, 1) := by decide +kernel
theorem dX0_measure_56 : decode cX0_measure 56 = .ok (.iload_n 3, 1) := by decide +kernel
theorem dX0_measure_57 : decode cX0_measure 57 = .ok (.bipush 7, 2) := by decide +kernel
theorem dX0_measure_59 : decode cX0_measure 59 = .ok (.if_icmp .ge 123, 3) := by decide +kernel
theorem dX0_measure_62 : decode cX0_measure 62 = .ok (.aload_n 0, 1) := by decide +kernel
theorem dX0_measure_63 : decode cX0_measure 63 = .ok (.iload_n 1, 1) := by decide +kernel
theorem dX0_measure_64 : decode cX0_measure 64 = .ok (.iload_n 2, 1) := by decide +kernel
theorem dX0_measure_65 : decode cX0_measure 65 = .ok (.invokevirtual 73, 3) := by decide +kernel
theorem dX0_measure_68 : decode cX0_measure 68 = .ok (.istore 4, 2) := by decide +kernel
theorem dX0_measure_70 : decode cX0_measure 70 = .ok (.iload 4, 2) := by decide +kernel
theorem dX0_measure_72 : decode cX0_measure 72 = .ok (.ifCond .ge 4, 3) := by decide +kernel
theorem dX0_measure_75 : decode cX0_measure 75 = .ok (.return_, 1) := by decide +kernel
theorem dX0_measure_76 : decode cX0_measure 76 = .ok (.iload_n 2, 1) := by decide +kernel
theorem dX0_measure_77 : decode cX0_measure 77 = .ok (.iconst 1, 1) := by decide +kernel
theorem dX0_measure_78 : decode cX0_measure 78 = .ok (.iload 4, 2) := by decide +kernel
theorem dX0_measure_80 : decode cX0_measure 80 = .ok (.ishl, 1) := by decide +kernel
theorem dX0_measure_81 : decode cX0_measure 81 = .ok (.ior, 1) := by decide +kernel
theorem dX0_measure_82 : decode cX0_measure 82 = .ok (.istore_n 2, 1) := by decide +kernel
theorem dX0_measure_83 : decode cX0_measure 83 = .ok (.iconst 0, 1) := by decide +kernel
theorem dX0_measure_84 : decode cX0_measure 84 = .ok (.istore 5, 2) := by decide +kernel
theorem dX0_measure_86 : decode cX0_measure 86 = .ok (.iload 5, 2) := by decide +kernel
theorem dX0_measure_88 : decode cX0_measure 88 = .ok (.bipush 7, 2) := by decide +kernel
theorem dX0_measure_90 : decode cX0_measure 90 = .ok (.if_icmp .ge 86, 3) := by decide +kernel
theorem dX0_measure_93 : decode cX0_measure 93 = .ok (.aload_n 0, 1) := by decide +kernel
theorem dX0_measure_94 : decode cX0_measure 94 = .ok (.getfield 7, 3) := by decide +kernel
theorem dX0_measure_97 : decode cX0_measure 97 = .ok (.iload 5, 2) := by decide +kernel
theorem dX0_measure_99 : decode cX0_measure 99 = .ok (.bipush 7, 2) := by decide +kernel
theorem dX0_measure_101 : decode cX0_measure 101 = .ok (.imul, 1) := by decide +kernel
theorem dX0_measure_102 : decode cX0_measure 102 = .ok (.iload 4, 2) := by decide +kernel
theorem dX0_measure_104 : decode cX0_measure 104 = .ok (.iadd, 1) := by decide +kernel
theorem dX0_measure_105 : decode cX0_measure 105 = .ok (.baload, 1) := by decide +kernel
theorem dX0_measure_106 : decode cX0_measure 106 = .ok (.aload_n 0, 1) := by decide +kernel
theorem dX0_measure_107 : decode cX0_measure 107 = .ok (.getfield 20, 3) := by decide +kernel
theorem dX0_measure_110 : decode cX0_measure 110 = .ok (.iload 4, 2) := by decide +kernel
theorem dX0_measure_112 : decode cX0_measure 112 = .ok (.bipush 7, 2) := by decide +kernel
theorem dX0_measure_114 : decode cX0_measure 114 = .ok (.imul, 1) := by decide +kernel
theorem dX0_measure_115 : decode cX0_measure 115 = .ok (.iload_n 1, 1) := by decide +kernel
theorem dX0_measure_116 : decode cX0_measure 116 = .ok (.iadd, 1) := by decide +kernel
theorem dX0_measure_117 : decode cX0_measure 117 = .ok (.iaload, 1) := by decide +kernel
theorem dX0_measure_118 : decode cX0_measure 118 = .ok (.iadd, 1) := by decide +kernel
theorem dX0_measure_119 : decode cX0_measure 119 = .ok (.istore 6, 2) := by decide +kernel
theorem dX0_measure_121 : decode cX0_measure 121 = .ok (.iload 5, 2) := by decide +kernel
theorem dX0_measure_123 : decode cX0_measure 123 = .ok (.iload 4, 2) := by decide +kernel
theorem dX0_measure_125 : decode cX0_measure 125 = .ok (.if_icmp .eq 45, 3) := by decide +kernel
theorem dX0_measure_128 : decode cX0_measure 128 = .ok (.aload_n 0, 1) := by decide +kernel
theorem dX0_measure_129 : decode cX0_measure 129 = .ok (.iload 5, 2) := by decide +kernel
theorem dX0_measure_131 : decode cX0_measure 131 = .ok (.iload 4, 2) := by decide +kernel
theorem dX0_measure_133 : decode cX0_measure 133 = .ok (.invokevirtual 76, 3) := by decide +kernel
theorem dX0_measure_136 : decode cX0_measure 136 = .ok (.ifCond .eq 34, 3) := by decide +kernel
theorem dX0_measure_139 : decode cX0_measure 139 = .ok (.iload 6, 2) := by decide +kernel
theorem dX0_measure_141 : decode cX0_measure 141 = .ok (.aload_n 0, 1) := by decide +kernel
theorem dX0_measure_142 : decode cX0_measure 142 = .ok (.getfield 20, 3) := by decide +kernel
theorem dX0_measure_145 : decode cX0_measure 145 = .ok (.iload 5, 2) := by decide +kernel
theorem dX0_measure_147 : decode cX0_measure 147 = .ok (.bipush 7, 2) := by decide +kernel
theorem dX0_measure_149 : decode cX0_measure 149 = .ok (.imul, 1) := by decide +kernel
theorem dX0_measure_150 : decode cX0_measure 150 = .ok (.iload_n 1, 1) := by decide +kernel
theorem dX0_measure_151 : decode cX0_measure 151 = .ok (.iadd, 1) := by decide +kernel
theorem dX0_measure_152 : decode cX0_measure 152 = .ok (.iaload, 1) := by decide +kernel
theorem dX0_measure_153 : decode cX0_measure 153 = .ok (.if_icmp .ge 17, 3) := by decide +kernel
theorem dX0_measure_156 : decode cX0_measure 156 = .ok (.aload_n 0, 1) := by decide +kernel
theorem dX0_measure_157 : decode cX0_measure 157 = .ok (.getfield 20, 3) := by decide +kernel
theorem dX0_measure_160 : decode cX0_measure 160 = .ok (.iload 5, 2) := by decide +kernel
theorem dX0_measure_162 : decode cX0_measure 162 = .ok (.bipush 7, 2) := by decide +kernel
theorem dX0_measure_164 : decode cX0_measure 164 = .ok (.imul, 1) := by decide +kernel
theorem dX0_measure_165 : decode cX0_measure 165 = .ok (.iload_n 1, 1) := by decide +kernel
theorem dX0_measure_166 : decode cX0_measure 166 = .ok (.iadd, 1) := by decide +kernel
theorem dX0_measure_167 : decode cX0_measure 167 = .ok (.iload 6, 2) := by decide +kernel
theorem dX0_measure_169 : decode cX0_measure 169 = .ok (.iastore, 1) := by decide +kernel
theorem dX0_measure_170 : decode cX0_measure 170 = .ok (.iinc 5 1, 3) := by decide +kernel
theorem dX0_measure_173 : decode cX0_measure 173 = .ok (.goto (-87), 3) := by decide +kernel
theorem dX0_measure_176 : decode cX0_measure 176 = .ok (.iinc 3 1, 3) := by decide +kernel
theorem dX0_measure_179 : decode cX0_measure 179 = .ok (.goto (-123), 3) := by decide +kernel
theorem dX0_measure_182 : decode cX0_measure 182 = .ok (.return_, 1) := by decide +kernel
abbrev cX0_nearest : ByteArray := prog_1_method_14_code
def yX0_nearest : MethodName := ⟨RX0, "nearest", "(II)I"⟩
theorem dX0_nearest_0 : decode cX0_nearest 0 = .ok (.iconst (-1), 1) := by decide +kernel
theorem dX0_nearest_1 : decode cX0_nearest 1 = .ok (.istore_n 3, 1) := by decide +kernel
theorem dX0_nearest_2 : decode cX0_nearest 2 = .ok (.iconst 0, 1) := by decide +kernel
theorem dX0_nearest_3 : decode cX0_nearest 3 = .ok (.istore 4, 2) := by decide +kernel
theorem dX0_nearest_5 : decode cX0_nearest 5 = .ok (.iload 4, 2) := by decide +kernel
theorem dX0_nearest_7 : decode cX0_nearest 7 = .ok (.bipush 7, 2) := by decide +kernel
theorem dX0_nearest_9 : decode cX0_nearest 9 = .ok (.if_icmp .ge 63, 3) := by decide +kernel
theorem dX0_nearest_12 : decode cX0_nearest 12 = .ok (.aload_n 0, 1) := by decide +kernel
theorem dX0_nearest_13 : decode cX0_nearest 13 = .ok (.getfield 20, 3) := by decide +kernel
theorem dX0_nearest_16 : decode cX0_nearest 16 = .ok (.iload 4, 2) := by decide +kernel
theorem dX0_nearest_18 : decode cX0_nearest 18 = .ok (.bipush 7, 2) := by decide +kernel
theorem dX0_nearest_20 : decode cX0_nearest 20 = .ok (.imul, 1) := by decide +kernel
theorem dX0_nearest_21 : decode cX0_nearest 21 = .ok (.iload_n 1, 1) := by decide +kernel
theorem dX0_nearest_22 : decode cX0_nearest 22 = .ok (.iadd, 1) := by decide +kernel
theorem dX0_nearest_23 : decode cX0_nearest 23 = .ok (.iaload, 1) := by decide +kernel
theorem dX0_nearest_24 : decode cX0_nearest 24 = .ok (.istore 5, 2) := by decide +kernel
theorem dX0_nearest_26 : decode cX0_nearest 26 = .ok (.iload_n 2, 1) := by decide +kernel
theorem dX0_nearest_27 : decode cX0_nearest 27 = .ok (.iload 4, 2) := by decide +kernel
theorem dX0_nearest_29 : decode cX0_nearest 29 = .ok (.ishr, 1) := by decide +kernel
theorem dX0_nearest_30 : decode cX0_nearest 30 = .ok (.iconst 1, 1) := by decide +kernel
theorem dX0_nearest_31 : decode cX0_nearest 31 = .ok (.iand, 1) := by decide +kernel
theorem dX0_nearest_32 : decode cX0_nearest 32 = .ok (.ifCond .ne 34, 3) := by decide +kernel
theorem dX0_nearest_35 : decode cX0_nearest 35 = .ok (.iload 5, 2) := by decide +kernel
theorem dX0_nearest_37 : decode cX0_nearest 37 = .ok (.sipush 10000, 3) := by decide +kernel
theorem dX0_nearest_40 : decode cX0_nearest 40 = .ok (.if_icmp .ge 26, 3) := by decide +kernel
theorem dX0_nearest_43 : decode cX0_nearest 43 = .ok (.iload_n 3, 1) := by decide +kernel
theorem dX0_nearest_44 : decode cX0_nearest 44 = .ok (.ifCond .lt 19, 3) := by decide +kernel
theorem dX0_nearest_47 : decode cX0_nearest 47 = .ok (.iload 5, 2) := by decide +kernel
theorem dX0_nearest_49 : decode cX0_nearest 49 = .ok (.aload_n 0, 1) := by decide +kernel
theorem dX0_nearest_50 : decode cX0_nearest 50 = .ok (.getfield 20, 3) := by decide +kernel
theorem dX0_nearest_53 : decode cX0_nearest 53 = .ok (.iload_n 3, 1) := by decide +kernel
theorem dX0_nearest_54 : decode cX0_nearest 54 = .ok (.bipush 7, 2) := by decide +kernel
theorem dX0_nearest_56 : decode cX0_nearest 56 = .ok (.imul, 1) := by decide +kernel
theorem dX0_nearest_57 : decode cX0_nearest 57 = .ok (.iload_n 1, 1) := by decide +kernel
theorem dX0_nearest_58 : decode cX0_nearest 58 = .ok (.iadd, 1) := by decide +kernel
theorem dX0_nearest_59 : decode cX0_nearest 59 = .ok (.iaload, 1) := by decide +kernel
theorem dX0_nearest_60 : decode cX0_nearest 60 = .ok (.if_icmp .ge 6, 3) := by decide +kernel
theorem dX0_nearest_63 : decode cX0_nearest 63 = .ok (.iload 4, 2) := by decide +kernel
theorem dX0_nearest_65 : decode cX0_nearest 65 = .ok (.istore_n 3, 1) := by decide +kernel
theorem dX0_nearest_66 : decode cX0_nearest 66 = .ok (.iinc 4 1, 3) := by decide +kernel
theorem dX0_nearest_69 : decode cX0_nearest 69 = .ok (.goto (-64), 3) := by decide +kernel
theorem dX0_nearest_72 : decode cX0_nearest 72 = .ok (.iload_n 3, 1) := by decide +kernel
theorem dX0_nearest_73 : decode cX0_nearest 73 = .ok (.ireturn, 1) := by decide +kernel
abbrev cX0_counts : ByteArray := prog_1_method_11_code
def yX0_counts : MethodName := ⟨RX0, "counts", "(II)Z"⟩
theorem dX0_counts_0 : decode cX0_counts 0 = .ok (.aload_n 0, 1) := by decide +kernel
theorem dX0_counts_1 : decode cX0_counts 1 = .ok (.getfield 16, 3) := by decide +kernel
theorem dX0_counts_4 : decode cX0_counts 4 = .ok (.iload_n 1, 1) := by decide +kernel
theorem dX0_counts_5 : decode cX0_counts 5 = .ok (.ishr, 1) := by decide +kernel
theorem dX0_counts_6 : decode cX0_counts 6 = .ok (.aload_n 0, 1) := by decide +kernel
theorem dX0_counts_7 : decode cX0_counts 7 = .ok (.getfield 16, 3) := by decide +kernel
theorem dX0_counts_10 : decode cX0_counts 10 = .ok (.iload_n 2, 1) := by decide +kernel
theorem dX0_counts_11 : decode cX0_counts 11 = .ok (.ishr, 1) := by decide +kernel
theorem dX0_counts_12 : decode cX0_counts 12 = .ok (.iand, 1) := by decide +kernel
theorem dX0_counts_13 : decode cX0_counts 13 = .ok (.iconst 1, 1) := by decide +kernel
theorem dX0_counts_14 : decode cX0_counts 14 = .ok (.iand, 1) := by decide +kernel
theorem dX0_counts_15 : decode cX0_counts 15 = .ok (.ifCond .eq 7, 3) := by decide +kernel
theorem dX0_counts_18 : decode cX0_counts 18 = .ok (.iconst 1, 1) := by decide +kernel
theorem dX0_counts_19 : decode cX0_counts 19 = .ok (.goto 4, 3) := by decide +kernel
theorem dX0_counts_22 : decode cX0_counts 22 = .ok (.iconst 0, 1) := by decide +kernel
theorem dX0_counts_23 : decode cX0_counts 23 = .ok (.istore_n 3, 1) := by decide +kernel
theorem dX0_counts_24 : decode cX0_counts 24 = .ok (.iload_n 3, 1) := by decide +kernel
theorem dX0_counts_25 : decode cX0_counts 25 = .ok (.ifCond .eq 20, 3) := by decide +kernel
theorem dX0_counts_28 : decode cX0_counts 28 = .ok (.aload_n 0, 1) := by decide +kernel
theorem dX0_counts_29 : decode cX0_counts 29 = .ok (.getfield 13, 3) := by decide +kernel
theorem dX0_counts_32 : decode cX0_counts 32 = .ok (.iload_n 1, 1) := by decide +kernel
theorem dX0_counts_33 : decode cX0_counts 33 = .ok (.baload, 1) := by decide +kernel
theorem dX0_counts_34 : decode cX0_counts 34 = .ok (.iload_n 2, 1) := by decide +kernel
theorem dX0_counts_35 : decode cX0_counts 35 = .ok (.ishr, 1) := by decide +kernel
theorem dX0_counts_36 : decode cX0_counts 36 = .ok (.iconst 1, 1) := by decide +kernel
theorem dX0_counts_37 : decode cX0_counts 37 = .ok (.iand, 1) := by decide +kernel
theorem dX0_counts_38 : decode cX0_counts 38 = .ok (.ifCond .eq 7, 3) := by decide +kernel
theorem dX0_counts_41 : decode cX0_counts 41 = .ok (.iconst 1, 1) := by decide +kernel
theorem dX0_counts_42 : decode cX0_counts 42 = .ok (.goto 4, 3) := by decide +kernel
theorem dX0_counts_45 : decode cX0_counts 45 = .ok (.iconst 0, 1) := by decide +kernel
theorem dX0_counts_46 : decode cX0_counts 46 = .ok (.ireturn, 1) := by decide +kernel
abbrev cX0_chooseHop : ByteArray := prog_1_method_15_code
def yX0_chooseHop : MethodName := ⟨RX0, "chooseHop", "(II)I"⟩
theorem dX0_chooseHop_0 : decode cX0_chooseHop 0 = .ok (.aload_n 0, 1) := by decide +kernel
theorem dX0_chooseHop_1 : decode cX0_chooseHop 1 = .ok (.getfield 20, 3) := by decide +kernel
theorem dX0_chooseHop_4 : decode cX0_chooseHop 4 = .ok (.iload_n 1, 1) := by decide +kernel
theorem dX0_chooseHop_5 : decode cX0_chooseHop 5 = .ok (.bipush 7, 2) := by decide +kernel
theorem dX0_chooseHop_7 : decode cX0_chooseHop 7 = .ok (.imul, 1) := by decide +kernel
theorem dX0_chooseHop_8 : decode cX0_chooseHop 8 = .ok (.iload_n 2, 1) := by decide +kernel
theorem dX0_chooseHop_9 : decode cX0_chooseHop 9 = .ok (.iadd, 1) := by decide +kernel
theorem dX0_chooseHop_10 : decode cX0_chooseHop 10 = .ok (.iaload, 1) := by decide +kernel
theorem dX0_chooseHop_11 : decode cX0_chooseHop 11 = .ok (.istore_n 3, 1) := by decide +kernel
theorem dX0_chooseHop_12 : decode cX0_chooseHop 12 = .ok (.iconst 0, 1) := by decide +kernel
theorem dX0_chooseHop_13 : decode cX0_chooseHop 13 = .ok (.istore 4, 2) := by decide +kernel
theorem dX0_chooseHop_15 : decode cX0_chooseHop 15 = .ok (.iload 4, 2) := by decide +kernel
theorem dX0_chooseHop_17 : decode cX0_chooseHop 17 = .ok (.bipush 7, 2) := by decide +kernel
theorem dX0_chooseHop_19 : decode cX0_chooseHop 19 = .ok (.if_icmp .ge 81, 3) := by decide +kernel
theorem dX0_chooseHop_22 : decode cX0_chooseHop 22 = .ok (.iload_n 1, 1) := by decide +kernel
theorem dX0_chooseHop_23 : decode cX0_chooseHop 23 = .ok (.iload_n 2, 1) := by decide +kernel
theorem dX0_chooseHop_24 : decode cX0_chooseHop 24 = .ok (.if_icmp .eq 30, 3) := by decide +kernel
theorem dX0_chooseHop_27 : decode cX0_chooseHop 27 = .ok (.iload_n 3, 1) := by decide +kernel
theorem dX0_chooseHop_28 : decode cX0_chooseHop 28 = .ok (.sipush 10000, 3) := by decide +kernel
theorem dX0_chooseHop_31 : decode cX0_chooseHop 31 = .ok (.if_icmp .ge 23, 3) := by decide +kernel
theorem dX0_chooseHop_34 : decode cX0_chooseHop 34 = .ok (.iload 4, 2) := by decide +kernel
theorem dX0_chooseHop_36 : decode cX0_chooseHop 36 = .ok (.iload_n 1, 1) := by decide +kernel
theorem dX0_chooseHop_37 : decode cX0_chooseHop 37 = .ok (.if_icmp .eq 17, 3) := by decide +kernel
theorem dX0_chooseHop_40 : decode cX0_chooseHop 40 = .ok (.aload_n 0, 1) := by decide +kernel
theorem dX0_chooseHop_41 : decode cX0_chooseHop 41 = .ok (.iload_n 1, 1) := by decide +kernel
theorem dX0_chooseHop_42 : decode cX0_chooseHop 42 = .ok (.iload 4, 2) := by decide +kernel
theorem dX0_chooseHop_44 : decode cX0_chooseHop 44 = .ok (.invokevirtual 76, 3) := by decide +kernel
theorem dX0_chooseHop_47 : decode cX0_chooseHop 47 = .ok (.ifCond .eq 7, 3) := by decide +kernel
theorem dX0_chooseHop_50 : decode cX0_chooseHop 50 = .ok (.iconst 1, 1) := by decide +kernel
theorem dX0_chooseHop_51 : decode cX0_chooseHop 51 = .ok (.goto 4, 3) := by decide +kernel
theorem dX0_chooseHop_54 : decode cX0_chooseHop 54 = .ok (.iconst 0, 1) := by decide +kernel
theorem dX0_chooseHop_55 : decode cX0_chooseHop 55 = .ok (.istore 5, 2) := by decide +kernel
theorem dX0_chooseHop_57 : decode cX0_chooseHop 57 = .ok (.iload 5, 2) := by decide +kernel
theorem dX0_chooseHop_59 : decode cX0_chooseHop 59 = .ok (.ifCond .eq 35, 3) := by decide +kernel
theorem dX0_chooseHop_62 : decode cX0_chooseHop 62 = .ok (.aload_n 0, 1) := by decide +kernel
theorem dX0_chooseHop_63 : decode cX0_chooseHop 63 = .ok (.getfield 7, 3) := by decide +kernel
theorem dX0_chooseHop_66 : decode cX0_chooseHop 66 = .ok (.iload_n 1, 1) := by decide +kernel
theorem dX0_chooseHop_67 : decode cX0_chooseHop 67 = .ok (.bipush 7, 2) := by decide +kernel
theorem dX0_chooseHop_69 : decode cX0_chooseHop 69 = .ok (.imul, 1) := by decide +kernel
theorem dX0_chooseHop_70 : decode cX0_chooseHop 70 = .ok (.iload 4, 2) := by decide +kernel
theorem dX0_chooseHop_72 : decode cX0_chooseHop 72 = .ok (.iadd, 1) := by decide +kernel
theorem dX0_chooseHop_73 : decode cX0_chooseHop 73 = .ok (.baload, 1) := by decide +kernel
theorem dX0_chooseHop_74 : decode cX0_chooseHop 74 = .ok (.aload_n 0, 1) := by decide +kernel
theorem dX0_chooseHop_75 : decode cX0_chooseHop 75 = .ok (.getfield 20, 3) := by decide +kernel
theorem dX0_chooseHop_78 : decode cX0_chooseHop 78 = .ok (.iload 4, 2) := by decide +kernel
theorem dX0_chooseHop_80 : decode cX0_chooseHop 80 = .ok (.bipush 7, 2) := by decide +kernel
theorem dX0_chooseHop_82 : decode cX0_chooseHop 82 = .ok (.imul, 1) := by decide +kernel
theorem dX0_chooseHop_83 : decode cX0_chooseHop 83 = .ok (.iload_n 2, 1) := by decide +kernel
theorem dX0_chooseHop_84 : decode cX0_chooseHop 84 = .ok (.iadd, 1) := by decide +kernel
theorem dX0_chooseHop_85 : decode cX0_chooseHop 85 = .ok (.iaload, 1) := by decide +kernel
theorem dX0_chooseHop_86 : decode cX0_chooseHop 86 = .ok (.iadd, 1) := by decide +kernel
theorem dX0_chooseHop_87 : decode cX0_chooseHop 87 = .ok (.iload_n 3, 1) := by decide +kernel
theorem dX0_chooseHop_88 : decode cX0_chooseHop 88 = .ok (.if_icmp .ne 6, 3) := by decide +kernel
theorem dX0_chooseHop_91 : decode cX0_chooseHop 91 = .ok (.iload 4, 2) := by decide +kernel
theorem dX0_chooseHop_93 : decode cX0_chooseHop 93 = .ok (.ireturn, 1) := by decide +kernel
theorem dX0_chooseHop_94 : decode cX0_chooseHop 94 = .ok (.iinc 4 1, 3) := by decide +kernel
theorem dX0_chooseHop_97 : decode cX0_chooseHop 97 = .ok (.goto (-82), 3) := by decide +kernel
theorem dX0_chooseHop_100 : decode cX0_chooseHop 100 = .ok (.iconst (-1), 1) := by decide +kernel
theorem dX0_chooseHop_101 : decode cX0_chooseHop 101 = .ok (.ireturn, 1) := by decide +kernel
abbrev cX0_bind : ByteArray := prog_1_method_16_code
def yX0_bind : MethodName := ⟨RX0, "bind", "()V"⟩
theorem dX0_bind_0 : decode cX0_bind 0 = .ok (.iconst 0, 1) := by decide +kernel
theorem dX0_bind_1 : decode cX0_bind 1 = .ok (.istore_n 1, 1) := by decide +kernel
theorem dX0_bind_2 : decode cX0_bind 2 = .ok (.iload_n 1, 1) := by decide +kernel
theorem dX0_bind_3 : decode cX0_bind 3 = .ok (.bipush 112, 2) := by decide +kernel
theorem dX0_bind_5 : decode cX0_bind 5 = .ok (.if_icmp .ge 23, 3) := by decide +kernel
theorem dX0_bind_8 : decode cX0_bind 8 = .ok (.aload_n 0, 1) := by decide +kernel
theorem dX0_bind_9 : decode cX0_bind 9 = .ok (.getfield 31, 3) := by decide +kernel
theorem dX0_bind_12 : decode cX0_bind 12 = .ok (.iload_n 1, 1) := by decide +kernel
theorem dX0_bind_13 : decode cX0_bind 13 = .ok (.iconst 0, 1) := by decide +kernel
theorem dX0_bind_14 : decode cX0_bind 14 = .ok (.sastore, 1) := by decide +kernel
theorem dX0_bind_15 : decode cX0_bind 15 = .ok (.aload_n 0, 1) := by decide +kernel
theorem dX0_bind_16 : decode cX0_bind 16 = .ok (.getfield 34, 3) := by decide +kernel
theorem dX0_bind_19 : decode cX0_bind 19 = .ok (.iload_n 1, 1) := by decide +kernel
theorem dX0_bind_20 : decode cX0_bind 20 = .ok (.iconst (-1), 1) := by decide +kernel
theorem dX0_bind_21 : decode cX0_bind 21 = .ok (.bastore, 1) := by decide +kernel
theorem dX0_bind_22 : decode cX0_bind 22 = .ok (.iinc 1 1, 3) := by decide +kernel
theorem dX0_bind_25 : decode cX0_bind 25 = .ok (.goto (-23), 3) := by decide +kernel
theorem dX0_bind_28 : decode cX0_bind 28 = .ok (.iconst 0, 1) := by decide +kernel
theorem dX0_bind_29 : decode cX0_bind 29 = .ok (.istore_n 1, 1) := by decide +kernel
theorem dX0_bind_30 : decode cX0_bind 30 = .ok (.iload_n 1, 1) := by decide +kernel
theorem dX0_bind_31 : decode cX0_bind 31 = .ok (.bipush 7, 2) := by decide +kernel
theorem dX0_bind_33 : decode cX0_bind 33 = .ok (.if_icmp .ge 29, 3) := by decide +kernel
theorem dX0_bind_36 : decode cX0_bind 36 = .ok (.iconst 0, 1) := by decide +kernel
theorem dX0_bind_37 : decode cX0_bind 37 = .ok (.istore_n 2, 1) := by decide +kernel
theorem dX0_bind_38 : decode cX0_bind 38 = .ok (.iload_n 2, 1) := by decide +kernel
theorem dX0_bind_39 : decode cX0_bind 39 = .ok (.bipush 7, 2) := by decide +kernel
theorem dX0_bind_41 : decode cX0_bind 41 = .ok (.if_icmp .ge 15, 3) := by decide +kernel
theorem dX0_bind_44 : decode cX0_bind 44 = .ok (.aload_n 0, 1) := by decide +kernel
theorem dX0_bind_45 : decode cX0_bind 45 = .ok (.iload_n 1, 1) := by decide +kernel
theorem dX0_bind_46 : decode cX0_bind 46 = .ok (.iload_n 2, 1) := by decide +kernel
theorem dX0_bind_47 : decode cX0_bind 47 = .ok (.invokevirtual 79, 3) := by decide +kernel
theorem dX0_bind_50 : decode cX0_bind 50 = .ok (.iinc 2 1, 3) := by decide +kernel
theorem dX0_bind_53 : decode cX0_bind 53 = .ok (.goto (-15), 3) := by decide +kernel
theorem dX0_bind_56 : decode cX0_bind 56 = .ok (.iinc 1 1, 3) := by decide +kernel
theorem dX0_bind_59 : decode cX0_bind 59 = .ok (.goto (-29), 3) := by decide +kernel
theorem dX0_bind_62 : decode cX0_bind 62 = .ok (.return_, 1) := by decide +kernel
abbrev cX0_bindOne : ByteArray := prog_1_method_17_code
def yX0_bindOne : MethodName := ⟨RX0, "bindOne", "(II)V"⟩
theorem dX0_bindOne_0 : decode cX0_bindOne 0 = .ok (.aload_n 0, 1) := by decide +kernel
theorem dX0_bindOne_1 : decode cX0_bindOne 1 = .ok (.getfield 24, 3) := by decide +kernel
theorem dX0_bindOne_4 : decode cX0_bindOne 4 = .ok (.iload_n 1, 1) := by decide +kernel
theorem dX0_bindOne_5 : decode cX0_bindOne 5 = .ok (.bipush 7, 2) := by decide +kernel
theorem dX0_bindOne_7 : decode cX0_bindOne 7 = .ok (.imul, 1) := by decide +kernel
theorem dX0_bindOne_8 : decode cX0_bindOne 8 = .ok (.iload_n 2, 1) := by decide +kernel
theorem dX0_bindOne_9 : decode cX0_bindOne 9 = .ok (.iadd, 1) := by decide +kernel
theorem dX0_bindOne_10 : decode cX0_bindOne 10 = .ok (.baload, 1) := by decide +kernel
theorem dX0_bindOne_11 : decode cX0_bindOne 11 = .ok (.istore_n 3, 1) := by decide +kernel
theorem dX0_bindOne_12 : decode cX0_bindOne 12 = .ok (.iload_n 3, 1) := by decide +kernel
theorem dX0_bindOne_13 : decode cX0_bindOne 13 = .ok (.ifCond .lt 8, 3) := by decide +kernel
theorem dX0_bindOne_16 : decode cX0_bindOne 16 = .ok (.iload_n 3, 1) := by decide +kernel
theorem dX0_bindOne_17 : decode cX0_bindOne 17 = .ok (.iload_n 2, 1) := by decide +kernel
theorem dX0_bindOne_18 : decode cX0_bindOne 18 = .ok (.if_icmp .ne 7, 3) := by decide +kernel
theorem dX0_bindOne_21 : decode cX0_bindOne 21 = .ok (.iconst 0, 1) := by decide +kernel
theorem dX0_bindOne_22 : decode cX0_bindOne 22 = .ok (.goto 14, 3) := by decide +kernel
theorem dX0_bindOne_25 : decode cX0_bindOne 25 = .ok (.aload_n 0, 1) := by decide +kernel
theorem dX0_bindOne_26 : decode cX0_bindOne 26 = .ok (.getfield 27, 3) := by decide +kernel
theorem dX0_bindOne_29 : decode cX0_bindOne 29 = .ok (.iload_n 3, 1) := by decide +kernel
theorem dX0_bindOne_30 : decode cX0_bindOne 30 = .ok (.bipush 7, 2) := by decide +kernel
theorem dX0_bindOne_32 : decode cX0_bindOne 32 = .ok (.imul, 1) := by decide +kernel
theorem dX0_bindOne_33 : decode cX0_bindOne 33 = .ok (.iload_n 2, 1) := by decide +kernel
theorem dX0_bindOne_34 : decode cX0_bindOne 34 = .ok (.iadd, 1) := by decide +kernel
theorem dX0_bindOne_35 : decode cX0_bindOne 35 = .ok (.saload, 1) := by decide +kernel
theorem dX0_bindOne_36 : decode cX0_bindOne 36 = .ok (.istore 4, 2) := by decide +kernel
theorem dX0_bindOne_38 : decode cX0_bindOne 38 = .ok (.aload_n 0, 1) := by decide +kernel
theorem dX0_bindOne_39 : decode cX0_bindOne 39 = .ok (.getfield 37, 3) := by decide +kernel
theorem dX0_bindOne_42 : decode cX0_bindOne 42 = .ok (.iload_n 1, 1) := by decide +kernel
theorem dX0_bindOne_43 : decode cX0_bindOne 43 = .ok (.bipush 7, 2) := by decide +kernel
theorem dX0_bindOne_45 : decode cX0_bindOne 45 = .ok (.imul, 1) := by decide +kernel
theorem dX0_bindOne_46 : decode cX0_bindOne 46 = .ok (.iload_n 2, 1) := by decide +kernel
theorem dX0_bindOne_47 : decode cX0_bindOne 47 = .ok (.iadd, 1) := by decide +kernel
theorem dX0_bindOne_48 : decode cX0_bindOne 48 = .ok (.iload 4, 2) := by decide +kernel
theorem dX0_bindOne_50 : decode cX0_bindOne 50 = .ok (.i2s, 1) := by decide +kernel
theorem dX0_bindOne_51 : decode cX0_bindOne 51 = .ok (.sastore, 1) := by decide +kernel
theorem dX0_bindOne_52 : decode cX0_bindOne 52 = .ok (.iload_n 1, 1) := by decide +kernel
theorem dX0_bindOne_53 : decode cX0_bindOne 53 = .ok (.bipush 16, 2) := by decide +kernel
theorem dX0_bindOne_55 : decode cX0_bindOne 55 = .ok (.imul, 1) := by decide +kernel
theorem dX0_bindOne_56 : decode cX0_bindOne 56 = .ok (.aload_n 0, 1) := by decide +kernel
theorem dX0_bindOne_57 : decode cX0_bindOne 57 = .ok (.getfield 27, 3) := by decide +kernel
theorem dX0_bindOne_60 : decode cX0_bindOne 60 = .ok (.iload_n 1, 1) := by decide +kernel
theorem dX0_bindOne_61 : decode cX0_bindOne 61 = .ok (.bipush 7, 2) := by decide +kernel
theorem dX0_bindOne_63 : decode cX0_bindOne 63 = .ok (.imul, 1) := by decide +kernel
theorem dX0_bindOne_64 : decode cX0_bindOne 64 = .ok (.iload_n 2, 1) := by decide +kernel
theorem dX0_bindOne_65 : decode cX0_bindOne 65 = .ok (.iadd, 1) := by decide +kernel
theorem dX0_bindOne_66 : decode cX0_bindOne 66 = .ok (.saload, 1) := by decide +kernel
theorem dX0_bindOne_67 : decode cX0_bindOne 67 = .ok (.bipush 15, 2) := by decide +kernel
theorem dX0_bindOne_69 : decode cX0_bindOne 69 = .ok (.iand, 1) := by decide +kernel
theorem dX0_bindOne_70 : decode cX0_bindOne 70 = .ok (.iadd, 1) := by decide +kernel
theorem dX0_bindOne_71 : decode cX0_bindOne 71 = .ok (.istore 5, 2) := by decide +kernel
theorem dX0_bindOne_73 : decode cX0_bindOne 73 = .ok (.aload_n 0, 1) := by decide +kernel
theorem dX0_bindOne_74 : decode cX0_bindOne 74 = .ok (.getfield 31, 3) := by decide +kernel
theorem dX0_bindOne_77 : decode cX0_bindOne 77 = .ok (.iload 5, 2) := by decide +kernel
theorem dX0_bindOne_79 : decode cX0_bindOne 79 = .ok (.iload 4, 2) := by decide +kernel
theorem dX0_bindOne_81 : decode cX0_bindOne 81 = .ok (.i2s, 1) := by decide +kernel
theorem dX0_bindOne_82 : decode cX0_bindOne 82 = .ok (.sastore, 1) := by decide +kernel
theorem dX0_bindOne_83 : decode cX0_bindOne 83 = .ok (.aload_n 0, 1) := by decide +kernel
theorem dX0_bindOne_84 : decode cX0_bindOne 84 = .ok (.getfield 34, 3) := by decide +kernel
theorem dX0_bindOne_87 : decode cX0_bindOne 87 = .ok (.iload 5, 2) := by decide +kernel
theorem dX0_bindOne_89 : decode cX0_bindOne 89 = .ok (.iload_n 3, 1) := by decide +kernel
theorem dX0_bindOne_90 : decode cX0_bindOne 90 = .ok (.i2b, 1) := by decide +kernel
theorem dX0_bindOne_91 : decode cX0_bindOne 91 = .ok (.bastore, 1) := by decide +kernel
theorem dX0_bindOne_92 : decode cX0_bindOne 92 = .ok (.return_, 1) := by decide +kernel
abbrev cX0_nextHop : ByteArray := prog_1_method_22_code
def yX0_nextHop : MethodName := ⟨RX0, "nextHop", "(II)I"⟩
theorem dX0_nextHop_0 : decode cX0_nextHop 0 = .ok (.aload_n 0, 1) := by decide +kernel
theorem dX0_nextHop_1 : decode cX0_nextHop 1 = .ok (.iload_n 1, 1) := by decide +kernel
theorem dX0_nextHop_2 : decode cX0_nextHop 2 = .ok (.iload_n 2, 1) := by decide +kernel
theorem dX0_nextHop_3 : decode cX0_nextHop 3 = .ok (.invokevirtual 92, 3) := by decide +kernel
theorem dX0_nextHop_6 : decode cX0_nextHop 6 = .ok (.ifCond .eq 17, 3) := by decide +kernel
theorem dX0_nextHop_9 : decode cX0_nextHop 9 = .ok (.aload_n 0, 1) := by decide +kernel
theorem dX0_nextHop_10 : decode cX0_nextHop 10 = .ok (.getfield 24, 3) := by decide +kernel
theorem dX0_nextHop_13 : decode cX0_nextHop 13 = .ok (.iload_n 1, 1) := by decide +kernel
theorem dX0_nextHop_14 : decode cX0_nextHop 14 = .ok (.bipush 7, 2) := by decide +kernel
theorem dX0_nextHop_16 : decode cX0_nextHop 16 = .ok (.imul, 1) := by decide +kernel
theorem dX0_nextHop_17 : decode cX0_nextHop 17 = .ok (.iload_n 2, 1) := by decide +kernel
theorem dX0_nextHop_18 : decode cX0_nextHop 18 = .ok (.iadd, 1) := by decide +kernel
theorem dX0_nextHop_19 : decode cX0_nextHop 19 = .ok (.baload, 1) := by decide +kernel
theorem dX0_nextHop_20 : decode cX0_nextHop 20 = .ok (.goto 4, 3) := by decide +kernel
theorem dX0_nextHop_23 : decode cX0_nextHop 23 = .ok (.iconst (-1), 1) := by decide +kernel
theorem dX0_nextHop_24 : decode cX0_nextHop 24 = .ok (.ireturn, 1) := by decide +kernel
abbrev cX0_hops : ByteArray := prog_1_method_23_code
def yX0_hops : MethodName := ⟨RX0, "hops", "(II)I"⟩
theorem dX0_hops_0 : decode cX0_hops 0 = .ok (.aload_n 0, 1) := by decide +kernel
theorem dX0_hops_1 : decode cX0_hops 1 = .ok (.iload_n 1, 1) := by decide +kernel
theorem dX0_hops_2 : decode cX0_hops 2 = .ok (.iload_n 2, 1) := by decide +kernel
theorem dX0_hops_3 : decode cX0_hops 3 = .ok (.invokevirtual 92, 3) := by decide +kernel
theorem dX0_hops_6 : decode cX0_hops 6 = .ok (.ifCond .ne 5, 3) := by decide +kernel
theorem dX0_hops_9 : decode cX0_hops 9 = .ok (.iconst (-1), 1) := by decide +kernel
theorem dX0_hops_10 : decode cX0_hops 10 = .ok (.ireturn, 1) := by decide +kernel
theorem dX0_hops_11 : decode cX0_hops 11 = .ok (.aload_n 0, 1) := by decide +kernel
theorem dX0_hops_12 : decode cX0_hops 12 = .ok (.iload_n 1, 1) := by decide +kernel
theorem dX0_hops_13 : decode cX0_hops 13 = .ok (.iload_n 2, 1) := by decide +kernel
theorem dX0_hops_14 : decode cX0_hops 14 = .ok (.invokevirtual 95, 3) := by decide +kernel
theorem dX0_hops_17 : decode cX0_hops 17 = .ok (.iconst 0, 1) := by decide +kernel
theorem dX0_hops_18 : decode cX0_hops 18 = .ok (.istore_n 3, 1) := by decide +kernel
theorem dX0_hops_19 : decode cX0_hops 19 = .ok (.iconst 0, 1) := by decide +kernel
theorem dX0_hops_20 : decode cX0_hops 20 = .ok (.istore 4, 2) := by decide +kernel
theorem dX0_hops_22 : decode cX0_hops 22 = .ok (.iload 4, 2) := by decide +kernel
theorem dX0_hops_24 : decode cX0_hops 24 = .ok (.bipush 7, 2) := by decide +kernel
theorem dX0_hops_26 : decode cX0_hops 26 = .ok (.if_icmp .ge 19, 3) := by decide +kernel
theorem dX0_hops_29 : decode cX0_hops 29 = .ok (.aload_n 0, 1) := by decide +kernel
theorem dX0_hops_30 : decode cX0_hops 30 = .ok (.invokevirtual 98, 3) := by decide +kernel
theorem dX0_hops_33 : decode cX0_hops 33 = .ok (.ifCond .eq 12, 3) := by decide +kernel
theorem dX0_hops_36 : decode cX0_hops 36 = .ok (.iinc 3 1, 3) := by decide +kernel
theorem dX0_hops_39 : decode cX0_hops 39 = .ok (.iinc 4 1, 3) := by decide +kernel
theorem dX0_hops_42 : decode cX0_hops 42 = .ok (.goto (-20), 3) := by decide +kernel
theorem dX0_hops_45 : decode cX0_hops 45 = .ok (.iload_n 3, 1) := by decide +kernel
theorem dX0_hops_46 : decode cX0_hops 46 = .ok (.ireturn, 1) := by decide +kernel
abbrev cX0_launch : ByteArray := prog_1_method_18_code
def yX0_launch : MethodName := ⟨RX0, "launch", "(II)V"⟩
theorem dX0_launch_0 : decode cX0_launch 0 = .ok (.aload_n 0, 1) := by decide +kernel
theorem dX0_launch_1 : decode cX0_launch 1 = .ok (.iload_n 1, 1) := by decide +kernel
theorem dX0_launch_2 : decode cX0_launch 2 = .ok (.putfield 83, 3) := by decide +kernel
theorem dX0_launch_5 : decode cX0_launch 5 = .ok (.aload_n 0, 1) := by decide +kernel
theorem dX0_launch_6 : decode cX0_launch 6 = .ok (.iload_n 1, 1) := by decide +kernel
theorem dX0_launch_7 : decode cX0_launch 7 = .ok (.iload_n 2, 1) := by decide +kernel
theorem dX0_launch_8 : decode cX0_launch 8 = .ok (.if_icmp .ne 7, 3) := by decide +kernel
theorem dX0_launch_11 : decode cX0_launch 11 = .ok (.iconst 0, 1) := by decide +kernel
theorem dX0_launch_12 : decode cX0_launch 12 = .ok (.goto 6, 3) := by decide +kernel
theorem dX0_launch_15 : decode cX0_launch 15 = .ok (.iconst (-1), 1) := by decide +kernel
theorem dX0_launch_16 : decode cX0_launch 16 = .ok (.iload_n 2, 1) := by decide +kernel
theorem dX0_launch_17 : decode cX0_launch 17 = .ok (.isub, 1) := by decide +kernel
theorem dX0_launch_18 : decode cX0_launch 18 = .ok (.putfield 86, 3) := by decide +kernel
theorem dX0_launch_21 : decode cX0_launch 21 = .ok (.return_, 1) := by decide +kernel
abbrev cX0_forward : ByteArray := prog_1_method_19_code
def yX0_forward : MethodName := ⟨RX0, "forward", "()Z"⟩
theorem dX0_forward_0 : decode cX0_forward 0 = .ok (.aload_n 0, 1) := by decide +kernel
theorem dX0_forward_1 : decode cX0_forward 1 = .ok (.getfield 86, 3) := by decide +kernel
theorem dX0_forward_4 : decode cX0_forward 4 = .ok (.ifCond .ne 5, 3) := by decide +kernel
theorem dX0_forward_7 : decode cX0_forward 7 = .ok (.iconst 0, 1) := by decide +kernel
theorem dX0_forward_8 : decode cX0_forward 8 = .ok (.ireturn, 1) := by decide +kernel
theorem dX0_forward_9 : decode cX0_forward 9 = .ok (.aload_n 0, 1) := by decide +kernel
theorem dX0_forward_10 : decode cX0_forward 10 = .ok (.getfield 86, 3) := by decide +kernel
theorem dX0_forward_13 : decode cX0_forward 13 = .ok (.ifCond .ge 48, 3) := by decide +kernel
theorem dX0_forward_16 : decode cX0_forward 16 = .ok (.iconst (-1), 1) := by decide +kernel
theorem dX0_forward_17 : decode cX0_forward 17 = .ok (.aload_n 0, 1) := by decide +kernel
theorem dX0_forward_18 : decode cX0_forward 18 = .ok (.getfield 86, 3) := by decide +kernel
theorem dX0_forward_21 : decode cX0_forward 21 = .ok (.isub, 1) := by decide +kernel
theorem dX0_forward_22 : decode cX0_forward 22 = .ok (.istore_n 1, 1) := by decide +kernel
theorem dX0_forward_23 : decode cX0_forward 23 = .ok (.aload_n 0, 1) := by decide +kernel
theorem dX0_forward_24 : decode cX0_forward 24 = .ok (.aload_n 0, 1) := by decide +kernel
theorem dX0_forward_25 : decode cX0_forward 25 = .ok (.getfield 37, 3) := by decide +kernel
theorem dX0_forward_28 : decode cX0_forward 28 = .ok (.aload_n 0, 1) := by decide +kernel
theorem dX0_forward_29 : decode cX0_forward 29 = .ok (.getfield 83, 3) := by decide +kernel
theorem dX0_forward_32 : decode cX0_forward 32 = .ok (.bipush 7, 2) := by decide +kernel
theorem dX0_forward_34 : decode cX0_forward 34 = .ok (.imul, 1) := by decide +kernel
theorem dX0_forward_35 : decode cX0_forward 35 = .ok (.iload_n 1, 1) := by decide +kernel
theorem dX0_forward_36 : decode cX0_forward 36 = .ok (.iadd, 1) := by decide +kernel
theorem dX0_forward_37 : decode cX0_forward 37 = .ok (.saload, 1) := by decide +kernel
theorem dX0_forward_38 : decode cX0_forward 38 = .ok (.putfield 86, 3) := by decide +kernel
theorem dX0_forward_41 : decode cX0_forward 41 = .ok (.aload_n 0, 1) := by decide +kernel
theorem dX0_forward_42 : decode cX0_forward 42 = .ok (.aload_n 0, 1) := by decide +kernel
theorem dX0_forward_43 : decode cX0_forward 43 = .ok (.getfield 24, 3) := by decide +kernel
theorem dX0_forward_46 : decode cX0_forward 46 = .ok (.aload_n 0, 1) := by decide +kernel
theorem dX0_forward_47 : decode cX0_forward 47 = .ok (.getfield 83, 3) := by decide +kernel
theorem dX0_forward_50 : decode cX0_forward 50 = .ok (.bipush 7, 2) := by decide +kernel
theorem dX0_forward_52 : decode cX0_forward 52 = .ok (.imul, 1) := by decide +kernel
theorem dX0_forward_53 : decode cX0_forward 53 = .ok (.iload_n 1, 1) := by decide +kernel
theorem dX0_forward_54 : decode cX0_forward 54 = .ok (.iadd, 1) := by decide +kernel
theorem dX0_forward_55 : decode cX0_forward 55 = .ok (.baload, 1) := by decide +kernel
theorem dX0_forward_56 : decode cX0_forward 56 = .ok (.putfield 83, 3) := by decide +kernel
theorem dX0_forward_59 : decode cX0_forward 59 = .ok (.iconst 1, 1) := by decide +kernel
theorem dX0_forward_60 : decode cX0_forward 60 = .ok (.ireturn, 1) := by decide +kernel
theorem dX0_forward_61 : decode cX0_forward 61 = .ok (.aload_n 0, 1) := by decide +kernel
theorem dX0_forward_62 : decode cX0_forward 62 = .ok (.getfield 83, 3) := by decide +kernel
theorem dX0_forward_65 : decode cX0_forward 65 = .ok (.bipush 16, 2) := by decide +kernel
theorem dX0_forward_67 : decode cX0_forward 67 = .ok (.imul, 1) := by decide +kernel
theorem dX0_forward_68 : decode cX0_forward 68 = .ok (.aload_n 0, 1) := by decide +kernel
theorem dX0_forward_69 : decode cX0_forward 69 = .ok (.getfield 86, 3) := by decide +kernel
theorem dX0_forward_72 : decode cX0_forward 72 = .ok (.bipush 15, 2) := by decide +kernel
theorem dX0_forward_74 : decode cX0_forward 74 = .ok (.iand, 1) := by decide +kernel
theorem dX0_forward_75 : decode cX0_forward 75 = .ok (.iadd, 1) := by decide +kernel
theorem dX0_forward_76 : decode cX0_forward 76 = .ok (.istore_n 1, 1) := by decide +kernel
theorem dX0_forward_77 : decode cX0_forward 77 = .ok (.aload_n 0, 1) := by decide +kernel
theorem dX0_forward_78 : decode cX0_forward 78 = .ok (.aload_n 0, 1) := by decide +kernel
theorem dX0_forward_79 : decode cX0_forward 79 = .ok (.getfield 31, 3) := by decide +kernel
theorem dX0_forward_82 : decode cX0_forward 82 = .ok (.iload_n 1, 1) := by decide +kernel
theorem dX0_forward_83 : decode cX0_forward 83 = .ok (.saload, 1) := by decide +kernel
theorem dX0_forward_84 : decode cX0_forward 84 = .ok (.putfield 86, 3) := by decide +kernel
theorem dX0_forward_87 : decode cX0_forward 87 = .ok (.aload_n 0, 1) := by decide +kernel
theorem dX0_forward_88 : decode cX0_forward 88 = .ok (.aload_n 0, 1) := by decide +kernel
theorem dX0_forward_89 : decode cX0_forward 89 = .ok (.getfield 34, 3) := by decide +kernel
theorem dX0_forward_92 : decode cX0_forward 92 = .ok (.iload_n 1, 1) := by decide +kernel
theorem dX0_forward_93 : decode cX0_forward 93 = .ok (.baload, 1) := by decide +kernel
theorem dX0_forward_94 : decode cX0_forward 94 = .ok (.putfield 83, 3) := by decide +kernel
theorem dX0_forward_97 : decode cX0_forward 97 = .ok (.iconst 1, 1) := by decide +kernel
theorem dX0_forward_98 : decode cX0_forward 98 = .ok (.ireturn, 1) := by decide +kernel
abbrev cX0_routeAt : ByteArray := prog_1_method_24_code
def yX0_routeAt : MethodName := ⟨RX0, "routeAt", "(III)I"⟩
theorem dX0_routeAt_0 : decode cX0_routeAt 0 = .ok (.aload_n 0, 1) := by decide +kernel
theorem dX0_routeAt_1 : decode cX0_routeAt 1 = .ok (.iload_n 1, 1) := by decide +kernel
theorem dX0_routeAt_2 : decode cX0_routeAt 2 = .ok (.iload_n 2, 1) := by decide +kernel
theorem dX0_routeAt_3 : decode cX0_routeAt 3 = .ok (.invokevirtual 102, 3) := by decide +kernel
theorem dX0_routeAt_6 : decode cX0_routeAt 6 = .ok (.istore 4, 2) := by decide +kernel
theorem dX0_routeAt_8 : decode cX0_routeAt 8 = .ok (.iload 4, 2) := by decide +kernel
theorem dX0_routeAt_10 : decode cX0_routeAt 10 = .ok (.ifCond .lt 13, 3) := by decide +kernel
theorem dX0_routeAt_13 : decode cX0_routeAt 13 = .ok (.iload_n 3, 1) := by decide +kernel
theorem dX0_routeAt_14 : decode cX0_routeAt 14 = .ok (.ifCond .lt 9, 3) := by decide +kernel
theorem dX0_routeAt_17 : decode cX0_routeAt 17 = .ok (.iload_n 3, 1) := by decide +kernel
theorem dX0_routeAt_18 : decode cX0_routeAt 18 = .ok (.iload 4, 2) := by decide +kernel
theorem dX0_routeAt_20 : decode cX0_routeAt 20 = .ok (.if_icmp .le 5, 3) := by decide +kernel
theorem dX0_routeAt_23 : decode cX0_routeAt 23 = .ok (.iconst (-1), 1) := by decide +kernel
theorem dX0_routeAt_24 : decode cX0_routeAt 24 = .ok (.ireturn, 1) := by decide +kernel
theorem dX0_routeAt_25 : decode cX0_routeAt 25 = .ok (.aload_n 0, 1) := by decide +kernel
theorem dX0_routeAt_26 : decode cX0_routeAt 26 = .ok (.iload_n 1, 1) := by decide +kernel
theorem dX0_routeAt_27 : decode cX0_routeAt 27 = .ok (.iload_n 2, 1) := by decide +kernel
theorem dX0_routeAt_28 : decode cX0_routeAt 28 = .ok (.iload_n 3, 1) := by decide +kernel
theorem dX0_routeAt_29 : decode cX0_routeAt 29 = .ok (.invokevirtual 105, 3) := by decide +kernel
theorem dX0_routeAt_32 : decode cX0_routeAt 32 = .ok (.ireturn, 1) := by decide +kernel
abbrev cX0_after : ByteArray := prog_1_method_25_code
def yX0_after : MethodName := ⟨RX0, "after", "(III)I"⟩
theorem dX0_after_0 : decode cX0_after 0 = .ok (.aload_n 0, 1) := by decide +kernel
theorem dX0_after_1 : decode cX0_after 1 = .ok (.iload_n 1, 1) := by decide +kernel
theorem dX0_after_2 : decode cX0_after 2 = .ok (.iload_n 2, 1) := by decide +kernel
theorem dX0_after_3 : decode cX0_after 3 = .ok (.invokevirtual 92, 3) := by decide +kernel
theorem dX0_after_6 : decode cX0_after 6 = .ok (.ifCond .ne 5, 3) := by decide +kernel
theorem dX0_after_9 : decode cX0_after 9 = .ok (.iconst (-1), 1) := by decide +kernel
theorem dX0_after_10 : decode cX0_after 10 = .ok (.ireturn, 1) := by decide +kernel
theorem dX0_after_11 : decode cX0_after 11 = .ok (.aload_n 0, 1) := by decide +kernel
theorem dX0_after_12 : decode cX0_after 12 = .ok (.iload_n 1, 1) := by decide +kernel
theorem dX0_after_13 : decode cX0_after 13 = .ok (.iload_n 2, 1) := by decide +kernel
theorem dX0_after_14 : decode cX0_after 14 = .ok (.invokevirtual 95, 3) := by decide +kernel
theorem dX0_after_17 : decode cX0_after 17 = .ok (.iconst 0, 1) := by decide +kernel
theorem dX0_after_18 : decode cX0_after 18 = .ok (.istore 4, 2) := by decide +kernel
theorem dX0_after_20 : decode cX0_after 20 = .ok (.iload 4, 2) := by decide +kernel
theorem dX0_after_22 : decode cX0_after 22 = .ok (.bipush 7, 2) := by decide +kernel
theorem dX0_after_24 : decode cX0_after 24 = .ok (.if_icmp .ge 20, 3) := by decide +kernel
theorem dX0_after_27 : decode cX0_after 27 = .ok (.iload 4, 2) := by decide +kernel
theorem dX0_after_29 : decode cX0_after 29 = .ok (.iload_n 3, 1) := by decide +kernel
theorem dX0_after_30 : decode cX0_after 30 = .ok (.if_icmp .ge 14, 3) := by decide +kernel
theorem dX0_after_33 : decode cX0_after 33 = .ok (.aload_n 0, 1) := by decide +kernel
theorem dX0_after_34 : decode cX0_after 34 = .ok (.invokevirtual 98, 3) := by decide +kernel
theorem dX0_after_37 : decode cX0_after 37 = .ok (.pop, 1) := by decide +kernel
theorem dX0_after_38 : decode cX0_after 38 = .ok (.iinc 4 1, 3) := by decide +kernel
theorem dX0_after_41 : decode cX0_after 41 = .ok (.goto (-21), 3) := by decide +kernel
theorem dX0_after_44 : decode cX0_after 44 = .ok (.aload_n 0, 1) := by decide +kernel
theorem dX0_after_45 : decode cX0_after 45 = .ok (.getfield 83, 3) := by decide +kernel
theorem dX0_after_48 : decode cX0_after 48 = .ok (.ireturn, 1) := by decide +kernel
abbrev cX0_load : ByteArray := prog_1_method_26_code
def yX0_load : MethodName := ⟨RX0, "load", "(I)I"⟩
theorem dX0_load_0 : decode cX0_load 0 = .ok (.iload_n 1, 1) := by decide +kernel
theorem dX0_load_1 : decode cX0_load 1 = .ok (.invokestatic 43, 3) := by decide +kernel
theorem dX0_load_4 : decode cX0_load 4 = .ok (.ifCond .ne 5, 3) := by decide +kernel
theorem dX0_load_7 : decode cX0_load 7 = .ok (.iconst 0, 1) := by decide +kernel
theorem dX0_load_8 : decode cX0_load 8 = .ok (.ireturn, 1) := by decide +kernel
theorem dX0_load_9 : decode cX0_load 9 = .ok (.iconst 0, 1) := by decide +kernel
theorem dX0_load_10 : decode cX0_load 10 = .ok (.istore_n 2, 1) := by decide +kernel
theorem dX0_load_11 : decode cX0_load 11 = .ok (.iconst 0, 1) := by decide +kernel
theorem dX0_load_12 : decode cX0_load 12 = .ok (.istore_n 3, 1) := by decide +kernel
theorem dX0_load_13 : decode cX0_load 13 = .ok (.iload_n 3, 1) := by decide +kernel
theorem dX0_load_14 : decode cX0_load 14 = .ok (.bipush 49, 2) := by decide +kernel
theorem dX0_load_16 : decode cX0_load 16 = .ok (.if_icmp .ge 66, 3) := by decide +kernel
theorem dX0_load_19 : decode cX0_load 19 = .ok (.iload_n 3, 1) := by decide +kernel
theorem dX0_load_20 : decode cX0_load 20 = .ok (.bipush 7, 2) := by decide +kernel
theorem dX0_load_22 : decode cX0_load 22 = .ok (.idiv, 1) := by decide +kernel
theorem dX0_load_23 : decode cX0_load 23 = .ok (.istore 4, 2) := by decide +kernel
theorem dX0_load_25 : decode cX0_load 25 = .ok (.iload_n 3, 1) := by decide +kernel
theorem dX0_load_26 : decode cX0_load 26 = .ok (.bipush 7, 2) := by decide +kernel
theorem dX0_load_28 : decode cX0_load 28 = .ok (.irem, 1) := by decide +kernel
theorem dX0_load_29 : decode cX0_load 29 = .ok (.istore 5, 2) := by decide +kernel
theorem dX0_load_31 : decode cX0_load 31 = .ok (.iload 4, 2) := by decide +kernel
theorem dX0_load_33 : decode cX0_load 33 = .ok (.iload 5, 2) := by decide +kernel
theorem dX0_load_35 : decode cX0_load 35 = .ok (.if_icmp .eq 41, 3) := by decide +kernel
theorem dX0_load_38 : decode cX0_load 38 = .ok (.iload 4, 2) := by decide +kernel
theorem dX0_load_40 : decode cX0_load 40 = .ok (.iload_n 1, 1) := by decide +kernel
theorem dX0_load_41 : decode cX0_load 41 = .ok (.if_icmp .eq 35, 3) := by decide +kernel
theorem dX0_load_44 : decode cX0_load 44 = .ok (.iload 5, 2) := by decide +kernel
theorem dX0_load_46 : decode cX0_load 46 = .ok (.iload_n 1, 1) := by decide +kernel
theorem dX0_load_47 : decode cX0_load 47 = .ok (.if_icmp .eq 29, 3) := by decide +kernel
theorem dX0_load_50 : decode cX0_load 50 = .ok (.aload_n 0, 1) := by decide +kernel
theorem dX0_load_51 : decode cX0_load 51 = .ok (.iload 4, 2) := by decide +kernel
theorem dX0_load_53 : decode cX0_load 53 = .ok (.iload 5, 2) := by decide +kernel
theorem dX0_load_55 : decode cX0_load 55 = .ok (.invokevirtual 92, 3) := by decide +kernel
theorem dX0_load_58 : decode cX0_load 58 = .ok (.ifCond .eq 18, 3) := by decide +kernel
theorem dX0_load_61 : decode cX0_load 61 = .ok (.aload_n 0, 1) := by decide +kernel
theorem dX0_load_62 : decode cX0_load 62 = .ok (.iload 4, 2) := by decide +kernel
theorem dX0_load_64 : decode cX0_load 64 = .ok (.iload 5, 2) := by decide +kernel
theorem dX0_load_66 : decode cX0_load 66 = .ok (.iload_n 1, 1) := by decide +kernel
theorem dX0_load_67 : decode cX0_load 67 = .ok (.invokevirtual 109, 3) := by decide +kernel
theorem dX0_load_70 : decode cX0_load 70 = .ok (.ifCond .eq 6, 3) := by decide +kernel
theorem dX0_load_73 : decode cX0_load 73 = .ok (.iinc 2 1, 3) := by decide +kernel
theorem dX0_load_76 : decode cX0_load 76 = .ok (.iinc 3 1, 3) := by decide +kernel
theorem dX0_load_79 : decode cX0_load 79 = .ok (.goto (-66), 3) := by decide +kernel
theorem dX0_load_82 : decode cX0_load 82 = .ok (.iload_n 2, 1) := by decide +kernel
theorem dX0_load_83 : decode cX0_load 83 = .ok (.ireturn, 1) := by decide +kernel
abbrev cX0_comesThrough : ByteArray := prog_1_method_27_code
def yX0_comesThrough : MethodName := ⟨RX0, "comesThrough", "(III)Z"⟩
theorem dX0_comesThrough_0 : decode cX0_comesThrough 0 = .ok (.aload_n 0, 1) := by decide +kernel
theorem dX0_comesThrough_1 : decode cX0_comesThrough 1 = .ok (.iload_n 1, 1) := by decide +kernel
theorem dX0_comesThrough_2 : decode cX0_comesThrough 2 = .ok (.iload_n 2, 1) := by decide +kernel
theorem dX0_comesThrough_3 : decode cX0_comesThrough 3 = .ok (.invokevirtual 95, 3) := by decide +kernel
theorem dX0_comesThrough_6 : decode cX0_comesThrough 6 = .ok (.iconst 0, 1) := by decide +kernel
theorem dX0_comesThrough_7 : decode cX0_comesThrough 7 = .ok (.istore 4, 2) := by decide +kernel
theorem dX0_comesThrough_9 : decode cX0_comesThrough 9 = .ok (.iload 4, 2) := by decide +kernel
theorem dX0_comesThrough_11 : decode cX0_comesThrough 11 = .ok (.bipush 7, 2) := by decide +kernel
theorem dX0_comesThrough_13 : decode cX0_comesThrough 13 = .ok (.if_icmp .ge 26, 3) := by decide +kernel
theorem dX0_comesThrough_16 : decode cX0_comesThrough 16 = .ok (.aload_n 0, 1) := by decide +kernel
theorem dX0_comesThrough_17 : decode cX0_comesThrough 17 = .ok (.invokevirtual 98, 3) := by decide +kernel
theorem dX0_comesThrough_20 : decode cX0_comesThrough 20 = .ok (.ifCond .eq 19, 3) := by decide +kernel
theorem dX0_comesThrough_23 : decode cX0_comesThrough 23 = .ok (.aload_n 0, 1) := by decide +kernel
theorem dX0_comesThrough_24 : decode cX0_comesThrough 24 = .ok (.getfield 83, 3) := by decide +kernel
theorem dX0_comesThrough_27 : decode cX0_comesThrough 27 = .ok (.iload_n 3, 1) := by decide +kernel
theorem dX0_comesThrough_28 : decode cX0_comesThrough 28 = .ok (.if_icmp .ne 5, 3) := by decide +kernel
theorem dX0_comesThrough_31 : decode cX0_comesThrough 31 = .ok (.iconst 1, 1) := by decide +kernel
theorem dX0_comesThrough_32 : decode cX0_comesThrough 32 = .ok (.ireturn, 1) := by decide +kernel
theorem dX0_comesThrough_33 : decode cX0_comesThrough 33 = .ok (.iinc 4 1, 3) := by decide +kernel
theorem dX0_comesThrough_36 : decode cX0_comesThrough 36 = .ok (.goto (-27), 3) := by decide +kernel
theorem dX0_comesThrough_39 : decode cX0_comesThrough 39 = .ok (.iconst 0, 1) := by decide +kernel
theorem dX0_comesThrough_40 : decode cX0_comesThrough 40 = .ok (.ireturn, 1) := by decide +kernel
abbrev cX0_linkLoad : ByteArray := prog_1_method_28_code
def yX0_linkLoad : MethodName := ⟨RX0, "linkLoad", "(II)I"⟩
theorem dX0_linkLoad_0 : decode cX0_linkLoad 0 = .ok (.aload_n 0, 1) := by decide +kernel
theorem dX0_linkLoad_1 : decode cX0_linkLoad 1 = .ok (.iload_n 1, 1) := by decide +kernel
theorem dX0_linkLoad_2 : decode cX0_linkLoad 2 = .ok (.iload_n 2, 1) := by decide +kernel
theorem dX0_linkLoad_3 : decode cX0_linkLoad 3 = .ok (.invokevirtual 59, 3) := by decide +kernel
theorem dX0_linkLoad_6 : decode cX0_linkLoad 6 = .ok (.ifCond .eq 12, 3) := by decide +kernel
theorem dX0_linkLoad_9 : decode cX0_linkLoad 9 = .ok (.aload_n 0, 1) := by decide +kernel
theorem dX0_linkLoad_10 : decode cX0_linkLoad 10 = .ok (.iload_n 1, 1) := by decide +kernel
theorem dX0_linkLoad_11 : decode cX0_linkLoad 11 = .ok (.iload_n 2, 1) := by decide +kernel
theorem dX0_linkLoad_12 : decode cX0_linkLoad 12 = .ok (.invokevirtual 76, 3) := by decide +kernel
theorem dX0_linkLoad_15 : decode cX0_linkLoad 15 = .ok (.ifCond .ne 5, 3) := by decide +kernel
theorem dX0_linkLoad_18 : decode cX0_linkLoad 18 = .ok (.iconst 0, 1) := by decide +kernel
theorem dX0_linkLoad_19 : decode cX0_linkLoad 19 = .ok (.ireturn, 1) := by decide +kernel
theorem dX0_linkLoad_20 : decode cX0_linkLoad 20 = .ok (.iconst 0, 1) := by decide +kernel
theorem dX0_linkLoad_21 : decode cX0_linkLoad 21 = .ok (.istore_n 3, 1) := by decide +kernel
theorem dX0_linkLoad_22 : decode cX0_linkLoad 22 = .ok (.iconst 0, 1) := by decide +kernel
theorem dX0_linkLoad_23 : decode cX0_linkLoad 23 = .ok (.istore 4, 2) := by decide +kernel
theorem dX0_linkLoad_25 : decode cX0_linkLoad 25 = .ok (.iload 4, 2) := by decide +kernel
theorem dX0_linkLoad_27 : decode cX0_linkLoad 27 = .ok (.bipush 49, 2) := by decide +kernel
theorem dX0_linkLoad_29 : decode cX0_linkLoad 29 = .ok (.if_icmp .ge 62, 3) := by decide +kernel
theorem dX0_linkLoad_32 : decode cX0_linkLoad 32 = .ok (.iload 4, 2) := by decide +kernel
theorem dX0_linkLoad_34 : decode cX0_linkLoad 34 = .ok (.bipush 7, 2) := by decide +kernel
theorem dX0_linkLoad_36 : decode cX0_linkLoad 36 = .ok (.idiv, 1) := by decide +kernel
theorem dX0_linkLoad_37 : decode cX0_linkLoad 37 = .ok (.istore 5, 2) := by decide +kernel
theorem dX0_linkLoad_39 : decode cX0_linkLoad 39 = .ok (.iload 4, 2) := by decide +kernel
theorem dX0_linkLoad_41 : decode cX0_linkLoad 41 = .ok (.bipush 7, 2) := by decide +kernel
theorem dX0_linkLoad_43 : decode cX0_linkLoad 43 = .ok (.irem, 1) := by decide +kernel
theorem dX0_linkLoad_44 : decode cX0_linkLoad 44 = .ok (.istore 6, 2) := by decide +kernel
theorem dX0_linkLoad_46 : decode cX0_linkLoad 46 = .ok (.iload 5, 2) := by decide +kernel
theorem dX0_linkLoad_48 : decode cX0_linkLoad 48 = .ok (.iload 6, 2) := by decide +kernel
theorem dX0_linkLoad_50 : decode cX0_linkLoad 50 = .ok (.if_icmp .eq 35, 3) := by decide +kernel
theorem dX0_linkLoad_53 : decode cX0_linkLoad 53 = .ok (.aload_n 0, 1) := by decide +kernel
theorem dX0_linkLoad_54 : decode cX0_linkLoad 54 = .ok (.iload 5, 2) := by decide +kernel
theorem dX0_linkLoad_56 : decode cX0_linkLoad 56 = .ok (.iload 6, 2) := by decide +kernel
theorem dX0_linkLoad_58 : decode cX0_linkLoad 58 = .ok (.invokevirtual 92, 3) := by decide +kernel
theorem dX0_linkLoad_61 : decode cX0_linkLoad 61 = .ok (.ifCond .eq 24, 3) := by decide +kernel
theorem dX0_linkLoad_64 : decode cX0_linkLoad 64 = .ok (.aload_n 0, 1) := by decide +kernel
theorem dX0_linkLoad_65 : decode cX0_linkLoad 65 = .ok (.iload 5, 2) := by decide +kernel
theorem dX0_linkLoad_67 : decode cX0_linkLoad 67 = .ok (.iload 6, 2) := by decide +kernel
theorem dX0_linkLoad_69 : decode cX0_linkLoad 69 = .ok (.iconst 1, 1) := by decide +kernel
theorem dX0_linkLoad_70 : decode cX0_linkLoad 70 = .ok (.iload_n 1, 1) := by decide +kernel
theorem dX0_linkLoad_71 : decode cX0_linkLoad 71 = .ok (.ishl, 1) := by decide +kernel
theorem dX0_linkLoad_72 : decode cX0_linkLoad 72 = .ok (.iconst 1, 1) := by decide +kernel
theorem dX0_linkLoad_73 : decode cX0_linkLoad 73 = .ok (.iload_n 2, 1) := by decide +kernel
theorem dX0_linkLoad_74 : decode cX0_linkLoad 74 = .ok (.ishl, 1) := by decide +kernel
theorem dX0_linkLoad_75 : decode cX0_linkLoad 75 = .ok (.ior, 1) := by decide +kernel
theorem dX0_linkLoad_76 : decode cX0_linkLoad 76 = .ok (.invokevirtual 113, 3) := by decide +kernel
theorem dX0_linkLoad_79 : decode cX0_linkLoad 79 = .ok (.ifCond .eq 6, 3) := by decide +kernel
theorem dX0_linkLoad_82 : decode cX0_linkLoad 82 = .ok (.iinc 3 1, 3) := by decide +kernel
theorem dX0_linkLoad_85 : decode cX0_linkLoad 85 = .ok (.iinc 4 1, 3) := by decide +kernel
theorem dX0_linkLoad_88 : decode cX0_linkLoad 88 = .ok (.goto (-63), 3) := by decide +kernel
theorem dX0_linkLoad_91 : decode cX0_linkLoad 91 = .ok (.iload_n 3, 1) := by decide +kernel
theorem dX0_linkLoad_92 : decode cX0_linkLoad 92 = .ok (.ireturn, 1) := by decide +kernel
abbrev cX0_goesAlong : ByteArray := prog_1_method_29_code
def yX0_goesAlong : MethodName := ⟨RX0, "goesAlong", "(III)Z"⟩
theorem dX0_goesAlong_0 : decode cX0_goesAlong 0 = .ok (.aload_n 0, 1) := by decide +kernel
theorem dX0_goesAlong_1 : decode cX0_goesAlong 1 = .ok (.iload_n 1, 1) := by decide +kernel
theorem dX0_goesAlong_2 : decode cX0_goesAlong 2 = .ok (.iload_n 2, 1) := by decide +kernel
theorem dX0_goesAlong_3 : decode cX0_goesAlong 3 = .ok (.invokevirtual 95, 3) := by decide +kernel
theorem dX0_goesAlong_6 : decode cX0_goesAlong 6 = .ok (.iload_n 1, 1) := by decide +kernel
theorem dX0_goesAlong_7 : decode cX0_goesAlong 7 = .ok (.istore 4, 2) := by decide +kernel
theorem dX0_goesAlong_9 : decode cX0_goesAlong 9 = .ok (.iconst 0, 1) := by decide +kernel
theorem dX0_goesAlong_10 : decode cX0_goesAlong 10 = .ok (.istore 5, 2) := by decide +kernel
theorem dX0_goesAlong_12 : decode cX0_goesAlong 12 = .ok (.iload 5, 2) := by decide +kernel
theorem dX0_goesAlong_14 : decode cX0_goesAlong 14 = .ok (.bipush 7, 2) := by decide +kernel
theorem dX0_goesAlong_16 : decode cX0_goesAlong 16 = .ok (.if_icmp .ge 39, 3) := by decide +kernel
theorem dX0_goesAlong_19 : decode cX0_goesAlong 19 = .ok (.aload_n 0, 1) := by decide +kernel
theorem dX0_goesAlong_20 : decode cX0_goesAlong 20 = .ok (.invokevirtual 98, 3) := by decide +kernel
theorem dX0_goesAlong_23 : decode cX0_goesAlong 23 = .ok (.ifCond .eq 32, 3) := by decide +kernel
theorem dX0_goesAlong_26 : decode cX0_goesAlong 26 = .ok (.iconst 1, 1) := by decide +kernel
theorem dX0_goesAlong_27 : decode cX0_goesAlong 27 = .ok (.iload 4, 2) := by decide +kernel
theorem dX0_goesAlong_29 : decode cX0_goesAlong 29 = .ok (.ishl, 1) := by decide +kernel
theorem dX0_goesAlong_30 : decode cX0_goesAlong 30 = .ok (.iconst 1, 1) := by decide +kernel
theorem dX0_goesAlong_31 : decode cX0_goesAlong 31 = .ok (.aload_n 0, 1) := by decide +kernel
theorem dX0_goesAlong_32 : decode cX0_goesAlong 32 = .ok (.getfield 83, 3) := by decide +kernel
theorem dX0_goesAlong_35 : decode cX0_goesAlong 35 = .ok (.ishl, 1) := by decide +kernel
theorem dX0_goesAlong_36 : decode cX0_goesAlong 36 = .ok (.ior, 1) := by decide +kernel
theorem dX0_goesAlong_37 : decode cX0_goesAlong 37 = .ok (.iload_n 3, 1) := by decide +kernel
theorem dX0_goesAlong_38 : decode cX0_goesAlong 38 = .ok (.if_icmp .ne 5, 3) := by decide +kernel
theorem dX0_goesAlong_41 : decode cX0_goesAlong 41 = .ok (.iconst 1, 1) := by decide +kernel
theorem dX0_goesAlong_42 : decode cX0_goesAlong 42 = .ok (.ireturn, 1) := by decide +kernel
theorem dX0_goesAlong_43 : decode cX0_goesAlong 43 = .ok (.aload_n 0, 1) := by decide +kernel
theorem dX0_goesAlong_44 : decode cX0_goesAlong 44 = .ok (.getfield 83, 3) := by decide +kernel
theorem dX0_goesAlong_47 : decode cX0_goesAlong 47 = .ok (.istore 4, 2) := by decide +kernel
theorem dX0_goesAlong_49 : decode cX0_goesAlong 49 = .ok (.iinc 5 1, 3) := by decide +kernel
theorem dX0_goesAlong_52 : decode cX0_goesAlong 52 = .ok (.goto (-40), 3) := by decide +kernel
theorem dX0_goesAlong_55 : decode cX0_goesAlong 55 = .ok (.iconst 0, 1) := by decide +kernel
theorem dX0_goesAlong_56 : decode cX0_goesAlong 56 = .ok (.ireturn, 1) := by decide +kernel
abbrev cX0_reachable : ByteArray := prog_1_method_30_code
def yX0_reachable : MethodName := ⟨RX0, "reachable", "(I)I"⟩
theorem dX0_reachable_0 : decode cX0_reachable 0 = .ok (.iconst 0, 1) := by decide +kernel
theorem dX0_reachable_1 : decode cX0_reachable 1 = .ok (.istore_n 2, 1) := by decide +kernel
theorem dX0_reachable_2 : decode cX0_reachable 2 = .ok (.iconst 0, 1) := by decide +kernel
theorem dX0_reachable_3 : decode cX0_reachable 3 = .ok (.istore_n 3, 1) := by decide +kernel
theorem dX0_reachable_4 : decode cX0_reachable 4 = .ok (.iload_n 3, 1) := by decide +kernel
theorem dX0_reachable_5 : decode cX0_reachable 5 = .ok (.bipush 7, 2) := by decide +kernel
theorem dX0_reachable_7 : decode cX0_reachable 7 = .ok (.if_icmp .ge 29, 3) := by decide +kernel
theorem dX0_reachable_10 : decode cX0_reachable 10 = .ok (.iload_n 3, 1) := by decide +kernel
theorem dX0_reachable_11 : decode cX0_reachable 11 = .ok (.iload_n 1, 1) := by decide +kernel
theorem dX0_reachable_12 : decode cX0_reachable 12 = .ok (.if_icmp .eq 18, 3) := by decide +kernel
theorem dX0_reachable_15 : decode cX0_reachable 15 = .ok (.aload_n 0, 1) := by decide +kernel
theorem dX0_reachable_16 : decode cX0_reachable 16 = .ok (.iload_n 1, 1) := by decide +kernel
theorem dX0_reachable_17 : decode cX0_reachable 17 = .ok (.iload_n 3, 1) := by decide +kernel
theorem dX0_reachable_18 : decode cX0_reachable 18 = .ok (.invokevirtual 92, 3) := by decide +kernel
theorem dX0_reachable_21 : decode cX0_reachable 21 = .ok (.ifCond .eq 9, 3) := by decide +kernel
theorem dX0_reachable_24 : decode cX0_reachable 24 = .ok (.iload_n 2, 1) := by decide +kernel
theorem dX0_reachable_25 : decode cX0_reachable 25 = .ok (.iconst 1, 1) := by decide +kernel
theorem dX0_reachable_26 : decode cX0_reachable 26 = .ok (.iload_n 3, 1) := by decide +kernel
theorem dX0_reachable_27 : decode cX0_reachable 27 = .ok (.ishl, 1) := by decide +kernel
theorem dX0_reachable_28 : decode cX0_reachable 28 = .ok (.ior, 1) := by decide +kernel
theorem dX0_reachable_29 : decode cX0_reachable 29 = .ok (.istore_n 2, 1) := by decide +kernel
theorem dX0_reachable_30 : decode cX0_reachable 30 = .ok (.iinc 3 1, 3) := by decide +kernel
theorem dX0_reachable_33 : decode cX0_reachable 33 = .ok (.goto (-29), 3) := by decide +kernel
theorem dX0_reachable_36 : decode cX0_reachable 36 = .ok (.iload_n 2, 1) := by decide +kernel
theorem dX0_reachable_37 : decode cX0_reachable 37 = .ok (.ireturn, 1) := by decide +kernel
abbrev cX0_farthest : ByteArray := prog_1_method_31_code
def yX0_farthest : MethodName := ⟨RX0, "farthest", "(I)I"⟩
theorem dX0_farthest_0 : decode cX0_farthest 0 = .ok (.aload_n 0, 1) := by decide +kernel
theorem dX0_farthest_1 : decode cX0_farthest 1 = .ok (.iload_n 1, 1) := by decide +kernel
theorem dX0_farthest_2 : decode cX0_farthest 2 = .ok (.iload_n 1, 1) := by decide +kernel
theorem dX0_farthest_3 : decode cX0_farthest 3 = .ok (.invokevirtual 92, 3) := by decide +kernel
theorem dX0_farthest_6 : decode cX0_farthest 6 = .ok (.ifCond .ne 5, 3) := by decide +kernel
theorem dX0_farthest_9 : decode cX0_farthest 9 = .ok (.iconst (-1), 1) := by decide +kernel
theorem dX0_farthest_10 : decode cX0_farthest 10 = .ok (.ireturn, 1) := by decide +kernel
theorem dX0_farthest_11 : decode cX0_farthest 11 = .ok (.iconst 0, 1) := by decide +kernel
theorem dX0_farthest_12 : decode cX0_farthest 12 = .ok (.istore_n 2, 1) := by decide +kernel
theorem dX0_farthest_13 : decode cX0_farthest 13 = .ok (.iconst 0, 1) := by decide +kernel
theorem dX0_farthest_14 : decode cX0_farthest 14 = .ok (.istore_n 3, 1) := by decide +kernel
theorem dX0_farthest_15 : decode cX0_farthest 15 = .ok (.iload_n 3, 1) := by decide +kernel
theorem dX0_farthest_16 : decode cX0_farthest 16 = .ok (.bipush 7, 2) := by decide +kernel
theorem dX0_farthest_18 : decode cX0_farthest 18 = .ok (.if_icmp .ge 43, 3) := by decide +kernel
theorem dX0_farthest_21 : decode cX0_farthest 21 = .ok (.aload_n 0, 1) := by decide +kernel
theorem dX0_farthest_22 : decode cX0_farthest 22 = .ok (.getfield 20, 3) := by decide +kernel
theorem dX0_farthest_25 : decode cX0_farthest 25 = .ok (.iload_n 1, 1) := by decide +kernel
theorem dX0_farthest_26 : decode cX0_farthest 26 = .ok (.bipush 7, 2) := by decide +kernel
theorem dX0_farthest_28 : decode cX0_farthest 28 = .ok (.imul, 1) := by decide +kernel
theorem dX0_farthest_29 : decode cX0_farthest 29 = .ok (.iload_n 3, 1) := by decide +kernel
theorem dX0_farthest_30 : decode cX0_farthest 30 = .ok (.iadd, 1) := by decide +kernel
theorem dX0_farthest_31 : decode cX0_farthest 31 = .ok (.iaload, 1) := by decide +kernel
theorem dX0_farthest_32 : decode cX0_farthest 32 = .ok (.istore 4, 2) := by decide +kernel
theorem dX0_farthest_34 : decode cX0_farthest 34 = .ok (.iload 4, 2) := by decide +kernel
theorem dX0_farthest_36 : decode cX0_farthest 36 = .ok (.sipush 10000, 3) := by decide +kernel
theorem dX0_farthest_39 : decode cX0_farthest 39 = .ok (.if_icmp .ge 14, 3) := by decide +kernel
theorem dX0_farthest_42 : decode cX0_farthest 42 = .ok (.iload 4, 2) := by decide +kernel
theorem dX0_farthest_44 : decode cX0_farthest 44 = .ok (.iload_n 2, 1) := by decide +kernel
theorem dX0_farthest_45 : decode cX0_farthest 45 = .ok (.if_icmp .le 8, 3) := by decide +kernel
theorem dX0_farthest_48 : decode cX0_farthest 48 = .ok (.iload 4, 2) := by decide +kernel
theorem dX0_farthest_50 : decode cX0_farthest 50 = .ok (.goto 4, 3) := by decide +kernel
theorem dX0_farthest_53 : decode cX0_farthest 53 = .ok (.iload_n 2, 1) := by decide +kernel
theorem dX0_farthest_54 : decode cX0_farthest 54 = .ok (.istore_n 2, 1) := by decide +kernel
theorem dX0_farthest_55 : decode cX0_farthest 55 = .ok (.iinc 3 1, 3) := by decide +kernel
theorem dX0_farthest_58 : decode cX0_farthest 58 = .ok (.goto (-43), 3) := by decide +kernel
theorem dX0_farthest_61 : decode cX0_farthest 61 = .ok (.iload_n 2, 1) := by decide +kernel
theorem dX0_farthest_62 : decode cX0_farthest 62 = .ok (.ireturn, 1) := by decide +kernel
abbrev cX0_impact : ByteArray := prog_1_method_32_code
def yX0_impact : MethodName := ⟨RX0, "impact", "(II)I"⟩
theorem dX0_impact_0 : decode cX0_impact 0 = .ok (.aload_n 0, 1) := by decide +kernel
theorem dX0_impact_1 : decode cX0_impact 1 = .ok (.iload_n 1, 1) := by decide +kernel
theorem dX0_impact_2 : decode cX0_impact 2 = .ok (.iload_n 2, 1) := by decide +kernel
theorem dX0_impact_3 : decode cX0_impact 3 = .ok (.invokevirtual 59, 3) := by decide +kernel
theorem dX0_impact_6 : decode cX0_impact 6 = .ok (.ifCond .ne 5, 3) := by decide +kernel
theorem dX0_impact_9 : decode cX0_impact 9 = .ok (.iconst 0, 1) := by decide +kernel
theorem dX0_impact_10 : decode cX0_impact 10 = .ok (.ireturn, 1) := by decide +kernel
theorem dX0_impact_11 : decode cX0_impact 11 = .ok (.aload_n 0, 1) := by decide +kernel
theorem dX0_impact_12 : decode cX0_impact 12 = .ok (.invokevirtual 89, 3) := by decide +kernel
theorem dX0_impact_15 : decode cX0_impact 15 = .ok (.iconst 0, 1) := by decide +kernel
theorem dX0_impact_16 : decode cX0_impact 16 = .ok (.istore_n 3, 1) := by decide +kernel
theorem dX0_impact_17 : decode cX0_impact 17 = .ok (.iload_n 3, 1) := by decide +kernel
theorem dX0_impact_18 : decode cX0_impact 18 = .ok (.bipush 49, 2) := by decide +kernel
theorem dX0_impact_20 : decode cX0_impact 20 = .ok (.if_icmp .ge 21, 3) := by decide +kernel
theorem dX0_impact_23 : decode cX0_impact 23 = .ok (.aload_n 0, 1) := by decide +kernel
theorem dX0_impact_24 : decode cX0_impact 24 = .ok (.getfield 40, 3) := by decide +kernel
theorem dX0_impact_27 : decode cX0_impact 27 = .ok (.iload_n 3, 1) := by decide +kernel
theorem dX0_impact_28 : decode cX0_impact 28 = .ok (.aload_n 0, 1) := by decide +kernel
theorem dX0_impact_29 : decode cX0_impact 29 = .ok (.getfield 24, 3) := by decide +kernel
theorem dX0_impact_32 : decode cX0_impact 32 = .ok (.iload_n 3, 1) := by decide +kernel
theorem dX0_impact_33 : decode cX0_impact 33 = .ok (.baload, 1) := by decide +kernel
theorem dX0_impact_34 : decode cX0_impact 34 = .ok (.bastore, 1) := by decide +kernel
theorem dX0_impact_35 : decode cX0_impact 35 = .ok (.iinc 3 1, 3) := by decide +kernel
theorem dX0_impact_38 : decode cX0_impact 38 = .ok (.goto (-21), 3) := by decide +kernel
theorem dX0_impact_41 : decode cX0_impact 41 = .ok (.aload_n 0, 1) := by decide +kernel
theorem dX0_impact_42 : decode cX0_impact 42 = .ok (.getfield 13, 3) := by decide +kernel
theorem dX0_impact_45 : decode cX0_impact 45 = .ok (.iload_n 1, 1) := by decide +kernel
theorem dX0_impact_46 : decode cX0_impact 46 = .ok (.baload, 1) := by decide +kernel
theorem dX0_impact_47 : decode cX0_impact 47 = .ok (.iload_n 2, 1) := by decide +kernel
theorem dX0_impact_48 : decode cX0_impact 48 = .ok (.ishr, 1) := by decide +kernel
theorem dX0_impact_49 : decode cX0_impact 49 = .ok (.iconst 1, 1) := by decide +kernel
theorem dX0_impact_50 : decode cX0_impact 50 = .ok (.iand, 1) := by decide +kernel
theorem dX0_impact_51 : decode cX0_impact 51 = .ok (.ifCond .eq 7, 3) := by decide +kernel
theorem dX0_impact_54 : decode cX0_impact 54 = .ok (.iconst 1, 1) := by decide +kernel
theorem dX0_impact_55 : decode cX0_impact 55 = .ok (.goto 4, 3) := by decide +kernel
theorem dX0_impact_58 : decode cX0_impact 58 = .ok (.iconst 0, 1) := by decide +kernel
theorem dX0_impact_59 : decode cX0_impact 59 = .ok (.istore_n 3, 1) := by decide +kernel
theorem dX0_impact_60 : decode cX0_impact 60 = .ok (.aload_n 0, 1) := by decide +kernel
theorem dX0_impact_61 : decode cX0_impact 61 = .ok (.iload_n 1, 1) := by decide +kernel
theorem dX0_impact_62 : decode cX0_impact 62 = .ok (.iload_n 2, 1) := by decide +kernel
theorem dX0_impact_63 : decode cX0_impact 63 = .ok (.iload_n 3, 1) := by decide +kernel
theorem dX0_impact_64 : decode cX0_impact 64 = .ok (.ifCond .ne 7, 3) := by decide +kernel
theorem dX0_impact_67 : decode cX0_impact 67 = .ok (.iconst 1, 1) := by decide +kernel
theorem dX0_impact_68 : decode cX0_impact 68 = .ok (.goto 4, 3) := by decide +kernel
theorem dX0_impact_71 : decode cX0_impact 71 = .ok (.iconst 0, 1) := by decide +kernel
theorem dX0_impact_72 : decode cX0_impact 72 = .ok (.invokevirtual 51, 3) := by decide +kernel
theorem dX0_impact_75 : decode cX0_impact 75 = .ok (.aload_n 0, 1) := by decide +kernel
theorem dX0_impact_76 : decode cX0_impact 76 = .ok (.invokevirtual 89, 3) := by decide +kernel
theorem dX0_impact_79 : decode cX0_impact 79 = .ok (.iconst 0, 1) := by decide +kernel
theorem dX0_impact_80 : decode cX0_impact 80 = .ok (.istore 4, 2) := by decide +kernel
theorem dX0_impact_82 : decode cX0_impact 82 = .ok (.iconst 0, 1) := by decide +kernel
theorem dX0_impact_83 : decode cX0_impact 83 = .ok (.istore 5, 2) := by decide +kernel
theorem dX0_impact_85 : decode cX0_impact 85 = .ok (.iload 5, 2) := by decide +kernel
theorem dX0_impact_87 : decode cX0_impact 87 = .ok (.bipush 49, 2) := by decide +kernel
theorem dX0_impact_89 : decode cX0_impact 89 = .ok (.if_icmp .ge 36, 3) := by decide +kernel
theorem dX0_impact_92 : decode cX0_impact 92 = .ok (.iload 4, 2) := by decide +kernel
theorem dX0_impact_94 : decode cX0_impact 94 = .ok (.aload_n 0, 1) := by decide +kernel
theorem dX0_impact_95 : decode cX0_impact 95 = .ok (.iload 5, 2) := by decide +kernel
theorem dX0_impact_97 : decode cX0_impact 97 = .ok (.bipush 7, 2) := by decide +kernel
theorem dX0_impact_99 : decode cX0_impact 99 = .ok (.idiv, 1) := by decide +kernel
theorem dX0_impact_100 : decode cX0_impact 100 = .ok (.iload 5, 2) := by decide +kernel
theorem dX0_impact_102 : decode cX0_impact 102 = .ok (.bipush 7, 2) := by decide +kernel
theorem dX0_impact_104 : decode cX0_impact 104 = .ok (.irem, 1) := by decide +kernel
theorem dX0_impact_105 : decode cX0_impact 105 = .ok (.invokevirtual 116, 3) := by decide +kernel
theorem dX0_impact_108 : decode cX0_impact 108 = .ok (.ifCond .eq 7, 3) := by decide +kernel
theorem dX0_impact_111 : decode cX0_impact 111 = .ok (.iconst 1, 1) := by decide +kernel
theorem dX0_impact_112 : decode cX0_impact 112 = .ok (.goto 4, 3) := by decide +kernel
theorem dX0_impact_115 : decode cX0_impact 115 = .ok (.iconst 0, 1) := by decide +kernel
theorem dX0_impact_116 : decode cX0_impact 116 = .ok (.iadd, 1) := by decide +kernel
theorem dX0_impact_117 : decode cX0_impact 117 = .ok (.istore 4, 2) := by decide +kernel
theorem dX0_impact_119 : decode cX0_impact 119 = .ok (.iinc 5 1, 3) := by decide +kernel
theorem dX0_impact_122 : decode cX0_impact 122 = .ok (.goto (-37), 3) := by decide +kernel
theorem dX0_impact_125 : decode cX0_impact 125 = .ok (.aload_n 0, 1) := by decide +kernel
theorem dX0_impact_126 : decode cX0_impact 126 = .ok (.iload_n 1, 1) := by decide +kernel
theorem dX0_impact_127 : decode cX0_impact 127 = .ok (.iload_n 2, 1) := by decide +kernel
theorem dX0_impact_128 : decode cX0_impact 128 = .ok (.iload_n 3, 1) := by decide +kernel
theorem dX0_impact_129 : decode cX0_impact 129 = .ok (.invokevirtual 51, 3) := by decide +kernel
theorem dX0_impact_132 : decode cX0_impact 132 = .ok (.iload 4, 2) := by decide +kernel
theorem dX0_impact_134 : decode cX0_impact 134 = .ok (.ireturn, 1) := by decide +kernel
abbrev cX0_routeDiffers : ByteArray := prog_1_method_33_code
def yX0_routeDiffers : MethodName := ⟨RX0, "routeDiffers", "(II)Z"⟩
theorem dX0_routeDiffers_0 : decode cX0_routeDiffers 0 = .ok (.iload_n 1, 1) := by decide +kernel
theorem dX0_routeDiffers_1 : decode cX0_routeDiffers 1 = .ok (.istore_n 3, 1) := by decide +kernel
theorem dX0_routeDiffers_2 : decode cX0_routeDiffers 2 = .ok (.iconst 0, 1) := by decide +kernel
theorem dX0_routeDiffers_3 : decode cX0_routeDiffers 3 = .ok (.istore 4, 2) := by decide +kernel
theorem dX0_routeDiffers_5 : decode cX0_routeDiffers 5 = .ok (.iload 4, 2) := by decide +kernel
theorem dX0_routeDiffers_7 : decode cX0_routeDiffers 7 = .ok (.bipush 7, 2) := by decide +kernel
theorem dX0_routeDiffers_9 : decode cX0_routeDiffers 9 = .ok (.if_icmp .ge 55, 3) := by decide +kernel
theorem dX0_routeDiffers_12 : decode cX0_routeDiffers 12 = .ok (.iload_n 3, 1) := by decide +kernel
theorem dX0_routeDiffers_13 : decode cX0_routeDiffers 13 = .ok (.iload_n 2, 1) := by decide +kernel
theorem dX0_routeDiffers_14 : decode cX0_routeDiffers 14 = .ok (.if_icmp .eq 50, 3) := by decide +kernel
theorem dX0_routeDiffers_17 : decode cX0_routeDiffers 17 = .ok (.aload_n 0, 1) := by decide +kernel
theorem dX0_routeDiffers_18 : decode cX0_routeDiffers 18 = .ok (.getfield 40, 3) := by decide +kernel
theorem dX0_routeDiffers_21 : decode cX0_routeDiffers 21 = .ok (.iload_n 3, 1) := by decide +kernel
theorem dX0_routeDiffers_22 : decode cX0_routeDiffers 22 = .ok (.bipush 7, 2) := by decide +kernel
theorem dX0_routeDiffers_24 : decode cX0_routeDiffers 24 = .ok (.imul, 1) := by decide +kernel
theorem dX0_routeDiffers_25 : decode cX0_routeDiffers 25 = .ok (.iload_n 2, 1) := by decide +kernel
theorem dX0_routeDiffers_26 : decode cX0_routeDiffers 26 = .ok (.iadd, 1) := by decide +kernel
theorem dX0_routeDiffers_27 : decode cX0_routeDiffers 27 = .ok (.baload, 1) := by decide +kernel
theorem dX0_routeDiffers_28 : decode cX0_routeDiffers 28 = .ok (.istore 5, 2) := by decide +kernel
theorem dX0_routeDiffers_30 : decode cX0_routeDiffers 30 = .ok (.iload 5, 2) := by decide +kernel
theorem dX0_routeDiffers_32 : decode cX0_routeDiffers 32 = .ok (.aload_n 0, 1) := by decide +kernel
theorem dX0_routeDiffers_33 : decode cX0_routeDiffers 33 = .ok (.getfield 24, 3) := by decide +kernel
theorem dX0_routeDiffers_36 : decode cX0_routeDiffers 36 = .ok (.iload_n 3, 1) := by decide +kernel
theorem dX0_routeDiffers_37 : decode cX0_routeDiffers 37 = .ok (.bipush 7, 2) := by decide +kernel
theorem dX0_routeDiffers_39 : decode cX0_routeDiffers 39 = .ok (.imul, 1) := by decide +kernel
theorem dX0_routeDiffers_40 : decode cX0_routeDiffers 40 = .ok (.iload_n 2, 1) := by decide +kernel
theorem dX0_routeDiffers_41 : decode cX0_routeDiffers 41 = .ok (.iadd, 1) := by decide +kernel
theorem dX0_routeDiffers_42 : decode cX0_routeDiffers 42 = .ok (.baload, 1) := by decide +kernel
theorem dX0_routeDiffers_43 : decode cX0_routeDiffers 43 = .ok (.if_icmp .eq 5, 3) := by decide +kernel
theorem dX0_routeDiffers_46 : decode cX0_routeDiffers 46 = .ok (.iconst 1, 1) := by decide +kernel
theorem dX0_routeDiffers_47 : decode cX0_routeDiffers 47 = .ok (.ireturn, 1) := by decide +kernel
theorem dX0_routeDiffers_48 : decode cX0_routeDiffers 48 = .ok (.iload 5, 2) := by decide +kernel
theorem dX0_routeDiffers_50 : decode cX0_routeDiffers 50 = .ok (.ifCond .ge 5, 3) := by decide +kernel
theorem dX0_routeDiffers_53 : decode cX0_routeDiffers 53 = .ok (.iconst 0, 1) := by decide +kernel
theorem dX0_routeDiffers_54 : decode cX0_routeDiffers 54 = .ok (.ireturn, 1) := by decide +kernel
theorem dX0_routeDiffers_55 : decode cX0_routeDiffers 55 = .ok (.iload 5, 2) := by decide +kernel
theorem dX0_routeDiffers_57 : decode cX0_routeDiffers 57 = .ok (.istore_n 3, 1) := by decide +kernel
theorem dX0_routeDiffers_58 : decode cX0_routeDiffers 58 = .ok (.iinc 4 1, 3) := by decide +kernel
theorem dX0_routeDiffers_61 : decode cX0_routeDiffers 61 = .ok (.goto (-56), 3) := by decide +kernel
theorem dX0_routeDiffers_64 : decode cX0_routeDiffers 64 = .ok (.iconst 0, 1) := by decide +kernel
theorem dX0_routeDiffers_65 : decode cX0_routeDiffers 65 = .ok (.ireturn, 1) := by decide +kernel
theorem q27 : (Jvm.Cond.initialized "LabelNet") ∈ lw_all := lw_g (lw_at lw_m1 1 rfl) rfl
theorem q30 : (Jvm.Cond.instantiable "LabelNet" (13 : Nat)) ∈ lw_all := lw_g (lw_at lw_m1 4 rfl) rfl
theorem q32 : (Jvm.Cond.instanceMethod ({ cls := "LabelNet", name := "<init>", desc := "()V" } : Jvm.MethodName)) ∈ lw_all := lw_g (lw_at lw_m1 6 rfl) rfl
theorem q33 : (Jvm.Cond.code ({ cls := "LabelNet", name := "<init>", desc := "()V" } : Jvm.MethodName) prog_1_method_1_code (3 : Nat) (Option.none : Option Jvm.ClassFile.FieldType)) ∈ lw_all := lw_g (lw_at lw_m1 7 rfl) rfl
theorem q34 : (Jvm.Cond.methodLink "LabelNet" (1 : Nat) ({ cls := "java/lang/Object", name := "<init>", desc := "()V" } : Jvm.MethodName)) ∈ lw_all := lw_g (lw_at lw_m1 8 rfl) rfl
theorem q37 : (Jvm.Cond.fieldLink "LabelNet" (7 : Nat) "LabelNet" "costs" "[B") ∈ lw_all := lw_g (lw_at lw_m1 11 rfl) rfl
theorem q38 : (Jvm.Cond.fieldLink "LabelNet" (13 : Nat) "LabelNet" "linkUp" "[B") ∈ lw_all := lw_g (lw_at lw_m1 12 rfl) rfl
theorem q39 : (Jvm.Cond.fieldLink "LabelNet" (16 : Nat) "LabelNet" "routerUp" "I") ∈ lw_all := lw_g (lw_at lw_m1 13 rfl) rfl
theorem q40 : (Jvm.Cond.fieldLink "LabelNet" (55 : Nat) "LabelNet" "known" "Z") ∈ lw_all := lw_g (lw_at lw_m1 14 rfl) rfl
theorem q41 : (Jvm.Cond.fieldLink "LabelNet" (20 : Nat) "LabelNet" "distances" "[I") ∈ lw_all := lw_g (lw_at lw_m1 15 rfl) rfl
theorem q42 : (Jvm.Cond.fieldLink "LabelNet" (24 : Nat) "LabelNet" "hop" "[B") ∈ lw_all := lw_g (lw_at lw_m1 16 rfl) rfl
theorem q43 : (Jvm.Cond.fieldLink "LabelNet" (27 : Nat) "LabelNet" "labelFor" "[S") ∈ lw_all := lw_g (lw_at lw_m1 17 rfl) rfl
theorem q44 : (Jvm.Cond.fieldLink "LabelNet" (31 : Nat) "LabelNet" "outLabel" "[S") ∈ lw_all := lw_g (lw_at lw_m1 18 rfl) rfl
theorem q45 : (Jvm.Cond.fieldLink "LabelNet" (34 : Nat) "LabelNet" "outRouter" "[B") ∈ lw_all := lw_g (lw_at lw_m1 19 rfl) rfl
theorem q46 : (Jvm.Cond.fieldLink "LabelNet" (37 : Nat) "LabelNet" "pushed" "[S") ∈ lw_all := lw_g (lw_at lw_m1 20 rfl) rfl
theorem q47 : (Jvm.Cond.fieldLink "LabelNet" (83 : Nat) "LabelNet" "packetAt" "I") ∈ lw_all := lw_g (lw_at lw_m1 21 rfl) rfl
theorem q48 : (Jvm.Cond.fieldLink "LabelNet" (86 : Nat) "LabelNet" "packetLabel" "I") ∈ lw_all := lw_g (lw_at lw_m1 22 rfl) rfl
theorem q49 : (Jvm.Cond.fieldLink "LabelNet" (40 : Nat) "LabelNet" "before" "[B") ∈ lw_all := lw_g (lw_at lw_m1 23 rfl) rfl
theorem q50 : (Jvm.Cond.laysFinal "LabelNet" "LabelNet" "costs" "[B") ∈ lw_all := lw_g (lw_at lw_m1 24 rfl) rfl
theorem q51 : (Jvm.Cond.soleField "LabelNet" "costs") ∈ lw_all := lw_g (lw_at lw_m1 25 rfl) rfl
theorem q52 : (Jvm.Cond.laysFinal "LabelNet" "LabelNet" "linkUp" "[B") ∈ lw_all := lw_g (lw_at lw_m1 26 rfl) rfl
theorem q53 : (Jvm.Cond.soleField "LabelNet" "linkUp") ∈ lw_all := lw_g (lw_at lw_m1 27 rfl) rfl
theorem q54 : (Jvm.Cond.lays "LabelNet" "LabelNet" "routerUp" "I") ∈ lw_all := lw_g (lw_at lw_m1 28 rfl) rfl
theorem q55 : (Jvm.Cond.soleField "LabelNet" "routerUp") ∈ lw_all := lw_g (lw_at lw_m1 29 rfl) rfl
theorem q56 : (Jvm.Cond.lays "LabelNet" "LabelNet" "known" "Z") ∈ lw_all := lw_g (lw_at lw_m1 30 rfl) rfl
theorem q57 : (Jvm.Cond.soleField "LabelNet" "known") ∈ lw_all := lw_g (lw_at lw_m1 31 rfl) rfl
theorem q58 : (Jvm.Cond.laysFinal "LabelNet" "LabelNet" "distances" "[I") ∈ lw_all := lw_g (lw_at lw_m1 32 rfl) rfl
theorem q59 : (Jvm.Cond.soleField "LabelNet" "distances") ∈ lw_all := lw_g (lw_at lw_m1 33 rfl) rfl
theorem q60 : (Jvm.Cond.laysFinal "LabelNet" "LabelNet" "hop" "[B") ∈ lw_all := lw_g (lw_at lw_m1 34 rfl) rfl
theorem q61 : (Jvm.Cond.soleField "LabelNet" "hop") ∈ lw_all := lw_g (lw_at lw_m1 35 rfl) rfl
theorem q62 : (Jvm.Cond.laysFinal "LabelNet" "LabelNet" "labelFor" "[S") ∈ lw_all := lw_g (lw_at lw_m1 36 rfl) rfl
theorem q63 : (Jvm.Cond.soleField "LabelNet" "labelFor") ∈ lw_all := lw_g (lw_at lw_m1 37 rfl) rfl
theorem q64 : (Jvm.Cond.laysFinal "LabelNet" "LabelNet" "outLabel" "[S") ∈ lw_all := lw_g (lw_at lw_m1 38 rfl) rfl
theorem q65 : (Jvm.Cond.soleField "LabelNet" "outLabel") ∈ lw_all := lw_g (lw_at lw_m1 39 rfl) rfl
theorem q66 : (Jvm.Cond.laysFinal "LabelNet" "LabelNet" "outRouter" "[B") ∈ lw_all := lw_g (lw_at lw_m1 40 rfl) rfl
theorem q67 : (Jvm.Cond.soleField "LabelNet" "outRouter") ∈ lw_all := lw_g (lw_at lw_m1 41 rfl) rfl
theorem q68 : (Jvm.Cond.laysFinal "LabelNet" "LabelNet" "pushed" "[S") ∈ lw_all := lw_g (lw_at lw_m1 42 rfl) rfl
theorem q69 : (Jvm.Cond.soleField "LabelNet" "pushed") ∈ lw_all := lw_g (lw_at lw_m1 43 rfl) rfl
theorem q70 : (Jvm.Cond.lays "LabelNet" "LabelNet" "packetAt" "I") ∈ lw_all := lw_g (lw_at lw_m1 44 rfl) rfl
theorem q71 : (Jvm.Cond.soleField "LabelNet" "packetAt") ∈ lw_all := lw_g (lw_at lw_m1 45 rfl) rfl
theorem q72 : (Jvm.Cond.lays "LabelNet" "LabelNet" "packetLabel" "I") ∈ lw_all := lw_g (lw_at lw_m1 46 rfl) rfl
theorem q73 : (Jvm.Cond.soleField "LabelNet" "packetLabel") ∈ lw_all := lw_g (lw_at lw_m1 47 rfl) rfl
theorem q74 : (Jvm.Cond.laysFinal "LabelNet" "LabelNet" "before" "[B") ∈ lw_all := lw_g (lw_at lw_m1 48 rfl) rfl
theorem q75 : (Jvm.Cond.soleField "LabelNet" "before") ∈ lw_all := lw_g (lw_at lw_m1 49 rfl) rfl
theorem q76 : (Jvm.Cond.superclass "LabelNet" "java/lang/Object") ∈ lw_all := lw_g (lw_at lw_m1 50 rfl) rfl
theorem q81 : (Jvm.Cond.instanceMethod ({ cls := "LabelNet", name := "join", desc := "(III)Z" } : Jvm.MethodName)) ∈ lw_all := lw_g (lw_at lw_m1 55 rfl) rfl
theorem q82 : (Jvm.Cond.selects "LabelNet" ({ cls := "LabelNet", name := "join", desc := "(III)Z" } : Jvm.MethodName) ({ cls := "LabelNet", name := "join", desc := "(III)Z" } : Jvm.MethodName)) ∈ lw_all := lw_g (lw_at lw_m1 56 rfl) rfl
theorem q83 : (Jvm.Cond.code ({ cls := "LabelNet", name := "join", desc := "(III)Z" } : Jvm.MethodName) prog_1_method_4_code (4 : Nat) (Option.some Jvm.ClassFile.FieldType.boolean)) ∈ lw_all := lw_g (lw_at lw_m1 57 rfl) rfl
theorem q84 : (Jvm.Cond.methodLink "LabelNet" (47 : Nat) ({ cls := "LabelNet", name := "isPair", desc := "(II)Z" } : Jvm.MethodName)) ∈ lw_all := lw_g (lw_at lw_m1 58 rfl) rfl
theorem q85 : (Jvm.Cond.static ({ cls := "LabelNet", name := "isPair", desc := "(II)Z" } : Jvm.MethodName)) ∈ lw_all := lw_g (lw_at lw_m1 59 rfl) rfl
theorem q86 : (Jvm.Cond.code ({ cls := "LabelNet", name := "isPair", desc := "(II)Z" } : Jvm.MethodName) prog_1_method_3_code (2 : Nat) (Option.some Jvm.ClassFile.FieldType.boolean)) ∈ lw_all := lw_g (lw_at lw_m1 60 rfl) rfl
theorem q87 : (Jvm.Cond.methodLink "LabelNet" (43 : Nat) ({ cls := "LabelNet", name := "isRouter", desc := "(I)Z" } : Jvm.MethodName)) ∈ lw_all := lw_g (lw_at lw_m1 61 rfl) rfl
theorem q88 : (Jvm.Cond.static ({ cls := "LabelNet", name := "isRouter", desc := "(I)Z" } : Jvm.MethodName)) ∈ lw_all := lw_g (lw_at lw_m1 62 rfl) rfl
theorem q89 : (Jvm.Cond.code ({ cls := "LabelNet", name := "isRouter", desc := "(I)Z" } : Jvm.MethodName) prog_1_method_2_code (1 : Nat) (Option.some Jvm.ClassFile.FieldType.boolean)) ∈ lw_all := lw_g (lw_at lw_m1 63 rfl) rfl
theorem q90 : (Jvm.Cond.methodLink "LabelNet" (51 : Nat) ({ cls := "LabelNet", name := "turn", desc := "(IIZ)V" } : Jvm.MethodName)) ∈ lw_all := lw_g (lw_at lw_m1 64 rfl) rfl
theorem q91 : (Jvm.Cond.privateMethod ({ cls := "LabelNet", name := "turn", desc := "(IIZ)V" } : Jvm.MethodName)) ∈ lw_tbl := lw_at lw_m1 65 rfl
theorem q92 : (Jvm.Cond.instanceMethod ({ cls := "LabelNet", name := "turn", desc := "(IIZ)V" } : Jvm.MethodName)) ∈ lw_all := lw_g (lw_at lw_m1 66 rfl) rfl
theorem q93 : (Jvm.Cond.code ({ cls := "LabelNet", name := "turn", desc := "(IIZ)V" } : Jvm.MethodName) prog_1_method_6_code (4 : Nat) (Option.none : Option Jvm.ClassFile.FieldType)) ∈ lw_all := lw_g (lw_at lw_m1 67 rfl) rfl
theorem q95 : (Jvm.Cond.instanceMethod ({ cls := "LabelNet", name := "cut", desc := "(II)Z" } : Jvm.MethodName)) ∈ lw_all := lw_g (lw_at lw_m1 69 rfl) rfl
theorem q96 : (Jvm.Cond.selects "LabelNet" ({ cls := "LabelNet", name := "cut", desc := "(II)Z" } : Jvm.MethodName) ({ cls := "LabelNet", name := "cut", desc := "(II)Z" } : Jvm.MethodName)) ∈ lw_all := lw_g (lw_at lw_m1 70 rfl) rfl
theorem q97 : (Jvm.Cond.code ({ cls := "LabelNet", name := "cut", desc := "(II)Z" } : Jvm.MethodName) prog_1_method_7_code (3 : Nat) (Option.some Jvm.ClassFile.FieldType.boolean)) ∈ lw_all := lw_g (lw_at lw_m1 71 rfl) rfl
theorem q98 : (Jvm.Cond.methodLink "LabelNet" (59 : Nat) ({ cls := "LabelNet", name := "linked", desc := "(II)Z" } : Jvm.MethodName)) ∈ lw_all := lw_g (lw_at lw_m1 72 rfl) rfl
theorem q99 : (Jvm.Cond.privateMethod ({ cls := "LabelNet", name := "linked", desc := "(II)Z" } : Jvm.MethodName)) ∈ lw_tbl := lw_at lw_m1 73 rfl
theorem q100 : (Jvm.Cond.instanceMethod ({ cls := "LabelNet", name := "linked", desc := "(II)Z" } : Jvm.MethodName)) ∈ lw_all := lw_g (lw_at lw_m1 74 rfl) rfl
theorem q101 : (Jvm.Cond.code ({ cls := "LabelNet", name := "linked", desc := "(II)Z" } : Jvm.MethodName) prog_1_method_5_code (3 : Nat) (Option.some Jvm.ClassFile.FieldType.boolean)) ∈ lw_all := lw_g (lw_at lw_m1 75 rfl) rfl
theorem q103 : (Jvm.Cond.instanceMethod ({ cls := "LabelNet", name := "setLink", desc := "(IIZ)Z" } : Jvm.MethodName)) ∈ lw_all := lw_g (lw_at lw_m1 77 rfl) rfl
theorem q104 : (Jvm.Cond.selects "LabelNet" ({ cls := "LabelNet", name := "setLink", desc := "(IIZ)Z" } : Jvm.MethodName) ({ cls := "LabelNet", name := "setLink", desc := "(IIZ)Z" } : Jvm.MethodName)) ∈ lw_all := lw_g (lw_at lw_m1 78 rfl) rfl
theorem q105 : (Jvm.Cond.code ({ cls := "LabelNet", name := "setLink", desc := "(IIZ)Z" } : Jvm.MethodName) prog_1_method_8_code (4 : Nat) (Option.some Jvm.ClassFile.FieldType.boolean)) ∈ lw_all := lw_g (lw_at lw_m1 79 rfl) rfl
theorem q107 : (Jvm.Cond.instanceMethod ({ cls := "LabelNet", name := "setRouter", desc := "(IZ)Z" } : Jvm.MethodName)) ∈ lw_all := lw_g (lw_at lw_m1 81 rfl) rfl
theorem q108 : (Jvm.Cond.selects "LabelNet" ({ cls := "LabelNet", name := "setRouter", desc := "(IZ)Z" } : Jvm.MethodName) ({ cls := "LabelNet", name := "setRouter", desc := "(IZ)Z" } : Jvm.MethodName)) ∈ lw_all := lw_g (lw_at lw_m1 82 rfl) rfl
theorem q109 : (Jvm.Cond.code ({ cls := "LabelNet", name := "setRouter", desc := "(IZ)Z" } : Jvm.MethodName) prog_1_method_9_code (3 : Nat) (Option.some Jvm.ClassFile.FieldType.boolean)) ∈ lw_all := lw_g (lw_at lw_m1 83 rfl) rfl
theorem q111 : (Jvm.Cond.instanceMethod ({ cls := "LabelNet", name := "cost", desc := "(II)I" } : Jvm.MethodName)) ∈ lw_all := lw_g (lw_at lw_m1 85 rfl) rfl
theorem q112 : (Jvm.Cond.selects "LabelNet" ({ cls := "LabelNet", name := "cost", desc := "(II)I" } : Jvm.MethodName) ({ cls := "LabelNet", name := "cost", desc := "(II)I" } : Jvm.MethodName)) ∈ lw_all := lw_g (lw_at lw_m1 86 rfl) rfl
theorem q113 : (Jvm.Cond.code ({ cls := "LabelNet", name := "cost", desc := "(II)I" } : Jvm.MethodName) prog_1_method_10_code (3 : Nat) (Option.some Jvm.ClassFile.FieldType.int)) ∈ lw_all := lw_g (lw_at lw_m1 87 rfl) rfl
theorem q115 : (Jvm.Cond.instanceMethod ({ cls := "LabelNet", name := "distance", desc := "(II)I" } : Jvm.MethodName)) ∈ lw_all := lw_g (lw_at lw_m1 89 rfl) rfl
theorem q116 : (Jvm.Cond.selects "LabelNet" ({ cls := "LabelNet", name := "distance", desc := "(II)I" } : Jvm.MethodName) ({ cls := "LabelNet", name := "distance", desc := "(II)I" } : Jvm.MethodName)) ∈ lw_all := lw_g (lw_at lw_m1 90 rfl) rfl
theorem q117 : (Jvm.Cond.code ({ cls := "LabelNet", name := "distance", desc := "(II)I" } : Jvm.MethodName) prog_1_method_21_code (3 : Nat) (Option.some Jvm.ClassFile.FieldType.int)) ∈ lw_all := lw_g (lw_at lw_m1 91 rfl) rfl
theorem q118 : (Jvm.Cond.methodLink "LabelNet" (92 : Nat) ({ cls := "LabelNet", name := "connected", desc := "(II)Z" } : Jvm.MethodName)) ∈ lw_all := lw_g (lw_at lw_m1 92 rfl) rfl
theorem q119 : (Jvm.Cond.privateMethod ({ cls := "LabelNet", name := "connected", desc := "(II)Z" } : Jvm.MethodName)) ∈ lw_tbl := lw_at lw_m1 93 rfl
theorem q120 : (Jvm.Cond.instanceMethod ({ cls := "LabelNet", name := "connected", desc := "(II)Z" } : Jvm.MethodName)) ∈ lw_all := lw_g (lw_at lw_m1 94 rfl) rfl
theorem q121 : (Jvm.Cond.code ({ cls := "LabelNet", name := "connected", desc := "(II)Z" } : Jvm.MethodName) prog_1_method_20_code (3 : Nat) (Option.some Jvm.ClassFile.FieldType.boolean)) ∈ lw_all := lw_g (lw_at lw_m1 95 rfl) rfl
theorem q122 : (Jvm.Cond.methodLink "LabelNet" (89 : Nat) ({ cls := "LabelNet", name := "learn", desc := "()V" } : Jvm.MethodName)) ∈ lw_all := lw_g (lw_at lw_m1 96 rfl) rfl
theorem q123 : (Jvm.Cond.privateMethod ({ cls := "LabelNet", name := "learn", desc := "()V" } : Jvm.MethodName)) ∈ lw_tbl := lw_at lw_m1 97 rfl
theorem q124 : (Jvm.Cond.instanceMethod ({ cls := "LabelNet", name := "learn", desc := "()V" } : Jvm.MethodName)) ∈ lw_all := lw_g (lw_at lw_m1 98 rfl) rfl
theorem q125 : (Jvm.Cond.code ({ cls := "LabelNet", name := "learn", desc := "()V" } : Jvm.MethodName) prog_1_method_12_code (3 : Nat) (Option.none : Option Jvm.ClassFile.FieldType)) ∈ lw_all := lw_g (lw_at lw_m1 99 rfl) rfl
theorem q126 : (Jvm.Cond.methodLink "LabelNet" (62 : Nat) ({ cls := "LabelNet", name := "measure", desc := "(I)V" } : Jvm.MethodName)) ∈ lw_all := lw_g (lw_at lw_m1 100 rfl) rfl
theorem q127 : (Jvm.Cond.privateMethod ({ cls := "LabelNet", name := "measure", desc := "(I)V" } : Jvm.MethodName)) ∈ lw_tbl := lw_at lw_m1 101 rfl
theorem q128 : (Jvm.Cond.instanceMethod ({ cls := "LabelNet", name := "measure", desc := "(I)V" } : Jvm.MethodName)) ∈ lw_all := lw_g (lw_at lw_m1 102 rfl) rfl
theorem q129 : (Jvm.Cond.code ({ cls := "LabelNet", name := "measure", desc := "(I)V" } : Jvm.MethodName) prog_1_method_13_code (7 : Nat) (Option.none : Option Jvm.ClassFile.FieldType)) ∈ lw_all := lw_g (lw_at lw_m1 103 rfl) rfl
theorem q130 : (Jvm.Cond.methodLink "LabelNet" (73 : Nat) ({ cls := "LabelNet", name := "nearest", desc := "(II)I" } : Jvm.MethodName)) ∈ lw_all := lw_g (lw_at lw_m1 104 rfl) rfl
theorem q131 : (Jvm.Cond.privateMethod ({ cls := "LabelNet", name := "nearest", desc := "(II)I" } : Jvm.MethodName)) ∈ lw_tbl := lw_at lw_m1 105 rfl
theorem q132 : (Jvm.Cond.instanceMethod ({ cls := "LabelNet", name := "nearest", desc := "(II)I" } : Jvm.MethodName)) ∈ lw_all := lw_g (lw_at lw_m1 106 rfl) rfl
theorem q133 : (Jvm.Cond.code ({ cls := "LabelNet", name := "nearest", desc := "(II)I" } : Jvm.MethodName) prog_1_method_14_code (6 : Nat) (Option.some Jvm.ClassFile.FieldType.int)) ∈ lw_all := lw_g (lw_at lw_m1 107 rfl) rfl
theorem q134 : (Jvm.Cond.methodLink "LabelNet" (76 : Nat) ({ cls := "LabelNet", name := "counts", desc := "(II)Z" } : Jvm.MethodName)) ∈ lw_all := lw_g (lw_at lw_m1 108 rfl) rfl
theorem q135 : (Jvm.Cond.privateMethod ({ cls := "LabelNet", name := "counts", desc := "(II)Z" } : Jvm.MethodName)) ∈ lw_tbl := lw_at lw_m1 109 rfl
theorem q136 : (Jvm.Cond.instanceMethod ({ cls := "LabelNet", name := "counts", desc := "(II)Z" } : Jvm.MethodName)) ∈ lw_all := lw_g (lw_at lw_m1 110 rfl) rfl
theorem q137 : (Jvm.Cond.code ({ cls := "LabelNet", name := "counts", desc := "(II)Z" } : Jvm.MethodName) prog_1_method_11_code (4 : Nat) (Option.some Jvm.ClassFile.FieldType.boolean)) ∈ lw_all := lw_g (lw_at lw_m1 111 rfl) rfl
theorem q138 : (Jvm.Cond.methodLink "LabelNet" (66 : Nat) ({ cls := "LabelNet", name := "chooseHop", desc := "(II)I" } : Jvm.MethodName)) ∈ lw_all := lw_g (lw_at lw_m1 112 rfl) rfl
theorem q139 : (Jvm.Cond.privateMethod ({ cls := "LabelNet", name := "chooseHop", desc := "(II)I" } : Jvm.MethodName)) ∈ lw_tbl := lw_at lw_m1 113 rfl
theorem q140 : (Jvm.Cond.instanceMethod ({ cls := "LabelNet", name := "chooseHop", desc := "(II)I" } : Jvm.MethodName)) ∈ lw_all := lw_g (lw_at lw_m1 114 rfl) rfl
theorem q141 : (Jvm.Cond.code ({ cls := "LabelNet", name := "chooseHop", desc := "(II)I" } : Jvm.MethodName) prog_1_method_15_code (6 : Nat) (Option.some Jvm.ClassFile.FieldType.int)) ∈ lw_all := lw_g (lw_at lw_m1 115 rfl) rfl
theorem q142 : (Jvm.Cond.methodLink "LabelNet" (70 : Nat) ({ cls := "LabelNet", name := "bind", desc := "()V" } : Jvm.MethodName)) ∈ lw_all := lw_g (lw_at lw_m1 116 rfl) rfl
theorem q143 : (Jvm.Cond.privateMethod ({ cls := "LabelNet", name := "bind", desc := "()V" } : Jvm.MethodName)) ∈ lw_tbl := lw_at lw_m1 117 rfl
theorem q144 : (Jvm.Cond.instanceMethod ({ cls := "LabelNet", name := "bind", desc := "()V" } : Jvm.MethodName)) ∈ lw_all := lw_g (lw_at lw_m1 118 rfl) rfl
theorem q145 : (Jvm.Cond.code ({ cls := "LabelNet", name := "bind", desc := "()V" } : Jvm.MethodName) prog_1_method_16_code (3 : Nat) (Option.none : Option Jvm.ClassFile.FieldType)) ∈ lw_all := lw_g (lw_at lw_m1 119 rfl) rfl
theorem q146 : (Jvm.Cond.methodLink "LabelNet" (79 : Nat) ({ cls := "LabelNet", name := "bindOne", desc := "(II)V" } : Jvm.MethodName)) ∈ lw_all := lw_g (lw_at lw_m1 120 rfl) rfl
theorem q147 : (Jvm.Cond.privateMethod ({ cls := "LabelNet", name := "bindOne", desc := "(II)V" } : Jvm.MethodName)) ∈ lw_tbl := lw_at lw_m1 121 rfl
theorem q148 : (Jvm.Cond.instanceMethod ({ cls := "LabelNet", name := "bindOne", desc := "(II)V" } : Jvm.MethodName)) ∈ lw_all := lw_g (lw_at lw_m1 122 rfl) rfl
theorem q149 : (Jvm.Cond.code ({ cls := "LabelNet", name := "bindOne", desc := "(II)V" } : Jvm.MethodName) prog_1_method_17_code (6 : Nat) (Option.none : Option Jvm.ClassFile.FieldType)) ∈ lw_all := lw_g (lw_at lw_m1 123 rfl) rfl
theorem q151 : (Jvm.Cond.instanceMethod ({ cls := "LabelNet", name := "nextHop", desc := "(II)I" } : Jvm.MethodName)) ∈ lw_all := lw_g (lw_at lw_m1 125 rfl) rfl
theorem q152 : (Jvm.Cond.selects "LabelNet" ({ cls := "LabelNet", name := "nextHop", desc := "(II)I" } : Jvm.MethodName) ({ cls := "LabelNet", name := "nextHop", desc := "(II)I" } : Jvm.MethodName)) ∈ lw_all := lw_g (lw_at lw_m1 126 rfl) rfl
theorem q153 : (Jvm.Cond.code ({ cls := "LabelNet", name := "nextHop", desc := "(II)I" } : Jvm.MethodName) prog_1_method_22_code (3 : Nat) (Option.some Jvm.ClassFile.FieldType.int)) ∈ lw_all := lw_g (lw_at lw_m1 127 rfl) rfl
theorem q155 : (Jvm.Cond.instanceMethod ({ cls := "LabelNet", name := "hops", desc := "(II)I" } : Jvm.MethodName)) ∈ lw_all := lw_g (lw_at lw_m1 129 rfl) rfl
theorem q156 : (Jvm.Cond.selects "LabelNet" ({ cls := "LabelNet", name := "hops", desc := "(II)I" } : Jvm.MethodName) ({ cls := "LabelNet", name := "hops", desc := "(II)I" } : Jvm.MethodName)) ∈ lw_all := lw_g (lw_at lw_m1 130 rfl) rfl
theorem q157 : (Jvm.Cond.code ({ cls := "LabelNet", name := "hops", desc := "(II)I" } : Jvm.MethodName) prog_1_method_23_code (5 : Nat) (Option.some Jvm.ClassFile.FieldType.int)) ∈ lw_all := lw_g (lw_at lw_m1 131 rfl) rfl
theorem q158 : (Jvm.Cond.methodLink "LabelNet" (95 : Nat) ({ cls := "LabelNet", name := "launch", desc := "(II)V" } : Jvm.MethodName)) ∈ lw_all := lw_g (lw_at lw_m1 132 rfl) rfl
theorem q159 : (Jvm.Cond.privateMethod ({ cls := "LabelNet", name := "launch", desc := "(II)V" } : Jvm.MethodName)) ∈ lw_tbl := lw_at lw_m1 133 rfl
theorem q160 : (Jvm.Cond.instanceMethod ({ cls := "LabelNet", name := "launch", desc := "(II)V" } : Jvm.MethodName)) ∈ lw_all := lw_g (lw_at lw_m1 134 rfl) rfl
theorem q161 : (Jvm.Cond.code ({ cls := "LabelNet", name := "launch", desc := "(II)V" } : Jvm.MethodName) prog_1_method_18_code (3 : Nat) (Option.none : Option Jvm.ClassFile.FieldType)) ∈ lw_all := lw_g (lw_at lw_m1 135 rfl) rfl
theorem q162 : (Jvm.Cond.methodLink "LabelNet" (98 : Nat) ({ cls := "LabelNet", name := "forward", desc := "()Z" } : Jvm.MethodName)) ∈ lw_all := lw_g (lw_at lw_m1 136 rfl) rfl
theorem q163 : (Jvm.Cond.privateMethod ({ cls := "LabelNet", name := "forward", desc := "()Z" } : Jvm.MethodName)) ∈ lw_tbl := lw_at lw_m1 137 rfl
theorem q164 : (Jvm.Cond.instanceMethod ({ cls := "LabelNet", name := "forward", desc := "()Z" } : Jvm.MethodName)) ∈ lw_all := lw_g (lw_at lw_m1 138 rfl) rfl
theorem q165 : (Jvm.Cond.code ({ cls := "LabelNet", name := "forward", desc := "()Z" } : Jvm.MethodName) prog_1_method_19_code (2 : Nat) (Option.some Jvm.ClassFile.FieldType.boolean)) ∈ lw_all := lw_g (lw_at lw_m1 139 rfl) rfl
theorem q167 : (Jvm.Cond.instanceMethod ({ cls := "LabelNet", name := "routeAt", desc := "(III)I" } : Jvm.MethodName)) ∈ lw_all := lw_g (lw_at lw_m1 141 rfl) rfl
theorem q168 : (Jvm.Cond.selects "LabelNet" ({ cls := "LabelNet", name := "routeAt", desc := "(III)I" } : Jvm.MethodName) ({ cls := "LabelNet", name := "routeAt", desc := "(III)I" } : Jvm.MethodName)) ∈ lw_all := lw_g (lw_at lw_m1 142 rfl) rfl
theorem q169 : (Jvm.Cond.code ({ cls := "LabelNet", name := "routeAt", desc := "(III)I" } : Jvm.MethodName) prog_1_method_24_code (5 : Nat) (Option.some Jvm.ClassFile.FieldType.int)) ∈ lw_all := lw_g (lw_at lw_m1 143 rfl) rfl
theorem q170 : (Jvm.Cond.methodLink "LabelNet" (102 : Nat) ({ cls := "LabelNet", name := "hops", desc := "(II)I" } : Jvm.MethodName)) ∈ lw_all := lw_g (lw_at lw_m1 144 rfl) rfl
theorem q171 : (Jvm.Cond.methodLink "LabelNet" (105 : Nat) ({ cls := "LabelNet", name := "after", desc := "(III)I" } : Jvm.MethodName)) ∈ lw_all := lw_g (lw_at lw_m1 145 rfl) rfl
theorem q172 : (Jvm.Cond.instanceMethod ({ cls := "LabelNet", name := "after", desc := "(III)I" } : Jvm.MethodName)) ∈ lw_all := lw_g (lw_at lw_m1 146 rfl) rfl
theorem q173 : (Jvm.Cond.selects "LabelNet" ({ cls := "LabelNet", name := "after", desc := "(III)I" } : Jvm.MethodName) ({ cls := "LabelNet", name := "after", desc := "(III)I" } : Jvm.MethodName)) ∈ lw_all := lw_g (lw_at lw_m1 147 rfl) rfl
theorem q174 : (Jvm.Cond.code ({ cls := "LabelNet", name := "after", desc := "(III)I" } : Jvm.MethodName) prog_1_method_25_code (5 : Nat) (Option.some Jvm.ClassFile.FieldType.int)) ∈ lw_all := lw_g (lw_at lw_m1 148 rfl) rfl
theorem q177 : (Jvm.Cond.instanceMethod ({ cls := "LabelNet", name := "load", desc := "(I)I" } : Jvm.MethodName)) ∈ lw_all := lw_g (lw_at lw_m1 151 rfl) rfl
theorem q178 : (Jvm.Cond.selects "LabelNet" ({ cls := "LabelNet", name := "load", desc := "(I)I" } : Jvm.MethodName) ({ cls := "LabelNet", name := "load", desc := "(I)I" } : Jvm.MethodName)) ∈ lw_all := lw_g (lw_at lw_m1 152 rfl) rfl
theorem q179 : (Jvm.Cond.code ({ cls := "LabelNet", name := "load", desc := "(I)I" } : Jvm.MethodName) prog_1_method_26_code (6 : Nat) (Option.some Jvm.ClassFile.FieldType.int)) ∈ lw_all := lw_g (lw_at lw_m1 153 rfl) rfl
theorem q180 : (Jvm.Cond.methodLink "LabelNet" (109 : Nat) ({ cls := "LabelNet", name := "comesThrough", desc := "(III)Z" } : Jvm.MethodName)) ∈ lw_all := lw_g (lw_at lw_m1 154 rfl) rfl
theorem q181 : (Jvm.Cond.privateMethod ({ cls := "LabelNet", name := "comesThrough", desc := "(III)Z" } : Jvm.MethodName)) ∈ lw_tbl := lw_at lw_m1 155 rfl
theorem q182 : (Jvm.Cond.instanceMethod ({ cls := "LabelNet", name := "comesThrough", desc := "(III)Z" } : Jvm.MethodName)) ∈ lw_all := lw_g (lw_at lw_m1 156 rfl) rfl
theorem q183 : (Jvm.Cond.code ({ cls := "LabelNet", name := "comesThrough", desc := "(III)Z" } : Jvm.MethodName) prog_1_method_27_code (5 : Nat) (Option.some Jvm.ClassFile.FieldType.boolean)) ∈ lw_all := lw_g (lw_at lw_m1 157 rfl) rfl
theorem q185 : (Jvm.Cond.instanceMethod ({ cls := "LabelNet", name := "linkLoad", desc := "(II)I" } : Jvm.MethodName)) ∈ lw_all := lw_g (lw_at lw_m1 159 rfl) rfl
theorem q186 : (Jvm.Cond.selects "LabelNet" ({ cls := "LabelNet", name := "linkLoad", desc := "(II)I" } : Jvm.MethodName) ({ cls := "LabelNet", name := "linkLoad", desc := "(II)I" } : Jvm.MethodName)) ∈ lw_all := lw_g (lw_at lw_m1 160 rfl) rfl
theorem q187 : (Jvm.Cond.code ({ cls := "LabelNet", name := "linkLoad", desc := "(II)I" } : Jvm.MethodName) prog_1_method_28_code (7 : Nat) (Option.some Jvm.ClassFile.FieldType.int)) ∈ lw_all := lw_g (lw_at lw_m1 161 rfl) rfl
theorem q188 : (Jvm.Cond.methodLink "LabelNet" (113 : Nat) ({ cls := "LabelNet", name := "goesAlong", desc := "(III)Z" } : Jvm.MethodName)) ∈ lw_all := lw_g (lw_at lw_m1 162 rfl) rfl
theorem q189 : (Jvm.Cond.privateMethod ({ cls := "LabelNet", name := "goesAlong", desc := "(III)Z" } : Jvm.MethodName)) ∈ lw_tbl := lw_at lw_m1 163 rfl
theorem q190 : (Jvm.Cond.instanceMethod ({ cls := "LabelNet", name := "goesAlong", desc := "(III)Z" } : Jvm.MethodName)) ∈ lw_all := lw_g (lw_at lw_m1 164 rfl) rfl
theorem q191 : (Jvm.Cond.code ({ cls := "LabelNet", name := "goesAlong", desc := "(III)Z" } : Jvm.MethodName) prog_1_method_29_code (6 : Nat) (Option.some Jvm.ClassFile.FieldType.boolean)) ∈ lw_all := lw_g (lw_at lw_m1 165 rfl) rfl
theorem q193 : (Jvm.Cond.instanceMethod ({ cls := "LabelNet", name := "reachable", desc := "(I)I" } : Jvm.MethodName)) ∈ lw_all := lw_g (lw_at lw_m1 167 rfl) rfl
theorem q194 : (Jvm.Cond.selects "LabelNet" ({ cls := "LabelNet", name := "reachable", desc := "(I)I" } : Jvm.MethodName) ({ cls := "LabelNet", name := "reachable", desc := "(I)I" } : Jvm.MethodName)) ∈ lw_all := lw_g (lw_at lw_m1 168 rfl) rfl
theorem q195 : (Jvm.Cond.code ({ cls := "LabelNet", name := "reachable", desc := "(I)I" } : Jvm.MethodName) prog_1_method_30_code (4 : Nat) (Option.some Jvm.ClassFile.FieldType.int)) ∈ lw_all := lw_g (lw_at lw_m1 169 rfl) rfl
theorem q197 : (Jvm.Cond.instanceMethod ({ cls := "LabelNet", name := "farthest", desc := "(I)I" } : Jvm.MethodName)) ∈ lw_all := lw_g (lw_at lw_m1 171 rfl) rfl
theorem q198 : (Jvm.Cond.selects "LabelNet" ({ cls := "LabelNet", name := "farthest", desc := "(I)I" } : Jvm.MethodName) ({ cls := "LabelNet", name := "farthest", desc := "(I)I" } : Jvm.MethodName)) ∈ lw_all := lw_g (lw_at lw_m1 172 rfl) rfl
theorem q199 : (Jvm.Cond.code ({ cls := "LabelNet", name := "farthest", desc := "(I)I" } : Jvm.MethodName) prog_1_method_31_code (5 : Nat) (Option.some Jvm.ClassFile.FieldType.int)) ∈ lw_all := lw_g (lw_at lw_m1 173 rfl) rfl
theorem q201 : (Jvm.Cond.instanceMethod ({ cls := "LabelNet", name := "impact", desc := "(II)I" } : Jvm.MethodName)) ∈ lw_all := lw_g (lw_at lw_m1 175 rfl) rfl
theorem q202 : (Jvm.Cond.selects "LabelNet" ({ cls := "LabelNet", name := "impact", desc := "(II)I" } : Jvm.MethodName) ({ cls := "LabelNet", name := "impact", desc := "(II)I" } : Jvm.MethodName)) ∈ lw_all := lw_g (lw_at lw_m1 176 rfl) rfl
theorem q203 : (Jvm.Cond.code ({ cls := "LabelNet", name := "impact", desc := "(II)I" } : Jvm.MethodName) prog_1_method_32_code (6 : Nat) (Option.some Jvm.ClassFile.FieldType.int)) ∈ lw_all := lw_g (lw_at lw_m1 177 rfl) rfl
theorem q204 : (Jvm.Cond.methodLink "LabelNet" (116 : Nat) ({ cls := "LabelNet", name := "routeDiffers", desc := "(II)Z" } : Jvm.MethodName)) ∈ lw_all := lw_g (lw_at lw_m1 178 rfl) rfl
theorem q205 : (Jvm.Cond.privateMethod ({ cls := "LabelNet", name := "routeDiffers", desc := "(II)Z" } : Jvm.MethodName)) ∈ lw_tbl := lw_at lw_m1 179 rfl
theorem q206 : (Jvm.Cond.instanceMethod ({ cls := "LabelNet", name := "routeDiffers", desc := "(II)Z" } : Jvm.MethodName)) ∈ lw_all := lw_g (lw_at lw_m1 180 rfl) rfl
theorem q207 : (Jvm.Cond.code ({ cls := "LabelNet", name := "routeDiffers", desc := "(II)Z" } : Jvm.MethodName) prog_1_method_33_code (6 : Nat) (Option.some Jvm.ClassFile.FieldType.boolean)) ∈ lw_all := lw_g (lw_at lw_m1 181 rfl) rfl
theorem in_X0 : ∀ w ∈ wsX00, w ∈ lw_all := lw_in wsX00 [50, 52, 54, 56, 58, 60, 62, 64, 66, 68, 70, 72, 74] (by decide +kernel) (by decide +kernel)
end
section
/-! LabelNetModel -/
set_option maxRecDepth 100000
def RX1 : String := "LabelNetModel"
def TX1 : u_T := fun k => match k with
  | 0 => ("LabelNetModel", "price", "[I", false)
  | 1 => ("LabelNetModel", "linkUp", "[Z", false)
  | 2 => ("LabelNetModel", "on", "[Z", false)
  | 3 => ("LabelNetModel", "dist", "[I", false)
  | _ => ("LabelNetModel", "before", "[I", false)
def tyX1 : Nat → FieldType := fun k => match k with
  | 0 => .array .int
  | 1 => .array .boolean
  | 2 => .array .boolean
  | 3 => .array .int
  | _ => .array .int
abbrev wsX10 : List Cond := u_ws RX1 TX1 5
theorem nmX1 : ∀ a, a < 5 → ∀ b, b < 5 → a ≠ b → (TX1 a).2.1 ≠ (TX1 b).2.1 := by decide +kernel
theorem tyX1_ok : ∀ k, k < 5 → parseFieldDescriptor (TX1 k).2.2.1 = some (tyX1 k) := by decide +kernel
abbrev cX1_init : ByteArray := prog_3_method_1_code
def yX1_init : MethodName := ⟨RX1, "<init>", "()V"⟩
theorem dX1_init_0 : decode cX1_init 0 = .ok (.aload_n 0, 1) := by decide +kernel
theorem dX1_init_1 : decode cX1_init 1 = .ok (.invokespecial 1, 3) := by decide +kernel
theorem dX1_init_4 : decode cX1_init 4 = .ok (.aload_n 0, 1) := by decide +kernel
theorem dX1_init_5 : decode cX1_init 5 = .ok (.bipush 49, 2) := by decide +kernel
theorem dX1_init_7 : decode cX1_init 7 = .ok (.newarray .int, 2) := by decide +kernel
theorem dX1_init_9 : decode cX1_init 9 = .ok (.putfield 7, 3) := by decide +kernel
theorem dX1_init_12 : decode cX1_init 12 = .ok (.aload_n 0, 1) := by decide +kernel
theorem dX1_init_13 : decode cX1_init 13 = .ok (.bipush 49, 2) := by decide +kernel
theorem dX1_init_15 : decode cX1_init 15 = .ok (.newarray .boolean, 2) := by decide +kernel
theorem dX1_init_17 : decode cX1_init 17 = .ok (.putfield 13, 3) := by decide +kernel
theorem dX1_init_20 : decode cX1_init 20 = .ok (.aload_n 0, 1) := by decide +kernel
theorem dX1_init_21 : decode cX1_init 21 = .ok (.bipush 7, 2) := by decide +kernel
theorem dX1_init_23 : decode cX1_init 23 = .ok (.newarray .boolean, 2) := by decide +kernel
theorem dX1_init_25 : decode cX1_init 25 = .ok (.putfield 17, 3) := by decide +kernel
theorem dX1_init_28 : decode cX1_init 28 = .ok (.aload_n 0, 1) := by decide +kernel
theorem dX1_init_29 : decode cX1_init 29 = .ok (.bipush 49, 2) := by decide +kernel
theorem dX1_init_31 : decode cX1_init 31 = .ok (.newarray .int, 2) := by decide +kernel
theorem dX1_init_33 : decode cX1_init 33 = .ok (.putfield 20, 3) := by decide +kernel
theorem dX1_init_36 : decode cX1_init 36 = .ok (.aload_n 0, 1) := by decide +kernel
theorem dX1_init_37 : decode cX1_init 37 = .ok (.bipush 49, 2) := by decide +kernel
theorem dX1_init_39 : decode cX1_init 39 = .ok (.newarray .int, 2) := by decide +kernel
theorem dX1_init_41 : decode cX1_init 41 = .ok (.putfield 23, 3) := by decide +kernel
theorem dX1_init_44 : decode cX1_init 44 = .ok (.iconst 0, 1) := by decide +kernel
theorem dX1_init_45 : decode cX1_init 45 = .ok (.istore_n 1, 1) := by decide +kernel
theorem dX1_init_46 : decode cX1_init 46 = .ok (.iload_n 1, 1) := by decide +kernel
theorem dX1_init_47 : decode cX1_init 47 = .ok (.bipush 7, 2) := by decide +kernel
theorem dX1_init_49 : decode cX1_init 49 = .ok (.if_icmp .ge 16, 3) := by decide +kernel
theorem dX1_init_52 : decode cX1_init 52 = .ok (.aload_n 0, 1) := by decide +kernel
theorem dX1_init_53 : decode cX1_init 53 = .ok (.getfield 17, 3) := by decide +kernel
theorem dX1_init_56 : decode cX1_init 56 = .ok (.iload_n 1, 1) := by decide +kernel
theorem dX1_init_57 : decode cX1_init 57 = .ok (.iconst 1, 1) := by decide +kernel
theorem dX1_init_58 : decode cX1_init 58 = .ok (.bastore, 1) := by decide +kernel
theorem dX1_init_59 : decode cX1_init 59 = .ok (.iinc 1 1, 3) := by decide +kernel
theorem dX1_init_62 : decode cX1_init 62 = .ok (.goto (-16), 3) := by decide +kernel
theorem dX1_init_65 : decode cX1_init 65 = .ok (.return_, 1) := by decide +kernel
abbrev cX1_join : ByteArray := prog_3_method_4_code
def yX1_join : MethodName := ⟨RX1, "join", "(III)Z"⟩
theorem dX1_join_0 : decode cX1_join 0 = .ok (.iload_n 1, 1) := by decide +kernel
theorem dX1_join_1 : decode cX1_join 1 = .ok (.iload_n 2, 1) := by decide +kernel
theorem dX1_join_2 : decode cX1_join 2 = .ok (.if_icmp .eq 30, 3) := by decide +kernel
theorem dX1_join_5 : decode cX1_join 5 = .ok (.aload_n 0, 1) := by decide +kernel
theorem dX1_join_6 : decode cX1_join 6 = .ok (.iload_n 1, 1) := by decide +kernel
theorem dX1_join_7 : decode cX1_join 7 = .ok (.invokevirtual 26, 3) := by decide +kernel
theorem dX1_join_10 : decode cX1_join 10 = .ok (.ifCond .eq 22, 3) := by decide +kernel
theorem dX1_join_13 : decode cX1_join 13 = .ok (.aload_n 0, 1) := by decide +kernel
theorem dX1_join_14 : decode cX1_join 14 = .ok (.iload_n 2, 1) := by decide +kernel
theorem dX1_join_15 : decode cX1_join 15 = .ok (.invokevirtual 26, 3) := by decide +kernel
theorem dX1_join_18 : decode cX1_join 18 = .ok (.ifCond .eq 14, 3) := by decide +kernel
theorem dX1_join_21 : decode cX1_join 21 = .ok (.iload_n 3, 1) := by decide +kernel
theorem dX1_join_22 : decode cX1_join 22 = .ok (.iconst 1, 1) := by decide +kernel
theorem dX1_join_23 : decode cX1_join 23 = .ok (.if_icmp .lt 9, 3) := by decide +kernel
theorem dX1_join_26 : decode cX1_join 26 = .ok (.iload_n 3, 1) := by decide +kernel
theorem dX1_join_27 : decode cX1_join 27 = .ok (.bipush 9, 2) := by decide +kernel
theorem dX1_join_29 : decode cX1_join 29 = .ok (.if_icmp .le 5, 3) := by decide +kernel
theorem dX1_join_32 : decode cX1_join 32 = .ok (.iconst 0, 1) := by decide +kernel
theorem dX1_join_33 : decode cX1_join 33 = .ok (.ireturn, 1) := by decide +kernel
theorem dX1_join_34 : decode cX1_join 34 = .ok (.aload_n 0, 1) := by decide +kernel
theorem dX1_join_35 : decode cX1_join 35 = .ok (.getfield 7, 3) := by decide +kernel
theorem dX1_join_38 : decode cX1_join 38 = .ok (.bipush 7, 2) := by decide +kernel
theorem dX1_join_40 : decode cX1_join 40 = .ok (.iload_n 1, 1) := by decide +kernel
theorem dX1_join_41 : decode cX1_join 41 = .ok (.imul, 1) := by decide +kernel
theorem dX1_join_42 : decode cX1_join 42 = .ok (.iload_n 2, 1) := by decide +kernel
theorem dX1_join_43 : decode cX1_join 43 = .ok (.iadd, 1) := by decide +kernel
theorem dX1_join_44 : decode cX1_join 44 = .ok (.iload_n 3, 1) := by decide +kernel
theorem dX1_join_45 : decode cX1_join 45 = .ok (.iastore, 1) := by decide +kernel
theorem dX1_join_46 : decode cX1_join 46 = .ok (.aload_n 0, 1) := by decide +kernel
theorem dX1_join_47 : decode cX1_join 47 = .ok (.getfield 7, 3) := by decide +kernel
theorem dX1_join_50 : decode cX1_join 50 = .ok (.bipush 7, 2) := by decide +kernel
theorem dX1_join_52 : decode cX1_join 52 = .ok (.iload_n 2, 1) := by decide +kernel
theorem dX1_join_53 : decode cX1_join 53 = .ok (.imul, 1) := by decide +kernel
theorem dX1_join_54 : decode cX1_join 54 = .ok (.iload_n 1, 1) := by decide +kernel
theorem dX1_join_55 : decode cX1_join 55 = .ok (.iadd, 1) := by decide +kernel
theorem dX1_join_56 : decode cX1_join 56 = .ok (.iload_n 3, 1) := by decide +kernel
theorem dX1_join_57 : decode cX1_join 57 = .ok (.iastore, 1) := by decide +kernel
theorem dX1_join_58 : decode cX1_join 58 = .ok (.aload_n 0, 1) := by decide +kernel
theorem dX1_join_59 : decode cX1_join 59 = .ok (.getfield 13, 3) := by decide +kernel
theorem dX1_join_62 : decode cX1_join 62 = .ok (.bipush 7, 2) := by decide +kernel
theorem dX1_join_64 : decode cX1_join 64 = .ok (.iload_n 1, 1) := by decide +kernel
theorem dX1_join_65 : decode cX1_join 65 = .ok (.imul, 1) := by decide +kernel
theorem dX1_join_66 : decode cX1_join 66 = .ok (.iload_n 2, 1) := by decide +kernel
theorem dX1_join_67 : decode cX1_join 67 = .ok (.iadd, 1) := by decide +kernel
theorem dX1_join_68 : decode cX1_join 68 = .ok (.iconst 1, 1) := by decide +kernel
theorem dX1_join_69 : decode cX1_join 69 = .ok (.bastore, 1) := by decide +kernel
theorem dX1_join_70 : decode cX1_join 70 = .ok (.aload_n 0, 1) := by decide +kernel
theorem dX1_join_71 : decode cX1_join 71 = .ok (.getfield 13, 3) := by decide +kernel
theorem dX1_join_74 : decode cX1_join 74 = .ok (.bipush 7, 2) := by decide +kernel
theorem dX1_join_76 : decode cX1_join 76 = .ok (.iload_n 2, 1) := by decide +kernel
theorem dX1_join_77 : decode cX1_join 77 = .ok (.imul, 1) := by decide +kernel
theorem dX1_join_78 : decode cX1_join 78 = .ok (.iload_n 1, 1) := by decide +kernel
theorem dX1_join_79 : decode cX1_join 79 = .ok (.iadd, 1) := by decide +kernel
theorem dX1_join_80 : decode cX1_join 80 = .ok (.iconst 1, 1) := by decide +kernel
theorem dX1_join_81 : decode cX1_join 81 = .ok (.bastore, 1) := by decide +kernel
theorem dX1_join_82 : decode cX1_join 82 = .ok (.iconst 1, 1) := by decide +kernel
theorem dX1_join_83 : decode cX1_join 83 = .ok (.ireturn, 1) := by decide +kernel
abbrev cX1_router : ByteArray := prog_3_method_2_code
def yX1_router : MethodName := ⟨RX1, "router", "(I)Z"⟩
theorem dX1_router_0 : decode cX1_router 0 = .ok (.iload_n 1, 1) := by decide +kernel
theorem dX1_router_1 : decode cX1_router 1 = .ok (.ifCond .lt 13, 3) := by decide +kernel
theorem dX1_router_4 : decode cX1_router 4 = .ok (.iload_n 1, 1) := by decide +kernel
theorem dX1_router_5 : decode cX1_router 5 = .ok (.bipush 7, 2) := by decide +kernel
theorem dX1_router_7 : decode cX1_router 7 = .ok (.if_icmp .ge 7, 3) := by decide +kernel
theorem dX1_router_10 : decode cX1_router 10 = .ok (.iconst 1, 1) := by decide +kernel
theorem dX1_router_11 : decode cX1_router 11 = .ok (.goto 4, 3) := by decide +kernel
theorem dX1_router_14 : decode cX1_router 14 = .ok (.iconst 0, 1) := by decide +kernel
theorem dX1_router_15 : decode cX1_router 15 = .ok (.ireturn, 1) := by decide +kernel
abbrev cX1_cut : ByteArray := prog_3_method_5_code
def yX1_cut : MethodName := ⟨RX1, "cut", "(II)Z"⟩
theorem dX1_cut_0 : decode cX1_cut 0 = .ok (.aload_n 0, 1) := by decide +kernel
theorem dX1_cut_1 : decode cX1_cut 1 = .ok (.iload_n 1, 1) := by decide +kernel
theorem dX1_cut_2 : decode cX1_cut 2 = .ok (.iload_n 2, 1) := by decide +kernel
theorem dX1_cut_3 : decode cX1_cut 3 = .ok (.invokevirtual 30, 3) := by decide +kernel
theorem dX1_cut_6 : decode cX1_cut 6 = .ok (.ifCond .ne 5, 3) := by decide +kernel
theorem dX1_cut_9 : decode cX1_cut 9 = .ok (.iconst 0, 1) := by decide +kernel
theorem dX1_cut_10 : decode cX1_cut 10 = .ok (.ireturn, 1) := by decide +kernel
theorem dX1_cut_11 : decode cX1_cut 11 = .ok (.aload_n 0, 1) := by decide +kernel
theorem dX1_cut_12 : decode cX1_cut 12 = .ok (.getfield 7, 3) := by decide +kernel
theorem dX1_cut_15 : decode cX1_cut 15 = .ok (.bipush 7, 2) := by decide +kernel
theorem dX1_cut_17 : decode cX1_cut 17 = .ok (.iload_n 1, 1) := by decide +kernel
theorem dX1_cut_18 : decode cX1_cut 18 = .ok (.imul, 1) := by decide +kernel
theorem dX1_cut_19 : decode cX1_cut 19 = .ok (.iload_n 2, 1) := by decide +kernel
theorem dX1_cut_20 : decode cX1_cut 20 = .ok (.iadd, 1) := by decide +kernel
theorem dX1_cut_21 : decode cX1_cut 21 = .ok (.iconst 0, 1) := by decide +kernel
theorem dX1_cut_22 : decode cX1_cut 22 = .ok (.iastore, 1) := by decide +kernel
theorem dX1_cut_23 : decode cX1_cut 23 = .ok (.aload_n 0, 1) := by decide +kernel
theorem dX1_cut_24 : decode cX1_cut 24 = .ok (.getfield 7, 3) := by decide +kernel
theorem dX1_cut_27 : decode cX1_cut 27 = .ok (.bipush 7, 2) := by decide +kernel
theorem dX1_cut_29 : decode cX1_cut 29 = .ok (.iload_n 2, 1) := by decide +kernel
theorem dX1_cut_30 : decode cX1_cut 30 = .ok (.imul, 1) := by decide +kernel
theorem dX1_cut_31 : decode cX1_cut 31 = .ok (.iload_n 1, 1) := by decide +kernel
theorem dX1_cut_32 : decode cX1_cut 32 = .ok (.iadd, 1) := by decide +kernel
theorem dX1_cut_33 : decode cX1_cut 33 = .ok (.iconst 0, 1) := by decide +kernel
theorem dX1_cut_34 : decode cX1_cut 34 = .ok (.iastore, 1) := by decide +kernel
theorem dX1_cut_35 : decode cX1_cut 35 = .ok (.iconst 1, 1) := by decide +kernel
theorem dX1_cut_36 : decode cX1_cut 36 = .ok (.ireturn, 1) := by decide +kernel
abbrev cX1_link : ByteArray := prog_3_method_3_code
def yX1_link : MethodName := ⟨RX1, "link", "(II)Z"⟩
theorem dX1_link_0 : decode cX1_link 0 = .ok (.aload_n 0, 1) := by decide +kernel
theorem dX1_link_1 : decode cX1_link 1 = .ok (.iload_n 1, 1) := by decide +kernel
theorem dX1_link_2 : decode cX1_link 2 = .ok (.invokevirtual 26, 3) := by decide +kernel
theorem dX1_link_5 : decode cX1_link 5 = .ok (.ifCond .eq 29, 3) := by decide +kernel
theorem dX1_link_8 : decode cX1_link 8 = .ok (.aload_n 0, 1) := by decide +kernel
theorem dX1_link_9 : decode cX1_link 9 = .ok (.iload_n 2, 1) := by decide +kernel
theorem dX1_link_10 : decode cX1_link 10 = .ok (.invokevirtual 26, 3) := by decide +kernel
theorem dX1_link_13 : decode cX1_link 13 = .ok (.ifCond .eq 21, 3) := by decide +kernel
theorem dX1_link_16 : decode cX1_link 16 = .ok (.aload_n 0, 1) := by decide +kernel
theorem dX1_link_17 : decode cX1_link 17 = .ok (.getfield 7, 3) := by decide +kernel
theorem dX1_link_20 : decode cX1_link 20 = .ok (.bipush 7, 2) := by decide +kernel
theorem dX1_link_22 : decode cX1_link 22 = .ok (.iload_n 1, 1) := by decide +kernel
theorem dX1_link_23 : decode cX1_link 23 = .ok (.imul, 1) := by decide +kernel
theorem dX1_link_24 : decode cX1_link 24 = .ok (.iload_n 2, 1) := by decide +kernel
theorem dX1_link_25 : decode cX1_link 25 = .ok (.iadd, 1) := by decide +kernel
theorem dX1_link_26 : decode cX1_link 26 = .ok (.iaload, 1) := by decide +kernel
theorem dX1_link_27 : decode cX1_link 27 = .ok (.ifCond .le 7, 3) := by decide +kernel
theorem dX1_link_30 : decode cX1_link 30 = .ok (.iconst 1, 1) := by decide +kernel
theorem dX1_link_31 : decode cX1_link 31 = .ok (.goto 4, 3) := by decide +kernel
theorem dX1_link_34 : decode cX1_link 34 = .ok (.iconst 0, 1) := by decide +kernel
theorem dX1_link_35 : decode cX1_link 35 = .ok (.ireturn, 1) := by decide +kernel
abbrev cX1_setLink : ByteArray := prog_3_method_6_code
def yX1_setLink : MethodName := ⟨RX1, "setLink", "(IIZ)Z"⟩
theorem dX1_setLink_0 : decode cX1_setLink 0 = .ok (.aload_n 0, 1) := by decide +kernel
theorem dX1_setLink_1 : decode cX1_setLink 1 = .ok (.iload_n 1, 1) := by decide +kernel
theorem dX1_setLink_2 : decode cX1_setLink 2 = .ok (.iload_n 2, 1) := by decide +kernel
theorem dX1_setLink_3 : decode cX1_setLink 3 = .ok (.invokevirtual 30, 3) := by decide +kernel
theorem dX1_setLink_6 : decode cX1_setLink 6 = .ok (.ifCond .ne 5, 3) := by decide +kernel
theorem dX1_setLink_9 : decode cX1_setLink 9 = .ok (.iconst 0, 1) := by decide +kernel
theorem dX1_setLink_10 : decode cX1_setLink 10 = .ok (.ireturn, 1) := by decide +kernel
theorem dX1_setLink_11 : decode cX1_setLink 11 = .ok (.aload_n 0, 1) := by decide +kernel
theorem dX1_setLink_12 : decode cX1_setLink 12 = .ok (.getfield 13, 3) := by decide +kernel
theorem dX1_setLink_15 : decode cX1_setLink 15 = .ok (.bipush 7, 2) := by decide +kernel
theorem dX1_setLink_17 : decode cX1_setLink 17 = .ok (.iload_n 1, 1) := by decide +kernel
theorem dX1_setLink_18 : decode cX1_setLink 18 = .ok (.imul, 1) := by decide +kernel
theorem dX1_setLink_19 : decode cX1_setLink 19 = .ok (.iload_n 2, 1) := by decide +kernel
theorem dX1_setLink_20 : decode cX1_setLink 20 = .ok (.iadd, 1) := by decide +kernel
theorem dX1_setLink_21 : decode cX1_setLink 21 = .ok (.iload_n 3, 1) := by decide +kernel
theorem dX1_setLink_22 : decode cX1_setLink 22 = .ok (.bastore, 1) := by decide +kernel
theorem dX1_setLink_23 : decode cX1_setLink 23 = .ok (.aload_n 0, 1) := by decide +kernel
theorem dX1_setLink_24 : decode cX1_setLink 24 = .ok (.getfield 13, 3) := by decide +kernel
theorem dX1_setLink_27 : decode cX1_setLink 27 = .ok (.bipush 7, 2) := by decide +kernel
theorem dX1_setLink_29 : decode cX1_setLink 29 = .ok (.iload_n 2, 1) := by decide +kernel
theorem dX1_setLink_30 : decode cX1_setLink 30 = .ok (.imul, 1) := by decide +kernel
theorem dX1_setLink_31 : decode cX1_setLink 31 = .ok (.iload_n 1, 1) := by decide +kernel
theorem dX1_setLink_32 : decode cX1_setLink 32 = .ok (.iadd, 1) := by decide +kernel
theorem dX1_setLink_33 : decode cX1_setLink 33 = .ok (.iload_n 3, 1) := by decide +kernel
theorem dX1_setLink_34 : decode cX1_setLink 34 = .ok (.bastore, 1) := by decide +kernel
theorem dX1_setLink_35 : decode cX1_setLink 35 = .ok (.iconst 1, 1) := by decide +kernel
theorem dX1_setLink_36 : decode cX1_setLink 36 = .ok (.ireturn, 1) := by decide +kernel
abbrev cX1_setRouter : ByteArray := prog_3_method_7_code
def yX1_setRouter : MethodName := ⟨RX1, "setRouter", "(IZ)Z"⟩
theorem dX1_setRouter_0 : decode cX1_setRouter 0 = .ok (.aload_n 0, 1) := by decide +kernel
theorem dX1_setRouter_1 : decode cX1_setRouter 1 = .ok (.iload_n 1, 1) := by decide +kernel
theorem dX1_setRouter_2 : decode cX1_setRouter 2 = .ok (.invokevirtual 26, 3) := by decide +kernel
theorem dX1_setRouter_5 : decode cX1_setRouter 5 = .ok (.ifCond .ne 5, 3) := by decide +kernel
theorem dX1_setRouter_8 : decode cX1_setRouter 8 = .ok (.iconst 0, 1) := by decide +kernel
theorem dX1_setRouter_9 : decode cX1_setRouter 9 = .ok (.ireturn, 1) := by decide +kernel
theorem dX1_setRouter_10 : decode cX1_setRouter 10 = .ok (.aload_n 0, 1) := by decide +kernel
theorem dX1_setRouter_11 : decode cX1_setRouter 11 = .ok (.getfield 17, 3) := by decide +kernel
theorem dX1_setRouter_14 : decode cX1_setRouter 14 = .ok (.iload_n 1, 1) := by decide +kernel
theorem dX1_setRouter_15 : decode cX1_setRouter 15 = .ok (.iload_n 2, 1) := by decide +kernel
theorem dX1_setRouter_16 : decode cX1_setRouter 16 = .ok (.bastore, 1) := by decide +kernel
theorem dX1_setRouter_17 : decode cX1_setRouter 17 = .ok (.iconst 1, 1) := by decide +kernel
theorem dX1_setRouter_18 : decode cX1_setRouter 18 = .ok (.ireturn, 1) := by decide +kernel
abbrev cX1_cost : ByteArray := prog_3_method_8_code
def yX1_cost : MethodName := ⟨RX1, "cost", "(II)I"⟩
theorem dX1_cost_0 : decode cX1_cost 0 = .ok (.aload_n 0, 1) := by decide +kernel
theorem dX1_cost_1 : decode cX1_cost 1 = .ok (.iload_n 1, 1) := by decide +kernel
theorem dX1_cost_2 : decode cX1_cost 2 = .ok (.iload_n 2, 1) := by decide +kernel
theorem dX1_cost_3 : decode cX1_cost 3 = .ok (.invokevirtual 30, 3) := by decide +kernel
theorem dX1_cost_6 : decode cX1_cost 6 = .ok (.ifCond .eq 17, 3) := by decide +kernel
theorem dX1_cost_9 : decode cX1_cost 9 = .ok (.aload_n 0, 1) := by decide +kernel
theorem dX1_cost_10 : decode cX1_cost 10 = .ok (.getfield 7, 3) := by decide +kernel
theorem dX1_cost_13 : decode cX1_cost 13 = .ok (.bipush 7, 2) := by decide +kernel
theorem dX1_cost_15 : decode cX1_cost 15 = .ok (.iload_n 1, 1) := by decide +kernel
theorem dX1_cost_16 : decode cX1_cost 16 = .ok (.imul, 1) := by decide +kernel
theorem dX1_cost_17 : decode cX1_cost 17 = .ok (.iload_n 2, 1) := by decide +kernel
theorem dX1_cost_18 : decode cX1_cost 18 = .ok (.iadd, 1) := by decide +kernel
theorem dX1_cost_19 : decode cX1_cost 19 = .ok (.iaload, 1) := by decide +kernel
theorem dX1_cost_20 : decode cX1_cost 20 = .ok (.goto 4, 3) := by decide +kernel
theorem dX1_cost_23 : decode cX1_cost 23 = .ok (.iconst (-1), 1) := by decide +kernel
theorem dX1_cost_24 : decode cX1_cost 24 = .ok (.ireturn, 1) := by decide +kernel
abbrev cX1_distance : ByteArray := prog_3_method_13_code
def yX1_distance : MethodName := ⟨RX1, "distance", "(II)I"⟩
theorem dX1_distance_0 : decode cX1_distance 0 = .ok (.aload_n 0, 1) := by decide +kernel
theorem dX1_distance_1 : decode cX1_distance 1 = .ok (.invokevirtual 41, 3) := by decide +kernel
theorem dX1_distance_4 : decode cX1_distance 4 = .ok (.aload_n 0, 1) := by decide +kernel
theorem dX1_distance_5 : decode cX1_distance 5 = .ok (.iload_n 1, 1) := by decide +kernel
theorem dX1_distance_6 : decode cX1_distance 6 = .ok (.iload_n 2, 1) := by decide +kernel
theorem dX1_distance_7 : decode cX1_distance 7 = .ok (.invokevirtual 44, 3) := by decide +kernel
theorem dX1_distance_10 : decode cX1_distance 10 = .ok (.ifCond .eq 17, 3) := by decide +kernel
theorem dX1_distance_13 : decode cX1_distance 13 = .ok (.aload_n 0, 1) := by decide +kernel
theorem dX1_distance_14 : decode cX1_distance 14 = .ok (.getfield 20, 3) := by decide +kernel
theorem dX1_distance_17 : decode cX1_distance 17 = .ok (.bipush 7, 2) := by decide +kernel
theorem dX1_distance_19 : decode cX1_distance 19 = .ok (.iload_n 1, 1) := by decide +kernel
theorem dX1_distance_20 : decode cX1_distance 20 = .ok (.imul, 1) := by decide +kernel
theorem dX1_distance_21 : decode cX1_distance 21 = .ok (.iload_n 2, 1) := by decide +kernel
theorem dX1_distance_22 : decode cX1_distance 22 = .ok (.iadd, 1) := by decide +kernel
theorem dX1_distance_23 : decode cX1_distance 23 = .ok (.iaload, 1) := by decide +kernel
theorem dX1_distance_24 : decode cX1_distance 24 = .ok (.goto 4, 3) := by decide +kernel
theorem dX1_distance_27 : decode cX1_distance 27 = .ok (.iconst (-1), 1) := by decide +kernel
theorem dX1_distance_28 : decode cX1_distance 28 = .ok (.ireturn, 1) := by decide +kernel
abbrev cX1_work : ByteArray := prog_3_method_10_code
def yX1_work : MethodName := ⟨RX1, "work", "()V"⟩
theorem dX1_work_0 : decode cX1_work 0 = .ok (.iconst 0, 1) := by decide +kernel
theorem dX1_work_1 : decode cX1_work 1 = .ok (.istore_n 1, 1) := by decide +kernel
theorem dX1_work_2 : decode cX1_work 2 = .ok (.iload_n 1, 1) := by decide +kernel
theorem dX1_work_3 : decode cX1_work 3 = .ok (.bipush 49, 2) := by decide +kernel
theorem dX1_work_5 : decode cX1_work 5 = .ok (.if_icmp .ge 45, 3) := by decide +kernel
theorem dX1_work_8 : decode cX1_work 8 = .ok (.aload_n 0, 1) := by decide +kernel
theorem dX1_work_9 : decode cX1_work 9 = .ok (.getfield 20, 3) := by decide +kernel
theorem dX1_work_12 : decode cX1_work 12 = .ok (.iload_n 1, 1) := by decide +kernel
theorem dX1_work_13 : decode cX1_work 13 = .ok (.iload_n 1, 1) := by decide +kernel
theorem dX1_work_14 : decode cX1_work 14 = .ok (.bipush 7, 2) := by decide +kernel
theorem dX1_work_16 : decode cX1_work 16 = .ok (.idiv, 1) := by decide +kernel
theorem dX1_work_17 : decode cX1_work 17 = .ok (.iload_n 1, 1) := by decide +kernel
theorem dX1_work_18 : decode cX1_work 18 = .ok (.bipush 7, 2) := by decide +kernel
theorem dX1_work_20 : decode cX1_work 20 = .ok (.irem, 1) := by decide +kernel
theorem dX1_work_21 : decode cX1_work 21 = .ok (.if_icmp .ne 19, 3) := by decide +kernel
theorem dX1_work_24 : decode cX1_work 24 = .ok (.aload_n 0, 1) := by decide +kernel
theorem dX1_work_25 : decode cX1_work 25 = .ok (.getfield 17, 3) := by decide +kernel
theorem dX1_work_28 : decode cX1_work 28 = .ok (.iload_n 1, 1) := by decide +kernel
theorem dX1_work_29 : decode cX1_work 29 = .ok (.bipush 7, 2) := by decide +kernel
theorem dX1_work_31 : decode cX1_work 31 = .ok (.idiv, 1) := by decide +kernel
theorem dX1_work_32 : decode cX1_work 32 = .ok (.baload, 1) := by decide +kernel
theorem dX1_work_33 : decode cX1_work 33 = .ok (.ifCond .eq 7, 3) := by decide +kernel
theorem dX1_work_36 : decode cX1_work 36 = .ok (.iconst 0, 1) := by decide +kernel
theorem dX1_work_37 : decode cX1_work 37 = .ok (.goto 6, 3) := by decide +kernel
theorem dX1_work_40 : decode cX1_work 40 = .ok (.sipush 1000, 3) := by decide +kernel
theorem dX1_work_43 : decode cX1_work 43 = .ok (.iastore, 1) := by decide +kernel
theorem dX1_work_44 : decode cX1_work 44 = .ok (.iinc 1 1, 3) := by decide +kernel
theorem dX1_work_47 : decode cX1_work 47 = .ok (.goto (-45), 3) := by decide +kernel
theorem dX1_work_50 : decode cX1_work 50 = .ok (.iconst 0, 1) := by decide +kernel
theorem dX1_work_51 : decode cX1_work 51 = .ok (.istore_n 1, 1) := by decide +kernel
theorem dX1_work_52 : decode cX1_work 52 = .ok (.iload_n 1, 1) := by decide +kernel
theorem dX1_work_53 : decode cX1_work 53 = .ok (.bipush 6, 2) := by decide +kernel
theorem dX1_work_55 : decode cX1_work 55 = .ok (.if_icmp .ge 35, 3) := by decide +kernel
theorem dX1_work_58 : decode cX1_work 58 = .ok (.iconst 0, 1) := by decide +kernel
theorem dX1_work_59 : decode cX1_work 59 = .ok (.istore_n 2, 1) := by decide +kernel
theorem dX1_work_60 : decode cX1_work 60 = .ok (.iload_n 2, 1) := by decide +kernel
theorem dX1_work_61 : decode cX1_work 61 = .ok (.bipush 49, 2) := by decide +kernel
theorem dX1_work_63 : decode cX1_work 63 = .ok (.if_icmp .ge 21, 3) := by decide +kernel
theorem dX1_work_66 : decode cX1_work 66 = .ok (.aload_n 0, 1) := by decide +kernel
theorem dX1_work_67 : decode cX1_work 67 = .ok (.iload_n 2, 1) := by decide +kernel
theorem dX1_work_68 : decode cX1_work 68 = .ok (.bipush 7, 2) := by decide +kernel
theorem dX1_work_70 : decode cX1_work 70 = .ok (.idiv, 1) := by decide +kernel
theorem dX1_work_71 : decode cX1_work 71 = .ok (.iload_n 2, 1) := by decide +kernel
theorem dX1_work_72 : decode cX1_work 72 = .ok (.bipush 7, 2) := by decide +kernel
theorem dX1_work_74 : decode cX1_work 74 = .ok (.irem, 1) := by decide +kernel
theorem dX1_work_75 : decode cX1_work 75 = .ok (.invokevirtual 34, 3) := by decide +kernel
theorem dX1_work_78 : decode cX1_work 78 = .ok (.iinc 2 1, 3) := by decide +kernel
theorem dX1_work_81 : decode cX1_work 81 = .ok (.goto (-21), 3) := by decide +kernel
theorem dX1_work_84 : decode cX1_work 84 = .ok (.iinc 1 1, 3) := by decide +kernel
theorem dX1_work_87 : decode cX1_work 87 = .ok (.goto (-35), 3) := by decide +kernel
theorem dX1_work_90 : decode cX1_work 90 = .ok (.return_, 1) := by decide +kernel
abbrev cX1_lower : ByteArray := prog_3_method_11_code
def yX1_lower : MethodName := ⟨RX1, "lower", "(II)V"⟩
theorem dX1_lower_0 : decode cX1_lower 0 = .ok (.iconst 0, 1) := by decide +kernel
theorem dX1_lower_1 : decode cX1_lower 1 = .ok (.istore_n 3, 1) := by decide +kernel
theorem dX1_lower_2 : decode cX1_lower 2 = .ok (.iload_n 3, 1) := by decide +kernel
theorem dX1_lower_3 : decode cX1_lower 3 = .ok (.bipush 7, 2) := by decide +kernel
theorem dX1_lower_5 : decode cX1_lower 5 = .ok (.if_icmp .ge 89, 3) := by decide +kernel
theorem dX1_lower_8 : decode cX1_lower 8 = .ok (.aload_n 0, 1) := by decide +kernel
theorem dX1_lower_9 : decode cX1_lower 9 = .ok (.iload_n 1, 1) := by decide +kernel
theorem dX1_lower_10 : decode cX1_lower 10 = .ok (.iload_n 2, 1) := by decide +kernel
theorem dX1_lower_11 : decode cX1_lower 11 = .ok (.invokevirtual 38, 3) := by decide +kernel
theorem dX1_lower_14 : decode cX1_lower 14 = .ok (.ifCond .eq 74, 3) := by decide +kernel
theorem dX1_lower_17 : decode cX1_lower 17 = .ok (.aload_n 0, 1) := by decide +kernel
theorem dX1_lower_18 : decode cX1_lower 18 = .ok (.getfield 7, 3) := by decide +kernel
theorem dX1_lower_21 : decode cX1_lower 21 = .ok (.bipush 7, 2) := by decide +kernel
theorem dX1_lower_23 : decode cX1_lower 23 = .ok (.iload_n 1, 1) := by decide +kernel
theorem dX1_lower_24 : decode cX1_lower 24 = .ok (.imul, 1) := by decide +kernel
theorem dX1_lower_25 : decode cX1_lower 25 = .ok (.iload_n 2, 1) := by decide +kernel
theorem dX1_lower_26 : decode cX1_lower 26 = .ok (.iadd, 1) := by decide +kernel
theorem dX1_lower_27 : decode cX1_lower 27 = .ok (.iaload, 1) := by decide +kernel
theorem dX1_lower_28 : decode cX1_lower 28 = .ok (.aload_n 0, 1) := by decide +kernel
theorem dX1_lower_29 : decode cX1_lower 29 = .ok (.getfield 20, 3) := by decide +kernel
theorem dX1_lower_32 : decode cX1_lower 32 = .ok (.bipush 7, 2) := by decide +kernel
theorem dX1_lower_34 : decode cX1_lower 34 = .ok (.iload_n 2, 1) := by decide +kernel
theorem dX1_lower_35 : decode cX1_lower 35 = .ok (.imul, 1) := by decide +kernel
theorem dX1_lower_36 : decode cX1_lower 36 = .ok (.iload_n 3, 1) := by decide +kernel
theorem dX1_lower_37 : decode cX1_lower 37 = .ok (.iadd, 1) := by decide +kernel
theorem dX1_lower_38 : decode cX1_lower 38 = .ok (.iaload, 1) := by decide +kernel
theorem dX1_lower_39 : decode cX1_lower 39 = .ok (.iadd, 1) := by decide +kernel
theorem dX1_lower_40 : decode cX1_lower 40 = .ok (.aload_n 0, 1) := by decide +kernel
theorem dX1_lower_41 : decode cX1_lower 41 = .ok (.getfield 20, 3) := by decide +kernel
theorem dX1_lower_44 : decode cX1_lower 44 = .ok (.bipush 7, 2) := by decide +kernel
theorem dX1_lower_46 : decode cX1_lower 46 = .ok (.iload_n 1, 1) := by decide +kernel
theorem dX1_lower_47 : decode cX1_lower 47 = .ok (.imul, 1) := by decide +kernel
theorem dX1_lower_48 : decode cX1_lower 48 = .ok (.iload_n 3, 1) := by decide +kernel
theorem dX1_lower_49 : decode cX1_lower 49 = .ok (.iadd, 1) := by decide +kernel
theorem dX1_lower_50 : decode cX1_lower 50 = .ok (.iaload, 1) := by decide +kernel
theorem dX1_lower_51 : decode cX1_lower 51 = .ok (.if_icmp .ge 37, 3) := by decide +kernel
theorem dX1_lower_54 : decode cX1_lower 54 = .ok (.aload_n 0, 1) := by decide +kernel
theorem dX1_lower_55 : decode cX1_lower 55 = .ok (.getfield 20, 3) := by decide +kernel
theorem dX1_lower_58 : decode cX1_lower 58 = .ok (.bipush 7, 2) := by decide +kernel
theorem dX1_lower_60 : decode cX1_lower 60 = .ok (.iload_n 1, 1) := by decide +kernel
theorem dX1_lower_61 : decode cX1_lower 61 = .ok (.imul, 1) := by decide +kernel
theorem dX1_lower_62 : decode cX1_lower 62 = .ok (.iload_n 3, 1) := by decide +kernel
theorem dX1_lower_63 : decode cX1_lower 63 = .ok (.iadd, 1) := by decide +kernel
theorem dX1_lower_64 : decode cX1_lower 64 = .ok (.aload_n 0, 1) := by decide +kernel
theorem dX1_lower_65 : decode cX1_lower 65 = .ok (.getfield 7, 3) := by decide +kernel
theorem dX1_lower_68 : decode cX1_lower 68 = .ok (.bipush 7, 2) := by decide +kernel
theorem dX1_lower_70 : decode cX1_lower 70 = .ok (.iload_n 1, 1) := by decide +kernel
theorem dX1_lower_71 : decode cX1_lower 71 = .ok (.imul, 1) := by decide +kernel
theorem dX1_lower_72 : decode cX1_lower 72 = .ok (.iload_n 2, 1) := by decide +kernel
theorem dX1_lower_73 : decode cX1_lower 73 = .ok (.iadd, 1) := by decide +kernel
theorem dX1_lower_74 : decode cX1_lower 74 = .ok (.iaload, 1) := by decide +kernel
theorem dX1_lower_75 : decode cX1_lower 75 = .ok (.aload_n 0, 1) := by decide +kernel
theorem dX1_lower_76 : decode cX1_lower 76 = .ok (.getfield 20, 3) := by decide +kernel
theorem dX1_lower_79 : decode cX1_lower 79 = .ok (.bipush 7, 2) := by decide +kernel
theorem dX1_lower_81 : decode cX1_lower 81 = .ok (.iload_n 2, 1) := by decide +kernel
theorem dX1_lower_82 : decode cX1_lower 82 = .ok (.imul, 1) := by decide +kernel
theorem dX1_lower_83 : decode cX1_lower 83 = .ok (.iload_n 3, 1) := by decide +kernel
theorem dX1_lower_84 : decode cX1_lower 84 = .ok (.iadd, 1) := by decide +kernel
theorem dX1_lower_85 : decode cX1_lower 85 = .ok (.iaload, 1) := by decide +kernel
theorem dX1_lower_86 : decode cX1_lower 86 = .ok (.iadd, 1) := by decide +kernel
theorem dX1_lower_87 : decode cX1_lower 87 = .ok (.iastore, 1) := by decide +kernel
theorem dX1_lower_88 : decode cX1_lower 88 = .ok (.iinc 3 1, 3) := by decide +kernel
theorem dX1_lower_91 : decode cX1_lower 91 = .ok (.goto (-89), 3) := by decide +kernel
theorem dX1_lower_94 : decode cX1_lower 94 = .ok (.return_, 1) := by decide +kernel
abbrev cX1_counts : ByteArray := prog_3_method_9_code
def yX1_counts : MethodName := ⟨RX1, "counts", "(II)Z"⟩
theorem dX1_counts_0 : decode cX1_counts 0 = .ok (.aload_n 0, 1) := by decide +kernel
theorem dX1_counts_1 : decode cX1_counts 1 = .ok (.iload_n 1, 1) := by decide +kernel
theorem dX1_counts_2 : decode cX1_counts 2 = .ok (.iload_n 2, 1) := by decide +kernel
theorem dX1_counts_3 : decode cX1_counts 3 = .ok (.invokevirtual 30, 3) := by decide +kernel
theorem dX1_counts_6 : decode cX1_counts 6 = .ok (.ifCond .eq 39, 3) := by decide +kernel
theorem dX1_counts_9 : decode cX1_counts 9 = .ok (.aload_n 0, 1) := by decide +kernel
theorem dX1_counts_10 : decode cX1_counts 10 = .ok (.getfield 13, 3) := by decide +kernel
theorem dX1_counts_13 : decode cX1_counts 13 = .ok (.bipush 7, 2) := by decide +kernel
theorem dX1_counts_15 : decode cX1_counts 15 = .ok (.iload_n 1, 1) := by decide +kernel
theorem dX1_counts_16 : decode cX1_counts 16 = .ok (.imul, 1) := by decide +kernel
theorem dX1_counts_17 : decode cX1_counts 17 = .ok (.iload_n 2, 1) := by decide +kernel
theorem dX1_counts_18 : decode cX1_counts 18 = .ok (.iadd, 1) := by decide +kernel
theorem dX1_counts_19 : decode cX1_counts 19 = .ok (.baload, 1) := by decide +kernel
theorem dX1_counts_20 : decode cX1_counts 20 = .ok (.ifCond .eq 25, 3) := by decide +kernel
theorem dX1_counts_23 : decode cX1_counts 23 = .ok (.aload_n 0, 1) := by decide +kernel
theorem dX1_counts_24 : decode cX1_counts 24 = .ok (.getfield 17, 3) := by decide +kernel
theorem dX1_counts_27 : decode cX1_counts 27 = .ok (.iload_n 1, 1) := by decide +kernel
theorem dX1_counts_28 : decode cX1_counts 28 = .ok (.baload, 1) := by decide +kernel
theorem dX1_counts_29 : decode cX1_counts 29 = .ok (.ifCond .eq 16, 3) := by decide +kernel
theorem dX1_counts_32 : decode cX1_counts 32 = .ok (.aload_n 0, 1) := by decide +kernel
theorem dX1_counts_33 : decode cX1_counts 33 = .ok (.getfield 17, 3) := by decide +kernel
theorem dX1_counts_36 : decode cX1_counts 36 = .ok (.iload_n 2, 1) := by decide +kernel
theorem dX1_counts_37 : decode cX1_counts 37 = .ok (.baload, 1) := by decide +kernel
theorem dX1_counts_38 : decode cX1_counts 38 = .ok (.ifCond .eq 7, 3) := by decide +kernel
theorem dX1_counts_41 : decode cX1_counts 41 = .ok (.iconst 1, 1) := by decide +kernel
theorem dX1_counts_42 : decode cX1_counts 42 = .ok (.goto 4, 3) := by decide +kernel
theorem dX1_counts_45 : decode cX1_counts 45 = .ok (.iconst 0, 1) := by decide +kernel
theorem dX1_counts_46 : decode cX1_counts 46 = .ok (.ireturn, 1) := by decide +kernel
abbrev cX1_has : ByteArray := prog_3_method_12_code
def yX1_has : MethodName := ⟨RX1, "has", "(II)Z"⟩
theorem dX1_has_0 : decode cX1_has 0 = .ok (.aload_n 0, 1) := by decide +kernel
theorem dX1_has_1 : decode cX1_has 1 = .ok (.iload_n 1, 1) := by decide +kernel
theorem dX1_has_2 : decode cX1_has 2 = .ok (.invokevirtual 26, 3) := by decide +kernel
theorem dX1_has_5 : decode cX1_has 5 = .ok (.ifCond .eq 32, 3) := by decide +kernel
theorem dX1_has_8 : decode cX1_has 8 = .ok (.aload_n 0, 1) := by decide +kernel
theorem dX1_has_9 : decode cX1_has 9 = .ok (.iload_n 2, 1) := by decide +kernel
theorem dX1_has_10 : decode cX1_has 10 = .ok (.invokevirtual 26, 3) := by decide +kernel
theorem dX1_has_13 : decode cX1_has 13 = .ok (.ifCond .eq 24, 3) := by decide +kernel
theorem dX1_has_16 : decode cX1_has 16 = .ok (.aload_n 0, 1) := by decide +kernel
theorem dX1_has_17 : decode cX1_has 17 = .ok (.getfield 20, 3) := by decide +kernel
theorem dX1_has_20 : decode cX1_has 20 = .ok (.bipush 7, 2) := by decide +kernel
theorem dX1_has_22 : decode cX1_has 22 = .ok (.iload_n 1, 1) := by decide +kernel
theorem dX1_has_23 : decode cX1_has 23 = .ok (.imul, 1) := by decide +kernel
theorem dX1_has_24 : decode cX1_has 24 = .ok (.iload_n 2, 1) := by decide +kernel
theorem dX1_has_25 : decode cX1_has 25 = .ok (.iadd, 1) := by decide +kernel
theorem dX1_has_26 : decode cX1_has 26 = .ok (.iaload, 1) := by decide +kernel
theorem dX1_has_27 : decode cX1_has 27 = .ok (.sipush 1000, 3) := by decide +kernel
theorem dX1_has_30 : decode cX1_has 30 = .ok (.if_icmp .ge 7, 3) := by decide +kernel
theorem dX1_has_33 : decode cX1_has 33 = .ok (.iconst 1, 1) := by decide +kernel
theorem dX1_has_34 : decode cX1_has 34 = .ok (.goto 4, 3) := by decide +kernel
theorem dX1_has_37 : decode cX1_has 37 = .ok (.iconst 0, 1) := by decide +kernel
theorem dX1_has_38 : decode cX1_has 38 = .ok (.ireturn, 1) := by decide +kernel
abbrev cX1_nextHop : ByteArray := prog_3_method_15_code
def yX1_nextHop : MethodName := ⟨RX1, "nextHop", "(II)I"⟩
theorem dX1_nextHop_0 : decode cX1_nextHop 0 = .ok (.aload_n 0, 1) := by decide +kernel
theorem dX1_nextHop_1 : decode cX1_nextHop 1 = .ok (.invokevirtual 41, 3) := by decide +kernel
theorem dX1_nextHop_4 : decode cX1_nextHop 4 = .ok (.iload_n 1, 1) := by decide +kernel
theorem dX1_nextHop_5 : decode cX1_nextHop 5 = .ok (.iload_n 2, 1) := by decide +kernel
theorem dX1_nextHop_6 : decode cX1_nextHop 6 = .ok (.if_icmp .eq 21, 3) := by decide +kernel
theorem dX1_nextHop_9 : decode cX1_nextHop 9 = .ok (.aload_n 0, 1) := by decide +kernel
theorem dX1_nextHop_10 : decode cX1_nextHop 10 = .ok (.iload_n 1, 1) := by decide +kernel
theorem dX1_nextHop_11 : decode cX1_nextHop 11 = .ok (.iload_n 2, 1) := by decide +kernel
theorem dX1_nextHop_12 : decode cX1_nextHop 12 = .ok (.invokevirtual 44, 3) := by decide +kernel
theorem dX1_nextHop_15 : decode cX1_nextHop 15 = .ok (.ifCond .eq 12, 3) := by decide +kernel
theorem dX1_nextHop_18 : decode cX1_nextHop 18 = .ok (.aload_n 0, 1) := by decide +kernel
theorem dX1_nextHop_19 : decode cX1_nextHop 19 = .ok (.iload_n 1, 1) := by decide +kernel
theorem dX1_nextHop_20 : decode cX1_nextHop 20 = .ok (.iload_n 2, 1) := by decide +kernel
theorem dX1_nextHop_21 : decode cX1_nextHop 21 = .ok (.invokevirtual 47, 3) := by decide +kernel
theorem dX1_nextHop_24 : decode cX1_nextHop 24 = .ok (.goto 4, 3) := by decide +kernel
theorem dX1_nextHop_27 : decode cX1_nextHop 27 = .ok (.iconst (-1), 1) := by decide +kernel
theorem dX1_nextHop_28 : decode cX1_nextHop 28 = .ok (.ireturn, 1) := by decide +kernel
abbrev cX1_hop : ByteArray := prog_3_method_14_code
def yX1_hop : MethodName := ⟨RX1, "hop", "(II)I"⟩
theorem dX1_hop_0 : decode cX1_hop 0 = .ok (.iconst 0, 1) := by decide +kernel
theorem dX1_hop_1 : decode cX1_hop 1 = .ok (.istore_n 3, 1) := by decide +kernel
theorem dX1_hop_2 : decode cX1_hop 2 = .ok (.iload_n 3, 1) := by decide +kernel
theorem dX1_hop_3 : decode cX1_hop 3 = .ok (.bipush 7, 2) := by decide +kernel
theorem dX1_hop_5 : decode cX1_hop 5 = .ok (.if_icmp .ge 57, 3) := by decide +kernel
theorem dX1_hop_8 : decode cX1_hop 8 = .ok (.aload_n 0, 1) := by decide +kernel
theorem dX1_hop_9 : decode cX1_hop 9 = .ok (.iload_n 1, 1) := by decide +kernel
theorem dX1_hop_10 : decode cX1_hop 10 = .ok (.iload_n 3, 1) := by decide +kernel
theorem dX1_hop_11 : decode cX1_hop 11 = .ok (.invokevirtual 38, 3) := by decide +kernel
theorem dX1_hop_14 : decode cX1_hop 14 = .ok (.ifCond .eq 42, 3) := by decide +kernel
theorem dX1_hop_17 : decode cX1_hop 17 = .ok (.aload_n 0, 1) := by decide +kernel
theorem dX1_hop_18 : decode cX1_hop 18 = .ok (.getfield 7, 3) := by decide +kernel
theorem dX1_hop_21 : decode cX1_hop 21 = .ok (.bipush 7, 2) := by decide +kernel
theorem dX1_hop_23 : decode cX1_hop 23 = .ok (.iload_n 1, 1) := by decide +kernel
theorem dX1_hop_24 : decode cX1_hop 24 = .ok (.imul, 1) := by decide +kernel
theorem dX1_hop_25 : decode cX1_hop 25 = .ok (.iload_n 3, 1) := by decide +kernel
theorem dX1_hop_26 : decode cX1_hop 26 = .ok (.iadd, 1) := by decide +kernel
theorem dX1_hop_27 : decode cX1_hop 27 = .ok (.iaload, 1) := by decide +kernel
theorem dX1_hop_28 : decode cX1_hop 28 = .ok (.aload_n 0, 1) := by decide +kernel
theorem dX1_hop_29 : decode cX1_hop 29 = .ok (.getfield 20, 3) := by decide +kernel
theorem dX1_hop_32 : decode cX1_hop 32 = .ok (.bipush 7, 2) := by decide +kernel
theorem dX1_hop_34 : decode cX1_hop 34 = .ok (.iload_n 3, 1) := by decide +kernel
theorem dX1_hop_35 : decode cX1_hop 35 = .ok (.imul, 1) := by decide +kernel
theorem dX1_hop_36 : decode cX1_hop 36 = .ok (.iload_n 2, 1) := by decide +kernel
theorem dX1_hop_37 : decode cX1_hop 37 = .ok (.iadd, 1) := by decide +kernel
theorem dX1_hop_38 : decode cX1_hop 38 = .ok (.iaload, 1) := by decide +kernel
theorem dX1_hop_39 : decode cX1_hop 39 = .ok (.iadd, 1) := by decide +kernel
theorem dX1_hop_40 : decode cX1_hop 40 = .ok (.aload_n 0, 1) := by decide +kernel
theorem dX1_hop_41 : decode cX1_hop 41 = .ok (.getfield 20, 3) := by decide +kernel
theorem dX1_hop_44 : decode cX1_hop 44 = .ok (.bipush 7, 2) := by decide +kernel
theorem dX1_hop_46 : decode cX1_hop 46 = .ok (.iload_n 1, 1) := by decide +kernel
theorem dX1_hop_47 : decode cX1_hop 47 = .ok (.imul, 1) := by decide +kernel
theorem dX1_hop_48 : decode cX1_hop 48 = .ok (.iload_n 2, 1) := by decide +kernel
theorem dX1_hop_49 : decode cX1_hop 49 = .ok (.iadd, 1) := by decide +kernel
theorem dX1_hop_50 : decode cX1_hop 50 = .ok (.iaload, 1) := by decide +kernel
theorem dX1_hop_51 : decode cX1_hop 51 = .ok (.if_icmp .ne 5, 3) := by decide +kernel
theorem dX1_hop_54 : decode cX1_hop 54 = .ok (.iload_n 3, 1) := by decide +kernel
theorem dX1_hop_55 : decode cX1_hop 55 = .ok (.ireturn, 1) := by decide +kernel
theorem dX1_hop_56 : decode cX1_hop 56 = .ok (.iinc 3 1, 3) := by decide +kernel
theorem dX1_hop_59 : decode cX1_hop 59 = .ok (.goto (-57), 3) := by decide +kernel
theorem dX1_hop_62 : decode cX1_hop 62 = .ok (.iload_n 2, 1) := by decide +kernel
theorem dX1_hop_63 : decode cX1_hop 63 = .ok (.ireturn, 1) := by decide +kernel
abbrev cX1_hops : ByteArray := prog_3_method_18_code
def yX1_hops : MethodName := ⟨RX1, "hops", "(II)I"⟩
theorem dX1_hops_0 : decode cX1_hops 0 = .ok (.aload_n 0, 1) := by decide +kernel
theorem dX1_hops_1 : decode cX1_hops 1 = .ok (.invokevirtual 41, 3) := by decide +kernel
theorem dX1_hops_4 : decode cX1_hops 4 = .ok (.aload_n 0, 1) := by decide +kernel
theorem dX1_hops_5 : decode cX1_hops 5 = .ok (.iload_n 1, 1) := by decide +kernel
theorem dX1_hops_6 : decode cX1_hops 6 = .ok (.iload_n 2, 1) := by decide +kernel
theorem dX1_hops_7 : decode cX1_hops 7 = .ok (.invokevirtual 44, 3) := by decide +kernel
theorem dX1_hops_10 : decode cX1_hops 10 = .ok (.ifCond .eq 12, 3) := by decide +kernel
theorem dX1_hops_13 : decode cX1_hops 13 = .ok (.aload_n 0, 1) := by decide +kernel
theorem dX1_hops_14 : decode cX1_hops 14 = .ok (.iload_n 1, 1) := by decide +kernel
theorem dX1_hops_15 : decode cX1_hops 15 = .ok (.iload_n 2, 1) := by decide +kernel
theorem dX1_hops_16 : decode cX1_hops 16 = .ok (.invokevirtual 51, 3) := by decide +kernel
theorem dX1_hops_19 : decode cX1_hops 19 = .ok (.goto 4, 3) := by decide +kernel
theorem dX1_hops_22 : decode cX1_hops 22 = .ok (.iconst (-1), 1) := by decide +kernel
theorem dX1_hops_23 : decode cX1_hops 23 = .ok (.ireturn, 1) := by decide +kernel
abbrev cX1_count : ByteArray := prog_3_method_17_code
def yX1_count : MethodName := ⟨RX1, "count", "(II)I"⟩
theorem dX1_count_0 : decode cX1_count 0 = .ok (.iconst 0, 1) := by decide +kernel
theorem dX1_count_1 : decode cX1_count 1 = .ok (.istore_n 3, 1) := by decide +kernel
theorem dX1_count_2 : decode cX1_count 2 = .ok (.iload_n 1, 1) := by decide +kernel
theorem dX1_count_3 : decode cX1_count 3 = .ok (.istore 4, 2) := by decide +kernel
theorem dX1_count_5 : decode cX1_count 5 = .ok (.iload_n 3, 1) := by decide +kernel
theorem dX1_count_6 : decode cX1_count 6 = .ok (.bipush 6, 2) := by decide +kernel
theorem dX1_count_8 : decode cX1_count 8 = .ok (.if_icmp .ge 24, 3) := by decide +kernel
theorem dX1_count_11 : decode cX1_count 11 = .ok (.iload 4, 2) := by decide +kernel
theorem dX1_count_13 : decode cX1_count 13 = .ok (.iload_n 2, 1) := by decide +kernel
theorem dX1_count_14 : decode cX1_count 14 = .ok (.if_icmp .eq 18, 3) := by decide +kernel
theorem dX1_count_17 : decode cX1_count 17 = .ok (.aload_n 0, 1) := by decide +kernel
theorem dX1_count_18 : decode cX1_count 18 = .ok (.iload 4, 2) := by decide +kernel
theorem dX1_count_20 : decode cX1_count 20 = .ok (.iload_n 2, 1) := by decide +kernel
theorem dX1_count_21 : decode cX1_count 21 = .ok (.invokevirtual 47, 3) := by decide +kernel
theorem dX1_count_24 : decode cX1_count 24 = .ok (.istore 4, 2) := by decide +kernel
theorem dX1_count_26 : decode cX1_count 26 = .ok (.iinc 3 1, 3) := by decide +kernel
theorem dX1_count_29 : decode cX1_count 29 = .ok (.goto (-24), 3) := by decide +kernel
theorem dX1_count_32 : decode cX1_count 32 = .ok (.iload_n 3, 1) := by decide +kernel
theorem dX1_count_33 : decode cX1_count 33 = .ok (.ireturn, 1) := by decide +kernel
abbrev cX1_routeAt : ByteArray := prog_3_method_19_code
def yX1_routeAt : MethodName := ⟨RX1, "routeAt", "(III)I"⟩
theorem dX1_routeAt_0 : decode cX1_routeAt 0 = .ok (.aload_n 0, 1) := by decide +kernel
theorem dX1_routeAt_1 : decode cX1_routeAt 1 = .ok (.invokevirtual 41, 3) := by decide +kernel
theorem dX1_routeAt_4 : decode cX1_routeAt 4 = .ok (.aload_n 0, 1) := by decide +kernel
theorem dX1_routeAt_5 : decode cX1_routeAt 5 = .ok (.iload_n 1, 1) := by decide +kernel
theorem dX1_routeAt_6 : decode cX1_routeAt 6 = .ok (.iload_n 2, 1) := by decide +kernel
theorem dX1_routeAt_7 : decode cX1_routeAt 7 = .ok (.invokevirtual 44, 3) := by decide +kernel
theorem dX1_routeAt_10 : decode cX1_routeAt 10 = .ok (.ifCond .eq 27, 3) := by decide +kernel
theorem dX1_routeAt_13 : decode cX1_routeAt 13 = .ok (.iload_n 3, 1) := by decide +kernel
theorem dX1_routeAt_14 : decode cX1_routeAt 14 = .ok (.ifCond .lt 23, 3) := by decide +kernel
theorem dX1_routeAt_17 : decode cX1_routeAt 17 = .ok (.iload_n 3, 1) := by decide +kernel
theorem dX1_routeAt_18 : decode cX1_routeAt 18 = .ok (.aload_n 0, 1) := by decide +kernel
theorem dX1_routeAt_19 : decode cX1_routeAt 19 = .ok (.iload_n 1, 1) := by decide +kernel
theorem dX1_routeAt_20 : decode cX1_routeAt 20 = .ok (.iload_n 2, 1) := by decide +kernel
theorem dX1_routeAt_21 : decode cX1_routeAt 21 = .ok (.invokevirtual 51, 3) := by decide +kernel
theorem dX1_routeAt_24 : decode cX1_routeAt 24 = .ok (.if_icmp .gt 13, 3) := by decide +kernel
theorem dX1_routeAt_27 : decode cX1_routeAt 27 = .ok (.aload_n 0, 1) := by decide +kernel
theorem dX1_routeAt_28 : decode cX1_routeAt 28 = .ok (.iload_n 1, 1) := by decide +kernel
theorem dX1_routeAt_29 : decode cX1_routeAt 29 = .ok (.iload_n 2, 1) := by decide +kernel
theorem dX1_routeAt_30 : decode cX1_routeAt 30 = .ok (.iload_n 3, 1) := by decide +kernel
theorem dX1_routeAt_31 : decode cX1_routeAt 31 = .ok (.invokevirtual 54, 3) := by decide +kernel
theorem dX1_routeAt_34 : decode cX1_routeAt 34 = .ok (.goto 4, 3) := by decide +kernel
theorem dX1_routeAt_37 : decode cX1_routeAt 37 = .ok (.iconst (-1), 1) := by decide +kernel
theorem dX1_routeAt_38 : decode cX1_routeAt 38 = .ok (.ireturn, 1) := by decide +kernel
abbrev cX1_walk : ByteArray := prog_3_method_16_code
def yX1_walk : MethodName := ⟨RX1, "walk", "(III)I"⟩
theorem dX1_walk_0 : decode cX1_walk 0 = .ok (.iload_n 1, 1) := by decide +kernel
theorem dX1_walk_1 : decode cX1_walk 1 = .ok (.istore 4, 2) := by decide +kernel
theorem dX1_walk_3 : decode cX1_walk 3 = .ok (.iconst 0, 1) := by decide +kernel
theorem dX1_walk_4 : decode cX1_walk 4 = .ok (.istore 5, 2) := by decide +kernel
theorem dX1_walk_6 : decode cX1_walk 6 = .ok (.iload 5, 2) := by decide +kernel
theorem dX1_walk_8 : decode cX1_walk 8 = .ok (.iload_n 3, 1) := by decide +kernel
theorem dX1_walk_9 : decode cX1_walk 9 = .ok (.if_icmp .ge 31, 3) := by decide +kernel
theorem dX1_walk_12 : decode cX1_walk 12 = .ok (.iload 5, 2) := by decide +kernel
theorem dX1_walk_14 : decode cX1_walk 14 = .ok (.bipush 6, 2) := by decide +kernel
theorem dX1_walk_16 : decode cX1_walk 16 = .ok (.if_icmp .ge 24, 3) := by decide +kernel
theorem dX1_walk_19 : decode cX1_walk 19 = .ok (.iload 4, 2) := by decide +kernel
theorem dX1_walk_21 : decode cX1_walk 21 = .ok (.iload_n 2, 1) := by decide +kernel
theorem dX1_walk_22 : decode cX1_walk 22 = .ok (.if_icmp .eq 18, 3) := by decide +kernel
theorem dX1_walk_25 : decode cX1_walk 25 = .ok (.aload_n 0, 1) := by decide +kernel
theorem dX1_walk_26 : decode cX1_walk 26 = .ok (.iload 4, 2) := by decide +kernel
theorem dX1_walk_28 : decode cX1_walk 28 = .ok (.iload_n 2, 1) := by decide +kernel
theorem dX1_walk_29 : decode cX1_walk 29 = .ok (.invokevirtual 47, 3) := by decide +kernel
theorem dX1_walk_32 : decode cX1_walk 32 = .ok (.istore 4, 2) := by decide +kernel
theorem dX1_walk_34 : decode cX1_walk 34 = .ok (.iinc 5 1, 3) := by decide +kernel
theorem dX1_walk_37 : decode cX1_walk 37 = .ok (.goto (-31), 3) := by decide +kernel
theorem dX1_walk_40 : decode cX1_walk 40 = .ok (.iload 4, 2) := by decide +kernel
theorem dX1_walk_42 : decode cX1_walk 42 = .ok (.ireturn, 1) := by decide +kernel
abbrev cX1_after : ByteArray := prog_3_method_20_code
def yX1_after : MethodName := ⟨RX1, "after", "(III)I"⟩
theorem dX1_after_0 : decode cX1_after 0 = .ok (.aload_n 0, 1) := by decide +kernel
theorem dX1_after_1 : decode cX1_after 1 = .ok (.invokevirtual 41, 3) := by decide +kernel
theorem dX1_after_4 : decode cX1_after 4 = .ok (.aload_n 0, 1) := by decide +kernel
theorem dX1_after_5 : decode cX1_after 5 = .ok (.iload_n 1, 1) := by decide +kernel
theorem dX1_after_6 : decode cX1_after 6 = .ok (.iload_n 2, 1) := by decide +kernel
theorem dX1_after_7 : decode cX1_after 7 = .ok (.invokevirtual 44, 3) := by decide +kernel
theorem dX1_after_10 : decode cX1_after 10 = .ok (.ifCond .eq 13, 3) := by decide +kernel
theorem dX1_after_13 : decode cX1_after 13 = .ok (.aload_n 0, 1) := by decide +kernel
theorem dX1_after_14 : decode cX1_after 14 = .ok (.iload_n 1, 1) := by decide +kernel
theorem dX1_after_15 : decode cX1_after 15 = .ok (.iload_n 2, 1) := by decide +kernel
theorem dX1_after_16 : decode cX1_after 16 = .ok (.iload_n 3, 1) := by decide +kernel
theorem dX1_after_17 : decode cX1_after 17 = .ok (.invokevirtual 54, 3) := by decide +kernel
theorem dX1_after_20 : decode cX1_after 20 = .ok (.goto 4, 3) := by decide +kernel
theorem dX1_after_23 : decode cX1_after 23 = .ok (.iconst (-1), 1) := by decide +kernel
theorem dX1_after_24 : decode cX1_after 24 = .ok (.ireturn, 1) := by decide +kernel
abbrev cX1_load : ByteArray := prog_3_method_22_code
def yX1_load : MethodName := ⟨RX1, "load", "(I)I"⟩
theorem dX1_load_0 : decode cX1_load 0 = .ok (.aload_n 0, 1) := by decide +kernel
theorem dX1_load_1 : decode cX1_load 1 = .ok (.invokevirtual 41, 3) := by decide +kernel
theorem dX1_load_4 : decode cX1_load 4 = .ok (.iconst 0, 1) := by decide +kernel
theorem dX1_load_5 : decode cX1_load 5 = .ok (.istore_n 2, 1) := by decide +kernel
theorem dX1_load_6 : decode cX1_load 6 = .ok (.iconst 0, 1) := by decide +kernel
theorem dX1_load_7 : decode cX1_load 7 = .ok (.istore_n 3, 1) := by decide +kernel
theorem dX1_load_8 : decode cX1_load 8 = .ok (.iload_n 3, 1) := by decide +kernel
theorem dX1_load_9 : decode cX1_load 9 = .ok (.bipush 49, 2) := by decide +kernel
theorem dX1_load_11 : decode cX1_load 11 = .ok (.if_icmp .ge 80, 3) := by decide +kernel
theorem dX1_load_14 : decode cX1_load 14 = .ok (.iload_n 3, 1) := by decide +kernel
theorem dX1_load_15 : decode cX1_load 15 = .ok (.bipush 7, 2) := by decide +kernel
theorem dX1_load_17 : decode cX1_load 17 = .ok (.idiv, 1) := by decide +kernel
theorem dX1_load_18 : decode cX1_load 18 = .ok (.istore 4, 2) := by decide +kernel
theorem dX1_load_20 : decode cX1_load 20 = .ok (.iload_n 3, 1) := by decide +kernel
theorem dX1_load_21 : decode cX1_load 21 = .ok (.bipush 7, 2) := by decide +kernel
theorem dX1_load_23 : decode cX1_load 23 = .ok (.irem, 1) := by decide +kernel
theorem dX1_load_24 : decode cX1_load 24 = .ok (.istore 5, 2) := by decide +kernel
theorem dX1_load_26 : decode cX1_load 26 = .ok (.iload_n 2, 1) := by decide +kernel
theorem dX1_load_27 : decode cX1_load 27 = .ok (.aload_n 0, 1) := by decide +kernel
theorem dX1_load_28 : decode cX1_load 28 = .ok (.iload_n 1, 1) := by decide +kernel
theorem dX1_load_29 : decode cX1_load 29 = .ok (.invokevirtual 26, 3) := by decide +kernel
theorem dX1_load_32 : decode cX1_load 32 = .ok (.ifCond .eq 50, 3) := by decide +kernel
theorem dX1_load_35 : decode cX1_load 35 = .ok (.iload 4, 2) := by decide +kernel
theorem dX1_load_37 : decode cX1_load 37 = .ok (.iload 5, 2) := by decide +kernel
theorem dX1_load_39 : decode cX1_load 39 = .ok (.if_icmp .eq 43, 3) := by decide +kernel
theorem dX1_load_42 : decode cX1_load 42 = .ok (.iload 4, 2) := by decide +kernel
theorem dX1_load_44 : decode cX1_load 44 = .ok (.iload_n 1, 1) := by decide +kernel
theorem dX1_load_45 : decode cX1_load 45 = .ok (.if_icmp .eq 37, 3) := by decide +kernel
theorem dX1_load_48 : decode cX1_load 48 = .ok (.iload 5, 2) := by decide +kernel
theorem dX1_load_50 : decode cX1_load 50 = .ok (.iload_n 1, 1) := by decide +kernel
theorem dX1_load_51 : decode cX1_load 51 = .ok (.if_icmp .eq 31, 3) := by decide +kernel
theorem dX1_load_54 : decode cX1_load 54 = .ok (.aload_n 0, 1) := by decide +kernel
theorem dX1_load_55 : decode cX1_load 55 = .ok (.iload 4, 2) := by decide +kernel
theorem dX1_load_57 : decode cX1_load 57 = .ok (.iload 5, 2) := by decide +kernel
theorem dX1_load_59 : decode cX1_load 59 = .ok (.invokevirtual 44, 3) := by decide +kernel
theorem dX1_load_62 : decode cX1_load 62 = .ok (.ifCond .eq 20, 3) := by decide +kernel
theorem dX1_load_65 : decode cX1_load 65 = .ok (.aload_n 0, 1) := by decide +kernel
theorem dX1_load_66 : decode cX1_load 66 = .ok (.iload 4, 2) := by decide +kernel
theorem dX1_load_68 : decode cX1_load 68 = .ok (.iload 5, 2) := by decide +kernel
theorem dX1_load_70 : decode cX1_load 70 = .ok (.iload_n 1, 1) := by decide +kernel
theorem dX1_load_71 : decode cX1_load 71 = .ok (.iconst (-1), 1) := by decide +kernel
theorem dX1_load_72 : decode cX1_load 72 = .ok (.invokevirtual 58, 3) := by decide +kernel
theorem dX1_load_75 : decode cX1_load 75 = .ok (.ifCond .eq 7, 3) := by decide +kernel
theorem dX1_load_78 : decode cX1_load 78 = .ok (.iconst 1, 1) := by decide +kernel
theorem dX1_load_79 : decode cX1_load 79 = .ok (.goto 4, 3) := by decide +kernel
theorem dX1_load_82 : decode cX1_load 82 = .ok (.iconst 0, 1) := by decide +kernel
theorem dX1_load_83 : decode cX1_load 83 = .ok (.iadd, 1) := by decide +kernel
theorem dX1_load_84 : decode cX1_load 84 = .ok (.istore_n 2, 1) := by decide +kernel
theorem dX1_load_85 : decode cX1_load 85 = .ok (.iinc 3 1, 3) := by decide +kernel
theorem dX1_load_88 : decode cX1_load 88 = .ok (.goto (-80), 3) := by decide +kernel
theorem dX1_load_91 : decode cX1_load 91 = .ok (.iload_n 2, 1) := by decide +kernel
theorem dX1_load_92 : decode cX1_load 92 = .ok (.ireturn, 1) := by decide +kernel
abbrev cX1_passes : ByteArray := prog_3_method_21_code
def yX1_passes : MethodName := ⟨RX1, "passes", "(IIII)Z"⟩
theorem dX1_passes_0 : decode cX1_passes 0 = .ok (.iconst 0, 1) := by decide +kernel
theorem dX1_passes_1 : decode cX1_passes 1 = .ok (.istore 5, 2) := by decide +kernel
theorem dX1_passes_3 : decode cX1_passes 3 = .ok (.aload_n 0, 1) := by decide +kernel
theorem dX1_passes_4 : decode cX1_passes 4 = .ok (.iload_n 1, 1) := by decide +kernel
theorem dX1_passes_5 : decode cX1_passes 5 = .ok (.iload_n 2, 1) := by decide +kernel
theorem dX1_passes_6 : decode cX1_passes 6 = .ok (.invokevirtual 51, 3) := by decide +kernel
theorem dX1_passes_9 : decode cX1_passes 9 = .ok (.istore 6, 2) := by decide +kernel
theorem dX1_passes_11 : decode cX1_passes 11 = .ok (.iconst 0, 1) := by decide +kernel
theorem dX1_passes_12 : decode cX1_passes 12 = .ok (.istore 7, 2) := by decide +kernel
theorem dX1_passes_14 : decode cX1_passes 14 = .ok (.iload 7, 2) := by decide +kernel
theorem dX1_passes_16 : decode cX1_passes 16 = .ok (.iload 6, 2) := by decide +kernel
theorem dX1_passes_18 : decode cX1_passes 18 = .ok (.if_icmp .gt 72, 3) := by decide +kernel
theorem dX1_passes_21 : decode cX1_passes 21 = .ok (.aload_n 0, 1) := by decide +kernel
theorem dX1_passes_22 : decode cX1_passes 22 = .ok (.iload_n 1, 1) := by decide +kernel
theorem dX1_passes_23 : decode cX1_passes 23 = .ok (.iload_n 2, 1) := by decide +kernel
theorem dX1_passes_24 : decode cX1_passes 24 = .ok (.iload 7, 2) := by decide +kernel
theorem dX1_passes_26 : decode cX1_passes 26 = .ok (.invokevirtual 54, 3) := by decide +kernel
theorem dX1_passes_29 : decode cX1_passes 29 = .ok (.iload_n 3, 1) := by decide +kernel
theorem dX1_passes_30 : decode cX1_passes 30 = .ok (.if_icmp .ne 7, 3) := by decide +kernel
theorem dX1_passes_33 : decode cX1_passes 33 = .ok (.iconst 1, 1) := by decide +kernel
theorem dX1_passes_34 : decode cX1_passes 34 = .ok (.goto 4, 3) := by decide +kernel
theorem dX1_passes_37 : decode cX1_passes 37 = .ok (.iconst 0, 1) := by decide +kernel
theorem dX1_passes_38 : decode cX1_passes 38 = .ok (.istore 8, 2) := by decide +kernel
theorem dX1_passes_40 : decode cX1_passes 40 = .ok (.iload 5, 2) := by decide +kernel
theorem dX1_passes_42 : decode cX1_passes 42 = .ok (.ifCond .ne 35, 3) := by decide +kernel
theorem dX1_passes_45 : decode cX1_passes 45 = .ok (.iload 8, 2) := by decide +kernel
theorem dX1_passes_47 : decode cX1_passes 47 = .ok (.ifCond .eq 34, 3) := by decide +kernel
theorem dX1_passes_50 : decode cX1_passes 50 = .ok (.iload 4, 2) := by decide +kernel
theorem dX1_passes_52 : decode cX1_passes 52 = .ok (.ifCond .lt 25, 3) := by decide +kernel
theorem dX1_passes_55 : decode cX1_passes 55 = .ok (.iload 7, 2) := by decide +kernel
theorem dX1_passes_57 : decode cX1_passes 57 = .ok (.iload 6, 2) := by decide +kernel
theorem dX1_passes_59 : decode cX1_passes 59 = .ok (.if_icmp .ge 22, 3) := by decide +kernel
theorem dX1_passes_62 : decode cX1_passes 62 = .ok (.aload_n 0, 1) := by decide +kernel
theorem dX1_passes_63 : decode cX1_passes 63 = .ok (.iload_n 1, 1) := by decide +kernel
theorem dX1_passes_64 : decode cX1_passes 64 = .ok (.iload_n 2, 1) := by decide +kernel
theorem dX1_passes_65 : decode cX1_passes 65 = .ok (.iload 7, 2) := by decide +kernel
theorem dX1_passes_67 : decode cX1_passes 67 = .ok (.iconst 1, 1) := by decide +kernel
theorem dX1_passes_68 : decode cX1_passes 68 = .ok (.iadd, 1) := by decide +kernel
theorem dX1_passes_69 : decode cX1_passes 69 = .ok (.invokevirtual 54, 3) := by decide +kernel
theorem dX1_passes_72 : decode cX1_passes 72 = .ok (.iload 4, 2) := by decide +kernel
theorem dX1_passes_74 : decode cX1_passes 74 = .ok (.if_icmp .ne 7, 3) := by decide +kernel
theorem dX1_passes_77 : decode cX1_passes 77 = .ok (.iconst 1, 1) := by decide +kernel
theorem dX1_passes_78 : decode cX1_passes 78 = .ok (.goto 4, 3) := by decide +kernel
theorem dX1_passes_81 : decode cX1_passes 81 = .ok (.iconst 0, 1) := by decide +kernel
theorem dX1_passes_82 : decode cX1_passes 82 = .ok (.istore 5, 2) := by decide +kernel
theorem dX1_passes_84 : decode cX1_passes 84 = .ok (.iinc 7 1, 3) := by decide +kernel
theorem dX1_passes_87 : decode cX1_passes 87 = .ok (.goto (-73), 3) := by decide +kernel
theorem dX1_passes_90 : decode cX1_passes 90 = .ok (.iload 5, 2) := by decide +kernel
theorem dX1_passes_92 : decode cX1_passes 92 = .ok (.ireturn, 1) := by decide +kernel
abbrev cX1_linkLoad : ByteArray := prog_3_method_23_code
def yX1_linkLoad : MethodName := ⟨RX1, "linkLoad", "(II)I"⟩
theorem dX1_linkLoad_0 : decode cX1_linkLoad 0 = .ok (.aload_n 0, 1) := by decide +kernel
theorem dX1_linkLoad_1 : decode cX1_linkLoad 1 = .ok (.invokevirtual 41, 3) := by decide +kernel
theorem dX1_linkLoad_4 : decode cX1_linkLoad 4 = .ok (.iconst 0, 1) := by decide +kernel
theorem dX1_linkLoad_5 : decode cX1_linkLoad 5 = .ok (.istore_n 3, 1) := by decide +kernel
theorem dX1_linkLoad_6 : decode cX1_linkLoad 6 = .ok (.iconst 0, 1) := by decide +kernel
theorem dX1_linkLoad_7 : decode cX1_linkLoad 7 = .ok (.istore 4, 2) := by decide +kernel
theorem dX1_linkLoad_9 : decode cX1_linkLoad 9 = .ok (.iload 4, 2) := by decide +kernel
theorem dX1_linkLoad_11 : decode cX1_linkLoad 11 = .ok (.bipush 49, 2) := by decide +kernel
theorem dX1_linkLoad_13 : decode cX1_linkLoad 13 = .ok (.if_icmp .ge 84, 3) := by decide +kernel
theorem dX1_linkLoad_16 : decode cX1_linkLoad 16 = .ok (.aload_n 0, 1) := by decide +kernel
theorem dX1_linkLoad_17 : decode cX1_linkLoad 17 = .ok (.iload_n 1, 1) := by decide +kernel
theorem dX1_linkLoad_18 : decode cX1_linkLoad 18 = .ok (.iload_n 2, 1) := by decide +kernel
theorem dX1_linkLoad_19 : decode cX1_linkLoad 19 = .ok (.invokevirtual 38, 3) := by decide +kernel
theorem dX1_linkLoad_22 : decode cX1_linkLoad 22 = .ok (.ifCond .eq 75, 3) := by decide +kernel
theorem dX1_linkLoad_25 : decode cX1_linkLoad 25 = .ok (.iload 4, 2) := by decide +kernel
theorem dX1_linkLoad_27 : decode cX1_linkLoad 27 = .ok (.bipush 7, 2) := by decide +kernel
theorem dX1_linkLoad_29 : decode cX1_linkLoad 29 = .ok (.idiv, 1) := by decide +kernel
theorem dX1_linkLoad_30 : decode cX1_linkLoad 30 = .ok (.istore 5, 2) := by decide +kernel
theorem dX1_linkLoad_32 : decode cX1_linkLoad 32 = .ok (.iload 4, 2) := by decide +kernel
theorem dX1_linkLoad_34 : decode cX1_linkLoad 34 = .ok (.bipush 7, 2) := by decide +kernel
theorem dX1_linkLoad_36 : decode cX1_linkLoad 36 = .ok (.irem, 1) := by decide +kernel
theorem dX1_linkLoad_37 : decode cX1_linkLoad 37 = .ok (.istore 6, 2) := by decide +kernel
theorem dX1_linkLoad_39 : decode cX1_linkLoad 39 = .ok (.iload_n 3, 1) := by decide +kernel
theorem dX1_linkLoad_40 : decode cX1_linkLoad 40 = .ok (.iload 5, 2) := by decide +kernel
theorem dX1_linkLoad_42 : decode cX1_linkLoad 42 = .ok (.iload 6, 2) := by decide +kernel
theorem dX1_linkLoad_44 : decode cX1_linkLoad 44 = .ok (.if_icmp .eq 44, 3) := by decide +kernel
theorem dX1_linkLoad_47 : decode cX1_linkLoad 47 = .ok (.aload_n 0, 1) := by decide +kernel
theorem dX1_linkLoad_48 : decode cX1_linkLoad 48 = .ok (.iload 5, 2) := by decide +kernel
theorem dX1_linkLoad_50 : decode cX1_linkLoad 50 = .ok (.iload 6, 2) := by decide +kernel
theorem dX1_linkLoad_52 : decode cX1_linkLoad 52 = .ok (.invokevirtual 44, 3) := by decide +kernel
theorem dX1_linkLoad_55 : decode cX1_linkLoad 55 = .ok (.ifCond .eq 33, 3) := by decide +kernel
theorem dX1_linkLoad_58 : decode cX1_linkLoad 58 = .ok (.aload_n 0, 1) := by decide +kernel
theorem dX1_linkLoad_59 : decode cX1_linkLoad 59 = .ok (.iload 5, 2) := by decide +kernel
theorem dX1_linkLoad_61 : decode cX1_linkLoad 61 = .ok (.iload 6, 2) := by decide +kernel
theorem dX1_linkLoad_63 : decode cX1_linkLoad 63 = .ok (.iload_n 1, 1) := by decide +kernel
theorem dX1_linkLoad_64 : decode cX1_linkLoad 64 = .ok (.iload_n 2, 1) := by decide +kernel
theorem dX1_linkLoad_65 : decode cX1_linkLoad 65 = .ok (.invokevirtual 58, 3) := by decide +kernel
theorem dX1_linkLoad_68 : decode cX1_linkLoad 68 = .ok (.ifCond .ne 16, 3) := by decide +kernel
theorem dX1_linkLoad_71 : decode cX1_linkLoad 71 = .ok (.aload_n 0, 1) := by decide +kernel
theorem dX1_linkLoad_72 : decode cX1_linkLoad 72 = .ok (.iload 5, 2) := by decide +kernel
theorem dX1_linkLoad_74 : decode cX1_linkLoad 74 = .ok (.iload 6, 2) := by decide +kernel
theorem dX1_linkLoad_76 : decode cX1_linkLoad 76 = .ok (.iload_n 2, 1) := by decide +kernel
theorem dX1_linkLoad_77 : decode cX1_linkLoad 77 = .ok (.iload_n 1, 1) := by decide +kernel
theorem dX1_linkLoad_78 : decode cX1_linkLoad 78 = .ok (.invokevirtual 58, 3) := by decide +kernel
theorem dX1_linkLoad_81 : decode cX1_linkLoad 81 = .ok (.ifCond .eq 7, 3) := by decide +kernel
theorem dX1_linkLoad_84 : decode cX1_linkLoad 84 = .ok (.iconst 1, 1) := by decide +kernel
theorem dX1_linkLoad_85 : decode cX1_linkLoad 85 = .ok (.goto 4, 3) := by decide +kernel
theorem dX1_linkLoad_88 : decode cX1_linkLoad 88 = .ok (.iconst 0, 1) := by decide +kernel
theorem dX1_linkLoad_89 : decode cX1_linkLoad 89 = .ok (.iadd, 1) := by decide +kernel
theorem dX1_linkLoad_90 : decode cX1_linkLoad 90 = .ok (.istore_n 3, 1) := by decide +kernel
theorem dX1_linkLoad_91 : decode cX1_linkLoad 91 = .ok (.iinc 4 1, 3) := by decide +kernel
theorem dX1_linkLoad_94 : decode cX1_linkLoad 94 = .ok (.goto (-85), 3) := by decide +kernel
theorem dX1_linkLoad_97 : decode cX1_linkLoad 97 = .ok (.iload_n 3, 1) := by decide +kernel
theorem dX1_linkLoad_98 : decode cX1_linkLoad 98 = .ok (.ireturn, 1) := by decide +kernel
abbrev cX1_reachable : ByteArray := prog_3_method_24_code
def yX1_reachable : MethodName := ⟨RX1, "reachable", "(I)I"⟩
theorem dX1_reachable_0 : decode cX1_reachable 0 = .ok (.aload_n 0, 1) := by decide +kernel
theorem dX1_reachable_1 : decode cX1_reachable 1 = .ok (.invokevirtual 41, 3) := by decide +kernel
theorem dX1_reachable_4 : decode cX1_reachable 4 = .ok (.iconst 0, 1) := by decide +kernel
theorem dX1_reachable_5 : decode cX1_reachable 5 = .ok (.istore_n 2, 1) := by decide +kernel
theorem dX1_reachable_6 : decode cX1_reachable 6 = .ok (.iconst 0, 1) := by decide +kernel
theorem dX1_reachable_7 : decode cX1_reachable 7 = .ok (.istore_n 3, 1) := by decide +kernel
theorem dX1_reachable_8 : decode cX1_reachable 8 = .ok (.iload_n 3, 1) := by decide +kernel
theorem dX1_reachable_9 : decode cX1_reachable 9 = .ok (.bipush 7, 2) := by decide +kernel
theorem dX1_reachable_11 : decode cX1_reachable 11 = .ok (.if_icmp .ge 33, 3) := by decide +kernel
theorem dX1_reachable_14 : decode cX1_reachable 14 = .ok (.iload_n 2, 1) := by decide +kernel
theorem dX1_reachable_15 : decode cX1_reachable 15 = .ok (.iload_n 3, 1) := by decide +kernel
theorem dX1_reachable_16 : decode cX1_reachable 16 = .ok (.iload_n 1, 1) := by decide +kernel
theorem dX1_reachable_17 : decode cX1_reachable 17 = .ok (.if_icmp .eq 18, 3) := by decide +kernel
theorem dX1_reachable_20 : decode cX1_reachable 20 = .ok (.aload_n 0, 1) := by decide +kernel
theorem dX1_reachable_21 : decode cX1_reachable 21 = .ok (.iload_n 1, 1) := by decide +kernel
theorem dX1_reachable_22 : decode cX1_reachable 22 = .ok (.iload_n 3, 1) := by decide +kernel
theorem dX1_reachable_23 : decode cX1_reachable 23 = .ok (.invokevirtual 44, 3) := by decide +kernel
theorem dX1_reachable_26 : decode cX1_reachable 26 = .ok (.ifCond .eq 9, 3) := by decide +kernel
theorem dX1_reachable_29 : decode cX1_reachable 29 = .ok (.iconst 1, 1) := by decide +kernel
theorem dX1_reachable_30 : decode cX1_reachable 30 = .ok (.iload_n 3, 1) := by decide +kernel
theorem dX1_reachable_31 : decode cX1_reachable 31 = .ok (.ishl, 1) := by decide +kernel
theorem dX1_reachable_32 : decode cX1_reachable 32 = .ok (.goto 4, 3) := by decide +kernel
theorem dX1_reachable_35 : decode cX1_reachable 35 = .ok (.iconst 0, 1) := by decide +kernel
theorem dX1_reachable_36 : decode cX1_reachable 36 = .ok (.ior, 1) := by decide +kernel
theorem dX1_reachable_37 : decode cX1_reachable 37 = .ok (.istore_n 2, 1) := by decide +kernel
theorem dX1_reachable_38 : decode cX1_reachable 38 = .ok (.iinc 3 1, 3) := by decide +kernel
theorem dX1_reachable_41 : decode cX1_reachable 41 = .ok (.goto (-33), 3) := by decide +kernel
theorem dX1_reachable_44 : decode cX1_reachable 44 = .ok (.iload_n 2, 1) := by decide +kernel
theorem dX1_reachable_45 : decode cX1_reachable 45 = .ok (.ireturn, 1) := by decide +kernel
abbrev cX1_farthest : ByteArray := prog_3_method_25_code
def yX1_farthest : MethodName := ⟨RX1, "farthest", "(I)I"⟩
theorem dX1_farthest_0 : decode cX1_farthest 0 = .ok (.aload_n 0, 1) := by decide +kernel
theorem dX1_farthest_1 : decode cX1_farthest 1 = .ok (.invokevirtual 41, 3) := by decide +kernel
theorem dX1_farthest_4 : decode cX1_farthest 4 = .ok (.iconst (-1), 1) := by decide +kernel
theorem dX1_farthest_5 : decode cX1_farthest 5 = .ok (.istore_n 2, 1) := by decide +kernel
theorem dX1_farthest_6 : decode cX1_farthest 6 = .ok (.iconst 0, 1) := by decide +kernel
theorem dX1_farthest_7 : decode cX1_farthest 7 = .ok (.istore_n 3, 1) := by decide +kernel
theorem dX1_farthest_8 : decode cX1_farthest 8 = .ok (.iload_n 3, 1) := by decide +kernel
theorem dX1_farthest_9 : decode cX1_farthest 9 = .ok (.bipush 7, 2) := by decide +kernel
theorem dX1_farthest_11 : decode cX1_farthest 11 = .ok (.if_icmp .ge 49, 3) := by decide +kernel
theorem dX1_farthest_14 : decode cX1_farthest 14 = .ok (.aload_n 0, 1) := by decide +kernel
theorem dX1_farthest_15 : decode cX1_farthest 15 = .ok (.iload_n 1, 1) := by decide +kernel
theorem dX1_farthest_16 : decode cX1_farthest 16 = .ok (.iload_n 3, 1) := by decide +kernel
theorem dX1_farthest_17 : decode cX1_farthest 17 = .ok (.invokevirtual 44, 3) := by decide +kernel
theorem dX1_farthest_20 : decode cX1_farthest 20 = .ok (.ifCond .eq 32, 3) := by decide +kernel
theorem dX1_farthest_23 : decode cX1_farthest 23 = .ok (.aload_n 0, 1) := by decide +kernel
theorem dX1_farthest_24 : decode cX1_farthest 24 = .ok (.getfield 20, 3) := by decide +kernel
theorem dX1_farthest_27 : decode cX1_farthest 27 = .ok (.bipush 7, 2) := by decide +kernel
theorem dX1_farthest_29 : decode cX1_farthest 29 = .ok (.iload_n 1, 1) := by decide +kernel
theorem dX1_farthest_30 : decode cX1_farthest 30 = .ok (.imul, 1) := by decide +kernel
theorem dX1_farthest_31 : decode cX1_farthest 31 = .ok (.iload_n 3, 1) := by decide +kernel
theorem dX1_farthest_32 : decode cX1_farthest 32 = .ok (.iadd, 1) := by decide +kernel
theorem dX1_farthest_33 : decode cX1_farthest 33 = .ok (.iaload, 1) := by decide +kernel
theorem dX1_farthest_34 : decode cX1_farthest 34 = .ok (.iload_n 2, 1) := by decide +kernel
theorem dX1_farthest_35 : decode cX1_farthest 35 = .ok (.if_icmp .le 17, 3) := by decide +kernel
theorem dX1_farthest_38 : decode cX1_farthest 38 = .ok (.aload_n 0, 1) := by decide +kernel
theorem dX1_farthest_39 : decode cX1_farthest 39 = .ok (.getfield 20, 3) := by decide +kernel
theorem dX1_farthest_42 : decode cX1_farthest 42 = .ok (.bipush 7, 2) := by decide +kernel
theorem dX1_farthest_44 : decode cX1_farthest 44 = .ok (.iload_n 1, 1) := by decide +kernel
theorem dX1_farthest_45 : decode cX1_farthest 45 = .ok (.imul, 1) := by decide +kernel
theorem dX1_farthest_46 : decode cX1_farthest 46 = .ok (.iload_n 3, 1) := by decide +kernel
theorem dX1_farthest_47 : decode cX1_farthest 47 = .ok (.iadd, 1) := by decide +kernel
theorem dX1_farthest_48 : decode cX1_farthest 48 = .ok (.iaload, 1) := by decide +kernel
theorem dX1_farthest_49 : decode cX1_farthest 49 = .ok (.goto 4, 3) := by decide +kernel
theorem dX1_farthest_52 : decode cX1_farthest 52 = .ok (.iload_n 2, 1) := by decide +kernel
theorem dX1_farthest_53 : decode cX1_farthest 53 = .ok (.istore_n 2, 1) := by decide +kernel
theorem dX1_farthest_54 : decode cX1_farthest 54 = .ok (.iinc 3 1, 3) := by decide +kernel
theorem dX1_farthest_57 : decode cX1_farthest 57 = .ok (.goto (-49), 3) := by decide +kernel
theorem dX1_farthest_60 : decode cX1_farthest 60 = .ok (.iload_n 2, 1) := by decide +kernel
theorem dX1_farthest_61 : decode cX1_farthest 61 = .ok (.ireturn, 1) := by decide +kernel
abbrev cX1_impact : ByteArray := prog_3_method_27_code
def yX1_impact : MethodName := ⟨RX1, "impact", "(II)I"⟩
theorem dX1_impact_0 : decode cX1_impact 0 = .ok (.aload_n 0, 1) := by decide +kernel
theorem dX1_impact_1 : decode cX1_impact 1 = .ok (.iload_n 1, 1) := by decide +kernel
theorem dX1_impact_2 : decode cX1_impact 2 = .ok (.iload_n 2, 1) := by decide +kernel
theorem dX1_impact_3 : decode cX1_impact 3 = .ok (.invokevirtual 30, 3) := by decide +kernel
theorem dX1_impact_6 : decode cX1_impact 6 = .ok (.ifCond .ne 5, 3) := by decide +kernel
theorem dX1_impact_9 : decode cX1_impact 9 = .ok (.iconst 0, 1) := by decide +kernel
theorem dX1_impact_10 : decode cX1_impact 10 = .ok (.ireturn, 1) := by decide +kernel
theorem dX1_impact_11 : decode cX1_impact 11 = .ok (.aload_n 0, 1) := by decide +kernel
theorem dX1_impact_12 : decode cX1_impact 12 = .ok (.invokevirtual 41, 3) := by decide +kernel
theorem dX1_impact_15 : decode cX1_impact 15 = .ok (.iconst 0, 1) := by decide +kernel
theorem dX1_impact_16 : decode cX1_impact 16 = .ok (.istore_n 3, 1) := by decide +kernel
theorem dX1_impact_17 : decode cX1_impact 17 = .ok (.iload_n 3, 1) := by decide +kernel
theorem dX1_impact_18 : decode cX1_impact 18 = .ok (.bipush 49, 2) := by decide +kernel
theorem dX1_impact_20 : decode cX1_impact 20 = .ok (.if_icmp .ge 27, 3) := by decide +kernel
theorem dX1_impact_23 : decode cX1_impact 23 = .ok (.aload_n 0, 1) := by decide +kernel
theorem dX1_impact_24 : decode cX1_impact 24 = .ok (.getfield 23, 3) := by decide +kernel
theorem dX1_impact_27 : decode cX1_impact 27 = .ok (.iload_n 3, 1) := by decide +kernel
theorem dX1_impact_28 : decode cX1_impact 28 = .ok (.aload_n 0, 1) := by decide +kernel
theorem dX1_impact_29 : decode cX1_impact 29 = .ok (.iload_n 3, 1) := by decide +kernel
theorem dX1_impact_30 : decode cX1_impact 30 = .ok (.bipush 7, 2) := by decide +kernel
theorem dX1_impact_32 : decode cX1_impact 32 = .ok (.idiv, 1) := by decide +kernel
theorem dX1_impact_33 : decode cX1_impact 33 = .ok (.iload_n 3, 1) := by decide +kernel
theorem dX1_impact_34 : decode cX1_impact 34 = .ok (.bipush 7, 2) := by decide +kernel
theorem dX1_impact_36 : decode cX1_impact 36 = .ok (.irem, 1) := by decide +kernel
theorem dX1_impact_37 : decode cX1_impact 37 = .ok (.invokevirtual 62, 3) := by decide +kernel
theorem dX1_impact_40 : decode cX1_impact 40 = .ok (.iastore, 1) := by decide +kernel
theorem dX1_impact_41 : decode cX1_impact 41 = .ok (.iinc 3 1, 3) := by decide +kernel
theorem dX1_impact_44 : decode cX1_impact 44 = .ok (.goto (-27), 3) := by decide +kernel
theorem dX1_impact_47 : decode cX1_impact 47 = .ok (.aload_n 0, 1) := by decide +kernel
theorem dX1_impact_48 : decode cX1_impact 48 = .ok (.getfield 13, 3) := by decide +kernel
theorem dX1_impact_51 : decode cX1_impact 51 = .ok (.bipush 7, 2) := by decide +kernel
theorem dX1_impact_53 : decode cX1_impact 53 = .ok (.iload_n 1, 1) := by decide +kernel
theorem dX1_impact_54 : decode cX1_impact 54 = .ok (.imul, 1) := by decide +kernel
theorem dX1_impact_55 : decode cX1_impact 55 = .ok (.iload_n 2, 1) := by decide +kernel
theorem dX1_impact_56 : decode cX1_impact 56 = .ok (.iadd, 1) := by decide +kernel
theorem dX1_impact_57 : decode cX1_impact 57 = .ok (.baload, 1) := by decide +kernel
theorem dX1_impact_58 : decode cX1_impact 58 = .ok (.istore_n 3, 1) := by decide +kernel
theorem dX1_impact_59 : decode cX1_impact 59 = .ok (.aload_n 0, 1) := by decide +kernel
theorem dX1_impact_60 : decode cX1_impact 60 = .ok (.iload_n 1, 1) := by decide +kernel
theorem dX1_impact_61 : decode cX1_impact 61 = .ok (.iload_n 2, 1) := by decide +kernel
theorem dX1_impact_62 : decode cX1_impact 62 = .ok (.iload_n 3, 1) := by decide +kernel
theorem dX1_impact_63 : decode cX1_impact 63 = .ok (.ifCond .ne 7, 3) := by decide +kernel
theorem dX1_impact_66 : decode cX1_impact 66 = .ok (.iconst 1, 1) := by decide +kernel
theorem dX1_impact_67 : decode cX1_impact 67 = .ok (.goto 4, 3) := by decide +kernel
theorem dX1_impact_70 : decode cX1_impact 70 = .ok (.iconst 0, 1) := by decide +kernel
theorem dX1_impact_71 : decode cX1_impact 71 = .ok (.invokevirtual 65, 3) := by decide +kernel
theorem dX1_impact_74 : decode cX1_impact 74 = .ok (.pop, 1) := by decide +kernel
theorem dX1_impact_75 : decode cX1_impact 75 = .ok (.aload_n 0, 1) := by decide +kernel
theorem dX1_impact_76 : decode cX1_impact 76 = .ok (.invokevirtual 41, 3) := by decide +kernel
theorem dX1_impact_79 : decode cX1_impact 79 = .ok (.iconst 0, 1) := by decide +kernel
theorem dX1_impact_80 : decode cX1_impact 80 = .ok (.istore 4, 2) := by decide +kernel
theorem dX1_impact_82 : decode cX1_impact 82 = .ok (.iconst 0, 1) := by decide +kernel
theorem dX1_impact_83 : decode cX1_impact 83 = .ok (.istore 5, 2) := by decide +kernel
theorem dX1_impact_85 : decode cX1_impact 85 = .ok (.iload 5, 2) := by decide +kernel
theorem dX1_impact_87 : decode cX1_impact 87 = .ok (.bipush 49, 2) := by decide +kernel
theorem dX1_impact_89 : decode cX1_impact 89 = .ok (.if_icmp .ge 43, 3) := by decide +kernel
theorem dX1_impact_92 : decode cX1_impact 92 = .ok (.iload 4, 2) := by decide +kernel
theorem dX1_impact_94 : decode cX1_impact 94 = .ok (.aload_n 0, 1) := by decide +kernel
theorem dX1_impact_95 : decode cX1_impact 95 = .ok (.iload 5, 2) := by decide +kernel
theorem dX1_impact_97 : decode cX1_impact 97 = .ok (.bipush 7, 2) := by decide +kernel
theorem dX1_impact_99 : decode cX1_impact 99 = .ok (.idiv, 1) := by decide +kernel
theorem dX1_impact_100 : decode cX1_impact 100 = .ok (.iload 5, 2) := by decide +kernel
theorem dX1_impact_102 : decode cX1_impact 102 = .ok (.bipush 7, 2) := by decide +kernel
theorem dX1_impact_104 : decode cX1_impact 104 = .ok (.irem, 1) := by decide +kernel
theorem dX1_impact_105 : decode cX1_impact 105 = .ok (.invokevirtual 62, 3) := by decide +kernel
theorem dX1_impact_108 : decode cX1_impact 108 = .ok (.aload_n 0, 1) := by decide +kernel
theorem dX1_impact_109 : decode cX1_impact 109 = .ok (.getfield 23, 3) := by decide +kernel
theorem dX1_impact_112 : decode cX1_impact 112 = .ok (.iload 5, 2) := by decide +kernel
theorem dX1_impact_114 : decode cX1_impact 114 = .ok (.iaload, 1) := by decide +kernel
theorem dX1_impact_115 : decode cX1_impact 115 = .ok (.if_icmp .ne 7, 3) := by decide +kernel
theorem dX1_impact_118 : decode cX1_impact 118 = .ok (.iconst 0, 1) := by decide +kernel
theorem dX1_impact_119 : decode cX1_impact 119 = .ok (.goto 4, 3) := by decide +kernel
theorem dX1_impact_122 : decode cX1_impact 122 = .ok (.iconst 1, 1) := by decide +kernel
theorem dX1_impact_123 : decode cX1_impact 123 = .ok (.iadd, 1) := by decide +kernel
theorem dX1_impact_124 : decode cX1_impact 124 = .ok (.istore 4, 2) := by decide +kernel
theorem dX1_impact_126 : decode cX1_impact 126 = .ok (.iinc 5 1, 3) := by decide +kernel
theorem dX1_impact_129 : decode cX1_impact 129 = .ok (.goto (-44), 3) := by decide +kernel
theorem dX1_impact_132 : decode cX1_impact 132 = .ok (.aload_n 0, 1) := by decide +kernel
theorem dX1_impact_133 : decode cX1_impact 133 = .ok (.iload_n 1, 1) := by decide +kernel
theorem dX1_impact_134 : decode cX1_impact 134 = .ok (.iload_n 2, 1) := by decide +kernel
theorem dX1_impact_135 : decode cX1_impact 135 = .ok (.iload_n 3, 1) := by decide +kernel
theorem dX1_impact_136 : decode cX1_impact 136 = .ok (.invokevirtual 65, 3) := by decide +kernel
theorem dX1_impact_139 : decode cX1_impact 139 = .ok (.pop, 1) := by decide +kernel
theorem dX1_impact_140 : decode cX1_impact 140 = .ok (.iload 4, 2) := by decide +kernel
theorem dX1_impact_142 : decode cX1_impact 142 = .ok (.ireturn, 1) := by decide +kernel
abbrev cX1_route : ByteArray := prog_3_method_26_code
def yX1_route : MethodName := ⟨RX1, "route", "(II)I"⟩
theorem dX1_route_0 : decode cX1_route 0 = .ok (.aload_n 0, 1) := by decide +kernel
theorem dX1_route_1 : decode cX1_route 1 = .ok (.iload_n 1, 1) := by decide +kernel
theorem dX1_route_2 : decode cX1_route 2 = .ok (.iload_n 2, 1) := by decide +kernel
theorem dX1_route_3 : decode cX1_route 3 = .ok (.invokevirtual 44, 3) := by decide +kernel
theorem dX1_route_6 : decode cX1_route 6 = .ok (.ifCond .ne 5, 3) := by decide +kernel
theorem dX1_route_9 : decode cX1_route 9 = .ok (.iconst 0, 1) := by decide +kernel
theorem dX1_route_10 : decode cX1_route 10 = .ok (.ireturn, 1) := by decide +kernel
theorem dX1_route_11 : decode cX1_route 11 = .ok (.aload_n 0, 1) := by decide +kernel
theorem dX1_route_12 : decode cX1_route 12 = .ok (.iload_n 1, 1) := by decide +kernel
theorem dX1_route_13 : decode cX1_route 13 = .ok (.iload_n 2, 1) := by decide +kernel
theorem dX1_route_14 : decode cX1_route 14 = .ok (.invokevirtual 51, 3) := by decide +kernel
theorem dX1_route_17 : decode cX1_route 17 = .ok (.istore_n 3, 1) := by decide +kernel
theorem dX1_route_18 : decode cX1_route 18 = .ok (.iconst 1, 1) := by decide +kernel
theorem dX1_route_19 : decode cX1_route 19 = .ok (.istore 4, 2) := by decide +kernel
theorem dX1_route_21 : decode cX1_route 21 = .ok (.iconst 0, 1) := by decide +kernel
theorem dX1_route_22 : decode cX1_route 22 = .ok (.istore 5, 2) := by decide +kernel
theorem dX1_route_24 : decode cX1_route 24 = .ok (.iload 5, 2) := by decide +kernel
theorem dX1_route_26 : decode cX1_route 26 = .ok (.iload_n 3, 1) := by decide +kernel
theorem dX1_route_27 : decode cX1_route 27 = .ok (.if_icmp .gt 25, 3) := by decide +kernel
theorem dX1_route_30 : decode cX1_route 30 = .ok (.bipush 8, 2) := by decide +kernel
theorem dX1_route_32 : decode cX1_route 32 = .ok (.iload 4, 2) := by decide +kernel
theorem dX1_route_34 : decode cX1_route 34 = .ok (.imul, 1) := by decide +kernel
theorem dX1_route_35 : decode cX1_route 35 = .ok (.aload_n 0, 1) := by decide +kernel
theorem dX1_route_36 : decode cX1_route 36 = .ok (.iload_n 1, 1) := by decide +kernel
theorem dX1_route_37 : decode cX1_route 37 = .ok (.iload_n 2, 1) := by decide +kernel
theorem dX1_route_38 : decode cX1_route 38 = .ok (.iload 5, 2) := by decide +kernel
theorem dX1_route_40 : decode cX1_route 40 = .ok (.invokevirtual 54, 3) := by decide +kernel
theorem dX1_route_43 : decode cX1_route 43 = .ok (.iadd, 1) := by decide +kernel
theorem dX1_route_44 : decode cX1_route 44 = .ok (.istore 4, 2) := by decide +kernel
theorem dX1_route_46 : decode cX1_route 46 = .ok (.iinc 5 1, 3) := by decide +kernel
theorem dX1_route_49 : decode cX1_route 49 = .ok (.goto (-25), 3) := by decide +kernel
theorem dX1_route_52 : decode cX1_route 52 = .ok (.iload 4, 2) := by decide +kernel
theorem dX1_route_54 : decode cX1_route 54 = .ok (.ireturn, 1) := by decide +kernel
theorem q28 : (Jvm.Cond.initialized "LabelNetModel") ∈ lw_all := lw_g (lw_at lw_m1 2 rfl) rfl
theorem q209 : (Jvm.Cond.instantiable "LabelNetModel" (5 : Nat)) ∈ lw_all := lw_g (lw_at lw_m1 183 rfl) rfl
theorem q211 : (Jvm.Cond.instanceMethod ({ cls := "LabelNetModel", name := "<init>", desc := "()V" } : Jvm.MethodName)) ∈ lw_all := lw_g (lw_at lw_m1 185 rfl) rfl
theorem q212 : (Jvm.Cond.code ({ cls := "LabelNetModel", name := "<init>", desc := "()V" } : Jvm.MethodName) prog_3_method_1_code (2 : Nat) (Option.none : Option Jvm.ClassFile.FieldType)) ∈ lw_all := lw_g (lw_at lw_m1 186 rfl) rfl
theorem q213 : (Jvm.Cond.methodLink "LabelNetModel" (1 : Nat) ({ cls := "java/lang/Object", name := "<init>", desc := "()V" } : Jvm.MethodName)) ∈ lw_all := lw_g (lw_at lw_m1 187 rfl) rfl
theorem q214 : (Jvm.Cond.fieldLink "LabelNetModel" (7 : Nat) "LabelNetModel" "price" "[I") ∈ lw_all := lw_g (lw_at lw_m1 188 rfl) rfl
theorem q215 : (Jvm.Cond.fieldLink "LabelNetModel" (13 : Nat) "LabelNetModel" "linkUp" "[Z") ∈ lw_all := lw_g (lw_at lw_m1 189 rfl) rfl
theorem q216 : (Jvm.Cond.fieldLink "LabelNetModel" (17 : Nat) "LabelNetModel" "on" "[Z") ∈ lw_all := lw_g (lw_at lw_m1 190 rfl) rfl
theorem q217 : (Jvm.Cond.fieldLink "LabelNetModel" (20 : Nat) "LabelNetModel" "dist" "[I") ∈ lw_all := lw_g (lw_at lw_m1 191 rfl) rfl
theorem q218 : (Jvm.Cond.fieldLink "LabelNetModel" (23 : Nat) "LabelNetModel" "before" "[I") ∈ lw_all := lw_g (lw_at lw_m1 192 rfl) rfl
theorem q219 : (Jvm.Cond.lays "LabelNetModel" "LabelNetModel" "price" "[I") ∈ lw_all := lw_g (lw_at lw_m1 193 rfl) rfl
theorem q220 : (Jvm.Cond.soleField "LabelNetModel" "price") ∈ lw_all := lw_g (lw_at lw_m1 194 rfl) rfl
theorem q221 : (Jvm.Cond.lays "LabelNetModel" "LabelNetModel" "linkUp" "[Z") ∈ lw_all := lw_g (lw_at lw_m1 195 rfl) rfl
theorem q222 : (Jvm.Cond.soleField "LabelNetModel" "linkUp") ∈ lw_all := lw_g (lw_at lw_m1 196 rfl) rfl
theorem q223 : (Jvm.Cond.lays "LabelNetModel" "LabelNetModel" "on" "[Z") ∈ lw_all := lw_g (lw_at lw_m1 197 rfl) rfl
theorem q224 : (Jvm.Cond.soleField "LabelNetModel" "on") ∈ lw_all := lw_g (lw_at lw_m1 198 rfl) rfl
theorem q225 : (Jvm.Cond.lays "LabelNetModel" "LabelNetModel" "dist" "[I") ∈ lw_all := lw_g (lw_at lw_m1 199 rfl) rfl
theorem q226 : (Jvm.Cond.soleField "LabelNetModel" "dist") ∈ lw_all := lw_g (lw_at lw_m1 200 rfl) rfl
theorem q227 : (Jvm.Cond.lays "LabelNetModel" "LabelNetModel" "before" "[I") ∈ lw_all := lw_g (lw_at lw_m1 201 rfl) rfl
theorem q228 : (Jvm.Cond.soleField "LabelNetModel" "before") ∈ lw_all := lw_g (lw_at lw_m1 202 rfl) rfl
theorem q229 : (Jvm.Cond.superclass "LabelNetModel" "java/lang/Object") ∈ lw_all := lw_g (lw_at lw_m1 203 rfl) rfl
theorem q232 : (Jvm.Cond.instanceMethod ({ cls := "LabelNetModel", name := "join", desc := "(III)Z" } : Jvm.MethodName)) ∈ lw_all := lw_g (lw_at lw_m1 206 rfl) rfl
theorem q233 : (Jvm.Cond.selects "LabelNetModel" ({ cls := "LabelNetModel", name := "join", desc := "(III)Z" } : Jvm.MethodName) ({ cls := "LabelNetModel", name := "join", desc := "(III)Z" } : Jvm.MethodName)) ∈ lw_all := lw_g (lw_at lw_m1 207 rfl) rfl
theorem q234 : (Jvm.Cond.code ({ cls := "LabelNetModel", name := "join", desc := "(III)Z" } : Jvm.MethodName) prog_3_method_4_code (4 : Nat) (Option.some Jvm.ClassFile.FieldType.boolean)) ∈ lw_all := lw_g (lw_at lw_m1 208 rfl) rfl
theorem q235 : (Jvm.Cond.methodLink "LabelNetModel" (26 : Nat) ({ cls := "LabelNetModel", name := "router", desc := "(I)Z" } : Jvm.MethodName)) ∈ lw_all := lw_g (lw_at lw_m1 209 rfl) rfl
theorem q236 : (Jvm.Cond.privateMethod ({ cls := "LabelNetModel", name := "router", desc := "(I)Z" } : Jvm.MethodName)) ∈ lw_tbl := lw_at lw_m1 210 rfl
theorem q237 : (Jvm.Cond.instanceMethod ({ cls := "LabelNetModel", name := "router", desc := "(I)Z" } : Jvm.MethodName)) ∈ lw_all := lw_g (lw_at lw_m1 211 rfl) rfl
theorem q238 : (Jvm.Cond.code ({ cls := "LabelNetModel", name := "router", desc := "(I)Z" } : Jvm.MethodName) prog_3_method_2_code (2 : Nat) (Option.some Jvm.ClassFile.FieldType.boolean)) ∈ lw_all := lw_g (lw_at lw_m1 212 rfl) rfl
theorem q240 : (Jvm.Cond.instanceMethod ({ cls := "LabelNetModel", name := "cut", desc := "(II)Z" } : Jvm.MethodName)) ∈ lw_all := lw_g (lw_at lw_m1 214 rfl) rfl
theorem q241 : (Jvm.Cond.selects "LabelNetModel" ({ cls := "LabelNetModel", name := "cut", desc := "(II)Z" } : Jvm.MethodName) ({ cls := "LabelNetModel", name := "cut", desc := "(II)Z" } : Jvm.MethodName)) ∈ lw_all := lw_g (lw_at lw_m1 215 rfl) rfl
theorem q242 : (Jvm.Cond.code ({ cls := "LabelNetModel", name := "cut", desc := "(II)Z" } : Jvm.MethodName) prog_3_method_5_code (3 : Nat) (Option.some Jvm.ClassFile.FieldType.boolean)) ∈ lw_all := lw_g (lw_at lw_m1 216 rfl) rfl
theorem q243 : (Jvm.Cond.methodLink "LabelNetModel" (30 : Nat) ({ cls := "LabelNetModel", name := "link", desc := "(II)Z" } : Jvm.MethodName)) ∈ lw_all := lw_g (lw_at lw_m1 217 rfl) rfl
theorem q244 : (Jvm.Cond.privateMethod ({ cls := "LabelNetModel", name := "link", desc := "(II)Z" } : Jvm.MethodName)) ∈ lw_tbl := lw_at lw_m1 218 rfl
theorem q245 : (Jvm.Cond.instanceMethod ({ cls := "LabelNetModel", name := "link", desc := "(II)Z" } : Jvm.MethodName)) ∈ lw_all := lw_g (lw_at lw_m1 219 rfl) rfl
theorem q246 : (Jvm.Cond.code ({ cls := "LabelNetModel", name := "link", desc := "(II)Z" } : Jvm.MethodName) prog_3_method_3_code (3 : Nat) (Option.some Jvm.ClassFile.FieldType.boolean)) ∈ lw_all := lw_g (lw_at lw_m1 220 rfl) rfl
theorem q248 : (Jvm.Cond.instanceMethod ({ cls := "LabelNetModel", name := "setLink", desc := "(IIZ)Z" } : Jvm.MethodName)) ∈ lw_all := lw_g (lw_at lw_m1 222 rfl) rfl
theorem q249 : (Jvm.Cond.selects "LabelNetModel" ({ cls := "LabelNetModel", name := "setLink", desc := "(IIZ)Z" } : Jvm.MethodName) ({ cls := "LabelNetModel", name := "setLink", desc := "(IIZ)Z" } : Jvm.MethodName)) ∈ lw_all := lw_g (lw_at lw_m1 223 rfl) rfl
theorem q250 : (Jvm.Cond.code ({ cls := "LabelNetModel", name := "setLink", desc := "(IIZ)Z" } : Jvm.MethodName) prog_3_method_6_code (4 : Nat) (Option.some Jvm.ClassFile.FieldType.boolean)) ∈ lw_all := lw_g (lw_at lw_m1 224 rfl) rfl
theorem q252 : (Jvm.Cond.instanceMethod ({ cls := "LabelNetModel", name := "setRouter", desc := "(IZ)Z" } : Jvm.MethodName)) ∈ lw_all := lw_g (lw_at lw_m1 226 rfl) rfl
theorem q253 : (Jvm.Cond.selects "LabelNetModel" ({ cls := "LabelNetModel", name := "setRouter", desc := "(IZ)Z" } : Jvm.MethodName) ({ cls := "LabelNetModel", name := "setRouter", desc := "(IZ)Z" } : Jvm.MethodName)) ∈ lw_all := lw_g (lw_at lw_m1 227 rfl) rfl
theorem q254 : (Jvm.Cond.code ({ cls := "LabelNetModel", name := "setRouter", desc := "(IZ)Z" } : Jvm.MethodName) prog_3_method_7_code (3 : Nat) (Option.some Jvm.ClassFile.FieldType.boolean)) ∈ lw_all := lw_g (lw_at lw_m1 228 rfl) rfl
theorem q256 : (Jvm.Cond.instanceMethod ({ cls := "LabelNetModel", name := "cost", desc := "(II)I" } : Jvm.MethodName)) ∈ lw_all := lw_g (lw_at lw_m1 230 rfl) rfl
theorem q257 : (Jvm.Cond.selects "LabelNetModel" ({ cls := "LabelNetModel", name := "cost", desc := "(II)I" } : Jvm.MethodName) ({ cls := "LabelNetModel", name := "cost", desc := "(II)I" } : Jvm.MethodName)) ∈ lw_all := lw_g (lw_at lw_m1 231 rfl) rfl
theorem q258 : (Jvm.Cond.code ({ cls := "LabelNetModel", name := "cost", desc := "(II)I" } : Jvm.MethodName) prog_3_method_8_code (3 : Nat) (Option.some Jvm.ClassFile.FieldType.int)) ∈ lw_all := lw_g (lw_at lw_m1 232 rfl) rfl
theorem q260 : (Jvm.Cond.instanceMethod ({ cls := "LabelNetModel", name := "distance", desc := "(II)I" } : Jvm.MethodName)) ∈ lw_all := lw_g (lw_at lw_m1 234 rfl) rfl
theorem q261 : (Jvm.Cond.selects "LabelNetModel" ({ cls := "LabelNetModel", name := "distance", desc := "(II)I" } : Jvm.MethodName) ({ cls := "LabelNetModel", name := "distance", desc := "(II)I" } : Jvm.MethodName)) ∈ lw_all := lw_g (lw_at lw_m1 235 rfl) rfl
theorem q262 : (Jvm.Cond.code ({ cls := "LabelNetModel", name := "distance", desc := "(II)I" } : Jvm.MethodName) prog_3_method_13_code (3 : Nat) (Option.some Jvm.ClassFile.FieldType.int)) ∈ lw_all := lw_g (lw_at lw_m1 236 rfl) rfl
theorem q263 : (Jvm.Cond.methodLink "LabelNetModel" (41 : Nat) ({ cls := "LabelNetModel", name := "work", desc := "()V" } : Jvm.MethodName)) ∈ lw_all := lw_g (lw_at lw_m1 237 rfl) rfl
theorem q264 : (Jvm.Cond.privateMethod ({ cls := "LabelNetModel", name := "work", desc := "()V" } : Jvm.MethodName)) ∈ lw_tbl := lw_at lw_m1 238 rfl
theorem q265 : (Jvm.Cond.instanceMethod ({ cls := "LabelNetModel", name := "work", desc := "()V" } : Jvm.MethodName)) ∈ lw_all := lw_g (lw_at lw_m1 239 rfl) rfl
theorem q266 : (Jvm.Cond.code ({ cls := "LabelNetModel", name := "work", desc := "()V" } : Jvm.MethodName) prog_3_method_10_code (3 : Nat) (Option.none : Option Jvm.ClassFile.FieldType)) ∈ lw_all := lw_g (lw_at lw_m2 0 rfl) rfl
theorem q267 : (Jvm.Cond.methodLink "LabelNetModel" (34 : Nat) ({ cls := "LabelNetModel", name := "lower", desc := "(II)V" } : Jvm.MethodName)) ∈ lw_all := lw_g (lw_at lw_m2 1 rfl) rfl
theorem q268 : (Jvm.Cond.privateMethod ({ cls := "LabelNetModel", name := "lower", desc := "(II)V" } : Jvm.MethodName)) ∈ lw_tbl := lw_at lw_m2 2 rfl
theorem q269 : (Jvm.Cond.instanceMethod ({ cls := "LabelNetModel", name := "lower", desc := "(II)V" } : Jvm.MethodName)) ∈ lw_all := lw_g (lw_at lw_m2 3 rfl) rfl
theorem q270 : (Jvm.Cond.code ({ cls := "LabelNetModel", name := "lower", desc := "(II)V" } : Jvm.MethodName) prog_3_method_11_code (4 : Nat) (Option.none : Option Jvm.ClassFile.FieldType)) ∈ lw_all := lw_g (lw_at lw_m2 4 rfl) rfl
theorem q271 : (Jvm.Cond.methodLink "LabelNetModel" (38 : Nat) ({ cls := "LabelNetModel", name := "counts", desc := "(II)Z" } : Jvm.MethodName)) ∈ lw_all := lw_g (lw_at lw_m2 5 rfl) rfl
theorem q272 : (Jvm.Cond.privateMethod ({ cls := "LabelNetModel", name := "counts", desc := "(II)Z" } : Jvm.MethodName)) ∈ lw_tbl := lw_at lw_m2 6 rfl
theorem q273 : (Jvm.Cond.instanceMethod ({ cls := "LabelNetModel", name := "counts", desc := "(II)Z" } : Jvm.MethodName)) ∈ lw_all := lw_g (lw_at lw_m2 7 rfl) rfl
theorem q274 : (Jvm.Cond.code ({ cls := "LabelNetModel", name := "counts", desc := "(II)Z" } : Jvm.MethodName) prog_3_method_9_code (3 : Nat) (Option.some Jvm.ClassFile.FieldType.boolean)) ∈ lw_all := lw_g (lw_at lw_m2 8 rfl) rfl
theorem q275 : (Jvm.Cond.methodLink "LabelNetModel" (44 : Nat) ({ cls := "LabelNetModel", name := "has", desc := "(II)Z" } : Jvm.MethodName)) ∈ lw_all := lw_g (lw_at lw_m2 9 rfl) rfl
theorem q276 : (Jvm.Cond.privateMethod ({ cls := "LabelNetModel", name := "has", desc := "(II)Z" } : Jvm.MethodName)) ∈ lw_tbl := lw_at lw_m2 10 rfl
theorem q277 : (Jvm.Cond.instanceMethod ({ cls := "LabelNetModel", name := "has", desc := "(II)Z" } : Jvm.MethodName)) ∈ lw_all := lw_g (lw_at lw_m2 11 rfl) rfl
theorem q278 : (Jvm.Cond.code ({ cls := "LabelNetModel", name := "has", desc := "(II)Z" } : Jvm.MethodName) prog_3_method_12_code (3 : Nat) (Option.some Jvm.ClassFile.FieldType.boolean)) ∈ lw_all := lw_g (lw_at lw_m2 12 rfl) rfl
theorem q280 : (Jvm.Cond.instanceMethod ({ cls := "LabelNetModel", name := "nextHop", desc := "(II)I" } : Jvm.MethodName)) ∈ lw_all := lw_g (lw_at lw_m2 14 rfl) rfl
theorem q281 : (Jvm.Cond.selects "LabelNetModel" ({ cls := "LabelNetModel", name := "nextHop", desc := "(II)I" } : Jvm.MethodName) ({ cls := "LabelNetModel", name := "nextHop", desc := "(II)I" } : Jvm.MethodName)) ∈ lw_all := lw_g (lw_at lw_m2 15 rfl) rfl
theorem q282 : (Jvm.Cond.code ({ cls := "LabelNetModel", name := "nextHop", desc := "(II)I" } : Jvm.MethodName) prog_3_method_15_code (3 : Nat) (Option.some Jvm.ClassFile.FieldType.int)) ∈ lw_all := lw_g (lw_at lw_m2 16 rfl) rfl
theorem q283 : (Jvm.Cond.methodLink "LabelNetModel" (47 : Nat) ({ cls := "LabelNetModel", name := "hop", desc := "(II)I" } : Jvm.MethodName)) ∈ lw_all := lw_g (lw_at lw_m2 17 rfl) rfl
theorem q284 : (Jvm.Cond.privateMethod ({ cls := "LabelNetModel", name := "hop", desc := "(II)I" } : Jvm.MethodName)) ∈ lw_tbl := lw_at lw_m2 18 rfl
theorem q285 : (Jvm.Cond.instanceMethod ({ cls := "LabelNetModel", name := "hop", desc := "(II)I" } : Jvm.MethodName)) ∈ lw_all := lw_g (lw_at lw_m2 19 rfl) rfl
theorem q286 : (Jvm.Cond.code ({ cls := "LabelNetModel", name := "hop", desc := "(II)I" } : Jvm.MethodName) prog_3_method_14_code (4 : Nat) (Option.some Jvm.ClassFile.FieldType.int)) ∈ lw_all := lw_g (lw_at lw_m2 20 rfl) rfl
theorem q288 : (Jvm.Cond.instanceMethod ({ cls := "LabelNetModel", name := "hops", desc := "(II)I" } : Jvm.MethodName)) ∈ lw_all := lw_g (lw_at lw_m2 22 rfl) rfl
theorem q289 : (Jvm.Cond.selects "LabelNetModel" ({ cls := "LabelNetModel", name := "hops", desc := "(II)I" } : Jvm.MethodName) ({ cls := "LabelNetModel", name := "hops", desc := "(II)I" } : Jvm.MethodName)) ∈ lw_all := lw_g (lw_at lw_m2 23 rfl) rfl
theorem q290 : (Jvm.Cond.code ({ cls := "LabelNetModel", name := "hops", desc := "(II)I" } : Jvm.MethodName) prog_3_method_18_code (3 : Nat) (Option.some Jvm.ClassFile.FieldType.int)) ∈ lw_all := lw_g (lw_at lw_m2 24 rfl) rfl
theorem q291 : (Jvm.Cond.methodLink "LabelNetModel" (51 : Nat) ({ cls := "LabelNetModel", name := "count", desc := "(II)I" } : Jvm.MethodName)) ∈ lw_all := lw_g (lw_at lw_m2 25 rfl) rfl
theorem q292 : (Jvm.Cond.privateMethod ({ cls := "LabelNetModel", name := "count", desc := "(II)I" } : Jvm.MethodName)) ∈ lw_tbl := lw_at lw_m2 26 rfl
theorem q293 : (Jvm.Cond.instanceMethod ({ cls := "LabelNetModel", name := "count", desc := "(II)I" } : Jvm.MethodName)) ∈ lw_all := lw_g (lw_at lw_m2 27 rfl) rfl
theorem q294 : (Jvm.Cond.code ({ cls := "LabelNetModel", name := "count", desc := "(II)I" } : Jvm.MethodName) prog_3_method_17_code (5 : Nat) (Option.some Jvm.ClassFile.FieldType.int)) ∈ lw_all := lw_g (lw_at lw_m2 28 rfl) rfl
theorem q296 : (Jvm.Cond.instanceMethod ({ cls := "LabelNetModel", name := "routeAt", desc := "(III)I" } : Jvm.MethodName)) ∈ lw_all := lw_g (lw_at lw_m2 30 rfl) rfl
theorem q297 : (Jvm.Cond.selects "LabelNetModel" ({ cls := "LabelNetModel", name := "routeAt", desc := "(III)I" } : Jvm.MethodName) ({ cls := "LabelNetModel", name := "routeAt", desc := "(III)I" } : Jvm.MethodName)) ∈ lw_all := lw_g (lw_at lw_m2 31 rfl) rfl
theorem q298 : (Jvm.Cond.code ({ cls := "LabelNetModel", name := "routeAt", desc := "(III)I" } : Jvm.MethodName) prog_3_method_19_code (4 : Nat) (Option.some Jvm.ClassFile.FieldType.int)) ∈ lw_all := lw_g (lw_at lw_m2 32 rfl) rfl
theorem q299 : (Jvm.Cond.methodLink "LabelNetModel" (54 : Nat) ({ cls := "LabelNetModel", name := "walk", desc := "(III)I" } : Jvm.MethodName)) ∈ lw_all := lw_g (lw_at lw_m2 33 rfl) rfl
theorem q300 : (Jvm.Cond.privateMethod ({ cls := "LabelNetModel", name := "walk", desc := "(III)I" } : Jvm.MethodName)) ∈ lw_tbl := lw_at lw_m2 34 rfl
theorem q301 : (Jvm.Cond.instanceMethod ({ cls := "LabelNetModel", name := "walk", desc := "(III)I" } : Jvm.MethodName)) ∈ lw_all := lw_g (lw_at lw_m2 35 rfl) rfl
theorem q302 : (Jvm.Cond.code ({ cls := "LabelNetModel", name := "walk", desc := "(III)I" } : Jvm.MethodName) prog_3_method_16_code (6 : Nat) (Option.some Jvm.ClassFile.FieldType.int)) ∈ lw_all := lw_g (lw_at lw_m2 36 rfl) rfl
theorem q304 : (Jvm.Cond.instanceMethod ({ cls := "LabelNetModel", name := "after", desc := "(III)I" } : Jvm.MethodName)) ∈ lw_all := lw_g (lw_at lw_m2 38 rfl) rfl
theorem q305 : (Jvm.Cond.selects "LabelNetModel" ({ cls := "LabelNetModel", name := "after", desc := "(III)I" } : Jvm.MethodName) ({ cls := "LabelNetModel", name := "after", desc := "(III)I" } : Jvm.MethodName)) ∈ lw_all := lw_g (lw_at lw_m2 39 rfl) rfl
theorem q306 : (Jvm.Cond.code ({ cls := "LabelNetModel", name := "after", desc := "(III)I" } : Jvm.MethodName) prog_3_method_20_code (4 : Nat) (Option.some Jvm.ClassFile.FieldType.int)) ∈ lw_all := lw_g (lw_at lw_m2 40 rfl) rfl
theorem q308 : (Jvm.Cond.instanceMethod ({ cls := "LabelNetModel", name := "load", desc := "(I)I" } : Jvm.MethodName)) ∈ lw_all := lw_g (lw_at lw_m2 42 rfl) rfl
theorem q309 : (Jvm.Cond.selects "LabelNetModel" ({ cls := "LabelNetModel", name := "load", desc := "(I)I" } : Jvm.MethodName) ({ cls := "LabelNetModel", name := "load", desc := "(I)I" } : Jvm.MethodName)) ∈ lw_all := lw_g (lw_at lw_m2 43 rfl) rfl
theorem q310 : (Jvm.Cond.code ({ cls := "LabelNetModel", name := "load", desc := "(I)I" } : Jvm.MethodName) prog_3_method_22_code (6 : Nat) (Option.some Jvm.ClassFile.FieldType.int)) ∈ lw_all := lw_g (lw_at lw_m2 44 rfl) rfl
theorem q311 : (Jvm.Cond.methodLink "LabelNetModel" (58 : Nat) ({ cls := "LabelNetModel", name := "passes", desc := "(IIII)Z" } : Jvm.MethodName)) ∈ lw_all := lw_g (lw_at lw_m2 45 rfl) rfl
theorem q312 : (Jvm.Cond.privateMethod ({ cls := "LabelNetModel", name := "passes", desc := "(IIII)Z" } : Jvm.MethodName)) ∈ lw_tbl := lw_at lw_m2 46 rfl
theorem q313 : (Jvm.Cond.instanceMethod ({ cls := "LabelNetModel", name := "passes", desc := "(IIII)Z" } : Jvm.MethodName)) ∈ lw_all := lw_g (lw_at lw_m2 47 rfl) rfl
theorem q314 : (Jvm.Cond.code ({ cls := "LabelNetModel", name := "passes", desc := "(IIII)Z" } : Jvm.MethodName) prog_3_method_21_code (9 : Nat) (Option.some Jvm.ClassFile.FieldType.boolean)) ∈ lw_all := lw_g (lw_at lw_m2 48 rfl) rfl
theorem q316 : (Jvm.Cond.instanceMethod ({ cls := "LabelNetModel", name := "linkLoad", desc := "(II)I" } : Jvm.MethodName)) ∈ lw_all := lw_g (lw_at lw_m2 50 rfl) rfl
theorem q317 : (Jvm.Cond.selects "LabelNetModel" ({ cls := "LabelNetModel", name := "linkLoad", desc := "(II)I" } : Jvm.MethodName) ({ cls := "LabelNetModel", name := "linkLoad", desc := "(II)I" } : Jvm.MethodName)) ∈ lw_all := lw_g (lw_at lw_m2 51 rfl) rfl
theorem q318 : (Jvm.Cond.code ({ cls := "LabelNetModel", name := "linkLoad", desc := "(II)I" } : Jvm.MethodName) prog_3_method_23_code (7 : Nat) (Option.some Jvm.ClassFile.FieldType.int)) ∈ lw_all := lw_g (lw_at lw_m2 52 rfl) rfl
theorem q320 : (Jvm.Cond.instanceMethod ({ cls := "LabelNetModel", name := "reachable", desc := "(I)I" } : Jvm.MethodName)) ∈ lw_all := lw_g (lw_at lw_m2 54 rfl) rfl
theorem q321 : (Jvm.Cond.selects "LabelNetModel" ({ cls := "LabelNetModel", name := "reachable", desc := "(I)I" } : Jvm.MethodName) ({ cls := "LabelNetModel", name := "reachable", desc := "(I)I" } : Jvm.MethodName)) ∈ lw_all := lw_g (lw_at lw_m2 55 rfl) rfl
theorem q322 : (Jvm.Cond.code ({ cls := "LabelNetModel", name := "reachable", desc := "(I)I" } : Jvm.MethodName) prog_3_method_24_code (4 : Nat) (Option.some Jvm.ClassFile.FieldType.int)) ∈ lw_all := lw_g (lw_at lw_m2 56 rfl) rfl
theorem q324 : (Jvm.Cond.instanceMethod ({ cls := "LabelNetModel", name := "farthest", desc := "(I)I" } : Jvm.MethodName)) ∈ lw_all := lw_g (lw_at lw_m2 58 rfl) rfl
theorem q325 : (Jvm.Cond.selects "LabelNetModel" ({ cls := "LabelNetModel", name := "farthest", desc := "(I)I" } : Jvm.MethodName) ({ cls := "LabelNetModel", name := "farthest", desc := "(I)I" } : Jvm.MethodName)) ∈ lw_all := lw_g (lw_at lw_m2 59 rfl) rfl
theorem q326 : (Jvm.Cond.code ({ cls := "LabelNetModel", name := "farthest", desc := "(I)I" } : Jvm.MethodName) prog_3_method_25_code (4 : Nat) (Option.some Jvm.ClassFile.FieldType.int)) ∈ lw_all := lw_g (lw_at lw_m2 60 rfl) rfl
theorem q328 : (Jvm.Cond.instanceMethod ({ cls := "LabelNetModel", name := "impact", desc := "(II)I" } : Jvm.MethodName)) ∈ lw_all := lw_g (lw_at lw_m2 62 rfl) rfl
theorem q329 : (Jvm.Cond.selects "LabelNetModel" ({ cls := "LabelNetModel", name := "impact", desc := "(II)I" } : Jvm.MethodName) ({ cls := "LabelNetModel", name := "impact", desc := "(II)I" } : Jvm.MethodName)) ∈ lw_all := lw_g (lw_at lw_m2 63 rfl) rfl
theorem q330 : (Jvm.Cond.code ({ cls := "LabelNetModel", name := "impact", desc := "(II)I" } : Jvm.MethodName) prog_3_method_27_code (6 : Nat) (Option.some Jvm.ClassFile.FieldType.int)) ∈ lw_all := lw_g (lw_at lw_m2 64 rfl) rfl
theorem q331 : (Jvm.Cond.methodLink "LabelNetModel" (62 : Nat) ({ cls := "LabelNetModel", name := "route", desc := "(II)I" } : Jvm.MethodName)) ∈ lw_all := lw_g (lw_at lw_m2 65 rfl) rfl
theorem q332 : (Jvm.Cond.privateMethod ({ cls := "LabelNetModel", name := "route", desc := "(II)I" } : Jvm.MethodName)) ∈ lw_tbl := lw_at lw_m2 66 rfl
theorem q333 : (Jvm.Cond.instanceMethod ({ cls := "LabelNetModel", name := "route", desc := "(II)I" } : Jvm.MethodName)) ∈ lw_all := lw_g (lw_at lw_m2 67 rfl) rfl
theorem q334 : (Jvm.Cond.code ({ cls := "LabelNetModel", name := "route", desc := "(II)I" } : Jvm.MethodName) prog_3_method_26_code (6 : Nat) (Option.some Jvm.ClassFile.FieldType.int)) ∈ lw_all := lw_g (lw_at lw_m2 68 rfl) rfl
theorem q335 : (Jvm.Cond.methodLink "LabelNetModel" (65 : Nat) ({ cls := "LabelNetModel", name := "setLink", desc := "(IIZ)Z" } : Jvm.MethodName)) ∈ lw_all := lw_g (lw_at lw_m2 69 rfl) rfl
theorem in_X1 : ∀ w ∈ wsX10, w ∈ lw_all := lw_in wsX10 [219, 221, 223, 225, 227] (by decide +kernel) (by decide +kernel)
end
section
theorem q26 : (Jvm.Cond.initialized "LabelNetLaw") ∈ lw_all := lw_g (lw_at lw_m1 0 rfl) rfl
set_option maxRecDepth 100000
theorem q29 : (Jvm.Cond.classLink "LabelNetLaw" (7 : Nat) "LabelNet") ∈ lw_all := lw_g (lw_at lw_m1 3 rfl) rfl
theorem q31 : (Jvm.Cond.methodLink "LabelNetLaw" (9 : Nat) ({ cls := "LabelNet", name := "<init>", desc := "()V" } : Jvm.MethodName)) ∈ lw_all := lw_g (lw_at lw_m1 5 rfl) rfl
theorem q80 : (Jvm.Cond.methodLink "LabelNetLaw" (13 : Nat) ({ cls := "LabelNet", name := "join", desc := "(III)Z" } : Jvm.MethodName)) ∈ lw_all := lw_g (lw_at lw_m1 54 rfl) rfl
theorem q94 : (Jvm.Cond.methodLink "LabelNetLaw" (18 : Nat) ({ cls := "LabelNet", name := "cut", desc := "(II)Z" } : Jvm.MethodName)) ∈ lw_all := lw_g (lw_at lw_m1 68 rfl) rfl
theorem q102 : (Jvm.Cond.methodLink "LabelNetLaw" (23 : Nat) ({ cls := "LabelNet", name := "setLink", desc := "(IIZ)Z" } : Jvm.MethodName)) ∈ lw_all := lw_g (lw_at lw_m1 76 rfl) rfl
theorem q106 : (Jvm.Cond.methodLink "LabelNetLaw" (28 : Nat) ({ cls := "LabelNet", name := "setRouter", desc := "(IZ)Z" } : Jvm.MethodName)) ∈ lw_all := lw_g (lw_at lw_m1 80 rfl) rfl
theorem q110 : (Jvm.Cond.methodLink "LabelNetLaw" (33 : Nat) ({ cls := "LabelNet", name := "cost", desc := "(II)I" } : Jvm.MethodName)) ∈ lw_all := lw_g (lw_at lw_m1 84 rfl) rfl
theorem q114 : (Jvm.Cond.methodLink "LabelNetLaw" (38 : Nat) ({ cls := "LabelNet", name := "distance", desc := "(II)I" } : Jvm.MethodName)) ∈ lw_all := lw_g (lw_at lw_m1 88 rfl) rfl
theorem q150 : (Jvm.Cond.methodLink "LabelNetLaw" (42 : Nat) ({ cls := "LabelNet", name := "nextHop", desc := "(II)I" } : Jvm.MethodName)) ∈ lw_all := lw_g (lw_at lw_m1 124 rfl) rfl
theorem q154 : (Jvm.Cond.methodLink "LabelNetLaw" (46 : Nat) ({ cls := "LabelNet", name := "hops", desc := "(II)I" } : Jvm.MethodName)) ∈ lw_all := lw_g (lw_at lw_m1 128 rfl) rfl
theorem q166 : (Jvm.Cond.methodLink "LabelNetLaw" (50 : Nat) ({ cls := "LabelNet", name := "routeAt", desc := "(III)I" } : Jvm.MethodName)) ∈ lw_all := lw_g (lw_at lw_m1 140 rfl) rfl
theorem q175 : (Jvm.Cond.methodLink "LabelNetLaw" (55 : Nat) ({ cls := "LabelNet", name := "after", desc := "(III)I" } : Jvm.MethodName)) ∈ lw_all := lw_g (lw_at lw_m1 149 rfl) rfl
theorem q176 : (Jvm.Cond.methodLink "LabelNetLaw" (59 : Nat) ({ cls := "LabelNet", name := "load", desc := "(I)I" } : Jvm.MethodName)) ∈ lw_all := lw_g (lw_at lw_m1 150 rfl) rfl
theorem q184 : (Jvm.Cond.methodLink "LabelNetLaw" (64 : Nat) ({ cls := "LabelNet", name := "linkLoad", desc := "(II)I" } : Jvm.MethodName)) ∈ lw_all := lw_g (lw_at lw_m1 158 rfl) rfl
theorem q192 : (Jvm.Cond.methodLink "LabelNetLaw" (68 : Nat) ({ cls := "LabelNet", name := "reachable", desc := "(I)I" } : Jvm.MethodName)) ∈ lw_all := lw_g (lw_at lw_m1 166 rfl) rfl
theorem q196 : (Jvm.Cond.methodLink "LabelNetLaw" (72 : Nat) ({ cls := "LabelNet", name := "farthest", desc := "(I)I" } : Jvm.MethodName)) ∈ lw_all := lw_g (lw_at lw_m1 170 rfl) rfl
theorem q200 : (Jvm.Cond.methodLink "LabelNetLaw" (76 : Nat) ({ cls := "LabelNet", name := "impact", desc := "(II)I" } : Jvm.MethodName)) ∈ lw_all := lw_g (lw_at lw_m1 174 rfl) rfl
theorem q208 : (Jvm.Cond.classLink "LabelNetLaw" (10 : Nat) "LabelNetModel") ∈ lw_all := lw_g (lw_at lw_m1 182 rfl) rfl
theorem q210 : (Jvm.Cond.methodLink "LabelNetLaw" (12 : Nat) ({ cls := "LabelNetModel", name := "<init>", desc := "()V" } : Jvm.MethodName)) ∈ lw_all := lw_g (lw_at lw_m1 184 rfl) rfl
theorem q231 : (Jvm.Cond.methodLink "LabelNetLaw" (17 : Nat) ({ cls := "LabelNetModel", name := "join", desc := "(III)Z" } : Jvm.MethodName)) ∈ lw_all := lw_g (lw_at lw_m1 205 rfl) rfl
theorem q239 : (Jvm.Cond.methodLink "LabelNetLaw" (22 : Nat) ({ cls := "LabelNetModel", name := "cut", desc := "(II)Z" } : Jvm.MethodName)) ∈ lw_all := lw_g (lw_at lw_m1 213 rfl) rfl
theorem q247 : (Jvm.Cond.methodLink "LabelNetLaw" (27 : Nat) ({ cls := "LabelNetModel", name := "setLink", desc := "(IIZ)Z" } : Jvm.MethodName)) ∈ lw_all := lw_g (lw_at lw_m1 221 rfl) rfl
theorem q251 : (Jvm.Cond.methodLink "LabelNetLaw" (32 : Nat) ({ cls := "LabelNetModel", name := "setRouter", desc := "(IZ)Z" } : Jvm.MethodName)) ∈ lw_all := lw_g (lw_at lw_m1 225 rfl) rfl
theorem q255 : (Jvm.Cond.methodLink "LabelNetLaw" (37 : Nat) ({ cls := "LabelNetModel", name := "cost", desc := "(II)I" } : Jvm.MethodName)) ∈ lw_all := lw_g (lw_at lw_m1 229 rfl) rfl
theorem q259 : (Jvm.Cond.methodLink "LabelNetLaw" (41 : Nat) ({ cls := "LabelNetModel", name := "distance", desc := "(II)I" } : Jvm.MethodName)) ∈ lw_all := lw_g (lw_at lw_m1 233 rfl) rfl
theorem q279 : (Jvm.Cond.methodLink "LabelNetLaw" (45 : Nat) ({ cls := "LabelNetModel", name := "nextHop", desc := "(II)I" } : Jvm.MethodName)) ∈ lw_all := lw_g (lw_at lw_m2 13 rfl) rfl
theorem q287 : (Jvm.Cond.methodLink "LabelNetLaw" (49 : Nat) ({ cls := "LabelNetModel", name := "hops", desc := "(II)I" } : Jvm.MethodName)) ∈ lw_all := lw_g (lw_at lw_m2 21 rfl) rfl
theorem q295 : (Jvm.Cond.methodLink "LabelNetLaw" (54 : Nat) ({ cls := "LabelNetModel", name := "routeAt", desc := "(III)I" } : Jvm.MethodName)) ∈ lw_all := lw_g (lw_at lw_m2 29 rfl) rfl
theorem q303 : (Jvm.Cond.methodLink "LabelNetLaw" (58 : Nat) ({ cls := "LabelNetModel", name := "after", desc := "(III)I" } : Jvm.MethodName)) ∈ lw_all := lw_g (lw_at lw_m2 37 rfl) rfl
theorem q307 : (Jvm.Cond.methodLink "LabelNetLaw" (63 : Nat) ({ cls := "LabelNetModel", name := "load", desc := "(I)I" } : Jvm.MethodName)) ∈ lw_all := lw_g (lw_at lw_m2 41 rfl) rfl
theorem q315 : (Jvm.Cond.methodLink "LabelNetLaw" (67 : Nat) ({ cls := "LabelNetModel", name := "linkLoad", desc := "(II)I" } : Jvm.MethodName)) ∈ lw_all := lw_g (lw_at lw_m2 49 rfl) rfl
theorem q319 : (Jvm.Cond.methodLink "LabelNetLaw" (71 : Nat) ({ cls := "LabelNetModel", name := "reachable", desc := "(I)I" } : Jvm.MethodName)) ∈ lw_all := lw_g (lw_at lw_m2 53 rfl) rfl
theorem q323 : (Jvm.Cond.methodLink "LabelNetLaw" (75 : Nat) ({ cls := "LabelNetModel", name := "farthest", desc := "(I)I" } : Jvm.MethodName)) ∈ lw_all := lw_g (lw_at lw_m2 57 rfl) rfl
theorem q327 : (Jvm.Cond.methodLink "LabelNetLaw" (79 : Nat) ({ cls := "LabelNetModel", name := "impact", desc := "(II)I" } : Jvm.MethodName)) ∈ lw_all := lw_g (lw_at lw_m2 61 rfl) rfl

/-! the law's own entry -/
set_option maxRecDepth 100000
abbrev cL_law : ByteArray := code
theorem dL_law_0 : decode cL_law 0 = .ok (.new 7, 3) := by decide +kernel
theorem dL_law_3 : decode cL_law 3 = .ok (.dup, 1) := by decide +kernel
theorem dL_law_4 : decode cL_law 4 = .ok (.invokespecial 9, 3) := by decide +kernel
theorem dL_law_7 : decode cL_law 7 = .ok (.astore_n 1, 1) := by decide +kernel
theorem dL_law_8 : decode cL_law 8 = .ok (.new 10, 3) := by decide +kernel
theorem dL_law_11 : decode cL_law 11 = .ok (.dup, 1) := by decide +kernel
theorem dL_law_12 : decode cL_law 12 = .ok (.invokespecial 12, 3) := by decide +kernel
theorem dL_law_15 : decode cL_law 15 = .ok (.astore_n 2, 1) := by decide +kernel
theorem dL_law_16 : decode cL_law 16 = .ok (.iconst 0, 1) := by decide +kernel
theorem dL_law_17 : decode cL_law 17 = .ok (.istore_n 3, 1) := by decide +kernel
theorem dL_law_18 : decode cL_law 18 = .ok (.iload_n 3, 1) := by decide +kernel
theorem dL_law_19 : decode cL_law 19 = .ok (.aload_n 0, 1) := by decide +kernel
theorem dL_law_20 : decode cL_law 20 = .ok (.arraylength, 1) := by decide +kernel
theorem dL_law_21 : decode cL_law 21 = .ok (.iconst 4, 1) := by decide +kernel
theorem dL_law_22 : decode cL_law 22 = .ok (.isub, 1) := by decide +kernel
theorem dL_law_23 : decode cL_law 23 = .ok (.if_icmp .gt 628, 3) := by decide +kernel
theorem dL_law_26 : decode cL_law 26 = .ok (.aload_n 0, 1) := by decide +kernel
theorem dL_law_27 : decode cL_law 27 = .ok (.iload_n 3, 1) := by decide +kernel
theorem dL_law_28 : decode cL_law 28 = .ok (.iaload, 1) := by decide +kernel
theorem dL_law_29 : decode cL_law 29 = .ok (.bipush 15, 2) := by decide +kernel
theorem dL_law_31 : decode cL_law 31 = .ok (.iand, 1) := by decide +kernel
theorem dL_law_32 : decode cL_law 32 = .ok (.tableswitch 613 0 14 #[76, 119, 152, 211, 260, 293, 326, 359, 392, 435, 478, 501, 534, 557, 580], 76) := by decide +kernel
theorem dL_law_108 : decode cL_law 108 = .ok (.aload_n 1, 1) := by decide +kernel
theorem dL_law_109 : decode cL_law 109 = .ok (.aload_n 0, 1) := by decide +kernel
theorem dL_law_110 : decode cL_law 110 = .ok (.iload_n 3, 1) := by decide +kernel
theorem dL_law_111 : decode cL_law 111 = .ok (.iconst 1, 1) := by decide +kernel
theorem dL_law_112 : decode cL_law 112 = .ok (.iadd, 1) := by decide +kernel
theorem dL_law_113 : decode cL_law 113 = .ok (.iaload, 1) := by decide +kernel
theorem dL_law_114 : decode cL_law 114 = .ok (.aload_n 0, 1) := by decide +kernel
theorem dL_law_115 : decode cL_law 115 = .ok (.iload_n 3, 1) := by decide +kernel
theorem dL_law_116 : decode cL_law 116 = .ok (.iconst 2, 1) := by decide +kernel
theorem dL_law_117 : decode cL_law 117 = .ok (.iadd, 1) := by decide +kernel
theorem dL_law_118 : decode cL_law 118 = .ok (.iaload, 1) := by decide +kernel
theorem dL_law_119 : decode cL_law 119 = .ok (.aload_n 0, 1) := by decide +kernel
theorem dL_law_120 : decode cL_law 120 = .ok (.iload_n 3, 1) := by decide +kernel
theorem dL_law_121 : decode cL_law 121 = .ok (.iconst 3, 1) := by decide +kernel
theorem dL_law_122 : decode cL_law 122 = .ok (.iadd, 1) := by decide +kernel
theorem dL_law_123 : decode cL_law 123 = .ok (.iaload, 1) := by decide +kernel
theorem dL_law_124 : decode cL_law 124 = .ok (.invokevirtual 13, 3) := by decide +kernel
theorem dL_law_127 : decode cL_law 127 = .ok (.aload_n 2, 1) := by decide +kernel
theorem dL_law_128 : decode cL_law 128 = .ok (.aload_n 0, 1) := by decide +kernel
theorem dL_law_129 : decode cL_law 129 = .ok (.iload_n 3, 1) := by decide +kernel
theorem dL_law_130 : decode cL_law 130 = .ok (.iconst 1, 1) := by decide +kernel
theorem dL_law_131 : decode cL_law 131 = .ok (.iadd, 1) := by decide +kernel
theorem dL_law_132 : decode cL_law 132 = .ok (.iaload, 1) := by decide +kernel
theorem dL_law_133 : decode cL_law 133 = .ok (.aload_n 0, 1) := by decide +kernel
theorem dL_law_134 : decode cL_law 134 = .ok (.iload_n 3, 1) := by decide +kernel
theorem dL_law_135 : decode cL_law 135 = .ok (.iconst 2, 1) := by decide +kernel
theorem dL_law_136 : decode cL_law 136 = .ok (.iadd, 1) := by decide +kernel
theorem dL_law_137 : decode cL_law 137 = .ok (.iaload, 1) := by decide +kernel
theorem dL_law_138 : decode cL_law 138 = .ok (.aload_n 0, 1) := by decide +kernel
theorem dL_law_139 : decode cL_law 139 = .ok (.iload_n 3, 1) := by decide +kernel
theorem dL_law_140 : decode cL_law 140 = .ok (.iconst 3, 1) := by decide +kernel
theorem dL_law_141 : decode cL_law 141 = .ok (.iadd, 1) := by decide +kernel
theorem dL_law_142 : decode cL_law 142 = .ok (.iaload, 1) := by decide +kernel
theorem dL_law_143 : decode cL_law 143 = .ok (.invokevirtual 17, 3) := by decide +kernel
theorem dL_law_146 : decode cL_law 146 = .ok (.if_icmp .eq 499, 3) := by decide +kernel
theorem dL_law_149 : decode cL_law 149 = .ok (.iconst 0, 1) := by decide +kernel
theorem dL_law_150 : decode cL_law 150 = .ok (.ireturn, 1) := by decide +kernel
theorem dL_law_151 : decode cL_law 151 = .ok (.aload_n 1, 1) := by decide +kernel
theorem dL_law_152 : decode cL_law 152 = .ok (.aload_n 0, 1) := by decide +kernel
theorem dL_law_153 : decode cL_law 153 = .ok (.iload_n 3, 1) := by decide +kernel
theorem dL_law_154 : decode cL_law 154 = .ok (.iconst 1, 1) := by decide +kernel
theorem dL_law_155 : decode cL_law 155 = .ok (.iadd, 1) := by decide +kernel
theorem dL_law_156 : decode cL_law 156 = .ok (.iaload, 1) := by decide +kernel
theorem dL_law_157 : decode cL_law 157 = .ok (.aload_n 0, 1) := by decide +kernel
theorem dL_law_158 : decode cL_law 158 = .ok (.iload_n 3, 1) := by decide +kernel
theorem dL_law_159 : decode cL_law 159 = .ok (.iconst 2, 1) := by decide +kernel
theorem dL_law_160 : decode cL_law 160 = .ok (.iadd, 1) := by decide +kernel
theorem dL_law_161 : decode cL_law 161 = .ok (.iaload, 1) := by decide +kernel
theorem dL_law_162 : decode cL_law 162 = .ok (.invokevirtual 18, 3) := by decide +kernel
theorem dL_law_165 : decode cL_law 165 = .ok (.aload_n 2, 1) := by decide +kernel
theorem dL_law_166 : decode cL_law 166 = .ok (.aload_n 0, 1) := by decide +kernel
theorem dL_law_167 : decode cL_law 167 = .ok (.iload_n 3, 1) := by decide +kernel
theorem dL_law_168 : decode cL_law 168 = .ok (.iconst 1, 1) := by decide +kernel
theorem dL_law_169 : decode cL_law 169 = .ok (.iadd, 1) := by decide +kernel
theorem dL_law_170 : decode cL_law 170 = .ok (.iaload, 1) := by decide +kernel
theorem dL_law_171 : decode cL_law 171 = .ok (.aload_n 0, 1) := by decide +kernel
theorem dL_law_172 : decode cL_law 172 = .ok (.iload_n 3, 1) := by decide +kernel
theorem dL_law_173 : decode cL_law 173 = .ok (.iconst 2, 1) := by decide +kernel
theorem dL_law_174 : decode cL_law 174 = .ok (.iadd, 1) := by decide +kernel
theorem dL_law_175 : decode cL_law 175 = .ok (.iaload, 1) := by decide +kernel
theorem dL_law_176 : decode cL_law 176 = .ok (.invokevirtual 22, 3) := by decide +kernel
theorem dL_law_179 : decode cL_law 179 = .ok (.if_icmp .eq 466, 3) := by decide +kernel
theorem dL_law_182 : decode cL_law 182 = .ok (.iconst 0, 1) := by decide +kernel
theorem dL_law_183 : decode cL_law 183 = .ok (.ireturn, 1) := by decide +kernel
theorem dL_law_184 : decode cL_law 184 = .ok (.aload_n 1, 1) := by decide +kernel
theorem dL_law_185 : decode cL_law 185 = .ok (.aload_n 0, 1) := by decide +kernel
theorem dL_law_186 : decode cL_law 186 = .ok (.iload_n 3, 1) := by decide +kernel
theorem dL_law_187 : decode cL_law 187 = .ok (.iconst 1, 1) := by decide +kernel
theorem dL_law_188 : decode cL_law 188 = .ok (.iadd, 1) := by decide +kernel
theorem dL_law_189 : decode cL_law 189 = .ok (.iaload, 1) := by decide +kernel
theorem dL_law_190 : decode cL_law 190 = .ok (.aload_n 0, 1) := by decide +kernel
theorem dL_law_191 : decode cL_law 191 = .ok (.iload_n 3, 1) := by decide +kernel
theorem dL_law_192 : decode cL_law 192 = .ok (.iconst 2, 1) := by decide +kernel
theorem dL_law_193 : decode cL_law 193 = .ok (.iadd, 1) := by decide +kernel
theorem dL_law_194 : decode cL_law 194 = .ok (.iaload, 1) := by decide +kernel
theorem dL_law_195 : decode cL_law 195 = .ok (.aload_n 0, 1) := by decide +kernel
theorem dL_law_196 : decode cL_law 196 = .ok (.iload_n 3, 1) := by decide +kernel
theorem dL_law_197 : decode cL_law 197 = .ok (.iconst 3, 1) := by decide +kernel
theorem dL_law_198 : decode cL_law 198 = .ok (.iadd, 1) := by decide +kernel
theorem dL_law_199 : decode cL_law 199 = .ok (.iaload, 1) := by decide +kernel
theorem dL_law_200 : decode cL_law 200 = .ok (.ifCond .eq 7, 3) := by decide +kernel
theorem dL_law_203 : decode cL_law 203 = .ok (.iconst 1, 1) := by decide +kernel
theorem dL_law_204 : decode cL_law 204 = .ok (.goto 4, 3) := by decide +kernel
theorem dL_law_207 : decode cL_law 207 = .ok (.iconst 0, 1) := by decide +kernel
theorem dL_law_208 : decode cL_law 208 = .ok (.invokevirtual 23, 3) := by decide +kernel
theorem dL_law_211 : decode cL_law 211 = .ok (.aload_n 2, 1) := by decide +kernel
theorem dL_law_212 : decode cL_law 212 = .ok (.aload_n 0, 1) := by decide +kernel
theorem dL_law_213 : decode cL_law 213 = .ok (.iload_n 3, 1) := by decide +kernel
theorem dL_law_214 : decode cL_law 214 = .ok (.iconst 1, 1) := by decide +kernel
theorem dL_law_215 : decode cL_law 215 = .ok (.iadd, 1) := by decide +kernel
theorem dL_law_216 : decode cL_law 216 = .ok (.iaload, 1) := by decide +kernel
theorem dL_law_217 : decode cL_law 217 = .ok (.aload_n 0, 1) := by decide +kernel
theorem dL_law_218 : decode cL_law 218 = .ok (.iload_n 3, 1) := by decide +kernel
theorem dL_law_219 : decode cL_law 219 = .ok (.iconst 2, 1) := by decide +kernel
theorem dL_law_220 : decode cL_law 220 = .ok (.iadd, 1) := by decide +kernel
theorem dL_law_221 : decode cL_law 221 = .ok (.iaload, 1) := by decide +kernel
theorem dL_law_222 : decode cL_law 222 = .ok (.aload_n 0, 1) := by decide +kernel
theorem dL_law_223 : decode cL_law 223 = .ok (.iload_n 3, 1) := by decide +kernel
theorem dL_law_224 : decode cL_law 224 = .ok (.iconst 3, 1) := by decide +kernel
theorem dL_law_225 : decode cL_law 225 = .ok (.iadd, 1) := by decide +kernel
theorem dL_law_226 : decode cL_law 226 = .ok (.iaload, 1) := by decide +kernel
theorem dL_law_227 : decode cL_law 227 = .ok (.ifCond .eq 7, 3) := by decide +kernel
theorem dL_law_230 : decode cL_law 230 = .ok (.iconst 1, 1) := by decide +kernel
theorem dL_law_231 : decode cL_law 231 = .ok (.goto 4, 3) := by decide +kernel
theorem dL_law_234 : decode cL_law 234 = .ok (.iconst 0, 1) := by decide +kernel
theorem dL_law_235 : decode cL_law 235 = .ok (.invokevirtual 27, 3) := by decide +kernel
theorem dL_law_238 : decode cL_law 238 = .ok (.if_icmp .eq 407, 3) := by decide +kernel
theorem dL_law_241 : decode cL_law 241 = .ok (.iconst 0, 1) := by decide +kernel
theorem dL_law_242 : decode cL_law 242 = .ok (.ireturn, 1) := by decide +kernel
theorem dL_law_243 : decode cL_law 243 = .ok (.aload_n 1, 1) := by decide +kernel
theorem dL_law_244 : decode cL_law 244 = .ok (.aload_n 0, 1) := by decide +kernel
theorem dL_law_245 : decode cL_law 245 = .ok (.iload_n 3, 1) := by decide +kernel
theorem dL_law_246 : decode cL_law 246 = .ok (.iconst 1, 1) := by decide +kernel
theorem dL_law_247 : decode cL_law 247 = .ok (.iadd, 1) := by decide +kernel
theorem dL_law_248 : decode cL_law 248 = .ok (.iaload, 1) := by decide +kernel
theorem dL_law_249 : decode cL_law 249 = .ok (.aload_n 0, 1) := by decide +kernel
theorem dL_law_250 : decode cL_law 250 = .ok (.iload_n 3, 1) := by decide +kernel
theorem dL_law_251 : decode cL_law 251 = .ok (.iconst 2, 1) := by decide +kernel
theorem dL_law_252 : decode cL_law 252 = .ok (.iadd, 1) := by decide +kernel
theorem dL_law_253 : decode cL_law 253 = .ok (.iaload, 1) := by decide +kernel
theorem dL_law_254 : decode cL_law 254 = .ok (.ifCond .eq 7, 3) := by decide +kernel
theorem dL_law_257 : decode cL_law 257 = .ok (.iconst 1, 1) := by decide +kernel
theorem dL_law_258 : decode cL_law 258 = .ok (.goto 4, 3) := by decide +kernel
theorem dL_law_261 : decode cL_law 261 = .ok (.iconst 0, 1) := by decide +kernel
theorem dL_law_262 : decode cL_law 262 = .ok (.invokevirtual 28, 3) := by decide +kernel
theorem dL_law_265 : decode cL_law 265 = .ok (.aload_n 2, 1) := by decide +kernel
theorem dL_law_266 : decode cL_law 266 = .ok (.aload_n 0, 1) := by decide +kernel
theorem dL_law_267 : decode cL_law 267 = .ok (.iload_n 3, 1) := by decide +kernel
theorem dL_law_268 : decode cL_law 268 = .ok (.iconst 1, 1) := by decide +kernel
theorem dL_law_269 : decode cL_law 269 = .ok (.iadd, 1) := by decide +kernel
theorem dL_law_270 : decode cL_law 270 = .ok (.iaload, 1) := by decide +kernel
theorem dL_law_271 : decode cL_law 271 = .ok (.aload_n 0, 1) := by decide +kernel
theorem dL_law_272 : decode cL_law 272 = .ok (.iload_n 3, 1) := by decide +kernel
theorem dL_law_273 : decode cL_law 273 = .ok (.iconst 2, 1) := by decide +kernel
theorem dL_law_274 : decode cL_law 274 = .ok (.iadd, 1) := by decide +kernel
theorem dL_law_275 : decode cL_law 275 = .ok (.iaload, 1) := by decide +kernel
theorem dL_law_276 : decode cL_law 276 = .ok (.ifCond .eq 7, 3) := by decide +kernel
theorem dL_law_279 : decode cL_law 279 = .ok (.iconst 1, 1) := by decide +kernel
theorem dL_law_280 : decode cL_law 280 = .ok (.goto 4, 3) := by decide +kernel
theorem dL_law_283 : decode cL_law 283 = .ok (.iconst 0, 1) := by decide +kernel
theorem dL_law_284 : decode cL_law 284 = .ok (.invokevirtual 32, 3) := by decide +kernel
theorem dL_law_287 : decode cL_law 287 = .ok (.if_icmp .eq 358, 3) := by decide +kernel
theorem dL_law_290 : decode cL_law 290 = .ok (.iconst 0, 1) := by decide +kernel
theorem dL_law_291 : decode cL_law 291 = .ok (.ireturn, 1) := by decide +kernel
theorem dL_law_292 : decode cL_law 292 = .ok (.aload_n 1, 1) := by decide +kernel
theorem dL_law_293 : decode cL_law 293 = .ok (.aload_n 0, 1) := by decide +kernel
theorem dL_law_294 : decode cL_law 294 = .ok (.iload_n 3, 1) := by decide +kernel
theorem dL_law_295 : decode cL_law 295 = .ok (.iconst 1, 1) := by decide +kernel
theorem dL_law_296 : decode cL_law 296 = .ok (.iadd, 1) := by decide +kernel
theorem dL_law_297 : decode cL_law 297 = .ok (.iaload, 1) := by decide +kernel
theorem dL_law_298 : decode cL_law 298 = .ok (.aload_n 0, 1) := by decide +kernel
theorem dL_law_299 : decode cL_law 299 = .ok (.iload_n 3, 1) := by decide +kernel
theorem dL_law_300 : decode cL_law 300 = .ok (.iconst 2, 1) := by decide +kernel
theorem dL_law_301 : decode cL_law 301 = .ok (.iadd, 1) := by decide +kernel
theorem dL_law_302 : decode cL_law 302 = .ok (.iaload, 1) := by decide +kernel
theorem dL_law_303 : decode cL_law 303 = .ok (.invokevirtual 33, 3) := by decide +kernel
theorem dL_law_306 : decode cL_law 306 = .ok (.aload_n 2, 1) := by decide +kernel
theorem dL_law_307 : decode cL_law 307 = .ok (.aload_n 0, 1) := by decide +kernel
theorem dL_law_308 : decode cL_law 308 = .ok (.iload_n 3, 1) := by decide +kernel
theorem dL_law_309 : decode cL_law 309 = .ok (.iconst 1, 1) := by decide +kernel
theorem dL_law_310 : decode cL_law 310 = .ok (.iadd, 1) := by decide +kernel
theorem dL_law_311 : decode cL_law 311 = .ok (.iaload, 1) := by decide +kernel
theorem dL_law_312 : decode cL_law 312 = .ok (.aload_n 0, 1) := by decide +kernel
theorem dL_law_313 : decode cL_law 313 = .ok (.iload_n 3, 1) := by decide +kernel
theorem dL_law_314 : decode cL_law 314 = .ok (.iconst 2, 1) := by decide +kernel
theorem dL_law_315 : decode cL_law 315 = .ok (.iadd, 1) := by decide +kernel
theorem dL_law_316 : decode cL_law 316 = .ok (.iaload, 1) := by decide +kernel
theorem dL_law_317 : decode cL_law 317 = .ok (.invokevirtual 37, 3) := by decide +kernel
theorem dL_law_320 : decode cL_law 320 = .ok (.if_icmp .eq 325, 3) := by decide +kernel
theorem dL_law_323 : decode cL_law 323 = .ok (.iconst 0, 1) := by decide +kernel
theorem dL_law_324 : decode cL_law 324 = .ok (.ireturn, 1) := by decide +kernel
theorem dL_law_325 : decode cL_law 325 = .ok (.aload_n 1, 1) := by decide +kernel
theorem dL_law_326 : decode cL_law 326 = .ok (.aload_n 0, 1) := by decide +kernel
theorem dL_law_327 : decode cL_law 327 = .ok (.iload_n 3, 1) := by decide +kernel
theorem dL_law_328 : decode cL_law 328 = .ok (.iconst 1, 1) := by decide +kernel
theorem dL_law_329 : decode cL_law 329 = .ok (.iadd, 1) := by decide +kernel
theorem dL_law_330 : decode cL_law 330 = .ok (.iaload, 1) := by decide +kernel
theorem dL_law_331 : decode cL_law 331 = .ok (.aload_n 0, 1) := by decide +kernel
theorem dL_law_332 : decode cL_law 332 = .ok (.iload_n 3, 1) := by decide +kernel
theorem dL_law_333 : decode cL_law 333 = .ok (.iconst 2, 1) := by decide +kernel
theorem dL_law_334 : decode cL_law 334 = .ok (.iadd, 1) := by decide +kernel
theorem dL_law_335 : decode cL_law 335 = .ok (.iaload, 1) := by decide +kernel
theorem dL_law_336 : decode cL_law 336 = .ok (.invokevirtual 38, 3) := by decide +kernel
theorem dL_law_339 : decode cL_law 339 = .ok (.aload_n 2, 1) := by decide +kernel
theorem dL_law_340 : decode cL_law 340 = .ok (.aload_n 0, 1) := by decide +kernel
theorem dL_law_341 : decode cL_law 341 = .ok (.iload_n 3, 1) := by decide +kernel
theorem dL_law_342 : decode cL_law 342 = .ok (.iconst 1, 1) := by decide +kernel
theorem dL_law_343 : decode cL_law 343 = .ok (.iadd, 1) := by decide +kernel
theorem dL_law_344 : decode cL_law 344 = .ok (.iaload, 1) := by decide +kernel
theorem dL_law_345 : decode cL_law 345 = .ok (.aload_n 0, 1) := by decide +kernel
theorem dL_law_346 : decode cL_law 346 = .ok (.iload_n 3, 1) := by decide +kernel
theorem dL_law_347 : decode cL_law 347 = .ok (.iconst 2, 1) := by decide +kernel
theorem dL_law_348 : decode cL_law 348 = .ok (.iadd, 1) := by decide +kernel
theorem dL_law_349 : decode cL_law 349 = .ok (.iaload, 1) := by decide +kernel
theorem dL_law_350 : decode cL_law 350 = .ok (.invokevirtual 41, 3) := by decide +kernel
theorem dL_law_353 : decode cL_law 353 = .ok (.if_icmp .eq 292, 3) := by decide +kernel
theorem dL_law_356 : decode cL_law 356 = .ok (.iconst 0, 1) := by decide +kernel
theorem dL_law_357 : decode cL_law 357 = .ok (.ireturn, 1) := by decide +kernel
theorem dL_law_358 : decode cL_law 358 = .ok (.aload_n 1, 1) := by decide +kernel
theorem dL_law_359 : decode cL_law 359 = .ok (.aload_n 0, 1) := by decide +kernel
theorem dL_law_360 : decode cL_law 360 = .ok (.iload_n 3, 1) := by decide +kernel
theorem dL_law_361 : decode cL_law 361 = .ok (.iconst 1, 1) := by decide +kernel
theorem dL_law_362 : decode cL_law 362 = .ok (.iadd, 1) := by decide +kernel
theorem dL_law_363 : decode cL_law 363 = .ok (.iaload, 1) := by decide +kernel
theorem dL_law_364 : decode cL_law 364 = .ok (.aload_n 0, 1) := by decide +kernel
theorem dL_law_365 : decode cL_law 365 = .ok (.iload_n 3, 1) := by decide +kernel
theorem dL_law_366 : decode cL_law 366 = .ok (.iconst 2, 1) := by decide +kernel
theorem dL_law_367 : decode cL_law 367 = .ok (.iadd, 1) := by decide +kernel
theorem dL_law_368 : decode cL_law 368 = .ok (.iaload, 1) := by decide +kernel
theorem dL_law_369 : decode cL_law 369 = .ok (.invokevirtual 42, 3) := by decide +kernel
theorem dL_law_372 : decode cL_law 372 = .ok (.aload_n 2, 1) := by decide +kernel
theorem dL_law_373 : decode cL_law 373 = .ok (.aload_n 0, 1) := by decide +kernel
theorem dL_law_374 : decode cL_law 374 = .ok (.iload_n 3, 1) := by decide +kernel
theorem dL_law_375 : decode cL_law 375 = .ok (.iconst 1, 1) := by decide +kernel
theorem dL_law_376 : decode cL_law 376 = .ok (.iadd, 1) := by decide +kernel
theorem dL_law_377 : decode cL_law 377 = .ok (.iaload, 1) := by decide +kernel
theorem dL_law_378 : decode cL_law 378 = .ok (.aload_n 0, 1) := by decide +kernel
theorem dL_law_379 : decode cL_law 379 = .ok (.iload_n 3, 1) := by decide +kernel
theorem dL_law_380 : decode cL_law 380 = .ok (.iconst 2, 1) := by decide +kernel
theorem dL_law_381 : decode cL_law 381 = .ok (.iadd, 1) := by decide +kernel
theorem dL_law_382 : decode cL_law 382 = .ok (.iaload, 1) := by decide +kernel
theorem dL_law_383 : decode cL_law 383 = .ok (.invokevirtual 45, 3) := by decide +kernel
theorem dL_law_386 : decode cL_law 386 = .ok (.if_icmp .eq 259, 3) := by decide +kernel
theorem dL_law_389 : decode cL_law 389 = .ok (.iconst 0, 1) := by decide +kernel
theorem dL_law_390 : decode cL_law 390 = .ok (.ireturn, 1) := by decide +kernel
theorem dL_law_391 : decode cL_law 391 = .ok (.aload_n 1, 1) := by decide +kernel
theorem dL_law_392 : decode cL_law 392 = .ok (.aload_n 0, 1) := by decide +kernel
theorem dL_law_393 : decode cL_law 393 = .ok (.iload_n 3, 1) := by decide +kernel
theorem dL_law_394 : decode cL_law 394 = .ok (.iconst 1, 1) := by decide +kernel
theorem dL_law_395 : decode cL_law 395 = .ok (.iadd, 1) := by decide +kernel
theorem dL_law_396 : decode cL_law 396 = .ok (.iaload, 1) := by decide +kernel
theorem dL_law_397 : decode cL_law 397 = .ok (.aload_n 0, 1) := by decide +kernel
theorem dL_law_398 : decode cL_law 398 = .ok (.iload_n 3, 1) := by decide +kernel
theorem dL_law_399 : decode cL_law 399 = .ok (.iconst 2, 1) := by decide +kernel
theorem dL_law_400 : decode cL_law 400 = .ok (.iadd, 1) := by decide +kernel
theorem dL_law_401 : decode cL_law 401 = .ok (.iaload, 1) := by decide +kernel
theorem dL_law_402 : decode cL_law 402 = .ok (.invokevirtual 46, 3) := by decide +kernel
theorem dL_law_405 : decode cL_law 405 = .ok (.aload_n 2, 1) := by decide +kernel
theorem dL_law_406 : decode cL_law 406 = .ok (.aload_n 0, 1) := by decide +kernel
theorem dL_law_407 : decode cL_law 407 = .ok (.iload_n 3, 1) := by decide +kernel
theorem dL_law_408 : decode cL_law 408 = .ok (.iconst 1, 1) := by decide +kernel
theorem dL_law_409 : decode cL_law 409 = .ok (.iadd, 1) := by decide +kernel
theorem dL_law_410 : decode cL_law 410 = .ok (.iaload, 1) := by decide +kernel
theorem dL_law_411 : decode cL_law 411 = .ok (.aload_n 0, 1) := by decide +kernel
theorem dL_law_412 : decode cL_law 412 = .ok (.iload_n 3, 1) := by decide +kernel
theorem dL_law_413 : decode cL_law 413 = .ok (.iconst 2, 1) := by decide +kernel
theorem dL_law_414 : decode cL_law 414 = .ok (.iadd, 1) := by decide +kernel
theorem dL_law_415 : decode cL_law 415 = .ok (.iaload, 1) := by decide +kernel
theorem dL_law_416 : decode cL_law 416 = .ok (.invokevirtual 49, 3) := by decide +kernel
theorem dL_law_419 : decode cL_law 419 = .ok (.if_icmp .eq 226, 3) := by decide +kernel
theorem dL_law_422 : decode cL_law 422 = .ok (.iconst 0, 1) := by decide +kernel
theorem dL_law_423 : decode cL_law 423 = .ok (.ireturn, 1) := by decide +kernel
theorem dL_law_424 : decode cL_law 424 = .ok (.aload_n 1, 1) := by decide +kernel
theorem dL_law_425 : decode cL_law 425 = .ok (.aload_n 0, 1) := by decide +kernel
theorem dL_law_426 : decode cL_law 426 = .ok (.iload_n 3, 1) := by decide +kernel
theorem dL_law_427 : decode cL_law 427 = .ok (.iconst 1, 1) := by decide +kernel
theorem dL_law_428 : decode cL_law 428 = .ok (.iadd, 1) := by decide +kernel
theorem dL_law_429 : decode cL_law 429 = .ok (.iaload, 1) := by decide +kernel
theorem dL_law_430 : decode cL_law 430 = .ok (.aload_n 0, 1) := by decide +kernel
theorem dL_law_431 : decode cL_law 431 = .ok (.iload_n 3, 1) := by decide +kernel
theorem dL_law_432 : decode cL_law 432 = .ok (.iconst 2, 1) := by decide +kernel
theorem dL_law_433 : decode cL_law 433 = .ok (.iadd, 1) := by decide +kernel
theorem dL_law_434 : decode cL_law 434 = .ok (.iaload, 1) := by decide +kernel
theorem dL_law_435 : decode cL_law 435 = .ok (.aload_n 0, 1) := by decide +kernel
theorem dL_law_436 : decode cL_law 436 = .ok (.iload_n 3, 1) := by decide +kernel
theorem dL_law_437 : decode cL_law 437 = .ok (.iconst 3, 1) := by decide +kernel
theorem dL_law_438 : decode cL_law 438 = .ok (.iadd, 1) := by decide +kernel
theorem dL_law_439 : decode cL_law 439 = .ok (.iaload, 1) := by decide +kernel
theorem dL_law_440 : decode cL_law 440 = .ok (.invokevirtual 50, 3) := by decide +kernel
theorem dL_law_443 : decode cL_law 443 = .ok (.aload_n 2, 1) := by decide +kernel
theorem dL_law_444 : decode cL_law 444 = .ok (.aload_n 0, 1) := by decide +kernel
theorem dL_law_445 : decode cL_law 445 = .ok (.iload_n 3, 1) := by decide +kernel
theorem dL_law_446 : decode cL_law 446 = .ok (.iconst 1, 1) := by decide +kernel
theorem dL_law_447 : decode cL_law 447 = .ok (.iadd, 1) := by decide +kernel
theorem dL_law_448 : decode cL_law 448 = .ok (.iaload, 1) := by decide +kernel
theorem dL_law_449 : decode cL_law 449 = .ok (.aload_n 0, 1) := by decide +kernel
theorem dL_law_450 : decode cL_law 450 = .ok (.iload_n 3, 1) := by decide +kernel
theorem dL_law_451 : decode cL_law 451 = .ok (.iconst 2, 1) := by decide +kernel
theorem dL_law_452 : decode cL_law 452 = .ok (.iadd, 1) := by decide +kernel
theorem dL_law_453 : decode cL_law 453 = .ok (.iaload, 1) := by decide +kernel
theorem dL_law_454 : decode cL_law 454 = .ok (.aload_n 0, 1) := by decide +kernel
theorem dL_law_455 : decode cL_law 455 = .ok (.iload_n 3, 1) := by decide +kernel
theorem dL_law_456 : decode cL_law 456 = .ok (.iconst 3, 1) := by decide +kernel
theorem dL_law_457 : decode cL_law 457 = .ok (.iadd, 1) := by decide +kernel
theorem dL_law_458 : decode cL_law 458 = .ok (.iaload, 1) := by decide +kernel
theorem dL_law_459 : decode cL_law 459 = .ok (.invokevirtual 54, 3) := by decide +kernel
theorem dL_law_462 : decode cL_law 462 = .ok (.if_icmp .eq 183, 3) := by decide +kernel
theorem dL_law_465 : decode cL_law 465 = .ok (.iconst 0, 1) := by decide +kernel
theorem dL_law_466 : decode cL_law 466 = .ok (.ireturn, 1) := by decide +kernel
theorem dL_law_467 : decode cL_law 467 = .ok (.aload_n 1, 1) := by decide +kernel
theorem dL_law_468 : decode cL_law 468 = .ok (.aload_n 0, 1) := by decide +kernel
theorem dL_law_469 : decode cL_law 469 = .ok (.iload_n 3, 1) := by decide +kernel
theorem dL_law_470 : decode cL_law 470 = .ok (.iconst 1, 1) := by decide +kernel
theorem dL_law_471 : decode cL_law 471 = .ok (.iadd, 1) := by decide +kernel
theorem dL_law_472 : decode cL_law 472 = .ok (.iaload, 1) := by decide +kernel
theorem dL_law_473 : decode cL_law 473 = .ok (.aload_n 0, 1) := by decide +kernel
theorem dL_law_474 : decode cL_law 474 = .ok (.iload_n 3, 1) := by decide +kernel
theorem dL_law_475 : decode cL_law 475 = .ok (.iconst 2, 1) := by decide +kernel
theorem dL_law_476 : decode cL_law 476 = .ok (.iadd, 1) := by decide +kernel
theorem dL_law_477 : decode cL_law 477 = .ok (.iaload, 1) := by decide +kernel
theorem dL_law_478 : decode cL_law 478 = .ok (.aload_n 0, 1) := by decide +kernel
theorem dL_law_479 : decode cL_law 479 = .ok (.iload_n 3, 1) := by decide +kernel
theorem dL_law_480 : decode cL_law 480 = .ok (.iconst 3, 1) := by decide +kernel
theorem dL_law_481 : decode cL_law 481 = .ok (.iadd, 1) := by decide +kernel
theorem dL_law_482 : decode cL_law 482 = .ok (.iaload, 1) := by decide +kernel
theorem dL_law_483 : decode cL_law 483 = .ok (.invokevirtual 55, 3) := by decide +kernel
theorem dL_law_486 : decode cL_law 486 = .ok (.aload_n 2, 1) := by decide +kernel
theorem dL_law_487 : decode cL_law 487 = .ok (.aload_n 0, 1) := by decide +kernel
theorem dL_law_488 : decode cL_law 488 = .ok (.iload_n 3, 1) := by decide +kernel
theorem dL_law_489 : decode cL_law 489 = .ok (.iconst 1, 1) := by decide +kernel
theorem dL_law_490 : decode cL_law 490 = .ok (.iadd, 1) := by decide +kernel
theorem dL_law_491 : decode cL_law 491 = .ok (.iaload, 1) := by decide +kernel
theorem dL_law_492 : decode cL_law 492 = .ok (.aload_n 0, 1) := by decide +kernel
theorem dL_law_493 : decode cL_law 493 = .ok (.iload_n 3, 1) := by decide +kernel
theorem dL_law_494 : decode cL_law 494 = .ok (.iconst 2, 1) := by decide +kernel
theorem dL_law_495 : decode cL_law 495 = .ok (.iadd, 1) := by decide +kernel
theorem dL_law_496 : decode cL_law 496 = .ok (.iaload, 1) := by decide +kernel
theorem dL_law_497 : decode cL_law 497 = .ok (.aload_n 0, 1) := by decide +kernel
theorem dL_law_498 : decode cL_law 498 = .ok (.iload_n 3, 1) := by decide +kernel
theorem dL_law_499 : decode cL_law 499 = .ok (.iconst 3, 1) := by decide +kernel
theorem dL_law_500 : decode cL_law 500 = .ok (.iadd, 1) := by decide +kernel
theorem dL_law_501 : decode cL_law 501 = .ok (.iaload, 1) := by decide +kernel
theorem dL_law_502 : decode cL_law 502 = .ok (.invokevirtual 58, 3) := by decide +kernel
theorem dL_law_505 : decode cL_law 505 = .ok (.if_icmp .eq 140, 3) := by decide +kernel
theorem dL_law_508 : decode cL_law 508 = .ok (.iconst 0, 1) := by decide +kernel
theorem dL_law_509 : decode cL_law 509 = .ok (.ireturn, 1) := by decide +kernel
theorem dL_law_510 : decode cL_law 510 = .ok (.aload_n 1, 1) := by decide +kernel
theorem dL_law_511 : decode cL_law 511 = .ok (.aload_n 0, 1) := by decide +kernel
theorem dL_law_512 : decode cL_law 512 = .ok (.iload_n 3, 1) := by decide +kernel
theorem dL_law_513 : decode cL_law 513 = .ok (.iconst 1, 1) := by decide +kernel
theorem dL_law_514 : decode cL_law 514 = .ok (.iadd, 1) := by decide +kernel
theorem dL_law_515 : decode cL_law 515 = .ok (.iaload, 1) := by decide +kernel
theorem dL_law_516 : decode cL_law 516 = .ok (.invokevirtual 59, 3) := by decide +kernel
theorem dL_law_519 : decode cL_law 519 = .ok (.aload_n 2, 1) := by decide +kernel
theorem dL_law_520 : decode cL_law 520 = .ok (.aload_n 0, 1) := by decide +kernel
theorem dL_law_521 : decode cL_law 521 = .ok (.iload_n 3, 1) := by decide +kernel
theorem dL_law_522 : decode cL_law 522 = .ok (.iconst 1, 1) := by decide +kernel
theorem dL_law_523 : decode cL_law 523 = .ok (.iadd, 1) := by decide +kernel
theorem dL_law_524 : decode cL_law 524 = .ok (.iaload, 1) := by decide +kernel
theorem dL_law_525 : decode cL_law 525 = .ok (.invokevirtual 63, 3) := by decide +kernel
theorem dL_law_528 : decode cL_law 528 = .ok (.if_icmp .eq 117, 3) := by decide +kernel
theorem dL_law_531 : decode cL_law 531 = .ok (.iconst 0, 1) := by decide +kernel
theorem dL_law_532 : decode cL_law 532 = .ok (.ireturn, 1) := by decide +kernel
theorem dL_law_533 : decode cL_law 533 = .ok (.aload_n 1, 1) := by decide +kernel
theorem dL_law_534 : decode cL_law 534 = .ok (.aload_n 0, 1) := by decide +kernel
theorem dL_law_535 : decode cL_law 535 = .ok (.iload_n 3, 1) := by decide +kernel
theorem dL_law_536 : decode cL_law 536 = .ok (.iconst 1, 1) := by decide +kernel
theorem dL_law_537 : decode cL_law 537 = .ok (.iadd, 1) := by decide +kernel
theorem dL_law_538 : decode cL_law 538 = .ok (.iaload, 1) := by decide +kernel
theorem dL_law_539 : decode cL_law 539 = .ok (.aload_n 0, 1) := by decide +kernel
theorem dL_law_540 : decode cL_law 540 = .ok (.iload_n 3, 1) := by decide +kernel
theorem dL_law_541 : decode cL_law 541 = .ok (.iconst 2, 1) := by decide +kernel
theorem dL_law_542 : decode cL_law 542 = .ok (.iadd, 1) := by decide +kernel
theorem dL_law_543 : decode cL_law 543 = .ok (.iaload, 1) := by decide +kernel
theorem dL_law_544 : decode cL_law 544 = .ok (.invokevirtual 64, 3) := by decide +kernel
theorem dL_law_547 : decode cL_law 547 = .ok (.aload_n 2, 1) := by decide +kernel
theorem dL_law_548 : decode cL_law 548 = .ok (.aload_n 0, 1) := by decide +kernel
theorem dL_law_549 : decode cL_law 549 = .ok (.iload_n 3, 1) := by decide +kernel
theorem dL_law_550 : decode cL_law 550 = .ok (.iconst 1, 1) := by decide +kernel
theorem dL_law_551 : decode cL_law 551 = .ok (.iadd, 1) := by decide +kernel
theorem dL_law_552 : decode cL_law 552 = .ok (.iaload, 1) := by decide +kernel
theorem dL_law_553 : decode cL_law 553 = .ok (.aload_n 0, 1) := by decide +kernel
theorem dL_law_554 : decode cL_law 554 = .ok (.iload_n 3, 1) := by decide +kernel
theorem dL_law_555 : decode cL_law 555 = .ok (.iconst 2, 1) := by decide +kernel
theorem dL_law_556 : decode cL_law 556 = .ok (.iadd, 1) := by decide +kernel
theorem dL_law_557 : decode cL_law 557 = .ok (.iaload, 1) := by decide +kernel
theorem dL_law_558 : decode cL_law 558 = .ok (.invokevirtual 67, 3) := by decide +kernel
theorem dL_law_561 : decode cL_law 561 = .ok (.if_icmp .eq 84, 3) := by decide +kernel
theorem dL_law_564 : decode cL_law 564 = .ok (.iconst 0, 1) := by decide +kernel
theorem dL_law_565 : decode cL_law 565 = .ok (.ireturn, 1) := by decide +kernel
theorem dL_law_566 : decode cL_law 566 = .ok (.aload_n 1, 1) := by decide +kernel
theorem dL_law_567 : decode cL_law 567 = .ok (.aload_n 0, 1) := by decide +kernel
theorem dL_law_568 : decode cL_law 568 = .ok (.iload_n 3, 1) := by decide +kernel
theorem dL_law_569 : decode cL_law 569 = .ok (.iconst 1, 1) := by decide +kernel
theorem dL_law_570 : decode cL_law 570 = .ok (.iadd, 1) := by decide +kernel
theorem dL_law_571 : decode cL_law 571 = .ok (.iaload, 1) := by decide +kernel
theorem dL_law_572 : decode cL_law 572 = .ok (.invokevirtual 68, 3) := by decide +kernel
theorem dL_law_575 : decode cL_law 575 = .ok (.aload_n 2, 1) := by decide +kernel
theorem dL_law_576 : decode cL_law 576 = .ok (.aload_n 0, 1) := by decide +kernel
theorem dL_law_577 : decode cL_law 577 = .ok (.iload_n 3, 1) := by decide +kernel
theorem dL_law_578 : decode cL_law 578 = .ok (.iconst 1, 1) := by decide +kernel
theorem dL_law_579 : decode cL_law 579 = .ok (.iadd, 1) := by decide +kernel
theorem dL_law_580 : decode cL_law 580 = .ok (.iaload, 1) := by decide +kernel
theorem dL_law_581 : decode cL_law 581 = .ok (.invokevirtual 71, 3) := by decide +kernel
theorem dL_law_584 : decode cL_law 584 = .ok (.if_icmp .eq 61, 3) := by decide +kernel
theorem dL_law_587 : decode cL_law 587 = .ok (.iconst 0, 1) := by decide +kernel
theorem dL_law_588 : decode cL_law 588 = .ok (.ireturn, 1) := by decide +kernel
theorem dL_law_589 : decode cL_law 589 = .ok (.aload_n 1, 1) := by decide +kernel
theorem dL_law_590 : decode cL_law 590 = .ok (.aload_n 0, 1) := by decide +kernel
theorem dL_law_591 : decode cL_law 591 = .ok (.iload_n 3, 1) := by decide +kernel
theorem dL_law_592 : decode cL_law 592 = .ok (.iconst 1, 1) := by decide +kernel
theorem dL_law_593 : decode cL_law 593 = .ok (.iadd, 1) := by decide +kernel
theorem dL_law_594 : decode cL_law 594 = .ok (.iaload, 1) := by decide +kernel
theorem dL_law_595 : decode cL_law 595 = .ok (.invokevirtual 72, 3) := by decide +kernel
theorem dL_law_598 : decode cL_law 598 = .ok (.aload_n 2, 1) := by decide +kernel
theorem dL_law_599 : decode cL_law 599 = .ok (.aload_n 0, 1) := by decide +kernel
theorem dL_law_600 : decode cL_law 600 = .ok (.iload_n 3, 1) := by decide +kernel
theorem dL_law_601 : decode cL_law 601 = .ok (.iconst 1, 1) := by decide +kernel
theorem dL_law_602 : decode cL_law 602 = .ok (.iadd, 1) := by decide +kernel
theorem dL_law_603 : decode cL_law 603 = .ok (.iaload, 1) := by decide +kernel
theorem dL_law_604 : decode cL_law 604 = .ok (.invokevirtual 75, 3) := by decide +kernel
theorem dL_law_607 : decode cL_law 607 = .ok (.if_icmp .eq 38, 3) := by decide +kernel
theorem dL_law_610 : decode cL_law 610 = .ok (.iconst 0, 1) := by decide +kernel
theorem dL_law_611 : decode cL_law 611 = .ok (.ireturn, 1) := by decide +kernel
theorem dL_law_612 : decode cL_law 612 = .ok (.aload_n 1, 1) := by decide +kernel
theorem dL_law_613 : decode cL_law 613 = .ok (.aload_n 0, 1) := by decide +kernel
theorem dL_law_614 : decode cL_law 614 = .ok (.iload_n 3, 1) := by decide +kernel
theorem dL_law_615 : decode cL_law 615 = .ok (.iconst 1, 1) := by decide +kernel
theorem dL_law_616 : decode cL_law 616 = .ok (.iadd, 1) := by decide +kernel
theorem dL_law_617 : decode cL_law 617 = .ok (.iaload, 1) := by decide +kernel
theorem dL_law_618 : decode cL_law 618 = .ok (.aload_n 0, 1) := by decide +kernel
theorem dL_law_619 : decode cL_law 619 = .ok (.iload_n 3, 1) := by decide +kernel
theorem dL_law_620 : decode cL_law 620 = .ok (.iconst 2, 1) := by decide +kernel
theorem dL_law_621 : decode cL_law 621 = .ok (.iadd, 1) := by decide +kernel
theorem dL_law_622 : decode cL_law 622 = .ok (.iaload, 1) := by decide +kernel
theorem dL_law_623 : decode cL_law 623 = .ok (.invokevirtual 76, 3) := by decide +kernel
theorem dL_law_626 : decode cL_law 626 = .ok (.aload_n 2, 1) := by decide +kernel
theorem dL_law_627 : decode cL_law 627 = .ok (.aload_n 0, 1) := by decide +kernel
theorem dL_law_628 : decode cL_law 628 = .ok (.iload_n 3, 1) := by decide +kernel
theorem dL_law_629 : decode cL_law 629 = .ok (.iconst 1, 1) := by decide +kernel
theorem dL_law_630 : decode cL_law 630 = .ok (.iadd, 1) := by decide +kernel
theorem dL_law_631 : decode cL_law 631 = .ok (.iaload, 1) := by decide +kernel
theorem dL_law_632 : decode cL_law 632 = .ok (.aload_n 0, 1) := by decide +kernel
theorem dL_law_633 : decode cL_law 633 = .ok (.iload_n 3, 1) := by decide +kernel
theorem dL_law_634 : decode cL_law 634 = .ok (.iconst 2, 1) := by decide +kernel
theorem dL_law_635 : decode cL_law 635 = .ok (.iadd, 1) := by decide +kernel
theorem dL_law_636 : decode cL_law 636 = .ok (.iaload, 1) := by decide +kernel
theorem dL_law_637 : decode cL_law 637 = .ok (.invokevirtual 79, 3) := by decide +kernel
theorem dL_law_640 : decode cL_law 640 = .ok (.if_icmp .eq 5, 3) := by decide +kernel
theorem dL_law_643 : decode cL_law 643 = .ok (.iconst 0, 1) := by decide +kernel
theorem dL_law_644 : decode cL_law 644 = .ok (.ireturn, 1) := by decide +kernel
theorem dL_law_645 : decode cL_law 645 = .ok (.iinc 3 4, 3) := by decide +kernel
theorem dL_law_648 : decode cL_law 648 = .ok (.goto (-630), 3) := by decide +kernel
theorem dL_law_651 : decode cL_law 651 = .ok (.iconst 1, 1) := by decide +kernel
theorem dL_law_652 : decode cL_law 652 = .ok (.ireturn, 1) := by decide +kernel
end
section
/-! THE FRAME OF THE WALKS. A value is an int or a cell of the class's world by its number (0: the object, k + 1: the array of its field k).
A world w: w k is the array of the field k, or w k 0 the int of the field k. jx_J M Ψ pc lv st w: from the place pc of the method M, with locals lv, operand stack st and world w, the method returns, and Ψ (its answer) (its world) holds. jx_CX N av w Ψ: the contract of N called with av. -/
set_option maxRecDepth 100000
abbrev jx_V : Type := Int32 ⊕ Nat
abbrev jx_Wd : Type := Nat → Nat → Int32
abbrev jx_Lv : Type := List (Option jx_V)
def jx_c (g : Nat → Nat) : jx_V → Value
  | .inl x => .int x
  | .inr k => .ref (g k)
theorem jx_cat (g : Nat → Nat) (v : jx_V) : (jx_c g v).category = 1 := by cases v <;> rfl
abbrev jx_i (x : Int32) : Option jx_V := some (.inl x)
abbrev jx_t : Option jx_V := some (.inr 0)
def jx_up (w : jx_Wd) (k : Nat) (f : Nat → Int32) : jx_Wd := fun j => if j = k then f else w j
/-- a class's world: its number and names, its fields' values, its arrays (field, type of the elements, length) -/
abbrev jx_S : Type := Nat × vw_C × ((Nat → Nat) → jx_Wd → List Value) × List (Nat × FieldType × Nat)
def jx_W (S : jx_S) (g : Nat → Nat) (ct : Nat → ClassId) (w : jx_Wd) : va_W := (g 0, .inr (S.1, S.2.2.1 g w)) :: S.2.2.2.map (fun a => (g (a.1 + 1), .inl (ct a.1, a.2.2, .inl (w a.1))))
def jx_ty (S : jx_S) (ct : Nat → ClassId) : List (ClassId × FieldType) := S.2.2.2.map (fun a => (ct a.1, a.2.1))
abbrev jx_M : Type := jx_S × MethodName × ByteArray × Nat × Option FieldType × Room
abbrev mS (M : jx_M) : jx_S := M.1
abbrev mY (M : jx_M) : MethodName := M.2.1
abbrev mC (M : jx_M) : ByteArray := M.2.2.1
abbrev mL (M : jx_M) : Nat := M.2.2.2.1
abbrev mR (M : jx_M) : Option FieldType := M.2.2.2.2.1
abbrev mRm (M : jx_M) : Room := M.2.2.2.2.2
abbrev vwCl : List vw_C := [(RX0, TX0, 13), (RX1, TX1, 5)]
def jx_L (g : Nat → Nat) (nL : Nat) (ls : Array Slot) (lv : jx_Lv) : Prop := ls.size = nL ∧ lv_wf ls ∧ ∀ (i : Nat) (v : jx_V), lv[i]? = some (some v) → ls[i]? = some (.val (jx_c g v))
def jx_Qc (S : jx_S) (D : va_G) (g : Nat → Nat) (ct : Nat → ClassId) (A : Nat → Prop) (Ψ : Option Int32 → jx_Wd → Prop) : Array Value → State → Outcome → State → Prop := fun _ st oc t => (∃ (r : Option Int32) (u : jx_Wd), oc = .returned (r.map Value.int) ∧ Ψ r u ∧ va_P D vwCl (jx_W S g ct u) t.heap ∧ va_K D vwCl (jx_ty S ct) t ∧ va_D A (jx_W S g ct u)) ∧ va_F A st t
def jx_Pc (S : jx_S) (D : va_G) (g : Nat → Nat) (ct : Nat → ClassId) (sz : Nat) (av : List jx_V) (w : jx_Wd) : Array Value → State → Prop := va_Pc (av.map (jx_c g)) (fun U => U.heap.size = sz ∧ va_P D vwCl (jx_W S g ct w) U.heap ∧ va_K D vwCl (jx_ty S ct) U ∧ va_D (fun _ => True) (jx_W S g ct w))
def jx_CX (N : jx_M) (av : List jx_V) (w : jx_Wd) (Ψ : Option Int32 → jx_Wd → Prop) : Prop := ∀ (l : Launch) (D : va_G) (g : Nat → Nat) (ct : Nat → ClassId) (sz : Nat), Met l (mY N) (ws_ (mY N) (mC N) (mL N) (mR N)) (mRm N) (jx_Pc (mS N) D g ct sz av w) (jx_Qc (mS N) D g ct (va_A (jx_W (mS N) g ct w) sz) Ψ) 0 0 (va_A (jx_W (mS N) g ct w) sz)
def jx_qi (Φ : Int32 → jx_Wd → Prop) : Option Int32 → jx_Wd → Prop := fun o u => ∃ r, o = some r ∧ Φ r u
def jx_qv (Φ : jx_Wd → Prop) : Option Int32 → jx_Wd → Prop := fun o u => o = none ∧ Φ u
def jx_CI (N : jx_M) (av : List jx_V) (w : jx_Wd) (Φ : Int32 → jx_Wd → Prop) : Prop := jx_CX N av w (jx_qi Φ)
def jx_CV (N : jx_M) (av : List jx_V) (w : jx_Wd) (Φ : jx_Wd → Prop) : Prop := jx_CX N av w (jx_qv Φ)
def jx_St (M : jx_M) (p : Program) (s : State) (m : MethodId) (args : Array Value) (meth : Method) (c : Code) (D : va_G) (ct : Nat → ClassId) (A : Nat → Prop) : Prop :=
  p.tables.exec = Jvm.exec ∧ c.code = mC M ∧ meth.sig.returnType = mR M ∧ (∀ w ∈ lw_all, w.before args s = true) ∧ s.vm.findClass (mY M).cls = some m.cls ∧ meth.locks = false ∧ c.maxLocals = mL M ∧ va_K D vwCl (jx_ty (mS M) ct) s ∧ (∀ q, s.heap.size ≤ q → A q)
def jx_J (M : jx_M) (Ψ : Option Int32 → jx_Wd → Prop) (pc : Nat) (lv : jx_Lv) (st : List jx_V) (w : jx_Wd) : Prop :=
  ∀ (p : Program) (l : Launch) (e : Env) (s : State) (m : MethodId) (args : Array Value) (below : List Frame) (meth : Method) (c : Code) (D : va_G) (g : Nat → Nat) (ct : Nat → ClassId) (A : Nat → Prop), jx_St M p s m args meth c D ct A →
  ∀ (H : Heap) (locs : List Loc) (ls : Array Slot), va_P D vwCl (jx_W (mS M) g ct w) H → va_D A (jx_W (mS M) g ct w) → va_S A s.heap H locs → jx_L g (mL M) ls lv →
  W p l e (mRm M) s m args below meth c H locs (mRm M).cells (mRm M).slots (MQ below (jx_Qc (mS M) D g ct A Ψ) args s (mRm M).cells (mRm M).slots A) (F0 m pc ls (st.map (jx_c g)))
/-! locals -/
def jx_tl (g : Nat → Nat) (lv : jx_Lv) : List (Nat × Value) := (List.range lv.length).filterMap (fun i => match lv[i]? with
  | some (some v) => some (i, jx_c g v)
  | _ => none)
theorem jx_tl_mem {g : Nat → Nat} {lv : jx_Lv} {i : Nat} {v : jx_V} (h : lv[i]? = some (some v)) : (i, jx_c g v) ∈ jx_tl g lv := by
  refine List.mem_filterMap.mpr ⟨i, List.mem_range.mpr (List.getElem?_eq_some_iff.mp h).1, ?_⟩
  rw [h]
theorem jx_tl_of {g : Nat → Nat} {lv : jx_Lv} {q : Nat × Value} (h : q ∈ jx_tl g lv) : ∃ v, lv[q.1]? = some (some v) ∧ q.2 = jx_c g v := by
  obtain ⟨i, -, hi⟩ := List.mem_filterMap.mp h
  cases hl : lv[i]? with
  | none => rw [hl] at hi; cases hi
  | some z =>
    cases z with
    | none => rw [hl] at hi; cases hi
    | some v =>
      rw [hl] at hi
      cases hi
      exact ⟨v, hl, rfl⟩
theorem jx_L.has {g : Nat → Nat} {nL : Nat} {ls : Array Slot} {lv : jx_Lv} (h : jx_L g nL ls lv) : lv_has ls nL (jx_tl g lv) := by
  refine ⟨h.1, h.2.1, fun q hq => ?_⟩
  obtain ⟨v, h1, h2⟩ := jx_tl_of hq
  rw [h2]
  exact h.2.2 q.1 v h1
theorem jx_L.set {g : Nat → Nat} {nL i : Nat} {ls : Array Slot} {lv : jx_Lv} {v0 : jx_V} (h : lv_has ls nL ((i, jx_c g v0) :: (jx_tl g lv).filter (fun q => !(q.1 == i) && !(q.1 + 1 == i && q.2.category == 2)))) : jx_L g nL ls (lv.set i (some v0)) := by
  refine ⟨h.1, h.2.1, fun j v hj => ?_⟩
  by_cases hij : i = j
  · subst hij
    have hlt : i < lv.length := by
      have := (List.getElem?_eq_some_iff.mp hj).1
      simpa using this
    rw [List.getElem?_set_self hlt] at hj
    cases hj
    exact h.2.2 (i, jx_c g v0) List.mem_cons_self
  · rw [List.getElem?_set_ne hij] at hj
    refine h.2.2 (j, jx_c g v) (List.mem_cons_of_mem _ (List.mem_filter.mpr ⟨jx_tl_mem hj, ?_⟩))
    have e1 : (j == i) = false := by simp; exact fun z => hij z.symm
    have e2 : ((jx_c g v).category == 2) = false := by rw [jx_cat]; rfl
    simp [e1, e2]
/-- fewer locals known -/
def jx_Le (a b : jx_Lv) : Prop := ∀ (i : Nat) (v : jx_V), a[i]? = some (some v) → b[i]? = some (some v)
theorem jx_Le.z : jx_Le [] [] := fun i v h => h
theorem jx_Le.s {x : Option jx_V} {a b : jx_Lv} (h : jx_Le a b) : jx_Le (x :: a) (x :: b) := by
  intro i v hi
  cases i with
  | zero => exact hi
  | succ i => exact h i v hi
theorem jx_Le.n {x : Option jx_V} {a b : jx_Lv} (h : jx_Le a b) : jx_Le (none :: a) (x :: b) := by
  intro i v hi
  cases i with
  | zero => cases hi
  | succ i => exact h i v hi
theorem jx_nb {x : Int32} (h : x = 0 ∨ x = 1) : narrow .boolean (.int x) = .int x := by
  rcases h with rfl | rfl <;> rfl
theorem jx_nn {p : Prop} (h : ¬ ¬ p) : p := Classical.not_not.mp h
section JR
variable {M : jx_M} {Ψ : Option Int32 → jx_Wd → Prop} {pc : Nat} {lv : jx_Lv} {st : List jx_V} {w : jx_Wd}
theorem jx_weak {lv' : jx_Lv} (hle : jx_Le lv' lv) (k : jx_J M Ψ pc lv' st w) : jx_J M Ψ pc lv st w := by
  intro p l e s m args below meth c D g ct A hs H locs ls hP hD hS hl
  exact k p l e s m args below meth c D g ct A hs H locs ls hP hD hS ⟨hl.1, hl.2.1, fun i v h => hl.2.2 i v (hle i v h)⟩
theorem jx_nm {x : Int32} (k : ∀ y : Int32, y = x → jx_J M Ψ pc lv (.inl y :: st) w) : jx_J M Ψ pc lv (.inl x :: st) w := k x rfl
theorem jx_mono {Ψ' : Option Int32 → jx_Wd → Prop} (k : jx_J M Ψ' pc lv st w) (hi : ∀ o u, Ψ' o u → Ψ o u) : jx_J M Ψ pc lv st w := by
  intro p l e s m args below meth c D g ct A hs H locs ls hP hD hS hl T hT X
  obtain ⟨t, a1, o, b1, b2, ⟨⟨r, u, c1, c2, c3⟩, c4⟩, b4⟩ := k p l e s m args below meth c D g ct A hs H locs ls hP hD hS hl T hT X
  exact ⟨t, a1, o, b1, b2, ⟨⟨r, u, c1, hi r u c2, c3⟩, c4⟩, b4⟩

theorem jx_iconst {n : Int} {v : Int32} (hd : decode (mC M) pc = .ok (.iconst n, 1)) (hv : Int32.ofInt n = v) (k : jx_J M Ψ (pc + 1) lv (.inl v :: st) w) : jx_J M Ψ pc lv (st) w := by
  intro p l e s m args below meth c D g ct A hs H locs ls hP hD hS hl
  exact lv_iconst hs.1 hs.2.1 hd hv (k p l e s m args below meth c D g ct A hs H locs ls hP hD hS hl)
theorem jx_bipush {n : Int} {v : Int32} (hd : decode (mC M) pc = .ok (.bipush n, 2)) (hv : (Int8.ofInt n).toInt32 = v) (k : jx_J M Ψ (pc + 2) lv (.inl v :: st) w) : jx_J M Ψ pc lv (st) w := by
  intro p l e s m args below meth c D g ct A hs H locs ls hP hD hS hl
  exact lv_bipush hs.1 hs.2.1 hd hv (k p l e s m args below meth c D g ct A hs H locs ls hP hD hS hl)
theorem jx_sipush {n : Int} {v : Int32} (hd : decode (mC M) pc = .ok (.sipush n, 3)) (hv : (Int16.ofInt n).toInt32 = v) (k : jx_J M Ψ (pc + 3) lv (.inl v :: st) w) : jx_J M Ψ pc lv (st) w := by
  intro p l e s m args below meth c D g ct A hs H locs ls hP hD hS hl
  exact lv_sipush hs.1 hs.2.1 hd hv (k p l e s m args below meth c D g ct A hs H locs ls hP hD hS hl)
theorem jx_iload_n {j : Fin 4} {i : Nat} {x : Int32} (hd : decode (mC M) pc = .ok (.iload_n j, 1)) (hi : (j : Nat) = i) (hx : lv[i]? = some (some (.inl x))) (k : jx_J M Ψ (pc + 1) lv (.inl x :: st) w) : jx_J M Ψ pc lv (st) w := by
  intro p l e s m args below meth c D g ct A hs H locs ls hP hD hS hl
  exact lv_iload_n hs.1 hs.2.1 hd hi (hl.2.2 i (.inl x) hx) (k p l e s m args below meth c D g ct A hs H locs ls hP hD hS hl)
theorem jx_iload {i : Nat} {x : Int32} (hd : decode (mC M) pc = .ok (.iload i, 2)) (hx : lv[i]? = some (some (.inl x))) (k : jx_J M Ψ (pc + 2) lv (.inl x :: st) w) : jx_J M Ψ pc lv (st) w := by
  intro p l e s m args below meth c D g ct A hs H locs ls hP hD hS hl
  exact lv_iload hs.1 hs.2.1 hd (hl.2.2 i (.inl x) hx) (k p l e s m args below meth c D g ct A hs H locs ls hP hD hS hl)
theorem jx_aload_n {j : Fin 4} {i : Nat} {x : Nat} (hd : decode (mC M) pc = .ok (.aload_n j, 1)) (hi : (j : Nat) = i) (hx : lv[i]? = some (some (.inr x))) (k : jx_J M Ψ (pc + 1) lv (.inr x :: st) w) : jx_J M Ψ pc lv (st) w := by
  intro p l e s m args below meth c D g ct A hs H locs ls hP hD hS hl
  exact lv_aload_n hs.1 hs.2.1 hd hi (hl.2.2 i (.inr x) hx) (k p l e s m args below meth c D g ct A hs H locs ls hP hD hS hl)
theorem jx_iadd {x y : Int32} (hd : decode (mC M) pc = .ok (.iadd, 1)) (k : jx_J M Ψ (pc + 1) lv (.inl (x + y) :: st) w) : jx_J M Ψ pc lv (.inl y :: .inl x :: st) w := by
  intro p l e s m args below meth c D g ct A hs H locs ls hP hD hS hl
  exact lv_iadd hs.1 hs.2.1 hd (k p l e s m args below meth c D g ct A hs H locs ls hP hD hS hl)
theorem jx_isub {x y : Int32} (hd : decode (mC M) pc = .ok (.isub, 1)) (k : jx_J M Ψ (pc + 1) lv (.inl (x - y) :: st) w) : jx_J M Ψ pc lv (.inl y :: .inl x :: st) w := by
  intro p l e s m args below meth c D g ct A hs H locs ls hP hD hS hl
  exact lv_isub hs.1 hs.2.1 hd (k p l e s m args below meth c D g ct A hs H locs ls hP hD hS hl)
theorem jx_imul {x y : Int32} (hd : decode (mC M) pc = .ok (.imul, 1)) (k : jx_J M Ψ (pc + 1) lv (.inl (x * y) :: st) w) : jx_J M Ψ pc lv (.inl y :: .inl x :: st) w := by
  intro p l e s m args below meth c D g ct A hs H locs ls hP hD hS hl
  exact lv_imul hs.1 hs.2.1 hd (k p l e s m args below meth c D g ct A hs H locs ls hP hD hS hl)
theorem jx_iand {x y : Int32} (hd : decode (mC M) pc = .ok (.iand, 1)) (k : jx_J M Ψ (pc + 1) lv (.inl (x &&& y) :: st) w) : jx_J M Ψ pc lv (.inl y :: .inl x :: st) w := by
  intro p l e s m args below meth c D g ct A hs H locs ls hP hD hS hl
  exact lv_iand hs.1 hs.2.1 hd (k p l e s m args below meth c D g ct A hs H locs ls hP hD hS hl)
theorem jx_ior {x y : Int32} (hd : decode (mC M) pc = .ok (.ior, 1)) (k : jx_J M Ψ (pc + 1) lv (.inl (x ||| y) :: st) w) : jx_J M Ψ pc lv (.inl y :: .inl x :: st) w := by
  intro p l e s m args below meth c D g ct A hs H locs ls hP hD hS hl
  exact lv_ior hs.1 hs.2.1 hd (k p l e s m args below meth c D g ct A hs H locs ls hP hD hS hl)
theorem jx_ixor {x y : Int32} (hd : decode (mC M) pc = .ok (.ixor, 1)) (k : jx_J M Ψ (pc + 1) lv (.inl (x ^^^ y) :: st) w) : jx_J M Ψ pc lv (.inl y :: .inl x :: st) w := by
  intro p l e s m args below meth c D g ct A hs H locs ls hP hD hS hl
  exact lv_ixor hs.1 hs.2.1 hd (k p l e s m args below meth c D g ct A hs H locs ls hP hD hS hl)
theorem jx_ishl {x y : Int32} (hd : decode (mC M) pc = .ok (.ishl, 1)) (k : jx_J M Ψ (pc + 1) lv (.inl (x <<< (y &&& 31)) :: st) w) : jx_J M Ψ pc lv (.inl y :: .inl x :: st) w := by
  intro p l e s m args below meth c D g ct A hs H locs ls hP hD hS hl
  exact lv_ishl hs.1 hs.2.1 hd (k p l e s m args below meth c D g ct A hs H locs ls hP hD hS hl)
theorem jx_ishr {x y : Int32} (hd : decode (mC M) pc = .ok (.ishr, 1)) (k : jx_J M Ψ (pc + 1) lv (.inl (x >>> (y &&& 31)) :: st) w) : jx_J M Ψ pc lv (.inl y :: .inl x :: st) w := by
  intro p l e s m args below meth c D g ct A hs H locs ls hP hD hS hl
  exact lv_ishr hs.1 hs.2.1 hd (k p l e s m args below meth c D g ct A hs H locs ls hP hD hS hl)
theorem jx_idiv {x y : Int32} (hd : decode (mC M) pc = .ok (.idiv, 1)) (hne : ¬ y = 0) (k : jx_J M Ψ (pc + 1) lv (.inl (x / y) :: st) w) : jx_J M Ψ pc lv (.inl y :: .inl x :: st) w := by
  intro p l e s m args below meth c D g ct A hs H locs ls hP hD hS hl
  exact lv_idiv hs.1 hs.2.1 hd hne (k p l e s m args below meth c D g ct A hs H locs ls hP hD hS hl)
theorem jx_irem {x y : Int32} (hd : decode (mC M) pc = .ok (.irem, 1)) (hne : ¬ y = 0) (k : jx_J M Ψ (pc + 1) lv (.inl (x - x / y * y) :: st) w) : jx_J M Ψ pc lv (.inl y :: .inl x :: st) w := by
  intro p l e s m args below meth c D g ct A hs H locs ls hP hD hS hl
  exact lv_irem hs.1 hs.2.1 hd hne (k p l e s m args below meth c D g ct A hs H locs ls hP hD hS hl)
theorem jx_i2b {x : Int32} (hd : decode (mC M) pc = .ok (.i2b, 1)) (k : jx_J M Ψ (pc + 1) lv (.inl x.toInt8.toInt32 :: st) w) : jx_J M Ψ pc lv (.inl x :: st) w := by
  intro p l e s m args below meth c D g ct A hs H locs ls hP hD hS hl
  exact lv_i2b hs.1 hs.2.1 hd rfl (k p l e s m args below meth c D g ct A hs H locs ls hP hD hS hl)
theorem jx_i2s {x : Int32} (hd : decode (mC M) pc = .ok (.i2s, 1)) (k : jx_J M Ψ (pc + 1) lv (.inl x.toInt16.toInt32 :: st) w) : jx_J M Ψ pc lv (.inl x :: st) w := by
  intro p l e s m args below meth c D g ct A hs H locs ls hP hD hS hl
  exact lv_i2s hs.1 hs.2.1 hd rfl (k p l e s m args below meth c D g ct A hs H locs ls hP hD hS hl)
theorem jx_pop {v : jx_V} (hd : decode (mC M) pc = .ok (.pop, 1)) (k : jx_J M Ψ (pc + 1) lv (st) w) : jx_J M Ψ pc lv (v :: st) w := by
  intro p l e s m args below meth c D g ct A hs H locs ls hP hD hS hl
  exact lv_pop hs.1 hs.2.1 hd (jx_cat g v) (k p l e s m args below meth c D g ct A hs H locs ls hP hD hS hl)
theorem jx_dup {v : jx_V} (hd : decode (mC M) pc = .ok (.dup, 1)) (k : jx_J M Ψ (pc + 1) lv (v :: v :: st) w) : jx_J M Ψ pc lv (v :: st) w := by
  intro p l e s m args below meth c D g ct A hs H locs ls hP hD hS hl
  exact lv_dup hs.1 hs.2.1 hd (jx_cat g v) (k p l e s m args below meth c D g ct A hs H locs ls hP hD hS hl)
theorem jx_goto {off : Int} {tgt : Nat} (hd : decode (mC M) pc = .ok (.goto off, 3)) (ht : (pc : Int) + off = (tgt : Int)) (k : jx_J M Ψ tgt lv st w) : jx_J M Ψ pc lv st w := by
  intro p l e s m args below meth c D g ct A hs H locs ls hP hD hS hl
  exact lv_goto hs.1 hs.2.1 hd ht (k p l e s m args below meth c D g ct A hs H locs ls hP hD hS hl)
theorem jx_if_eq {x : Int32} {off : Int} {tgt : Nat} (hd : decode (mC M) pc = .ok (.ifCond .eq off, 3)) (ht : (pc : Int) + off = (tgt : Int)) (kt : x = 0 → jx_J M Ψ tgt lv st w) (kf : ¬ (x = 0) → jx_J M Ψ (pc + 3) lv st w) : jx_J M Ψ pc lv (.inl x :: st) w := by
  intro p l e s m args below meth c D g ct A hs H locs ls hP hD hS hl
  exact lv_if_eq hs.1 hs.2.1 hd ht (fun h => kt h p l e s m args below meth c D g ct A hs H locs ls hP hD hS hl) (fun h => kf h p l e s m args below meth c D g ct A hs H locs ls hP hD hS hl)
theorem jx_icmp_eq {x y : Int32} {off : Int} {tgt : Nat} (hd : decode (mC M) pc = .ok (.if_icmp .eq off, 3)) (ht : (pc : Int) + off = (tgt : Int)) (kt : x = y → jx_J M Ψ tgt lv st w) (kf : ¬ (x = y) → jx_J M Ψ (pc + 3) lv st w) : jx_J M Ψ pc lv (.inl y :: .inl x :: st) w := by
  intro p l e s m args below meth c D g ct A hs H locs ls hP hD hS hl
  exact lv_icmp_eq hs.1 hs.2.1 hd ht (fun h => kt h p l e s m args below meth c D g ct A hs H locs ls hP hD hS hl) (fun h => kf h p l e s m args below meth c D g ct A hs H locs ls hP hD hS hl)
theorem jx_if_ne {x : Int32} {off : Int} {tgt : Nat} (hd : decode (mC M) pc = .ok (.ifCond .ne off, 3)) (ht : (pc : Int) + off = (tgt : Int)) (kt : ¬ x = 0 → jx_J M Ψ tgt lv st w) (kf : x = 0 → jx_J M Ψ (pc + 3) lv st w) : jx_J M Ψ pc lv (.inl x :: st) w := by
  intro p l e s m args below meth c D g ct A hs H locs ls hP hD hS hl
  exact lv_if_ne hs.1 hs.2.1 hd ht (fun h => kt h p l e s m args below meth c D g ct A hs H locs ls hP hD hS hl) (fun h => kf h p l e s m args below meth c D g ct A hs H locs ls hP hD hS hl)
theorem jx_icmp_ne {x y : Int32} {off : Int} {tgt : Nat} (hd : decode (mC M) pc = .ok (.if_icmp .ne off, 3)) (ht : (pc : Int) + off = (tgt : Int)) (kt : ¬ x = y → jx_J M Ψ tgt lv st w) (kf : x = y → jx_J M Ψ (pc + 3) lv st w) : jx_J M Ψ pc lv (.inl y :: .inl x :: st) w := by
  intro p l e s m args below meth c D g ct A hs H locs ls hP hD hS hl
  exact lv_icmp_ne hs.1 hs.2.1 hd ht (fun h => kt h p l e s m args below meth c D g ct A hs H locs ls hP hD hS hl) (fun h => kf h p l e s m args below meth c D g ct A hs H locs ls hP hD hS hl)
theorem jx_if_lt {x : Int32} {off : Int} {tgt : Nat} (hd : decode (mC M) pc = .ok (.ifCond .lt off, 3)) (ht : (pc : Int) + off = (tgt : Int)) (kt : x < 0 → jx_J M Ψ tgt lv st w) (kf : ¬ (x < 0) → jx_J M Ψ (pc + 3) lv st w) : jx_J M Ψ pc lv (.inl x :: st) w := by
  intro p l e s m args below meth c D g ct A hs H locs ls hP hD hS hl
  exact lv_if_lt hs.1 hs.2.1 hd ht (fun h => kt h p l e s m args below meth c D g ct A hs H locs ls hP hD hS hl) (fun h => kf h p l e s m args below meth c D g ct A hs H locs ls hP hD hS hl)
theorem jx_icmp_lt {x y : Int32} {off : Int} {tgt : Nat} (hd : decode (mC M) pc = .ok (.if_icmp .lt off, 3)) (ht : (pc : Int) + off = (tgt : Int)) (kt : x < y → jx_J M Ψ tgt lv st w) (kf : ¬ (x < y) → jx_J M Ψ (pc + 3) lv st w) : jx_J M Ψ pc lv (.inl y :: .inl x :: st) w := by
  intro p l e s m args below meth c D g ct A hs H locs ls hP hD hS hl
  exact lv_icmp_lt hs.1 hs.2.1 hd ht (fun h => kt h p l e s m args below meth c D g ct A hs H locs ls hP hD hS hl) (fun h => kf h p l e s m args below meth c D g ct A hs H locs ls hP hD hS hl)
theorem jx_if_ge {x : Int32} {off : Int} {tgt : Nat} (hd : decode (mC M) pc = .ok (.ifCond .ge off, 3)) (ht : (pc : Int) + off = (tgt : Int)) (kt : 0 ≤ x → jx_J M Ψ tgt lv st w) (kf : ¬ (0 ≤ x) → jx_J M Ψ (pc + 3) lv st w) : jx_J M Ψ pc lv (.inl x :: st) w := by
  intro p l e s m args below meth c D g ct A hs H locs ls hP hD hS hl
  exact lv_if_ge hs.1 hs.2.1 hd ht (fun h => kt h p l e s m args below meth c D g ct A hs H locs ls hP hD hS hl) (fun h => kf h p l e s m args below meth c D g ct A hs H locs ls hP hD hS hl)
theorem jx_icmp_ge {x y : Int32} {off : Int} {tgt : Nat} (hd : decode (mC M) pc = .ok (.if_icmp .ge off, 3)) (ht : (pc : Int) + off = (tgt : Int)) (kt : y ≤ x → jx_J M Ψ tgt lv st w) (kf : ¬ (y ≤ x) → jx_J M Ψ (pc + 3) lv st w) : jx_J M Ψ pc lv (.inl y :: .inl x :: st) w := by
  intro p l e s m args below meth c D g ct A hs H locs ls hP hD hS hl
  exact lv_icmp_ge hs.1 hs.2.1 hd ht (fun h => kt h p l e s m args below meth c D g ct A hs H locs ls hP hD hS hl) (fun h => kf h p l e s m args below meth c D g ct A hs H locs ls hP hD hS hl)
theorem jx_if_gt {x : Int32} {off : Int} {tgt : Nat} (hd : decode (mC M) pc = .ok (.ifCond .gt off, 3)) (ht : (pc : Int) + off = (tgt : Int)) (kt : 0 < x → jx_J M Ψ tgt lv st w) (kf : ¬ (0 < x) → jx_J M Ψ (pc + 3) lv st w) : jx_J M Ψ pc lv (.inl x :: st) w := by
  intro p l e s m args below meth c D g ct A hs H locs ls hP hD hS hl
  exact lv_if_gt hs.1 hs.2.1 hd ht (fun h => kt h p l e s m args below meth c D g ct A hs H locs ls hP hD hS hl) (fun h => kf h p l e s m args below meth c D g ct A hs H locs ls hP hD hS hl)
theorem jx_icmp_gt {x y : Int32} {off : Int} {tgt : Nat} (hd : decode (mC M) pc = .ok (.if_icmp .gt off, 3)) (ht : (pc : Int) + off = (tgt : Int)) (kt : y < x → jx_J M Ψ tgt lv st w) (kf : ¬ (y < x) → jx_J M Ψ (pc + 3) lv st w) : jx_J M Ψ pc lv (.inl y :: .inl x :: st) w := by
  intro p l e s m args below meth c D g ct A hs H locs ls hP hD hS hl
  exact lv_icmp_gt hs.1 hs.2.1 hd ht (fun h => kt h p l e s m args below meth c D g ct A hs H locs ls hP hD hS hl) (fun h => kf h p l e s m args below meth c D g ct A hs H locs ls hP hD hS hl)
theorem jx_if_le {x : Int32} {off : Int} {tgt : Nat} (hd : decode (mC M) pc = .ok (.ifCond .le off, 3)) (ht : (pc : Int) + off = (tgt : Int)) (kt : x ≤ 0 → jx_J M Ψ tgt lv st w) (kf : ¬ (x ≤ 0) → jx_J M Ψ (pc + 3) lv st w) : jx_J M Ψ pc lv (.inl x :: st) w := by
  intro p l e s m args below meth c D g ct A hs H locs ls hP hD hS hl
  exact lv_if_le hs.1 hs.2.1 hd ht (fun h => kt h p l e s m args below meth c D g ct A hs H locs ls hP hD hS hl) (fun h => kf h p l e s m args below meth c D g ct A hs H locs ls hP hD hS hl)
theorem jx_icmp_le {x y : Int32} {off : Int} {tgt : Nat} (hd : decode (mC M) pc = .ok (.if_icmp .le off, 3)) (ht : (pc : Int) + off = (tgt : Int)) (kt : x ≤ y → jx_J M Ψ tgt lv st w) (kf : ¬ (x ≤ y) → jx_J M Ψ (pc + 3) lv st w) : jx_J M Ψ pc lv (.inl y :: .inl x :: st) w := by
  intro p l e s m args below meth c D g ct A hs H locs ls hP hD hS hl
  exact lv_icmp_le hs.1 hs.2.1 hd ht (fun h => kt h p l e s m args below meth c D g ct A hs H locs ls hP hD hS hl) (fun h => kf h p l e s m args below meth c D g ct A hs H locs ls hP hD hS hl)
theorem jx_istore_n {j : Fin 4} {i : Nat} {x : Int32} (hd : decode (mC M) pc = .ok (.istore_n j, 1)) (hi : (j : Nat) = i) (hn : i < mL M) {lv' : jx_Lv} (he : lv.set i (some (.inl x)) = lv') (k : jx_J M Ψ (pc + 1) lv' st w) : jx_J M Ψ pc lv (.inl x :: st) w := by
  subst he
  intro p l e s m args below meth c D g ct A hs H locs ls hP hD hS hl
  exact lv_istore_n hs.1 hs.2.1 hd hi hl.has hn rfl (fun ls' h' => k p l e s m args below meth c D g ct A hs H locs ls' hP hD hS (jx_L.set h'))
theorem jx_istore {i : Nat} {x : Int32} (hd : decode (mC M) pc = .ok (.istore i, 2)) (hn : i < mL M) {lv' : jx_Lv} (he : lv.set i (some (.inl x)) = lv') (k : jx_J M Ψ (pc + 2) lv' st w) : jx_J M Ψ pc lv (.inl x :: st) w := by
  subst he
  intro p l e s m args below meth c D g ct A hs H locs ls hP hD hS hl
  exact lv_istore hs.1 hs.2.1 hd hl.has hn rfl (fun ls' h' => k p l e s m args below meth c D g ct A hs H locs ls' hP hD hS (jx_L.set h'))
theorem jx_iinc {i : Nat} {n : Int} {x v : Int32} (hd : decode (mC M) pc = .ok (.iinc i n, 3)) (hx : lv[i]? = some (some (.inl x))) (hv : x + Int32.ofInt n = v) (hn : i < mL M) {lv' : jx_Lv} (he : lv.set i (some (.inl v)) = lv') (k : jx_J M Ψ (pc + 3) lv' st w) : jx_J M Ψ pc lv st w := by
  subst he
  intro p l e s m args below meth c D g ct A hs H locs ls hP hD hS hl
  obtain ⟨k0, hk0⟩ := List.getElem?_of_mem (jx_tl_mem (g := g) hx)
  exact lv_iinc hs.1 hs.2.1 hd hl.has hk0 hv hn rfl (fun ls' h' => k p l e s m args below meth c D g ct A hs H locs ls' hP hD hS (jx_L.set h'))
theorem jx_Wat {S : jx_S} {g : Nat → Nat} {ct : Nat → ClassId} {w : jx_Wd} {j k n : Nat} {ty : FieldType} (ha : S.2.2.2[j]? = some (k, ty, n)) : (jx_W S g ct w)[j + 1]? = some (g (k + 1), .inl (ct k, n, .inl (w k))) := by
  show ((S.2.2.2.map (fun a => ((g (a.1 + 1), .inl (ct a.1, a.2.2, .inl (w a.1))) : Nat × va_E))))[j]? = _
  rw [List.getElem?_map, ha]
  rfl
theorem jx_tyat {S : jx_S} {ct : Nat → ClassId} {j k n : Nat} {ty : FieldType} (ha : S.2.2.2[j]? = some (k, ty, n)) : (jx_ty S ct)[j]? = some (ct k, ty) := by
  show (S.2.2.2.map (fun a => (ct a.1, a.2.1)))[j]? = _
  rw [List.getElem?_map, ha]
  rfl
theorem jx_iald (j k n : Nat) (ha : (mS M).2.2.2[j]? = some (k, .int, n)) {i : Int32} (hd : decode (mC M) pc = .ok (.iaload, 1)) (hin : vp_in i n) (kk : ∀ v : Int32, v = w k i.toNatClampNeg → jx_J M Ψ (pc + 1) lv (.inl v :: st) w) : jx_J M Ψ pc lv (.inl i :: .inr (k + 1) :: st) w := by
  intro p l e s m args below meth c D g ct A hs H locs ls hP hD hS hl
  exact va_iald hs.1 hs.2.1 hs.2.2.2.2.2.2.2.1 hP (j + 1) j (jx_Wat ha) (jx_tyat ha) hin hd (kk _ rfl p l e s m args below meth c D g ct A hs H locs ls hP hD hS hl)
theorem jx_bald (j k n : Nat) (ha : (mS M).2.2.2[j]? = some (k, .byte, n)) {i : Int32} (hd : decode (mC M) pc = .ok (.baload, 1)) (hin : vp_in i n) (kk : ∀ v : Int32, v = w k i.toNatClampNeg → jx_J M Ψ (pc + 1) lv (.inl v :: st) w) : jx_J M Ψ pc lv (.inl i :: .inr (k + 1) :: st) w := by
  intro p l e s m args below meth c D g ct A hs H locs ls hP hD hS hl
  exact va_bald hs.1 hs.2.1 hs.2.2.2.2.2.2.2.1 hP (j + 1) j (jx_Wat ha) (jx_tyat ha) hin hd (kk _ rfl p l e s m args below meth c D g ct A hs H locs ls hP hD hS hl)
theorem jx_zald (j k n : Nat) (ha : (mS M).2.2.2[j]? = some (k, .boolean, n)) {i : Int32} (hd : decode (mC M) pc = .ok (.baload, 1)) (hin : vp_in i n) (kk : ∀ v : Int32, v = w k i.toNatClampNeg → jx_J M Ψ (pc + 1) lv (.inl v :: st) w) : jx_J M Ψ pc lv (.inl i :: .inr (k + 1) :: st) w := by
  intro p l e s m args below meth c D g ct A hs H locs ls hP hD hS hl
  exact va_zald hs.1 hs.2.1 hs.2.2.2.2.2.2.2.1 hP (j + 1) j (jx_Wat ha) (jx_tyat ha) hin hd (kk _ rfl p l e s m args below meth c D g ct A hs H locs ls hP hD hS hl)
theorem jx_sald (j k n : Nat) (ha : (mS M).2.2.2[j]? = some (k, .short, n)) {i : Int32} (hd : decode (mC M) pc = .ok (.saload, 1)) (hin : vp_in i n) (kk : ∀ v : Int32, v = w k i.toNatClampNeg → jx_J M Ψ (pc + 1) lv (.inl v :: st) w) : jx_J M Ψ pc lv (.inl i :: .inr (k + 1) :: st) w := by
  intro p l e s m args below meth c D g ct A hs H locs ls hP hD hS hl
  exact va_sald hs.1 hs.2.1 hs.2.2.2.2.2.2.2.1 hP (j + 1) j (jx_Wat ha) (jx_tyat ha) hin hd (kk _ rfl p l e s m args below meth c D g ct A hs H locs ls hP hD hS hl)
theorem jx_iast (j k n : Nat) (ha : (mS M).2.2.2[j]? = some (k, .int, n)) (hset : ∀ g ct w f, (jx_W (mS M) g ct w).set (j + 1) (g (k + 1), .inl (ct k, n, .inl f)) = jx_W (mS M) g ct (jx_up w k f)) {i x : Int32} (hd : decode (mC M) pc = .ok (.iastore, 1)) (hin : vp_in i n) (kk : ∀ w1 : jx_Wd, w1 = jx_up w k (upd (w k) i.toNatClampNeg x) → jx_J M Ψ (pc + 1) lv st w1) : jx_J M Ψ pc lv (.inl x :: .inl i :: .inr (k + 1) :: st) w := by
  intro p l e s m args below meth c D g ct A hs H locs ls hP hD hS hl
  refine va_iast hs.1 hs.2.1 hs.2.2.2.2.2.2.2.1 hP hD hS (j + 1) j (jx_Wat ha) (jx_tyat ha) hin hd (fun H1 locs1 hP1 hD1 hS1 => ?_)
  rw [hset] at hP1 hD1
  exact kk _ rfl p l e s m args below meth c D g ct A hs H1 locs1 ls hP1 hD1 hS1 hl
theorem jx_bast (j k n : Nat) (ha : (mS M).2.2.2[j]? = some (k, .byte, n)) (hset : ∀ g ct w f, (jx_W (mS M) g ct w).set (j + 1) (g (k + 1), .inl (ct k, n, .inl f)) = jx_W (mS M) g ct (jx_up w k f)) {i x : Int32} (hd : decode (mC M) pc = .ok (.bastore, 1)) (hin : vp_in i n) (kk : ∀ w1 : jx_Wd, w1 = jx_up w k (upd (w k) i.toNatClampNeg (vp_nar .byte x)) → jx_J M Ψ (pc + 1) lv st w1) : jx_J M Ψ pc lv (.inl x :: .inl i :: .inr (k + 1) :: st) w := by
  intro p l e s m args below meth c D g ct A hs H locs ls hP hD hS hl
  refine va_bast hs.1 hs.2.1 hs.2.2.2.2.2.2.2.1 hP hD hS (j + 1) j (jx_Wat ha) (jx_tyat ha) hin hd (fun H1 locs1 hP1 hD1 hS1 => ?_)
  rw [hset] at hP1 hD1
  exact kk _ rfl p l e s m args below meth c D g ct A hs H1 locs1 ls hP1 hD1 hS1 hl
theorem jx_zast (j k n : Nat) (ha : (mS M).2.2.2[j]? = some (k, .boolean, n)) (hset : ∀ g ct w f, (jx_W (mS M) g ct w).set (j + 1) (g (k + 1), .inl (ct k, n, .inl f)) = jx_W (mS M) g ct (jx_up w k f)) {i x : Int32} (hd : decode (mC M) pc = .ok (.bastore, 1)) (hin : vp_in i n) (kk : ∀ w1 : jx_Wd, w1 = jx_up w k (upd (w k) i.toNatClampNeg (vp_nar .boolean x)) → jx_J M Ψ (pc + 1) lv st w1) : jx_J M Ψ pc lv (.inl x :: .inl i :: .inr (k + 1) :: st) w := by
  intro p l e s m args below meth c D g ct A hs H locs ls hP hD hS hl
  refine va_zast hs.1 hs.2.1 hs.2.2.2.2.2.2.2.1 hP hD hS (j + 1) j (jx_Wat ha) (jx_tyat ha) hin hd (fun H1 locs1 hP1 hD1 hS1 => ?_)
  rw [hset] at hP1 hD1
  exact kk _ rfl p l e s m args below meth c D g ct A hs H1 locs1 ls hP1 hD1 hS1 hl
theorem jx_sast (j k n : Nat) (ha : (mS M).2.2.2[j]? = some (k, .short, n)) (hset : ∀ g ct w f, (jx_W (mS M) g ct w).set (j + 1) (g (k + 1), .inl (ct k, n, .inl f)) = jx_W (mS M) g ct (jx_up w k f)) {i x : Int32} (hd : decode (mC M) pc = .ok (.sastore, 1)) (hin : vp_in i n) (kk : ∀ w1 : jx_Wd, w1 = jx_up w k (upd (w k) i.toNatClampNeg (vp_nar .short x)) → jx_J M Ψ (pc + 1) lv st w1) : jx_J M Ψ pc lv (.inl x :: .inl i :: .inr (k + 1) :: st) w := by
  intro p l e s m args below meth c D g ct A hs H locs ls hP hD hS hl
  refine va_sast hs.1 hs.2.1 hs.2.2.2.2.2.2.2.1 hP hD hS (j + 1) j (jx_Wat ha) (jx_tyat ha) hin hd (fun H1 locs1 hP1 hD1 hS1 => ?_)
  rw [hset] at hP1 hD1
  exact kk _ rfl p l e s m args below meth c D g ct A hs H1 locs1 ls hP1 hD1 hS1 hl
theorem jx_iret {ty : FieldType} {v : Int32} (hd : decode (mC M) pc = .ok (.ireturn, 1)) (hr : mR M = some ty) (hn : narrow ty (.int v) = .int v) (h : Ψ (some v) w) : jx_J M Ψ pc lv [.inl v] w := by
  intro p l e s m args below meth c D g ct A hs H locs ls hP hD hS hl
  exact W.zret (v := v) hs.1 hs.2.1 (hs.2.2.1.trans hr) hn (fun t ht hW => ⟨⟨some v, w, rfl, h, by rw [ht]; exact hP, va_K.moved hW.alike hs.2.2.2.2.2.2.2.1, hD⟩, hS.F ht⟩) hS.2.2 hd hs.2.2.2.2.2.1
theorem jx_vret (hd : decode (mC M) pc = .ok (.return_, 1)) (hr : mR M = none) (h : Ψ none w) : jx_J M Ψ pc lv [] w := by
  intro p l e s m args below meth c D g ct A hs H locs ls hP hD hS hl
  exact W.vret hs.1 hs.2.1 (hs.2.2.1.trans hr) (fun t ht hW => ⟨⟨none, w, rfl, h, by rw [ht]; exact hP, va_K.moved hW.alike hs.2.2.2.2.2.2.2.1, hD⟩, hS.F ht⟩) hS.2.2 hd hs.2.2.2.2.2.1
end JR
section JX0
variable {M : jx_M} {Ψ : Option Int32 → jx_Wd → Prop} {pc : Nat} {lv : jx_Lv} {st : List jx_V} {w : jx_Wd}
theorem jx_getX0 {fsf : (Nat → Nat) → jx_Wd → List Value} {ars : List (Nat × FieldType × Nat)} (hM : mS M = (0, (RX0, TX0, 13), fsf, ars)) (hy : (mY M).cls = RX0) (k : Nat) (hk : k < 13) (hT : (TX0 k).1 = RX0) {idx : Nat} (hlink : Cond.fieldLink RX0 idx RX0 (TX0 k).2.1 (TX0 k).2.2.1 ∈ lw_all) {v : jx_V} (hv : ∀ g, (fsf g w)[k]? = some (jx_c g v)) (hd : decode (mC M) pc = .ok (.getfield idx, 3)) (kk : jx_J M Ψ (pc + 3) lv (v :: st) w) : jx_J M Ψ pc lv (.inr 0 :: st) w := by
  intro p l e s m args below meth c D g ct A hs H locs ls hP hD hS hl
  have hP2 := hP
  have hown := hs.2.2.2.2.1
  have hK := hs.2.2.2.2.2.2.2.1
  rw [hM] at hP2 hK
  rw [hy] at hown
  exact va_get (D := D) (own := RX0) (ref := RX0) (C := RX0) (T := TX0) (N := 13) (ci := 0) hs.1 hs.2.1 hs.2.2.2.1 in_X0 hown hK hP2 0 rfl rfl k hk (hs.2.2.2.1 _ hlink) (fun x h => by rw [hT] at h; exact h) (hv g) hd (kk p l e s m args below meth c D g ct A hs H locs ls hP hD hS hl)
theorem jx_putX0 {fsf : (Nat → Nat) → jx_Wd → List Value} {ars : List (Nat × FieldType × Nat)} (hM : mS M = (0, (RX0, TX0, 13), fsf, ars)) (hy : (mY M).cls = RX0) (k : Nat) (hk : k < 13) (hT : (TX0 k).1 = RX0) {idx : Nat} (hlink : Cond.fieldLink RX0 idx RX0 (TX0 k).2.1 (TX0 k).2.2.1 ∈ lw_all) (hfin : (TX0 k).2.2.2 = false) {ty : FieldType} {x : Int32} (hdsc : parseFieldDescriptor (TX0 k).2.2.1 = some ty) (hn : narrow ty (.int x) = .int x) (hfit : fits ty (.int x) = true) (hlen : ∀ g w, k < (fsf g w).length)
    (hset : ∀ g ct w x, (jx_W (mS M) g ct w).set 0 (g 0, .inr (0, (fsf g w).set k (.int x))) = jx_W (mS M) g ct (jx_up w k (fun _ => x)))
    (hd : decode (mC M) pc = .ok (.putfield idx, 3)) (kk : ∀ w1 : jx_Wd, w1 = jx_up w k (fun _ => x) → jx_J M Ψ (pc + 3) lv st w1) : jx_J M Ψ pc lv (.inl x :: .inr 0 :: st) w := by
  intro p l e s m args below meth c D g ct A hs H locs ls hP hD hS hl
  have hP2 := hP
  have hD2 := hD
  have hown := hs.2.2.2.2.1
  have hK := hs.2.2.2.2.2.2.2.1
  rw [hM] at hP2 hK hD2
  rw [hy] at hown
  refine va_put (D := D) (own := RX0) (ref := RX0) (C := RX0) (T := TX0) (N := 13) (ci := 0) (v := .int x) hs.1 hs.2.1 hs.2.2.2.1 in_X0 tyX0 tyX0_ok nmX0 hown hK hP2 hD2 hS 0 rfl rfl k hk (hs.2.2.2.1 _ hlink) (fun x h => by rw [hT] at h; exact h) hfin hdsc hn hfit (hlen g w) hd (fun H1 locs1 hP1 hD1 hS1 => ?_)
  have e1 := hset g ct w x
  rw [hM] at e1
  rw [e1] at hP1 hD1
  rw [← hM] at hP1 hD1
  exact kk _ rfl p l e s m args below meth c D g ct A hs H1 locs1 ls hP1 hD1 hS1 hl
end JX0
section JX1
variable {M : jx_M} {Ψ : Option Int32 → jx_Wd → Prop} {pc : Nat} {lv : jx_Lv} {st : List jx_V} {w : jx_Wd}
theorem jx_getX1 {fsf : (Nat → Nat) → jx_Wd → List Value} {ars : List (Nat × FieldType × Nat)} (hM : mS M = (1, (RX1, TX1, 5), fsf, ars)) (hy : (mY M).cls = RX1) (k : Nat) (hk : k < 5) (hT : (TX1 k).1 = RX1) {idx : Nat} (hlink : Cond.fieldLink RX1 idx RX1 (TX1 k).2.1 (TX1 k).2.2.1 ∈ lw_all) {v : jx_V} (hv : ∀ g, (fsf g w)[k]? = some (jx_c g v)) (hd : decode (mC M) pc = .ok (.getfield idx, 3)) (kk : jx_J M Ψ (pc + 3) lv (v :: st) w) : jx_J M Ψ pc lv (.inr 0 :: st) w := by
  intro p l e s m args below meth c D g ct A hs H locs ls hP hD hS hl
  have hP2 := hP
  have hown := hs.2.2.2.2.1
  have hK := hs.2.2.2.2.2.2.2.1
  rw [hM] at hP2 hK
  rw [hy] at hown
  exact va_get (D := D) (own := RX1) (ref := RX1) (C := RX1) (T := TX1) (N := 5) (ci := 1) hs.1 hs.2.1 hs.2.2.2.1 in_X1 hown hK hP2 0 rfl rfl k hk (hs.2.2.2.1 _ hlink) (fun x h => by rw [hT] at h; exact h) (hv g) hd (kk p l e s m args below meth c D g ct A hs H locs ls hP hD hS hl)
theorem jx_putX1 {fsf : (Nat → Nat) → jx_Wd → List Value} {ars : List (Nat × FieldType × Nat)} (hM : mS M = (1, (RX1, TX1, 5), fsf, ars)) (hy : (mY M).cls = RX1) (k : Nat) (hk : k < 5) (hT : (TX1 k).1 = RX1) {idx : Nat} (hlink : Cond.fieldLink RX1 idx RX1 (TX1 k).2.1 (TX1 k).2.2.1 ∈ lw_all) (hfin : (TX1 k).2.2.2 = false) {ty : FieldType} {x : Int32} (hdsc : parseFieldDescriptor (TX1 k).2.2.1 = some ty) (hn : narrow ty (.int x) = .int x) (hfit : fits ty (.int x) = true) (hlen : ∀ g w, k < (fsf g w).length)
    (hset : ∀ g ct w x, (jx_W (mS M) g ct w).set 0 (g 0, .inr (1, (fsf g w).set k (.int x))) = jx_W (mS M) g ct (jx_up w k (fun _ => x)))
    (hd : decode (mC M) pc = .ok (.putfield idx, 3)) (kk : ∀ w1 : jx_Wd, w1 = jx_up w k (fun _ => x) → jx_J M Ψ (pc + 3) lv st w1) : jx_J M Ψ pc lv (.inl x :: .inr 0 :: st) w := by
  intro p l e s m args below meth c D g ct A hs H locs ls hP hD hS hl
  have hP2 := hP
  have hD2 := hD
  have hown := hs.2.2.2.2.1
  have hK := hs.2.2.2.2.2.2.2.1
  rw [hM] at hP2 hK hD2
  rw [hy] at hown
  refine va_put (D := D) (own := RX1) (ref := RX1) (C := RX1) (T := TX1) (N := 5) (ci := 1) (v := .int x) hs.1 hs.2.1 hs.2.2.2.1 in_X1 tyX1 tyX1_ok nmX1 hown hK hP2 hD2 hS 0 rfl rfl k hk (hs.2.2.2.1 _ hlink) (fun x h => by rw [hT] at h; exact h) hfin hdsc hn hfit (hlen g w) hd (fun H1 locs1 hP1 hD1 hS1 => ?_)
  have e1 := hset g ct w x
  rw [hM] at e1
  rw [e1] at hP1 hD1
  rw [← hM] at hP1 hD1
  exact kk _ rfl p l e s m args below meth c D g ct A hs H1 locs1 ls hP1 hD1 hS1 hl
end JX1
section JC
variable {M N : jx_M} {Ψ Φ : Option Int32 → jx_Wd → Prop} {pc : Nat} {lv : jx_Lv} {st stk : List jx_V} {w : jx_Wd}
theorem jx_blind {S : jx_S} {D : va_G} {g : Nat → Nat} {ct : Nat → ClassId} {sz : Nat} {av : List jx_V} {w : jx_Wd} : FrameBlind (jx_Pc S D g ct sz av w) := by
  intro a U f mk q
  obtain ⟨q0, q1, qP, qK, qD⟩ := q
  exact ⟨q0, q1, qP, va_K.moved (u := U) (U := U.calling f mk a) (Vm.Alike.refl U.vm) qK, qD⟩
theorem jx_sum (g : Nat → Nat) (st : List jx_V) : ((st.map (jx_c g)).map fun v => v.category).sum = st.length := by
  induction st with
  | nil => rfl
  | cons a t ih =>
    simp only [List.map_cons, List.sum_cons, List.length_cons, ih, jx_cat]
    omega
/-- behind a call: the world is the callee's -/
theorem jx_back {p : Program} {l : Launch} {e : Env} {R : Room} {s : State} {m : MethodId} {args : Array Value} {below : List Frame} {meth : Method} {c : Code} {H : Heap} {locs : List Loc} {cells slots : Nat} {Q : State → Prop} {ls : Array Slot} {rest st0 : List Value} {a : Array Value} {S : jx_S} {D : va_G} {g : Nat → Nat} {ct : Nat → ClassId} {A : Nat → Prop} (hD : va_D A (jx_W S g ct w)) (hA : ∀ q, s.heap.size ≤ q → A q) (hS : va_S A s.heap H locs)
    (hr : va_Run p l e R s m args below meth c H locs cells slots 0 0 (F0 m pc ls st0) rest (jx_Qc S D g ct (va_A (jx_W S g ct w) H.size) Φ a) (va_A (jx_W S g ct w) H.size))
    (kk : ∀ (o : Option Int32) (u : jx_Wd) (H1 : Heap) (locs1 : List Loc), Φ o u → va_P D vwCl (jx_W S g ct u) H1 → va_D A (jx_W S g ct u) → va_S A s.heap H1 locs1 → W p l e R s m args below meth c H1 locs1 cells slots Q (F0 m (pc + 3) ls ((o.map Value.int).toList ++ rest))) : W p l e R s m args below meth c H locs cells slots Q (F0 m pc ls st0) := by
  have hF : ∀ q, va_A (jx_W S g ct w) H.size q → A q := by
    intro q h
    rcases h with ⟨k, e, h⟩ | h
    · exact hD.2 k (q, e) h
    · exact hA q (Nat.le_trans hS.1 h)
  intro T hT X
  obtain ⟨v, st₀, t, T', L, h0, X', hL, e1, e2, ⟨⟨r, u, hv, hp, hb⟩, hz, hk⟩, stp⟩ := hr T hT X
  cases hv
  rw [h0] at hz hk
  obtain ⟨t2, a1, b1⟩ := kk r u T'.heap (locs ++ L) hp (by rw [e1]; exact hb.1) (hb.2.2.weaken (fun k q _ h => hF q.1 h))
    ⟨Nat.le_trans hS.1 (by rw [e1]; exact hz), fun q h1 h2 => by rw [e1, hk q (Nat.lt_of_lt_of_le h1 hS.1) (fun z => h2 (hF q z))]; exact hS.2.1 q h1 h2, fun q hq => by
      rcases List.mem_append.mp hq with h | h
      · exact hS.2.2 q h
      · exact hF _ (hL q h)⟩ T' rfl X'
  exact ⟨t2, stp t2 a1, b1⟩
/-- what a call of N through an object of the class C asks of the tables -/
def jx_okV (N : jx_M) (C : String) (idx n : Nat) : Prop := GoodIn lw_all (wsV C idx C (mY N) (ws_ (mY N) (mC N) (mL N) (mR N))) ∧ ((mY N).cls = C ∧ (mY N).cls ≠ "java/lang/invoke/MethodHandle" ∧ (mY N).cls ≠ "java/lang/invoke/VarHandle" ∧ (parseMethodDescriptor (mY N).desc).map (fun d => d.parameters.length) = some n) ∧ (mRm N).cells = 0 ∧ (mRm N).slots = 0
def jx_okS (N : jx_M) (C : String) (idx n : Nat) : Prop := GoodIn lw_all (va_wsS C idx (mY N) (ws_ (mY N) (mC N) (mL N) (mR N))) ∧ ((mY N).cls ≠ "java/lang/invoke/MethodHandle" ∧ (mY N).cls ≠ "java/lang/invoke/VarHandle" ∧ (parseMethodDescriptor (mY N).desc).map (fun d => d.parameters.length) = some n) ∧ (mRm N).cells = 0 ∧ (mRm N).slots = 0
abbrev jx_rm (M N : jx_M) : Prop := (mRm N).frames + 1 ≤ (mRm M).frames ∧ 8 + (mL N + 11) + (mRm N).locals ≤ (mRm M).locals
theorem jx_callV {C : String} {idx : Nat} (av : List jx_V) (hS0 : mS N = mS M) (hy : (mY M).cls = C) (hcl : vwCl[(mS M).1]? = some (mS M).2.1) (hC : (mS M).2.1.1 = C) (hok : jx_okV N C idx av.length) (hR : jx_rm M N) (hst : stk = av.reverse ++ .inr 0 :: st) (hlen : st.length ≤ 8)
    (hd : decode (mC M) pc = .ok (.invokevirtual idx, 3)) (h : jx_CX N (.inr 0 :: av) w Φ) (k : ∀ o u, Φ o u → jx_J M Ψ (pc + 3) lv (o.toList.map Sum.inl ++ st) u) : jx_J M Ψ pc lv stk w := by
  intro p l e s m args below meth c D g ct A hs H locs ls hP hD hS hl
  obtain ⟨hx, hb, hr, hts, hown, hlk, hml, hK, hA⟩ := hs
  have hs : jx_St M p s m args meth c D ct A := ⟨hx, hb, hr, hts, hown, hlk, hml, hK, hA⟩
  obtain ⟨hg, hn, hz1, hz2⟩ := hok
  have hM := h l D g ct H.size
  rw [hS0] at hM
  subst hst
  have hrec := va_recv hK hP (ci := (mS M).1) (q0 := 0) hcl rfl
  rw [hC] at hrec
  rw [hy] at hown
  refine jx_back hD hA hS (va_runV (g := F0 m pc ls ((av.reverse ++ .inr 0 :: st).map (jx_c g))) (b := g 0) (As := av.map (jx_c g)) (rest := st.map (jx_c g)) ⟨hx, hb, hml, hown, hts⟩ hM (cwV av.length hts hg rfl hz1 hz2 hn hR) ⟨jx_blind, hrec, fun U hU hW => ⟨rfl, by rw [hU], by rw [hU]; exact hP, va_K.moved hW.alike hK, hD.weaken (fun _ _ _ _ => trivial)⟩⟩ rfl (by rw [List.length_map]) hl.1 (by show List.map (jx_c g) _ = _; rw [List.map_append, List.map_reverse]; rfl) (lv_room (by rw [jx_sum]; exact hlen)) hd ⟨Nat.le_refl _, Nat.le_refl _⟩) ?_
  intro o u H1 locs1 hΦ hP1 hD1 hS1
  have hk := k o u hΦ p l e s m args below meth c D g ct A hs H1 locs1 ls hP1 hD1 hS1 hl
  have e1 : (o.toList.map Sum.inl ++ st).map (jx_c g) = (o.map Value.int).toList ++ st.map (jx_c g) := by
    cases o <;> rfl
  rw [e1] at hk
  exact hk
theorem jx_callS {C : String} {idx : Nat} (av : List jx_V) (hS0 : mS N = mS M) (hy : (mY M).cls = C) (hok : jx_okS N C idx av.length) (hR : jx_rm M N) (hst : stk = av.reverse ++ st) (hlen : st.length ≤ 8)
    (hd : decode (mC M) pc = .ok (.invokestatic idx, 3)) (h : jx_CX N av w Φ) (k : ∀ o u, Φ o u → jx_J M Ψ (pc + 3) lv (o.toList.map Sum.inl ++ st) u) : jx_J M Ψ pc lv stk w := by
  intro p l e s m args below meth c D g ct A hs H locs ls hP hD hS hl
  obtain ⟨hx, hb, hr, hts, hown, hlk, hml, hK, hA⟩ := hs
  have hs : jx_St M p s m args meth c D ct A := ⟨hx, hb, hr, hts, hown, hlk, hml, hK, hA⟩
  obtain ⟨hg, hn, hz1, hz2⟩ := hok
  have hM := h l D g ct H.size
  rw [hS0] at hM
  subst hst
  rw [hy] at hown
  refine jx_back hD hA hS (va_runS (g := F0 m pc ls ((av.reverse ++ st).map (jx_c g))) (As := av.map (jx_c g)) (rest := st.map (jx_c g)) ⟨hx, hb, hml, hown, hts⟩ hM (va_cwS av.length hts hg rfl hz1 hz2 hn hR) ⟨jx_blind, fun U hU hW => ⟨rfl, by rw [hU], by rw [hU]; exact hP, va_K.moved hW.alike hK, hD.weaken (fun _ _ _ _ => trivial)⟩⟩ rfl (by rw [List.length_map]) hl.1 (by show List.map (jx_c g) _ = _; rw [List.map_append, List.map_reverse]) (lv_room (by rw [jx_sum]; exact hlen)) hd ⟨Nat.le_refl _, Nat.le_refl _⟩) ?_
  intro o u H1 locs1 hΦ hP1 hD1 hS1
  have hk := k o u hΦ p l e s m args below meth c D g ct A hs H1 locs1 ls hP1 hD1 hS1 hl
  have e1 : (o.toList.map Sum.inl ++ st).map (jx_c g) = (o.map Value.int).toList ++ st.map (jx_c g) := by
    cases o <;> rfl
  rw [e1] at hk
  exact hk
theorem jx_callVi {C : String} {idx : Nat} {F : Int32 → jx_Wd → Prop} (av : List jx_V) (hS0 : mS N = mS M) (hy : (mY M).cls = C) (hcl : vwCl[(mS M).1]? = some (mS M).2.1) (hC : (mS M).2.1.1 = C) (hok : jx_okV N C idx av.length) (hR : jx_rm M N) (hst : stk = av.reverse ++ .inr 0 :: st) (hlen : st.length ≤ 8)
    (hd : decode (mC M) pc = .ok (.invokevirtual idx, 3)) (h : jx_CI N (.inr 0 :: av) w F) (k : ∀ r u, F r u → jx_J M Ψ (pc + 3) lv (.inl r :: st) u) : jx_J M Ψ pc lv stk w :=
  jx_callV av hS0 hy hcl hC hok hR hst hlen hd h (fun o u ⟨r, e, hF⟩ => by subst e; exact k r u hF)
theorem jx_callVv {C : String} {idx : Nat} {F : jx_Wd → Prop} (av : List jx_V) (hS0 : mS N = mS M) (hy : (mY M).cls = C) (hcl : vwCl[(mS M).1]? = some (mS M).2.1) (hC : (mS M).2.1.1 = C) (hok : jx_okV N C idx av.length) (hR : jx_rm M N) (hst : stk = av.reverse ++ .inr 0 :: st) (hlen : st.length ≤ 8)
    (hd : decode (mC M) pc = .ok (.invokevirtual idx, 3)) (h : jx_CV N (.inr 0 :: av) w F) (k : ∀ u, F u → jx_J M Ψ (pc + 3) lv st u) : jx_J M Ψ pc lv stk w :=
  jx_callV av hS0 hy hcl hC hok hR hst hlen hd h (fun o u ⟨e, hF⟩ => by subst e; exact k u hF)
theorem jx_callSi {C : String} {idx : Nat} {F : Int32 → jx_Wd → Prop} (av : List jx_V) (hS0 : mS N = mS M) (hy : (mY M).cls = C) (hok : jx_okS N C idx av.length) (hR : jx_rm M N) (hst : stk = av.reverse ++ st) (hlen : st.length ≤ 8)
    (hd : decode (mC M) pc = .ok (.invokestatic idx, 3)) (h : jx_CI N av w F) (k : ∀ r u, F r u → jx_J M Ψ (pc + 3) lv (.inl r :: st) u) : jx_J M Ψ pc lv stk w :=
  jx_callS av hS0 hy hok hR hst hlen hd h (fun o u ⟨r, e, hF⟩ => by subst e; exact k r u hF)
theorem jx_CX.imp {av : List jx_V} {Φ' : Option Int32 → jx_Wd → Prop} (h : jx_CX N av w Φ) (hi : ∀ o u, Φ o u → Φ' o u) : jx_CX N av w Φ' := by
  intro l D g ct sz p e ha hc hk s m args below hf happ hP hK
  obtain ⟨n, o, h1, h2, h3, ⟨⟨r, u, c1, c2, c3⟩, c4⟩, h5⟩ := h l D g ct sz p e ha hc hk s m args below hf happ hP hK
  exact ⟨n, o, h1, h2, h3, ⟨⟨r, u, c1, hi r u c2, c3⟩, c4⟩, h5⟩
theorem jx_CI.imp {av : List jx_V} {F F' : Int32 → jx_Wd → Prop} (h : jx_CI N av w F) (hi : ∀ r u, F r u → F' r u) : jx_CI N av w F' :=
  jx_CX.imp h (fun o u ⟨r, e, hF⟩ => ⟨r, e, hi r u hF⟩)
theorem jx_CV.imp {av : List jx_V} {F F' : jx_Wd → Prop} (h : jx_CV N av w F) (hi : ∀ u, F u → F' u) : jx_CV N av w F' :=
  jx_CX.imp h (fun o u ⟨e, hF⟩ => ⟨e, hi u hF⟩)
theorem jx_sl (g : Nat → Nat) (av : List jx_V) : lg_sl (av.map (jx_c g)) = av.map (fun v => Slot.val (jx_c g v)) := by
  induction av with
  | nil => rfl
  | cons a t ih =>
    have e : lg_sl ((a :: t).map (jx_c g)) = [Slot.val (jx_c g a)] ++ lg_sl (t.map (jx_c g)) := by
      simp [lg_sl, jx_cat]
    rw [e, ih]
    rfl
theorem jx_args (g : Nat → Nat) (av : List jx_V) : ∀ (j i : Nat) (v : jx_V), av[i]? = some v → (j + i, jx_c g v) ∈ lv_args j (av.map (jx_c g)) := by
  induction av with
  | nil => intro j i v h; simp at h
  | cons a t ih =>
    intro j i v h
    have hc : ¬ (jx_c g a).category = 2 := by rw [jx_cat]; decide
    have e : lv_args j ((a :: t).map (jx_c g)) = (j, jx_c g a) :: lv_args (j + 1) (t.map (jx_c g)) := by
      simp [lv_args, hc]
    rw [e]
    cases i with
    | zero =>
      simp at h
      subst h
      exact List.mem_cons_self
    | succ i =>
      simp only [List.getElem?_cons_succ] at h
      have := ih (j + 1) i v h
      rw [show j + (i + 1) = j + 1 + i by omega]
      exact List.mem_cons_of_mem _ this
/-- the contract out of the walk from the entry -/
theorem jx_of (av : List jx_V) (hy : plainName (mY N).cls = true) (hz : (mRm N).cells = 0 ∧ (mRm N).slots = 0) (hn : av.length ≤ mL N) {lv : jx_Lv} (hlv : av.map some ++ List.replicate (mL N - av.length) none = lv) (h : jx_J N Ψ 0 lv [] w) : jx_CX N av w Ψ := by
  intro l D g ct sz
  refine Met.ofW (cc := mC N) (maxL := mL N) (ret := mR N) hy rfl ?_
  intro p e s m args below meth c s₁ B hml hv
  obtain ⟨rfl, hsz, hP, hK, hD0⟩ := hv
  have hts := atoms_spec (ws := ws_ (mY N) (mC N) (mL N) (mR N)) B.pre
  have hts : ∀ w ∈ lw_all, w.before _ s = true := fun w h => hts w (List.mem_cons_of_mem _ h)
  have hown : s.vm.findClass (mY N).cls = some m.cls := findClass_of_methodNamed B.named
  subst hsz
  have hle : (lg_sl (av.map (jx_c g))).length ≤ mL N := by rw [jx_sl, List.length_map]; exact hn
  have hl := lv_entry (av.map (jx_c g)) (n := mL N) hle
  rw [lg_entry_eq]
  have hl2 : jx_L g (mL N) ((lg_sl (av.map (jx_c g)) ++ List.replicate (mL N - (lg_sl (av.map (jx_c g))).length) Slot.unset).toArray) lv := by
    refine ⟨hl.1, hl.2.1, fun i v hi => ?_⟩
    rw [← hlv] at hi
    have hi2 : av[i]? = some v := by
      by_cases hlt : i < av.length
      · rw [List.getElem?_append_left (by simpa using hlt), List.getElem?_map] at hi
        cases ha : av[i]? with
        | none => rw [ha] at hi; cases hi
        | some z => rw [ha] at hi; cases hi; rfl
      · rw [List.getElem?_append_right (by simp; omega)] at hi
        have := List.eq_of_mem_replicate (List.mem_of_getElem? hi)
        cases this
    have := hl.2.2 _ (jx_args g av 0 i v hi2)
    simpa using this
  have k := h p l e s m _ below meth c D g ct (va_A (jx_W (mS N) g ct w) s.heap.size) ⟨B.exec, B.bytes, B.returns, hts, hown, B.notSynchronized, hml, hK, fun q h => Or.inr h⟩ s.heap [] _ hP (hD0.self (sz := s.heap.size)) va_S.rf hl2
  rw [hz.1, hz.2] at k
  exact k
end JC
end
section
/-! THE WALKS of LabelNet, by a program: what each asks from its entry and from each loop's head -/
set_option maxRecDepth 100000
def fsX0 (g : Nat → Nat) (w : jx_Wd) : List Value := [.ref (g 1), .ref (g 2), .int (w 2 0), .int (w 3 0), .ref (g 5), .ref (g 6), .ref (g 7), .ref (g 8), .ref (g 9), .ref (g 10), .int (w 10 0), .int (w 11 0), .ref (g 13)]
def arX0 : List (Nat × FieldType × Nat) := [(0, .byte, 49), (1, .byte, 7), (4, .int, 49), (5, .byte, 49), (6, .short, 49), (7, .short, 112), (8, .byte, 112), (9, .short, 49), (12, .byte, 49)]
def SX0 : jx_S := (0, (RX0, TX0, 13), fsX0, arX0)
theorem stX0_0 : ∀ (g : Nat → Nat) (ct : Nat → ClassId) (w : jx_Wd) (f : Nat → Int32), (jx_W SX0 g ct w).set (0 + 1) (g (0 + 1), .inl (ct 0, 49, .inl f)) = jx_W SX0 g ct (jx_up w 0 f) := fun _ _ _ _ => rfl
theorem stX0_1 : ∀ (g : Nat → Nat) (ct : Nat → ClassId) (w : jx_Wd) (f : Nat → Int32), (jx_W SX0 g ct w).set (1 + 1) (g (1 + 1), .inl (ct 1, 7, .inl f)) = jx_W SX0 g ct (jx_up w 1 f) := fun _ _ _ _ => rfl
theorem stX0_4 : ∀ (g : Nat → Nat) (ct : Nat → ClassId) (w : jx_Wd) (f : Nat → Int32), (jx_W SX0 g ct w).set (2 + 1) (g (4 + 1), .inl (ct 4, 49, .inl f)) = jx_W SX0 g ct (jx_up w 4 f) := fun _ _ _ _ => rfl
theorem stX0_5 : ∀ (g : Nat → Nat) (ct : Nat → ClassId) (w : jx_Wd) (f : Nat → Int32), (jx_W SX0 g ct w).set (3 + 1) (g (5 + 1), .inl (ct 5, 49, .inl f)) = jx_W SX0 g ct (jx_up w 5 f) := fun _ _ _ _ => rfl
theorem stX0_6 : ∀ (g : Nat → Nat) (ct : Nat → ClassId) (w : jx_Wd) (f : Nat → Int32), (jx_W SX0 g ct w).set (4 + 1) (g (6 + 1), .inl (ct 6, 49, .inl f)) = jx_W SX0 g ct (jx_up w 6 f) := fun _ _ _ _ => rfl
theorem stX0_7 : ∀ (g : Nat → Nat) (ct : Nat → ClassId) (w : jx_Wd) (f : Nat → Int32), (jx_W SX0 g ct w).set (5 + 1) (g (7 + 1), .inl (ct 7, 112, .inl f)) = jx_W SX0 g ct (jx_up w 7 f) := fun _ _ _ _ => rfl
theorem stX0_8 : ∀ (g : Nat → Nat) (ct : Nat → ClassId) (w : jx_Wd) (f : Nat → Int32), (jx_W SX0 g ct w).set (6 + 1) (g (8 + 1), .inl (ct 8, 112, .inl f)) = jx_W SX0 g ct (jx_up w 8 f) := fun _ _ _ _ => rfl
theorem stX0_9 : ∀ (g : Nat → Nat) (ct : Nat → ClassId) (w : jx_Wd) (f : Nat → Int32), (jx_W SX0 g ct w).set (7 + 1) (g (9 + 1), .inl (ct 9, 49, .inl f)) = jx_W SX0 g ct (jx_up w 9 f) := fun _ _ _ _ => rfl
theorem stX0_12 : ∀ (g : Nat → Nat) (ct : Nat → ClassId) (w : jx_Wd) (f : Nat → Int32), (jx_W SX0 g ct w).set (8 + 1) (g (12 + 1), .inl (ct 12, 49, .inl f)) = jx_W SX0 g ct (jx_up w 12 f) := fun _ _ _ _ => rfl
theorem ptX0_2 : ∀ (g : Nat → Nat) (ct : Nat → ClassId) (w : jx_Wd) (x : Int32), (jx_W SX0 g ct w).set 0 (g 0, .inr (0, (fsX0 g w).set 2 (.int x))) = jx_W SX0 g ct (jx_up w 2 (fun _ => x)) := fun _ _ _ _ => rfl
theorem ptX0_3 : ∀ (g : Nat → Nat) (ct : Nat → ClassId) (w : jx_Wd) (x : Int32), (jx_W SX0 g ct w).set 0 (g 0, .inr (0, (fsX0 g w).set 3 (.int x))) = jx_W SX0 g ct (jx_up w 3 (fun _ => x)) := fun _ _ _ _ => rfl
theorem ptX0_10 : ∀ (g : Nat → Nat) (ct : Nat → ClassId) (w : jx_Wd) (x : Int32), (jx_W SX0 g ct w).set 0 (g 0, .inr (0, (fsX0 g w).set 10 (.int x))) = jx_W SX0 g ct (jx_up w 10 (fun _ => x)) := fun _ _ _ _ => rfl
theorem ptX0_11 : ∀ (g : Nat → Nat) (ct : Nat → ClassId) (w : jx_Wd) (x : Int32), (jx_W SX0 g ct w).set 0 (g 0, .inr (0, (fsX0 g w).set 11 (.int x))) = jx_W SX0 g ct (jx_up w 11 (fun _ => x)) := fun _ _ _ _ => rfl
def MX0_isRouter : jx_M := (SX0, yX0_isRouter, cX0_isRouter, 1, some .boolean, { frames := 0, cells := 0, slots := 0, locals := 0 })
theorem okX0_isRouter : jx_okS MX0_isRouter RX0 43 1 := ⟨lw_S q87 q88 q27 q89, by decide +kernel, rfl, rfl⟩
def MX0_isPair : jx_M := (SX0, yX0_isPair, cX0_isPair, 2, some .boolean, { frames := 1, cells := 0, slots := 0, locals := 20 })
theorem okX0_isPair : jx_okS MX0_isPair RX0 47 2 := ⟨lw_S q84 q85 q27 q86, by decide +kernel, rfl, rfl⟩
def MX0_turn : jx_M := (SX0, yX0_turn, cX0_turn, 4, none, { frames := 0, cells := 0, slots := 0, locals := 0 })
theorem okX0_turn : jx_okV MX0_turn RX0 51 3 := ⟨lw_V q90 q92 qs0 q27 q93, by decide +kernel, rfl, rfl⟩
def MX0_join : jx_M := (SX0, yX0_join, cX0_join, 4, some .boolean, { frames := 2, cells := 0, slots := 0, locals := 41 })
def MX0_linked : jx_M := (SX0, yX0_linked, cX0_linked, 3, some .boolean, { frames := 2, cells := 0, slots := 0, locals := 41 })
theorem okX0_linked : jx_okV MX0_linked RX0 59 2 := ⟨lw_V q98 q100 qs1 q27 q101, by decide +kernel, rfl, rfl⟩
def MX0_cut : jx_M := (SX0, yX0_cut, cX0_cut, 3, some .boolean, { frames := 3, cells := 0, slots := 0, locals := 63 })
def MX0_setLink : jx_M := (SX0, yX0_setLink, cX0_setLink, 4, some .boolean, { frames := 3, cells := 0, slots := 0, locals := 63 })
def MX0_setRouter : jx_M := (SX0, yX0_setRouter, cX0_setRouter, 3, some .boolean, { frames := 1, cells := 0, slots := 0, locals := 20 })
def MX0_cost : jx_M := (SX0, yX0_cost, cX0_cost, 3, some .int, { frames := 3, cells := 0, slots := 0, locals := 63 })
def MX0_nearest : jx_M := (SX0, yX0_nearest, cX0_nearest, 6, some .int, { frames := 0, cells := 0, slots := 0, locals := 0 })
theorem okX0_nearest : jx_okV MX0_nearest RX0 73 2 := ⟨lw_V q130 q132 qs5 q27 q133, by decide +kernel, rfl, rfl⟩
def MX0_counts : jx_M := (SX0, yX0_counts, cX0_counts, 4, some .boolean, { frames := 0, cells := 0, slots := 0, locals := 0 })
theorem okX0_counts : jx_okV MX0_counts RX0 76 2 := ⟨lw_V q134 q136 qs6 q27 q137, by decide +kernel, rfl, rfl⟩
def MX0_measure : jx_M := (SX0, yX0_measure, cX0_measure, 7, none, { frames := 1, cells := 0, slots := 0, locals := 25 })
theorem okX0_measure : jx_okV MX0_measure RX0 62 1 := ⟨lw_V q126 q128 qs4 q27 q129, by decide +kernel, rfl, rfl⟩
def MX0_chooseHop : jx_M := (SX0, yX0_chooseHop, cX0_chooseHop, 6, some .int, { frames := 1, cells := 0, slots := 0, locals := 23 })
theorem okX0_chooseHop : jx_okV MX0_chooseHop RX0 66 2 := ⟨lw_V q138 q140 qs7 q27 q141, by decide +kernel, rfl, rfl⟩
def MX0_bindOne : jx_M := (SX0, yX0_bindOne, cX0_bindOne, 6, none, { frames := 0, cells := 0, slots := 0, locals := 0 })
theorem okX0_bindOne : jx_okV MX0_bindOne RX0 79 2 := ⟨lw_V q146 q148 qs9 q27 q149, by decide +kernel, rfl, rfl⟩
def MX0_bind : jx_M := (SX0, yX0_bind, cX0_bind, 3, none, { frames := 1, cells := 0, slots := 0, locals := 25 })
theorem okX0_bind : jx_okV MX0_bind RX0 70 0 := ⟨lw_V q142 q144 qs8 q27 q145, by decide +kernel, rfl, rfl⟩
def MX0_learn : jx_M := (SX0, yX0_learn, cX0_learn, 3, none, { frames := 2, cells := 0, slots := 0, locals := 51 })
theorem okX0_learn : jx_okV MX0_learn RX0 89 0 := ⟨lw_V q122 q124 qs3 q27 q125, by decide +kernel, rfl, rfl⟩
def MX0_connected : jx_M := (SX0, yX0_connected, cX0_connected, 3, some .boolean, { frames := 3, cells := 0, slots := 0, locals := 73 })
theorem okX0_connected : jx_okV MX0_connected RX0 92 2 := ⟨lw_V q118 q120 qs2 q27 q121, by decide +kernel, rfl, rfl⟩
def MX0_distance : jx_M := (SX0, yX0_distance, cX0_distance, 3, some .int, { frames := 4, cells := 0, slots := 0, locals := 95 })
def MX0_nextHop : jx_M := (SX0, yX0_nextHop, cX0_nextHop, 3, some .int, { frames := 4, cells := 0, slots := 0, locals := 95 })
def MX0_launch : jx_M := (SX0, yX0_launch, cX0_launch, 3, none, { frames := 0, cells := 0, slots := 0, locals := 0 })
theorem okX0_launch : jx_okV MX0_launch RX0 95 2 := ⟨lw_V q158 q160 qs10 q27 q161, by decide +kernel, rfl, rfl⟩
def MX0_forward : jx_M := (SX0, yX0_forward, cX0_forward, 2, some .boolean, { frames := 0, cells := 0, slots := 0, locals := 0 })
theorem okX0_forward : jx_okV MX0_forward RX0 98 0 := ⟨lw_V q162 q164 qs11 q27 q165, by decide +kernel, rfl, rfl⟩
def MX0_hops : jx_M := (SX0, yX0_hops, cX0_hops, 5, some .int, { frames := 4, cells := 0, slots := 0, locals := 95 })
theorem okX0_hops : jx_okV MX0_hops RX0 102 2 := ⟨lw_V q170 q155 q156 q27 q157, by decide +kernel, rfl, rfl⟩
def MX0_after : jx_M := (SX0, yX0_after, cX0_after, 5, some .int, { frames := 4, cells := 0, slots := 0, locals := 95 })
theorem okX0_after : jx_okV MX0_after RX0 105 3 := ⟨lw_V q171 q172 q173 q27 q174, by decide +kernel, rfl, rfl⟩
def MX0_routeAt : jx_M := (SX0, yX0_routeAt, cX0_routeAt, 5, some .int, { frames := 5, cells := 0, slots := 0, locals := 119 })
def MX0_comesThrough : jx_M := (SX0, yX0_comesThrough, cX0_comesThrough, 5, some .boolean, { frames := 1, cells := 0, slots := 0, locals := 22 })
theorem okX0_comesThrough : jx_okV MX0_comesThrough RX0 109 3 := ⟨lw_V q180 q182 qs12 q27 q183, by decide +kernel, rfl, rfl⟩
def MX0_load : jx_M := (SX0, yX0_load, cX0_load, 6, some .int, { frames := 4, cells := 0, slots := 0, locals := 95 })
def MX0_goesAlong : jx_M := (SX0, yX0_goesAlong, cX0_goesAlong, 6, some .boolean, { frames := 1, cells := 0, slots := 0, locals := 22 })
theorem okX0_goesAlong : jx_okV MX0_goesAlong RX0 113 3 := ⟨lw_V q188 q190 qs13 q27 q191, by decide +kernel, rfl, rfl⟩
def MX0_linkLoad : jx_M := (SX0, yX0_linkLoad, cX0_linkLoad, 7, some .int, { frames := 4, cells := 0, slots := 0, locals := 95 })
def MX0_reachable : jx_M := (SX0, yX0_reachable, cX0_reachable, 4, some .int, { frames := 4, cells := 0, slots := 0, locals := 95 })
def MX0_farthest : jx_M := (SX0, yX0_farthest, cX0_farthest, 5, some .int, { frames := 4, cells := 0, slots := 0, locals := 95 })
def MX0_routeDiffers : jx_M := (SX0, yX0_routeDiffers, cX0_routeDiffers, 6, some .boolean, { frames := 0, cells := 0, slots := 0, locals := 0 })
theorem okX0_routeDiffers : jx_okV MX0_routeDiffers RX0 116 2 := ⟨lw_V q204 q206 qs14 q27 q207, by decide +kernel, rfl, rfl⟩
def MX0_impact : jx_M := (SX0, yX0_impact, cX0_impact, 6, some .int, { frames := 3, cells := 0, slots := 0, locals := 73 })
theorem bX0_isRouter_0 (Φ : Int32 → jx_Wd → Prop) (x0 : Int32) (w : jx_Wd) (h :
    (x0 < 0 → (
      Φ 0 w
    )) ∧ (¬ x0 < 0 → (
      (7 ≤ x0 → (
        Φ 0 w
      )) ∧ (¬ 7 ≤ x0 → (
        Φ 1 w
      ))
    ))
    ) : jx_J MX0_isRouter (jx_qi Φ) 0 [jx_i x0] [] w := by
  refine jx_iload_n dX0_isRouter_0 rfl rfl ?_
  refine jx_if_lt (tgt := 14) dX0_isRouter_1 (by decide) (fun hc => ?_) (fun hc => ?_)
  · have h := h.1 hc
    refine jx_iconst (v := 0) dX0_isRouter_14 (by decide) ?_
    exact jx_iret dX0_isRouter_15 rfl rfl ⟨_, rfl, h⟩
  · have h := h.2 hc
    refine jx_iload_n dX0_isRouter_4 rfl rfl ?_
    refine jx_bipush (v := 7) dX0_isRouter_5 (by decide) ?_
    refine jx_icmp_ge (tgt := 14) dX0_isRouter_7 (by decide) (fun hc => ?_) (fun hc => ?_)
    · have h := h.1 hc
      refine jx_iconst (v := 0) dX0_isRouter_14 (by decide) ?_
      exact jx_iret dX0_isRouter_15 rfl rfl ⟨_, rfl, h⟩
    · have h := h.2 hc
      refine jx_iconst (v := 1) dX0_isRouter_10 (by decide) ?_
      refine jx_goto (tgt := 15) dX0_isRouter_11 (by decide) ?_
      exact jx_iret dX0_isRouter_15 rfl rfl ⟨_, rfl, h⟩
theorem eX0_isRouter {Φ : Int32 → jx_Wd → Prop} {x0 : Int32} {w : jx_Wd} (h : jx_J MX0_isRouter (jx_qi Φ) 0 [jx_i x0] [] w) : jx_CI MX0_isRouter [.inl x0] w Φ := jx_of _ (by decide +kernel) ⟨rfl, rfl⟩ (Nat.le_of_ble_eq_true rfl) rfl h
theorem bX0_isPair_0 (Φ : Int32 → jx_Wd → Prop) (x0 x1 : Int32) (w : jx_Wd) (h :
    jx_CI MX0_isRouter [.inl x0] w (fun r2 w1 => (
    (r2 = 0 → (
      Φ 0 w1
    )) ∧ (¬ r2 = 0 → (
      jx_CI MX0_isRouter [.inl x1] w1 (fun r4 w3 => (
      (r4 = 0 → (
        Φ 0 w3
      )) ∧ (¬ r4 = 0 → (
        (x0 = x1 → (
          Φ 0 w3
        )) ∧ (¬ x0 = x1 → (
          Φ 1 w3
        ))
      ))
      ))
    ))
    ))
    ) : jx_J MX0_isPair (jx_qi Φ) 0 [jx_i x0, jx_i x1] [] w := by
  refine jx_iload_n dX0_isPair_0 rfl rfl ?_
  refine jx_callSi (N := MX0_isRouter) [.inl x0] rfl rfl okX0_isRouter (by decide) rfl (Nat.le_of_ble_eq_true rfl) dX0_isPair_1 h (fun r2 w1 h => ?_)
  refine jx_if_eq (tgt := 23) dX0_isPair_4 (by decide) (fun hc => ?_) (fun hc => ?_)
  · have h := h.1 hc
    refine jx_iconst (v := 0) dX0_isPair_23 (by decide) ?_
    exact jx_iret dX0_isPair_24 rfl rfl ⟨_, rfl, h⟩
  · have h := h.2 hc
    refine jx_iload_n dX0_isPair_7 rfl rfl ?_
    refine jx_callSi (N := MX0_isRouter) [.inl x1] rfl rfl okX0_isRouter (by decide) rfl (Nat.le_of_ble_eq_true rfl) dX0_isPair_8 h (fun r4 w3 h => ?_)
    refine jx_if_eq (tgt := 23) dX0_isPair_11 (by decide) (fun hc => ?_) (fun hc => ?_)
    · have h := h.1 hc
      refine jx_iconst (v := 0) dX0_isPair_23 (by decide) ?_
      exact jx_iret dX0_isPair_24 rfl rfl ⟨_, rfl, h⟩
    · have h := h.2 hc
      refine jx_iload_n dX0_isPair_14 rfl rfl ?_
      refine jx_iload_n dX0_isPair_15 rfl rfl ?_
      refine jx_icmp_eq (tgt := 23) dX0_isPair_16 (by decide) (fun hc => ?_) (fun hc => ?_)
      · have h := h.1 hc
        refine jx_iconst (v := 0) dX0_isPair_23 (by decide) ?_
        exact jx_iret dX0_isPair_24 rfl rfl ⟨_, rfl, h⟩
      · have h := h.2 hc
        refine jx_iconst (v := 1) dX0_isPair_19 (by decide) ?_
        refine jx_goto (tgt := 24) dX0_isPair_20 (by decide) ?_
        exact jx_iret dX0_isPair_24 rfl rfl ⟨_, rfl, h⟩
theorem eX0_isPair {Φ : Int32 → jx_Wd → Prop} {x0 x1 : Int32} {w : jx_Wd} (h : jx_J MX0_isPair (jx_qi Φ) 0 [jx_i x0, jx_i x1] [] w) : jx_CI MX0_isPair [.inl x0, .inl x1] w Φ := jx_of _ (by decide +kernel) ⟨rfl, rfl⟩ (Nat.le_of_ble_eq_true rfl) rfl h
theorem bX0_turn_0 (Φ : jx_Wd → Prop) (x1 x2 x3 : Int32) (w : jx_Wd) (h :
    (x3 = 0 → (
      vp_in x1 7 ∧ ∀ v1 : Int32, v1 = w 1 x1.toNatClampNeg → (
      vp_in x1 7 ∧ ∀ w2 : jx_Wd, w2 = jx_up w 1 (upd (w 1) x1.toNatClampNeg (vp_nar .byte (v1 &&& ((1 <<< (x2 &&& 31)) ^^^ (-1))).toInt8.toInt32)) → (
      (x3 = 0 → (
        vp_in x2 7 ∧ ∀ v3 : Int32, v3 = w2 1 x2.toNatClampNeg → (
        vp_in x2 7 ∧ ∀ w4 : jx_Wd, w4 = jx_up w2 1 (upd (w2 1) x2.toNatClampNeg (vp_nar .byte (v3 &&& ((1 <<< (x1 &&& 31)) ^^^ (-1))).toInt8.toInt32)) → (
        ∀ w5 : jx_Wd, w5 = jx_up w4 3 (fun _ => 0) → (
        Φ w5
        )
        )
        )
      )) ∧ (¬ x3 = 0 → (
        vp_in x2 7 ∧ ∀ v6 : Int32, v6 = w2 1 x2.toNatClampNeg → (
        vp_in x2 7 ∧ ∀ w7 : jx_Wd, w7 = jx_up w2 1 (upd (w2 1) x2.toNatClampNeg (vp_nar .byte (v6 ||| (1 <<< (x1 &&& 31))).toInt8.toInt32)) → (
        ∀ w8 : jx_Wd, w8 = jx_up w7 3 (fun _ => 0) → (
        Φ w8
        )
        )
        )
      ))
      )
      )
    )) ∧ (¬ x3 = 0 → (
      vp_in x1 7 ∧ ∀ v9 : Int32, v9 = w 1 x1.toNatClampNeg → (
      vp_in x1 7 ∧ ∀ w10 : jx_Wd, w10 = jx_up w 1 (upd (w 1) x1.toNatClampNeg (vp_nar .byte (v9 ||| (1 <<< (x2 &&& 31))).toInt8.toInt32)) → (
      (x3 = 0 → (
        vp_in x2 7 ∧ ∀ v11 : Int32, v11 = w10 1 x2.toNatClampNeg → (
        vp_in x2 7 ∧ ∀ w12 : jx_Wd, w12 = jx_up w10 1 (upd (w10 1) x2.toNatClampNeg (vp_nar .byte (v11 &&& ((1 <<< (x1 &&& 31)) ^^^ (-1))).toInt8.toInt32)) → (
        ∀ w13 : jx_Wd, w13 = jx_up w12 3 (fun _ => 0) → (
        Φ w13
        )
        )
        )
      )) ∧ (¬ x3 = 0 → (
        vp_in x2 7 ∧ ∀ v14 : Int32, v14 = w10 1 x2.toNatClampNeg → (
        vp_in x2 7 ∧ ∀ w15 : jx_Wd, w15 = jx_up w10 1 (upd (w10 1) x2.toNatClampNeg (vp_nar .byte (v14 ||| (1 <<< (x1 &&& 31))).toInt8.toInt32)) → (
        ∀ w16 : jx_Wd, w16 = jx_up w15 3 (fun _ => 0) → (
        Φ w16
        )
        )
        )
      ))
      )
      )
    ))
    ) : jx_J MX0_turn (jx_qv Φ) 0 [jx_t, jx_i x1, jx_i x2, jx_i x3] [] w := by
  refine jx_aload_n dX0_turn_0 rfl rfl ?_
  refine jx_getX0 rfl rfl 1 (by decide) rfl q38 (v := .inr 2) (fun _ => rfl) dX0_turn_1 ?_
  refine jx_iload_n dX0_turn_4 rfl rfl ?_
  refine jx_iload_n dX0_turn_5 rfl rfl ?_
  refine jx_if_eq (tgt := 22) dX0_turn_6 (by decide) (fun hc => ?_) (fun hc => ?_)
  · have h := h.1 hc
    refine jx_aload_n dX0_turn_22 rfl rfl ?_
    refine jx_getX0 rfl rfl 1 (by decide) rfl q38 (v := .inr 2) (fun _ => rfl) dX0_turn_23 ?_
    refine jx_iload_n dX0_turn_26 rfl rfl ?_
    refine jx_bald 1 1 7 rfl dX0_turn_27 h.1 (fun v1 e_v1 => ?_)
    have h := h.2 v1 e_v1
    refine jx_iconst (v := 1) dX0_turn_28 (by decide) ?_
    refine jx_iload_n dX0_turn_29 rfl rfl ?_
    refine jx_ishl dX0_turn_30 ?_
    refine jx_iconst (v := (-1)) dX0_turn_31 (by decide) ?_
    refine jx_ixor dX0_turn_32 ?_
    refine jx_iand dX0_turn_33 ?_
    refine jx_i2b dX0_turn_34 ?_
    refine jx_bast 1 1 7 rfl stX0_1 dX0_turn_35 h.1 (fun w2 e_w2 => ?_)
    have h := h.2 w2 e_w2
    refine jx_aload_n dX0_turn_36 rfl rfl ?_
    refine jx_getX0 rfl rfl 1 (by decide) rfl q38 (v := .inr 2) (fun _ => rfl) dX0_turn_37 ?_
    refine jx_iload_n dX0_turn_40 rfl rfl ?_
    refine jx_iload_n dX0_turn_41 rfl rfl ?_
    refine jx_if_eq (tgt := 58) dX0_turn_42 (by decide) (fun hc => ?_) (fun hc => ?_)
    · have h := h.1 hc
      refine jx_aload_n dX0_turn_58 rfl rfl ?_
      refine jx_getX0 rfl rfl 1 (by decide) rfl q38 (v := .inr 2) (fun _ => rfl) dX0_turn_59 ?_
      refine jx_iload_n dX0_turn_62 rfl rfl ?_
      refine jx_bald 1 1 7 rfl dX0_turn_63 h.1 (fun v3 e_v3 => ?_)
      have h := h.2 v3 e_v3
      refine jx_iconst (v := 1) dX0_turn_64 (by decide) ?_
      refine jx_iload_n dX0_turn_65 rfl rfl ?_
      refine jx_ishl dX0_turn_66 ?_
      refine jx_iconst (v := (-1)) dX0_turn_67 (by decide) ?_
      refine jx_ixor dX0_turn_68 ?_
      refine jx_iand dX0_turn_69 ?_
      refine jx_i2b dX0_turn_70 ?_
      refine jx_bast 1 1 7 rfl stX0_1 dX0_turn_71 h.1 (fun w4 e_w4 => ?_)
      have h := h.2 w4 e_w4
      refine jx_aload_n dX0_turn_72 rfl rfl ?_
      refine jx_iconst (v := 0) dX0_turn_73 (by decide) ?_
      refine jx_putX0 rfl rfl 3 (by decide) rfl q40 rfl (ty := .boolean) (by decide +kernel) rfl rfl (fun _ _ => Nat.le_of_ble_eq_true rfl) ptX0_3 dX0_turn_74 (fun w5 e_w5 => ?_)
      have h := h w5 e_w5
      exact jx_vret dX0_turn_77 rfl ⟨rfl, h⟩
    · have h := h.2 hc
      refine jx_aload_n dX0_turn_45 rfl rfl ?_
      refine jx_getX0 rfl rfl 1 (by decide) rfl q38 (v := .inr 2) (fun _ => rfl) dX0_turn_46 ?_
      refine jx_iload_n dX0_turn_49 rfl rfl ?_
      refine jx_bald 1 1 7 rfl dX0_turn_50 h.1 (fun v6 e_v6 => ?_)
      have h := h.2 v6 e_v6
      refine jx_iconst (v := 1) dX0_turn_51 (by decide) ?_
      refine jx_iload_n dX0_turn_52 rfl rfl ?_
      refine jx_ishl dX0_turn_53 ?_
      refine jx_ior dX0_turn_54 ?_
      refine jx_goto (tgt := 70) dX0_turn_55 (by decide) ?_
      refine jx_i2b dX0_turn_70 ?_
      refine jx_bast 1 1 7 rfl stX0_1 dX0_turn_71 h.1 (fun w7 e_w7 => ?_)
      have h := h.2 w7 e_w7
      refine jx_aload_n dX0_turn_72 rfl rfl ?_
      refine jx_iconst (v := 0) dX0_turn_73 (by decide) ?_
      refine jx_putX0 rfl rfl 3 (by decide) rfl q40 rfl (ty := .boolean) (by decide +kernel) rfl rfl (fun _ _ => Nat.le_of_ble_eq_true rfl) ptX0_3 dX0_turn_74 (fun w8 e_w8 => ?_)
      have h := h w8 e_w8
      exact jx_vret dX0_turn_77 rfl ⟨rfl, h⟩
  · have h := h.2 hc
    refine jx_aload_n dX0_turn_9 rfl rfl ?_
    refine jx_getX0 rfl rfl 1 (by decide) rfl q38 (v := .inr 2) (fun _ => rfl) dX0_turn_10 ?_
    refine jx_iload_n dX0_turn_13 rfl rfl ?_
    refine jx_bald 1 1 7 rfl dX0_turn_14 h.1 (fun v9 e_v9 => ?_)
    have h := h.2 v9 e_v9
    refine jx_iconst (v := 1) dX0_turn_15 (by decide) ?_
    refine jx_iload_n dX0_turn_16 rfl rfl ?_
    refine jx_ishl dX0_turn_17 ?_
    refine jx_ior dX0_turn_18 ?_
    refine jx_goto (tgt := 34) dX0_turn_19 (by decide) ?_
    refine jx_i2b dX0_turn_34 ?_
    refine jx_bast 1 1 7 rfl stX0_1 dX0_turn_35 h.1 (fun w10 e_w10 => ?_)
    have h := h.2 w10 e_w10
    refine jx_aload_n dX0_turn_36 rfl rfl ?_
    refine jx_getX0 rfl rfl 1 (by decide) rfl q38 (v := .inr 2) (fun _ => rfl) dX0_turn_37 ?_
    refine jx_iload_n dX0_turn_40 rfl rfl ?_
    refine jx_iload_n dX0_turn_41 rfl rfl ?_
    refine jx_if_eq (tgt := 58) dX0_turn_42 (by decide) (fun hc => ?_) (fun hc => ?_)
    · have h := h.1 hc
      refine jx_aload_n dX0_turn_58 rfl rfl ?_
      refine jx_getX0 rfl rfl 1 (by decide) rfl q38 (v := .inr 2) (fun _ => rfl) dX0_turn_59 ?_
      refine jx_iload_n dX0_turn_62 rfl rfl ?_
      refine jx_bald 1 1 7 rfl dX0_turn_63 h.1 (fun v11 e_v11 => ?_)
      have h := h.2 v11 e_v11
      refine jx_iconst (v := 1) dX0_turn_64 (by decide) ?_
      refine jx_iload_n dX0_turn_65 rfl rfl ?_
      refine jx_ishl dX0_turn_66 ?_
      refine jx_iconst (v := (-1)) dX0_turn_67 (by decide) ?_
      refine jx_ixor dX0_turn_68 ?_
      refine jx_iand dX0_turn_69 ?_
      refine jx_i2b dX0_turn_70 ?_
      refine jx_bast 1 1 7 rfl stX0_1 dX0_turn_71 h.1 (fun w12 e_w12 => ?_)
      have h := h.2 w12 e_w12
      refine jx_aload_n dX0_turn_72 rfl rfl ?_
      refine jx_iconst (v := 0) dX0_turn_73 (by decide) ?_
      refine jx_putX0 rfl rfl 3 (by decide) rfl q40 rfl (ty := .boolean) (by decide +kernel) rfl rfl (fun _ _ => Nat.le_of_ble_eq_true rfl) ptX0_3 dX0_turn_74 (fun w13 e_w13 => ?_)
      have h := h w13 e_w13
      exact jx_vret dX0_turn_77 rfl ⟨rfl, h⟩
    · have h := h.2 hc
      refine jx_aload_n dX0_turn_45 rfl rfl ?_
      refine jx_getX0 rfl rfl 1 (by decide) rfl q38 (v := .inr 2) (fun _ => rfl) dX0_turn_46 ?_
      refine jx_iload_n dX0_turn_49 rfl rfl ?_
      refine jx_bald 1 1 7 rfl dX0_turn_50 h.1 (fun v14 e_v14 => ?_)
      have h := h.2 v14 e_v14
      refine jx_iconst (v := 1) dX0_turn_51 (by decide) ?_
      refine jx_iload_n dX0_turn_52 rfl rfl ?_
      refine jx_ishl dX0_turn_53 ?_
      refine jx_ior dX0_turn_54 ?_
      refine jx_goto (tgt := 70) dX0_turn_55 (by decide) ?_
      refine jx_i2b dX0_turn_70 ?_
      refine jx_bast 1 1 7 rfl stX0_1 dX0_turn_71 h.1 (fun w15 e_w15 => ?_)
      have h := h.2 w15 e_w15
      refine jx_aload_n dX0_turn_72 rfl rfl ?_
      refine jx_iconst (v := 0) dX0_turn_73 (by decide) ?_
      refine jx_putX0 rfl rfl 3 (by decide) rfl q40 rfl (ty := .boolean) (by decide +kernel) rfl rfl (fun _ _ => Nat.le_of_ble_eq_true rfl) ptX0_3 dX0_turn_74 (fun w16 e_w16 => ?_)
      have h := h w16 e_w16
      exact jx_vret dX0_turn_77 rfl ⟨rfl, h⟩
theorem eX0_turn {Φ : jx_Wd → Prop} {x1 x2 x3 : Int32} {w : jx_Wd} (h : jx_J MX0_turn (jx_qv Φ) 0 [jx_t, jx_i x1, jx_i x2, jx_i x3] [] w) : jx_CV MX0_turn [.inr 0, .inl x1, .inl x2, .inl x3] w Φ := jx_of _ (by decide +kernel) ⟨rfl, rfl⟩ (Nat.le_of_ble_eq_true rfl) rfl h
theorem bX0_join_0 (Φ : Int32 → jx_Wd → Prop) (x1 x2 x3 : Int32) (w : jx_Wd) (h :
    jx_CI MX0_isPair [.inl x1, .inl x2] w (fun r2 w1 => (
    (r2 = 0 → (
      Φ 0 w1
    )) ∧ (¬ r2 = 0 → (
      (x3 < 1 → (
        Φ 0 w1
      )) ∧ (¬ x3 < 1 → (
        (x3 ≤ 9 → (
          vp_in ((x1 * 7) + x2) 49 ∧ ∀ w3 : jx_Wd, w3 = jx_up w1 0 (upd (w1 0) ((x1 * 7) + x2).toNatClampNeg (vp_nar .byte x3.toInt8.toInt32)) → (
          vp_in ((x2 * 7) + x1) 49 ∧ ∀ w4 : jx_Wd, w4 = jx_up w3 0 (upd (w3 0) ((x2 * 7) + x1).toNatClampNeg (vp_nar .byte x3.toInt8.toInt32)) → (
          jx_CV MX0_turn [.inr 0, .inl x1, .inl x2, .inl 1] w4 (fun w5 => (
          Φ 1 w5
          ))
          )
          )
        )) ∧ (¬ x3 ≤ 9 → (
          Φ 0 w1
        ))
      ))
    ))
    ))
    ) : jx_J MX0_join (jx_qi Φ) 0 [jx_t, jx_i x1, jx_i x2, jx_i x3] [] w := by
  refine jx_iload_n dX0_join_0 rfl rfl ?_
  refine jx_iload_n dX0_join_1 rfl rfl ?_
  refine jx_callSi (N := MX0_isPair) [.inl x1, .inl x2] rfl rfl okX0_isPair (by decide) rfl (Nat.le_of_ble_eq_true rfl) dX0_join_2 h (fun r2 w1 h => ?_)
  refine jx_if_eq (tgt := 19) dX0_join_5 (by decide) (fun hc => ?_) (fun hc => ?_)
  · have h := h.1 hc
    refine jx_iconst (v := 0) dX0_join_19 (by decide) ?_
    exact jx_iret dX0_join_20 rfl rfl ⟨_, rfl, h⟩
  · have h := h.2 hc
    refine jx_iload_n dX0_join_8 rfl rfl ?_
    refine jx_iconst (v := 1) dX0_join_9 (by decide) ?_
    refine jx_icmp_lt (tgt := 19) dX0_join_10 (by decide) (fun hc => ?_) (fun hc => ?_)
    · have h := h.1 hc
      refine jx_iconst (v := 0) dX0_join_19 (by decide) ?_
      exact jx_iret dX0_join_20 rfl rfl ⟨_, rfl, h⟩
    · have h := h.2 hc
      refine jx_iload_n dX0_join_13 rfl rfl ?_
      refine jx_bipush (v := 9) dX0_join_14 (by decide) ?_
      refine jx_icmp_le (tgt := 21) dX0_join_16 (by decide) (fun hc => ?_) (fun hc => ?_)
      · have h := h.1 hc
        refine jx_aload_n dX0_join_21 rfl rfl ?_
        refine jx_getX0 rfl rfl 0 (by decide) rfl q37 (v := .inr 1) (fun _ => rfl) dX0_join_22 ?_
        refine jx_iload_n dX0_join_25 rfl rfl ?_
        refine jx_bipush (v := 7) dX0_join_26 (by decide) ?_
        refine jx_imul dX0_join_28 ?_
        refine jx_iload_n dX0_join_29 rfl rfl ?_
        refine jx_iadd dX0_join_30 ?_
        refine jx_iload_n dX0_join_31 rfl rfl ?_
        refine jx_i2b dX0_join_32 ?_
        refine jx_bast 0 0 49 rfl stX0_0 dX0_join_33 h.1 (fun w3 e_w3 => ?_)
        have h := h.2 w3 e_w3
        refine jx_aload_n dX0_join_34 rfl rfl ?_
        refine jx_getX0 rfl rfl 0 (by decide) rfl q37 (v := .inr 1) (fun _ => rfl) dX0_join_35 ?_
        refine jx_iload_n dX0_join_38 rfl rfl ?_
        refine jx_bipush (v := 7) dX0_join_39 (by decide) ?_
        refine jx_imul dX0_join_41 ?_
        refine jx_iload_n dX0_join_42 rfl rfl ?_
        refine jx_iadd dX0_join_43 ?_
        refine jx_iload_n dX0_join_44 rfl rfl ?_
        refine jx_i2b dX0_join_45 ?_
        refine jx_bast 0 0 49 rfl stX0_0 dX0_join_46 h.1 (fun w4 e_w4 => ?_)
        have h := h.2 w4 e_w4
        refine jx_aload_n dX0_join_47 rfl rfl ?_
        refine jx_iload_n dX0_join_48 rfl rfl ?_
        refine jx_iload_n dX0_join_49 rfl rfl ?_
        refine jx_iconst (v := 1) dX0_join_50 (by decide) ?_
        refine jx_callVv (N := MX0_turn) [.inl x1, .inl x2, .inl 1] rfl rfl rfl rfl okX0_turn (by decide) rfl (Nat.le_of_ble_eq_true rfl) dX0_join_51 h (fun w5 h => ?_)
        refine jx_iconst (v := 1) dX0_join_54 (by decide) ?_
        exact jx_iret dX0_join_55 rfl rfl ⟨_, rfl, h⟩
      · have h := h.2 hc
        refine jx_iconst (v := 0) dX0_join_19 (by decide) ?_
        exact jx_iret dX0_join_20 rfl rfl ⟨_, rfl, h⟩
theorem eX0_join {Φ : Int32 → jx_Wd → Prop} {x1 x2 x3 : Int32} {w : jx_Wd} (h : jx_J MX0_join (jx_qi Φ) 0 [jx_t, jx_i x1, jx_i x2, jx_i x3] [] w) : jx_CI MX0_join [.inr 0, .inl x1, .inl x2, .inl x3] w Φ := jx_of _ (by decide +kernel) ⟨rfl, rfl⟩ (Nat.le_of_ble_eq_true rfl) rfl h
theorem bX0_linked_0 (Φ : Int32 → jx_Wd → Prop) (x1 x2 : Int32) (w : jx_Wd) (h :
    jx_CI MX0_isPair [.inl x1, .inl x2] w (fun r2 w1 => (
    (r2 = 0 → (
      Φ 0 w1
    )) ∧ (¬ r2 = 0 → (
      vp_in ((x1 * 7) + x2) 49 ∧ ∀ v3 : Int32, v3 = w1 0 ((x1 * 7) + x2).toNatClampNeg → (
      (v3 ≤ 0 → (
        Φ 0 w1
      )) ∧ (¬ v3 ≤ 0 → (
        Φ 1 w1
      ))
      )
    ))
    ))
    ) : jx_J MX0_linked (jx_qi Φ) 0 [jx_t, jx_i x1, jx_i x2] [] w := by
  refine jx_iload_n dX0_linked_0 rfl rfl ?_
  refine jx_iload_n dX0_linked_1 rfl rfl ?_
  refine jx_callSi (N := MX0_isPair) [.inl x1, .inl x2] rfl rfl okX0_isPair (by decide) rfl (Nat.le_of_ble_eq_true rfl) dX0_linked_2 h (fun r2 w1 h => ?_)
  refine jx_if_eq (tgt := 26) dX0_linked_5 (by decide) (fun hc => ?_) (fun hc => ?_)
  · have h := h.1 hc
    refine jx_iconst (v := 0) dX0_linked_26 (by decide) ?_
    exact jx_iret dX0_linked_27 rfl rfl ⟨_, rfl, h⟩
  · have h := h.2 hc
    refine jx_aload_n dX0_linked_8 rfl rfl ?_
    refine jx_getX0 rfl rfl 0 (by decide) rfl q37 (v := .inr 1) (fun _ => rfl) dX0_linked_9 ?_
    refine jx_iload_n dX0_linked_12 rfl rfl ?_
    refine jx_bipush (v := 7) dX0_linked_13 (by decide) ?_
    refine jx_imul dX0_linked_15 ?_
    refine jx_iload_n dX0_linked_16 rfl rfl ?_
    refine jx_iadd dX0_linked_17 ?_
    refine jx_bald 0 0 49 rfl dX0_linked_18 h.1 (fun v3 e_v3 => ?_)
    have h := h.2 v3 e_v3
    refine jx_if_le (tgt := 26) dX0_linked_19 (by decide) (fun hc => ?_) (fun hc => ?_)
    · have h := h.1 hc
      refine jx_iconst (v := 0) dX0_linked_26 (by decide) ?_
      exact jx_iret dX0_linked_27 rfl rfl ⟨_, rfl, h⟩
    · have h := h.2 hc
      refine jx_iconst (v := 1) dX0_linked_22 (by decide) ?_
      refine jx_goto (tgt := 27) dX0_linked_23 (by decide) ?_
      exact jx_iret dX0_linked_27 rfl rfl ⟨_, rfl, h⟩
theorem eX0_linked {Φ : Int32 → jx_Wd → Prop} {x1 x2 : Int32} {w : jx_Wd} (h : jx_J MX0_linked (jx_qi Φ) 0 [jx_t, jx_i x1, jx_i x2] [] w) : jx_CI MX0_linked [.inr 0, .inl x1, .inl x2] w Φ := jx_of _ (by decide +kernel) ⟨rfl, rfl⟩ (Nat.le_of_ble_eq_true rfl) rfl h
theorem bX0_cut_0 (Φ : Int32 → jx_Wd → Prop) (x1 x2 : Int32) (w : jx_Wd) (h :
    jx_CI MX0_linked [.inr 0, .inl x1, .inl x2] w (fun r2 w1 => (
    (r2 = 0 → (
      Φ 0 w1
    )) ∧ (¬ r2 = 0 → (
      vp_in ((x1 * 7) + x2) 49 ∧ ∀ w3 : jx_Wd, w3 = jx_up w1 0 (upd (w1 0) ((x1 * 7) + x2).toNatClampNeg (vp_nar .byte 0)) → (
      vp_in ((x2 * 7) + x1) 49 ∧ ∀ w4 : jx_Wd, w4 = jx_up w3 0 (upd (w3 0) ((x2 * 7) + x1).toNatClampNeg (vp_nar .byte 0)) → (
      jx_CV MX0_turn [.inr 0, .inl x1, .inl x2, .inl 0] w4 (fun w5 => (
      Φ 1 w5
      ))
      )
      )
    ))
    ))
    ) : jx_J MX0_cut (jx_qi Φ) 0 [jx_t, jx_i x1, jx_i x2] [] w := by
  refine jx_aload_n dX0_cut_0 rfl rfl ?_
  refine jx_iload_n dX0_cut_1 rfl rfl ?_
  refine jx_iload_n dX0_cut_2 rfl rfl ?_
  refine jx_callVi (N := MX0_linked) [.inl x1, .inl x2] rfl rfl rfl rfl okX0_linked (by decide) rfl (Nat.le_of_ble_eq_true rfl) dX0_cut_3 h (fun r2 w1 h => ?_)
  refine jx_if_ne (tgt := 11) dX0_cut_6 (by decide) (fun hc => ?_) (fun hc => ?_)
  · have h := h.2 hc
    refine jx_aload_n dX0_cut_11 rfl rfl ?_
    refine jx_getX0 rfl rfl 0 (by decide) rfl q37 (v := .inr 1) (fun _ => rfl) dX0_cut_12 ?_
    refine jx_iload_n dX0_cut_15 rfl rfl ?_
    refine jx_bipush (v := 7) dX0_cut_16 (by decide) ?_
    refine jx_imul dX0_cut_18 ?_
    refine jx_iload_n dX0_cut_19 rfl rfl ?_
    refine jx_iadd dX0_cut_20 ?_
    refine jx_iconst (v := 0) dX0_cut_21 (by decide) ?_
    refine jx_bast 0 0 49 rfl stX0_0 dX0_cut_22 h.1 (fun w3 e_w3 => ?_)
    have h := h.2 w3 e_w3
    refine jx_aload_n dX0_cut_23 rfl rfl ?_
    refine jx_getX0 rfl rfl 0 (by decide) rfl q37 (v := .inr 1) (fun _ => rfl) dX0_cut_24 ?_
    refine jx_iload_n dX0_cut_27 rfl rfl ?_
    refine jx_bipush (v := 7) dX0_cut_28 (by decide) ?_
    refine jx_imul dX0_cut_30 ?_
    refine jx_iload_n dX0_cut_31 rfl rfl ?_
    refine jx_iadd dX0_cut_32 ?_
    refine jx_iconst (v := 0) dX0_cut_33 (by decide) ?_
    refine jx_bast 0 0 49 rfl stX0_0 dX0_cut_34 h.1 (fun w4 e_w4 => ?_)
    have h := h.2 w4 e_w4
    refine jx_aload_n dX0_cut_35 rfl rfl ?_
    refine jx_iload_n dX0_cut_36 rfl rfl ?_
    refine jx_iload_n dX0_cut_37 rfl rfl ?_
    refine jx_iconst (v := 0) dX0_cut_38 (by decide) ?_
    refine jx_callVv (N := MX0_turn) [.inl x1, .inl x2, .inl 0] rfl rfl rfl rfl okX0_turn (by decide) rfl (Nat.le_of_ble_eq_true rfl) dX0_cut_39 h (fun w5 h => ?_)
    refine jx_iconst (v := 1) dX0_cut_42 (by decide) ?_
    exact jx_iret dX0_cut_43 rfl rfl ⟨_, rfl, h⟩
  · have h := h.1 hc
    refine jx_iconst (v := 0) dX0_cut_9 (by decide) ?_
    exact jx_iret dX0_cut_10 rfl rfl ⟨_, rfl, h⟩
theorem eX0_cut {Φ : Int32 → jx_Wd → Prop} {x1 x2 : Int32} {w : jx_Wd} (h : jx_J MX0_cut (jx_qi Φ) 0 [jx_t, jx_i x1, jx_i x2] [] w) : jx_CI MX0_cut [.inr 0, .inl x1, .inl x2] w Φ := jx_of _ (by decide +kernel) ⟨rfl, rfl⟩ (Nat.le_of_ble_eq_true rfl) rfl h
theorem bX0_setLink_0 (Φ : Int32 → jx_Wd → Prop) (x1 x2 x3 : Int32) (w : jx_Wd) (h :
    jx_CI MX0_linked [.inr 0, .inl x1, .inl x2] w (fun r2 w1 => (
    (r2 = 0 → (
      Φ 0 w1
    )) ∧ (¬ r2 = 0 → (
      jx_CV MX0_turn [.inr 0, .inl x1, .inl x2, .inl x3] w1 (fun w3 => (
      Φ 1 w3
      ))
    ))
    ))
    ) : jx_J MX0_setLink (jx_qi Φ) 0 [jx_t, jx_i x1, jx_i x2, jx_i x3] [] w := by
  refine jx_aload_n dX0_setLink_0 rfl rfl ?_
  refine jx_iload_n dX0_setLink_1 rfl rfl ?_
  refine jx_iload_n dX0_setLink_2 rfl rfl ?_
  refine jx_callVi (N := MX0_linked) [.inl x1, .inl x2] rfl rfl rfl rfl okX0_linked (by decide) rfl (Nat.le_of_ble_eq_true rfl) dX0_setLink_3 h (fun r2 w1 h => ?_)
  refine jx_if_ne (tgt := 11) dX0_setLink_6 (by decide) (fun hc => ?_) (fun hc => ?_)
  · have h := h.2 hc
    refine jx_aload_n dX0_setLink_11 rfl rfl ?_
    refine jx_iload_n dX0_setLink_12 rfl rfl ?_
    refine jx_iload_n dX0_setLink_13 rfl rfl ?_
    refine jx_iload_n dX0_setLink_14 rfl rfl ?_
    refine jx_callVv (N := MX0_turn) [.inl x1, .inl x2, .inl x3] rfl rfl rfl rfl okX0_turn (by decide) rfl (Nat.le_of_ble_eq_true rfl) dX0_setLink_15 h (fun w3 h => ?_)
    refine jx_iconst (v := 1) dX0_setLink_18 (by decide) ?_
    exact jx_iret dX0_setLink_19 rfl rfl ⟨_, rfl, h⟩
  · have h := h.1 hc
    refine jx_iconst (v := 0) dX0_setLink_9 (by decide) ?_
    exact jx_iret dX0_setLink_10 rfl rfl ⟨_, rfl, h⟩
theorem eX0_setLink {Φ : Int32 → jx_Wd → Prop} {x1 x2 x3 : Int32} {w : jx_Wd} (h : jx_J MX0_setLink (jx_qi Φ) 0 [jx_t, jx_i x1, jx_i x2, jx_i x3] [] w) : jx_CI MX0_setLink [.inr 0, .inl x1, .inl x2, .inl x3] w Φ := jx_of _ (by decide +kernel) ⟨rfl, rfl⟩ (Nat.le_of_ble_eq_true rfl) rfl h
theorem bX0_setRouter_0 (Φ : Int32 → jx_Wd → Prop) (x1 x2 : Int32) (w : jx_Wd) (h :
    jx_CI MX0_isRouter [.inl x1] w (fun r2 w1 => (
    (r2 = 0 → (
      Φ 0 w1
    )) ∧ (¬ r2 = 0 → (
      (x2 = 0 → (
        ∀ v3 : Int32, v3 = w1 2 0 → (
        ∀ w4 : jx_Wd, w4 = jx_up w1 2 (fun _ => v3 &&& ((1 <<< (x1 &&& 31)) ^^^ (-1))) → (
        ∀ w5 : jx_Wd, w5 = jx_up w4 3 (fun _ => 0) → (
        Φ 1 w5
        )
        )
        )
      )) ∧ (¬ x2 = 0 → (
        ∀ v6 : Int32, v6 = w1 2 0 → (
        ∀ w7 : jx_Wd, w7 = jx_up w1 2 (fun _ => v6 ||| (1 <<< (x1 &&& 31))) → (
        ∀ w8 : jx_Wd, w8 = jx_up w7 3 (fun _ => 0) → (
        Φ 1 w8
        )
        )
        )
      ))
    ))
    ))
    ) : jx_J MX0_setRouter (jx_qi Φ) 0 [jx_t, jx_i x1, jx_i x2] [] w := by
  refine jx_iload_n dX0_setRouter_0 rfl rfl ?_
  refine jx_callSi (N := MX0_isRouter) [.inl x1] rfl rfl okX0_isRouter (by decide) rfl (Nat.le_of_ble_eq_true rfl) dX0_setRouter_1 h (fun r2 w1 h => ?_)
  refine jx_if_ne (tgt := 9) dX0_setRouter_4 (by decide) (fun hc => ?_) (fun hc => ?_)
  · have h := h.2 hc
    refine jx_aload_n dX0_setRouter_9 rfl rfl ?_
    refine jx_iload_n dX0_setRouter_10 rfl rfl ?_
    refine jx_if_eq (tgt := 25) dX0_setRouter_11 (by decide) (fun hc => ?_) (fun hc => ?_)
    · have h := h.1 hc
      refine jx_aload_n dX0_setRouter_25 rfl rfl ?_
      refine jx_getX0 rfl rfl 2 (by decide) rfl q39 (v := .inl (w1 2 0)) (fun _ => rfl) dX0_setRouter_26 ?_
      refine jx_nm (fun v3 e_v3 => ?_)
      have h := h v3 e_v3
      refine jx_iconst (v := 1) dX0_setRouter_29 (by decide) ?_
      refine jx_iload_n dX0_setRouter_30 rfl rfl ?_
      refine jx_ishl dX0_setRouter_31 ?_
      refine jx_iconst (v := (-1)) dX0_setRouter_32 (by decide) ?_
      refine jx_ixor dX0_setRouter_33 ?_
      refine jx_iand dX0_setRouter_34 ?_
      refine jx_putX0 rfl rfl 2 (by decide) rfl q39 rfl (ty := .int) (by decide +kernel) rfl rfl (fun _ _ => Nat.le_of_ble_eq_true rfl) ptX0_2 dX0_setRouter_35 (fun w4 e_w4 => ?_)
      have h := h w4 e_w4
      refine jx_aload_n dX0_setRouter_38 rfl rfl ?_
      refine jx_iconst (v := 0) dX0_setRouter_39 (by decide) ?_
      refine jx_putX0 rfl rfl 3 (by decide) rfl q40 rfl (ty := .boolean) (by decide +kernel) rfl rfl (fun _ _ => Nat.le_of_ble_eq_true rfl) ptX0_3 dX0_setRouter_40 (fun w5 e_w5 => ?_)
      have h := h w5 e_w5
      refine jx_iconst (v := 1) dX0_setRouter_43 (by decide) ?_
      exact jx_iret dX0_setRouter_44 rfl rfl ⟨_, rfl, h⟩
    · have h := h.2 hc
      refine jx_aload_n dX0_setRouter_14 rfl rfl ?_
      refine jx_getX0 rfl rfl 2 (by decide) rfl q39 (v := .inl (w1 2 0)) (fun _ => rfl) dX0_setRouter_15 ?_
      refine jx_nm (fun v6 e_v6 => ?_)
      have h := h v6 e_v6
      refine jx_iconst (v := 1) dX0_setRouter_18 (by decide) ?_
      refine jx_iload_n dX0_setRouter_19 rfl rfl ?_
      refine jx_ishl dX0_setRouter_20 ?_
      refine jx_ior dX0_setRouter_21 ?_
      refine jx_goto (tgt := 35) dX0_setRouter_22 (by decide) ?_
      refine jx_putX0 rfl rfl 2 (by decide) rfl q39 rfl (ty := .int) (by decide +kernel) rfl rfl (fun _ _ => Nat.le_of_ble_eq_true rfl) ptX0_2 dX0_setRouter_35 (fun w7 e_w7 => ?_)
      have h := h w7 e_w7
      refine jx_aload_n dX0_setRouter_38 rfl rfl ?_
      refine jx_iconst (v := 0) dX0_setRouter_39 (by decide) ?_
      refine jx_putX0 rfl rfl 3 (by decide) rfl q40 rfl (ty := .boolean) (by decide +kernel) rfl rfl (fun _ _ => Nat.le_of_ble_eq_true rfl) ptX0_3 dX0_setRouter_40 (fun w8 e_w8 => ?_)
      have h := h w8 e_w8
      refine jx_iconst (v := 1) dX0_setRouter_43 (by decide) ?_
      exact jx_iret dX0_setRouter_44 rfl rfl ⟨_, rfl, h⟩
  · have h := h.1 hc
    refine jx_iconst (v := 0) dX0_setRouter_7 (by decide) ?_
    exact jx_iret dX0_setRouter_8 rfl rfl ⟨_, rfl, h⟩
theorem eX0_setRouter {Φ : Int32 → jx_Wd → Prop} {x1 x2 : Int32} {w : jx_Wd} (h : jx_J MX0_setRouter (jx_qi Φ) 0 [jx_t, jx_i x1, jx_i x2] [] w) : jx_CI MX0_setRouter [.inr 0, .inl x1, .inl x2] w Φ := jx_of _ (by decide +kernel) ⟨rfl, rfl⟩ (Nat.le_of_ble_eq_true rfl) rfl h
theorem bX0_cost_0 (Φ : Int32 → jx_Wd → Prop) (x1 x2 : Int32) (w : jx_Wd) (h :
    jx_CI MX0_linked [.inr 0, .inl x1, .inl x2] w (fun r2 w1 => (
    (r2 = 0 → (
      Φ (-1) w1
    )) ∧ (¬ r2 = 0 → (
      vp_in ((x1 * 7) + x2) 49 ∧ ∀ v3 : Int32, v3 = w1 0 ((x1 * 7) + x2).toNatClampNeg → (
      Φ v3 w1
      )
    ))
    ))
    ) : jx_J MX0_cost (jx_qi Φ) 0 [jx_t, jx_i x1, jx_i x2] [] w := by
  refine jx_aload_n dX0_cost_0 rfl rfl ?_
  refine jx_iload_n dX0_cost_1 rfl rfl ?_
  refine jx_iload_n dX0_cost_2 rfl rfl ?_
  refine jx_callVi (N := MX0_linked) [.inl x1, .inl x2] rfl rfl rfl rfl okX0_linked (by decide) rfl (Nat.le_of_ble_eq_true rfl) dX0_cost_3 h (fun r2 w1 h => ?_)
  refine jx_if_eq (tgt := 23) dX0_cost_6 (by decide) (fun hc => ?_) (fun hc => ?_)
  · have h := h.1 hc
    refine jx_iconst (v := (-1)) dX0_cost_23 (by decide) ?_
    exact jx_iret dX0_cost_24 rfl rfl ⟨_, rfl, h⟩
  · have h := h.2 hc
    refine jx_aload_n dX0_cost_9 rfl rfl ?_
    refine jx_getX0 rfl rfl 0 (by decide) rfl q37 (v := .inr 1) (fun _ => rfl) dX0_cost_10 ?_
    refine jx_iload_n dX0_cost_13 rfl rfl ?_
    refine jx_bipush (v := 7) dX0_cost_14 (by decide) ?_
    refine jx_imul dX0_cost_16 ?_
    refine jx_iload_n dX0_cost_17 rfl rfl ?_
    refine jx_iadd dX0_cost_18 ?_
    refine jx_bald 0 0 49 rfl dX0_cost_19 h.1 (fun v3 e_v3 => ?_)
    have h := h.2 v3 e_v3
    refine jx_goto (tgt := 24) dX0_cost_20 (by decide) ?_
    exact jx_iret dX0_cost_24 rfl rfl ⟨_, rfl, h⟩
theorem eX0_cost {Φ : Int32 → jx_Wd → Prop} {x1 x2 : Int32} {w : jx_Wd} (h : jx_J MX0_cost (jx_qi Φ) 0 [jx_t, jx_i x1, jx_i x2] [] w) : jx_CI MX0_cost [.inr 0, .inl x1, .inl x2] w Φ := jx_of _ (by decide +kernel) ⟨rfl, rfl⟩ (Nat.le_of_ble_eq_true rfl) rfl h
theorem bX0_nearest_0 (Φ : Int32 → jx_Wd → Prop) (x1 x2 : Int32) (w : jx_Wd) (h :
    jx_J MX0_nearest (jx_qi Φ) 5 [jx_t, jx_i x1, jx_i x2, jx_i (-1), jx_i 0, none] [] w
    ) : jx_J MX0_nearest (jx_qi Φ) 0 [jx_t, jx_i x1, jx_i x2, none, none, none] [] w := by
  refine jx_iconst (v := (-1)) dX0_nearest_0 (by decide) ?_
  refine jx_istore_n dX0_nearest_1 rfl (Nat.le_of_ble_eq_true rfl) (lv' := [jx_t, jx_i x1, jx_i x2, jx_i (-1), none, none]) rfl ?_
  refine jx_iconst (v := 0) dX0_nearest_2 (by decide) ?_
  refine jx_istore dX0_nearest_3 (Nat.le_of_ble_eq_true rfl) (lv' := [jx_t, jx_i x1, jx_i x2, jx_i (-1), jx_i 0, none]) rfl ?_
  exact h
theorem eX0_nearest {Φ : Int32 → jx_Wd → Prop} {x1 x2 : Int32} {w : jx_Wd} (h : jx_J MX0_nearest (jx_qi Φ) 0 [jx_t, jx_i x1, jx_i x2, none, none, none] [] w) : jx_CI MX0_nearest [.inr 0, .inl x1, .inl x2] w Φ := jx_of _ (by decide +kernel) ⟨rfl, rfl⟩ (Nat.le_of_ble_eq_true rfl) rfl h
theorem bX0_nearest_5 (Φ : Int32 → jx_Wd → Prop) (x1 x2 x3 x4 : Int32) (w : jx_Wd) (h :
    (7 ≤ x4 → (
      Φ x3 w
    )) ∧ (¬ 7 ≤ x4 → (
      vp_in ((x4 * 7) + x1) 49 ∧ ∀ v1 : Int32, v1 = w 4 ((x4 * 7) + x1).toNatClampNeg → (
      (((x2 >>> (x4 &&& 31)) &&& 1) = 0 → (
        (10000 ≤ v1 → (
          jx_J MX0_nearest (jx_qi Φ) 5 [jx_t, jx_i x1, jx_i x2, jx_i x3, jx_i (x4 + 1), none] [] w
        )) ∧ (¬ 10000 ≤ v1 → (
          (x3 < 0 → (
            jx_J MX0_nearest (jx_qi Φ) 5 [jx_t, jx_i x1, jx_i x2, jx_i x4, jx_i (x4 + 1), none] [] w
          )) ∧ (¬ x3 < 0 → (
            vp_in ((x3 * 7) + x1) 49 ∧ ∀ v2 : Int32, v2 = w 4 ((x3 * 7) + x1).toNatClampNeg → (
            (v2 ≤ v1 → (
              jx_J MX0_nearest (jx_qi Φ) 5 [jx_t, jx_i x1, jx_i x2, jx_i x3, jx_i (x4 + 1), none] [] w
            )) ∧ (¬ v2 ≤ v1 → (
              jx_J MX0_nearest (jx_qi Φ) 5 [jx_t, jx_i x1, jx_i x2, jx_i x4, jx_i (x4 + 1), none] [] w
            ))
            )
          ))
        ))
      )) ∧ (¬ ((x2 >>> (x4 &&& 31)) &&& 1) = 0 → (
        jx_J MX0_nearest (jx_qi Φ) 5 [jx_t, jx_i x1, jx_i x2, jx_i x3, jx_i (x4 + 1), none] [] w
      ))
      )
    ))
    ) : jx_J MX0_nearest (jx_qi Φ) 5 [jx_t, jx_i x1, jx_i x2, jx_i x3, jx_i x4, none] [] w := by
  refine jx_iload dX0_nearest_5 rfl ?_
  refine jx_bipush (v := 7) dX0_nearest_7 (by decide) ?_
  refine jx_icmp_ge (tgt := 72) dX0_nearest_9 (by decide) (fun hc => ?_) (fun hc => ?_)
  · have h := h.1 hc
    refine jx_iload_n dX0_nearest_72 rfl rfl ?_
    exact jx_iret dX0_nearest_73 rfl rfl ⟨_, rfl, h⟩
  · have h := h.2 hc
    refine jx_aload_n dX0_nearest_12 rfl rfl ?_
    refine jx_getX0 rfl rfl 4 (by decide) rfl q41 (v := .inr 5) (fun _ => rfl) dX0_nearest_13 ?_
    refine jx_iload dX0_nearest_16 rfl ?_
    refine jx_bipush (v := 7) dX0_nearest_18 (by decide) ?_
    refine jx_imul dX0_nearest_20 ?_
    refine jx_iload_n dX0_nearest_21 rfl rfl ?_
    refine jx_iadd dX0_nearest_22 ?_
    refine jx_iald 2 4 49 rfl dX0_nearest_23 h.1 (fun v1 e_v1 => ?_)
    have h := h.2 v1 e_v1
    refine jx_istore dX0_nearest_24 (Nat.le_of_ble_eq_true rfl) (lv' := [jx_t, jx_i x1, jx_i x2, jx_i x3, jx_i x4, jx_i v1]) rfl ?_
    refine jx_iload_n dX0_nearest_26 rfl rfl ?_
    refine jx_iload dX0_nearest_27 rfl ?_
    refine jx_ishr dX0_nearest_29 ?_
    refine jx_iconst (v := 1) dX0_nearest_30 (by decide) ?_
    refine jx_iand dX0_nearest_31 ?_
    refine jx_if_ne (tgt := 66) dX0_nearest_32 (by decide) (fun hc => ?_) (fun hc => ?_)
    · have h := h.2 hc
      refine jx_iinc (v := x4 + 1) dX0_nearest_66 rfl rfl (Nat.le_of_ble_eq_true rfl) (lv' := [jx_t, jx_i x1, jx_i x2, jx_i x3, jx_i (x4 + 1), jx_i v1]) rfl ?_
      refine jx_goto (tgt := 5) dX0_nearest_69 (by decide) ?_
      exact jx_weak (jx_Le.s (jx_Le.s (jx_Le.s (jx_Le.s (jx_Le.s (jx_Le.n jx_Le.z)))))) h
    · have h := h.1 hc
      refine jx_iload dX0_nearest_35 rfl ?_
      refine jx_sipush (v := 10000) dX0_nearest_37 (by decide) ?_
      refine jx_icmp_ge (tgt := 66) dX0_nearest_40 (by decide) (fun hc => ?_) (fun hc => ?_)
      · have h := h.1 hc
        refine jx_iinc (v := x4 + 1) dX0_nearest_66 rfl rfl (Nat.le_of_ble_eq_true rfl) (lv' := [jx_t, jx_i x1, jx_i x2, jx_i x3, jx_i (x4 + 1), jx_i v1]) rfl ?_
        refine jx_goto (tgt := 5) dX0_nearest_69 (by decide) ?_
        exact jx_weak (jx_Le.s (jx_Le.s (jx_Le.s (jx_Le.s (jx_Le.s (jx_Le.n jx_Le.z)))))) h
      · have h := h.2 hc
        refine jx_iload_n dX0_nearest_43 rfl rfl ?_
        refine jx_if_lt (tgt := 63) dX0_nearest_44 (by decide) (fun hc => ?_) (fun hc => ?_)
        · have h := h.1 hc
          refine jx_iload dX0_nearest_63 rfl ?_
          refine jx_istore_n dX0_nearest_65 rfl (Nat.le_of_ble_eq_true rfl) (lv' := [jx_t, jx_i x1, jx_i x2, jx_i x4, jx_i x4, jx_i v1]) rfl ?_
          refine jx_iinc (v := x4 + 1) dX0_nearest_66 rfl rfl (Nat.le_of_ble_eq_true rfl) (lv' := [jx_t, jx_i x1, jx_i x2, jx_i x4, jx_i (x4 + 1), jx_i v1]) rfl ?_
          refine jx_goto (tgt := 5) dX0_nearest_69 (by decide) ?_
          exact jx_weak (jx_Le.s (jx_Le.s (jx_Le.s (jx_Le.s (jx_Le.s (jx_Le.n jx_Le.z)))))) h
        · have h := h.2 hc
          refine jx_iload dX0_nearest_47 rfl ?_
          refine jx_aload_n dX0_nearest_49 rfl rfl ?_
          refine jx_getX0 rfl rfl 4 (by decide) rfl q41 (v := .inr 5) (fun _ => rfl) dX0_nearest_50 ?_
          refine jx_iload_n dX0_nearest_53 rfl rfl ?_
          refine jx_bipush (v := 7) dX0_nearest_54 (by decide) ?_
          refine jx_imul dX0_nearest_56 ?_
          refine jx_iload_n dX0_nearest_57 rfl rfl ?_
          refine jx_iadd dX0_nearest_58 ?_
          refine jx_iald 2 4 49 rfl dX0_nearest_59 h.1 (fun v2 e_v2 => ?_)
          have h := h.2 v2 e_v2
          refine jx_icmp_ge (tgt := 66) dX0_nearest_60 (by decide) (fun hc => ?_) (fun hc => ?_)
          · have h := h.1 hc
            refine jx_iinc (v := x4 + 1) dX0_nearest_66 rfl rfl (Nat.le_of_ble_eq_true rfl) (lv' := [jx_t, jx_i x1, jx_i x2, jx_i x3, jx_i (x4 + 1), jx_i v1]) rfl ?_
            refine jx_goto (tgt := 5) dX0_nearest_69 (by decide) ?_
            exact jx_weak (jx_Le.s (jx_Le.s (jx_Le.s (jx_Le.s (jx_Le.s (jx_Le.n jx_Le.z)))))) h
          · have h := h.2 hc
            refine jx_iload dX0_nearest_63 rfl ?_
            refine jx_istore_n dX0_nearest_65 rfl (Nat.le_of_ble_eq_true rfl) (lv' := [jx_t, jx_i x1, jx_i x2, jx_i x4, jx_i x4, jx_i v1]) rfl ?_
            refine jx_iinc (v := x4 + 1) dX0_nearest_66 rfl rfl (Nat.le_of_ble_eq_true rfl) (lv' := [jx_t, jx_i x1, jx_i x2, jx_i x4, jx_i (x4 + 1), jx_i v1]) rfl ?_
            refine jx_goto (tgt := 5) dX0_nearest_69 (by decide) ?_
            exact jx_weak (jx_Le.s (jx_Le.s (jx_Le.s (jx_Le.s (jx_Le.s (jx_Le.n jx_Le.z)))))) h
theorem bX0_counts_0 (Φ : Int32 → jx_Wd → Prop) (x1 x2 : Int32) (w : jx_Wd) (h :
    ∀ v1 : Int32, v1 = w 2 0 → (
    ∀ v2 : Int32, v2 = w 2 0 → (
    ((((v1 >>> (x1 &&& 31)) &&& (v2 >>> (x2 &&& 31))) &&& 1) = 0 → (
      Φ 0 w
    )) ∧ (¬ (((v1 >>> (x1 &&& 31)) &&& (v2 >>> (x2 &&& 31))) &&& 1) = 0 → (
      vp_in x1 7 ∧ ∀ v3 : Int32, v3 = w 1 x1.toNatClampNeg → (
      (((v3 >>> (x2 &&& 31)) &&& 1) = 0 → (
        Φ 0 w
      )) ∧ (¬ ((v3 >>> (x2 &&& 31)) &&& 1) = 0 → (
        Φ 1 w
      ))
      )
    ))
    )
    )
    ) : jx_J MX0_counts (jx_qi Φ) 0 [jx_t, jx_i x1, jx_i x2, none] [] w := by
  refine jx_aload_n dX0_counts_0 rfl rfl ?_
  refine jx_getX0 rfl rfl 2 (by decide) rfl q39 (v := .inl (w 2 0)) (fun _ => rfl) dX0_counts_1 ?_
  refine jx_nm (fun v1 e_v1 => ?_)
  have h := h v1 e_v1
  refine jx_iload_n dX0_counts_4 rfl rfl ?_
  refine jx_ishr dX0_counts_5 ?_
  refine jx_aload_n dX0_counts_6 rfl rfl ?_
  refine jx_getX0 rfl rfl 2 (by decide) rfl q39 (v := .inl (w 2 0)) (fun _ => rfl) dX0_counts_7 ?_
  refine jx_nm (fun v2 e_v2 => ?_)
  have h := h v2 e_v2
  refine jx_iload_n dX0_counts_10 rfl rfl ?_
  refine jx_ishr dX0_counts_11 ?_
  refine jx_iand dX0_counts_12 ?_
  refine jx_iconst (v := 1) dX0_counts_13 (by decide) ?_
  refine jx_iand dX0_counts_14 ?_
  refine jx_if_eq (tgt := 22) dX0_counts_15 (by decide) (fun hc => ?_) (fun hc => ?_)
  · have h := h.1 hc
    refine jx_iconst (v := 0) dX0_counts_22 (by decide) ?_
    refine jx_istore_n dX0_counts_23 rfl (Nat.le_of_ble_eq_true rfl) (lv' := [jx_t, jx_i x1, jx_i x2, jx_i 0]) rfl ?_
    refine jx_iload_n dX0_counts_24 rfl rfl ?_
    refine jx_if_eq (tgt := 45) dX0_counts_25 (by decide) (fun hc => ?_) (fun hc => absurd (by decide) hc)
    refine jx_iconst (v := 0) dX0_counts_45 (by decide) ?_
    exact jx_iret dX0_counts_46 rfl rfl ⟨_, rfl, h⟩
  · have h := h.2 hc
    refine jx_iconst (v := 1) dX0_counts_18 (by decide) ?_
    refine jx_goto (tgt := 23) dX0_counts_19 (by decide) ?_
    refine jx_istore_n dX0_counts_23 rfl (Nat.le_of_ble_eq_true rfl) (lv' := [jx_t, jx_i x1, jx_i x2, jx_i 1]) rfl ?_
    refine jx_iload_n dX0_counts_24 rfl rfl ?_
    refine jx_if_eq (tgt := 45) dX0_counts_25 (by decide) (fun hc => absurd hc (by decide)) (fun hc => ?_)
    refine jx_aload_n dX0_counts_28 rfl rfl ?_
    refine jx_getX0 rfl rfl 1 (by decide) rfl q38 (v := .inr 2) (fun _ => rfl) dX0_counts_29 ?_
    refine jx_iload_n dX0_counts_32 rfl rfl ?_
    refine jx_bald 1 1 7 rfl dX0_counts_33 h.1 (fun v3 e_v3 => ?_)
    have h := h.2 v3 e_v3
    refine jx_iload_n dX0_counts_34 rfl rfl ?_
    refine jx_ishr dX0_counts_35 ?_
    refine jx_iconst (v := 1) dX0_counts_36 (by decide) ?_
    refine jx_iand dX0_counts_37 ?_
    refine jx_if_eq (tgt := 45) dX0_counts_38 (by decide) (fun hc => ?_) (fun hc => ?_)
    · have h := h.1 hc
      refine jx_iconst (v := 0) dX0_counts_45 (by decide) ?_
      exact jx_iret dX0_counts_46 rfl rfl ⟨_, rfl, h⟩
    · have h := h.2 hc
      refine jx_iconst (v := 1) dX0_counts_41 (by decide) ?_
      refine jx_goto (tgt := 46) dX0_counts_42 (by decide) ?_
      exact jx_iret dX0_counts_46 rfl rfl ⟨_, rfl, h⟩
theorem eX0_counts {Φ : Int32 → jx_Wd → Prop} {x1 x2 : Int32} {w : jx_Wd} (h : jx_J MX0_counts (jx_qi Φ) 0 [jx_t, jx_i x1, jx_i x2, none] [] w) : jx_CI MX0_counts [.inr 0, .inl x1, .inl x2] w Φ := jx_of _ (by decide +kernel) ⟨rfl, rfl⟩ (Nat.le_of_ble_eq_true rfl) rfl h
theorem bX0_measure_0 (Φ : jx_Wd → Prop) (x1 : Int32) (w : jx_Wd) (h :
    jx_J MX0_measure (jx_qv Φ) 2 [jx_t, jx_i x1, jx_i 0, none, none, none, none] [] w
    ) : jx_J MX0_measure (jx_qv Φ) 0 [jx_t, jx_i x1, none, none, none, none, none] [] w := by
  refine jx_iconst (v := 0) dX0_measure_0 (by decide) ?_
  refine jx_istore_n dX0_measure_1 rfl (Nat.le_of_ble_eq_true rfl) (lv' := [jx_t, jx_i x1, jx_i 0, none, none, none, none]) rfl ?_
  exact h
theorem eX0_measure {Φ : jx_Wd → Prop} {x1 : Int32} {w : jx_Wd} (h : jx_J MX0_measure (jx_qv Φ) 0 [jx_t, jx_i x1, none, none, none, none, none] [] w) : jx_CV MX0_measure [.inr 0, .inl x1] w Φ := jx_of _ (by decide +kernel) ⟨rfl, rfl⟩ (Nat.le_of_ble_eq_true rfl) rfl h
theorem bX0_measure_2 (Φ : jx_Wd → Prop) (x1 x2 : Int32) (w : jx_Wd) (h :
    (7 ≤ x2 → (
      ∀ v1 : Int32, v1 = w 2 0 → (
      (((v1 >>> (x1 &&& 31)) &&& 1) = 0 → (
        Φ w
      )) ∧ (¬ ((v1 >>> (x1 &&& 31)) &&& 1) = 0 → (
        vp_in ((x1 * 7) + x1) 49 ∧ ∀ w2 : jx_Wd, w2 = jx_up w 4 (upd (w 4) ((x1 * 7) + x1).toNatClampNeg 0) → (
        jx_J MX0_measure (jx_qv Φ) 56 [jx_t, jx_i x1, jx_i 0, jx_i 0, none, none, none] [] w2
        )
      ))
      )
    )) ∧ (¬ 7 ≤ x2 → (
      vp_in ((x2 * 7) + x1) 49 ∧ ∀ w3 : jx_Wd, w3 = jx_up w 4 (upd (w 4) ((x2 * 7) + x1).toNatClampNeg 10000) → (
      jx_J MX0_measure (jx_qv Φ) 2 [jx_t, jx_i x1, jx_i (x2 + 1), none, none, none, none] [] w3
      )
    ))
    ) : jx_J MX0_measure (jx_qv Φ) 2 [jx_t, jx_i x1, jx_i x2, none, none, none, none] [] w := by
  refine jx_iload_n dX0_measure_2 rfl rfl ?_
  refine jx_bipush (v := 7) dX0_measure_3 (by decide) ?_
  refine jx_icmp_ge (tgt := 28) dX0_measure_5 (by decide) (fun hc => ?_) (fun hc => ?_)
  · have h := h.1 hc
    refine jx_aload_n dX0_measure_28 rfl rfl ?_
    refine jx_getX0 rfl rfl 2 (by decide) rfl q39 (v := .inl (w 2 0)) (fun _ => rfl) dX0_measure_29 ?_
    refine jx_nm (fun v1 e_v1 => ?_)
    have h := h v1 e_v1
    refine jx_iload_n dX0_measure_32 rfl rfl ?_
    refine jx_ishr dX0_measure_33 ?_
    refine jx_iconst (v := 1) dX0_measure_34 (by decide) ?_
    refine jx_iand dX0_measure_35 ?_
    refine jx_if_ne (tgt := 40) dX0_measure_36 (by decide) (fun hc => ?_) (fun hc => ?_)
    · have h := h.2 hc
      refine jx_aload_n dX0_measure_40 rfl rfl ?_
      refine jx_getX0 rfl rfl 4 (by decide) rfl q41 (v := .inr 5) (fun _ => rfl) dX0_measure_41 ?_
      refine jx_iload_n dX0_measure_44 rfl rfl ?_
      refine jx_bipush (v := 7) dX0_measure_45 (by decide) ?_
      refine jx_imul dX0_measure_47 ?_
      refine jx_iload_n dX0_measure_48 rfl rfl ?_
      refine jx_iadd dX0_measure_49 ?_
      refine jx_iconst (v := 0) dX0_measure_50 (by decide) ?_
      refine jx_iast 2 4 49 rfl stX0_4 dX0_measure_51 h.1 (fun w2 e_w2 => ?_)
      have h := h.2 w2 e_w2
      refine jx_iconst (v := 0) dX0_measure_52 (by decide) ?_
      refine jx_istore_n dX0_measure_53 rfl (Nat.le_of_ble_eq_true rfl) (lv' := [jx_t, jx_i x1, jx_i 0, none, none, none, none]) rfl ?_
      refine jx_iconst (v := 0) dX0_measure_54 (by decide) ?_
      refine jx_istore_n dX0_measure_55 rfl (Nat.le_of_ble_eq_true rfl) (lv' := [jx_t, jx_i x1, jx_i 0, jx_i 0, none, none, none]) rfl ?_
      exact h
    · have h := h.1 hc
      exact jx_vret dX0_measure_39 rfl ⟨rfl, h⟩
  · have h := h.2 hc
    refine jx_aload_n dX0_measure_8 rfl rfl ?_
    refine jx_getX0 rfl rfl 4 (by decide) rfl q41 (v := .inr 5) (fun _ => rfl) dX0_measure_9 ?_
    refine jx_iload_n dX0_measure_12 rfl rfl ?_
    refine jx_bipush (v := 7) dX0_measure_13 (by decide) ?_
    refine jx_imul dX0_measure_15 ?_
    refine jx_iload_n dX0_measure_16 rfl rfl ?_
    refine jx_iadd dX0_measure_17 ?_
    refine jx_sipush (v := 10000) dX0_measure_18 (by decide) ?_
    refine jx_iast 2 4 49 rfl stX0_4 dX0_measure_21 h.1 (fun w3 e_w3 => ?_)
    have h := h.2 w3 e_w3
    refine jx_iinc (v := x2 + 1) dX0_measure_22 rfl rfl (Nat.le_of_ble_eq_true rfl) (lv' := [jx_t, jx_i x1, jx_i (x2 + 1), none, none, none, none]) rfl ?_
    refine jx_goto (tgt := 2) dX0_measure_25 (by decide) ?_
    exact h
theorem bX0_measure_56 (Φ : jx_Wd → Prop) (x1 x2 x3 : Int32) (w : jx_Wd) (h :
    (7 ≤ x3 → (
      Φ w
    )) ∧ (¬ 7 ≤ x3 → (
      jx_CI MX0_nearest [.inr 0, .inl x1, .inl x2] w (fun r2 w1 => (
      (0 ≤ r2 → (
        jx_J MX0_measure (jx_qv Φ) 86 [jx_t, jx_i x1, jx_i (x2 ||| (1 <<< (r2 &&& 31))), jx_i x3, jx_i r2, jx_i 0, none] [] w1
      )) ∧ (¬ 0 ≤ r2 → (
        Φ w1
      ))
      ))
    ))
    ) : jx_J MX0_measure (jx_qv Φ) 56 [jx_t, jx_i x1, jx_i x2, jx_i x3, none, none, none] [] w := by
  refine jx_iload_n dX0_measure_56 rfl rfl ?_
  refine jx_bipush (v := 7) dX0_measure_57 (by decide) ?_
  refine jx_icmp_ge (tgt := 182) dX0_measure_59 (by decide) (fun hc => ?_) (fun hc => ?_)
  · have h := h.1 hc
    exact jx_vret dX0_measure_182 rfl ⟨rfl, h⟩
  · have h := h.2 hc
    refine jx_aload_n dX0_measure_62 rfl rfl ?_
    refine jx_iload_n dX0_measure_63 rfl rfl ?_
    refine jx_iload_n dX0_measure_64 rfl rfl ?_
    refine jx_callVi (N := MX0_nearest) [.inl x1, .inl x2] rfl rfl rfl rfl okX0_nearest (by decide) rfl (Nat.le_of_ble_eq_true rfl) dX0_measure_65 h (fun r2 w1 h => ?_)
    refine jx_istore dX0_measure_68 (Nat.le_of_ble_eq_true rfl) (lv' := [jx_t, jx_i x1, jx_i x2, jx_i x3, jx_i r2, none, none]) rfl ?_
    refine jx_iload dX0_measure_70 rfl ?_
    refine jx_if_ge (tgt := 76) dX0_measure_72 (by decide) (fun hc => ?_) (fun hc => ?_)
    · have h := h.1 hc
      refine jx_iload_n dX0_measure_76 rfl rfl ?_
      refine jx_iconst (v := 1) dX0_measure_77 (by decide) ?_
      refine jx_iload dX0_measure_78 rfl ?_
      refine jx_ishl dX0_measure_80 ?_
      refine jx_ior dX0_measure_81 ?_
      refine jx_istore_n dX0_measure_82 rfl (Nat.le_of_ble_eq_true rfl) (lv' := [jx_t, jx_i x1, jx_i (x2 ||| (1 <<< (r2 &&& 31))), jx_i x3, jx_i r2, none, none]) rfl ?_
      refine jx_iconst (v := 0) dX0_measure_83 (by decide) ?_
      refine jx_istore dX0_measure_84 (Nat.le_of_ble_eq_true rfl) (lv' := [jx_t, jx_i x1, jx_i (x2 ||| (1 <<< (r2 &&& 31))), jx_i x3, jx_i r2, jx_i 0, none]) rfl ?_
      exact h
    · have h := h.2 hc
      exact jx_vret dX0_measure_75 rfl ⟨rfl, h⟩
theorem bX0_measure_86 (Φ : jx_Wd → Prop) (x1 x2 x3 x4 x5 : Int32) (w : jx_Wd) (h :
    (7 ≤ x5 → (
      jx_J MX0_measure (jx_qv Φ) 56 [jx_t, jx_i x1, jx_i x2, jx_i (x3 + 1), none, none, none] [] w
    )) ∧ (¬ 7 ≤ x5 → (
      vp_in ((x5 * 7) + x4) 49 ∧ ∀ v1 : Int32, v1 = w 0 ((x5 * 7) + x4).toNatClampNeg → (
      vp_in ((x4 * 7) + x1) 49 ∧ ∀ v2 : Int32, v2 = w 4 ((x4 * 7) + x1).toNatClampNeg → (
      (x5 = x4 → (
        jx_J MX0_measure (jx_qv Φ) 86 [jx_t, jx_i x1, jx_i x2, jx_i x3, jx_i x4, jx_i (x5 + 1), none] [] w
      )) ∧ (¬ x5 = x4 → (
        jx_CI MX0_counts [.inr 0, .inl x5, .inl x4] w (fun r4 w3 => (
        (r4 = 0 → (
          jx_J MX0_measure (jx_qv Φ) 86 [jx_t, jx_i x1, jx_i x2, jx_i x3, jx_i x4, jx_i (x5 + 1), none] [] w3
        )) ∧ (¬ r4 = 0 → (
          vp_in ((x5 * 7) + x1) 49 ∧ ∀ v5 : Int32, v5 = w3 4 ((x5 * 7) + x1).toNatClampNeg → (
          (v5 ≤ (v1 + v2) → (
            jx_J MX0_measure (jx_qv Φ) 86 [jx_t, jx_i x1, jx_i x2, jx_i x3, jx_i x4, jx_i (x5 + 1), none] [] w3
          )) ∧ (¬ v5 ≤ (v1 + v2) → (
            vp_in ((x5 * 7) + x1) 49 ∧ ∀ w6 : jx_Wd, w6 = jx_up w3 4 (upd (w3 4) ((x5 * 7) + x1).toNatClampNeg (v1 + v2)) → (
            jx_J MX0_measure (jx_qv Φ) 86 [jx_t, jx_i x1, jx_i x2, jx_i x3, jx_i x4, jx_i (x5 + 1), none] [] w6
            )
          ))
          )
        ))
        ))
      ))
      )
      )
    ))
    ) : jx_J MX0_measure (jx_qv Φ) 86 [jx_t, jx_i x1, jx_i x2, jx_i x3, jx_i x4, jx_i x5, none] [] w := by
  refine jx_iload dX0_measure_86 rfl ?_
  refine jx_bipush (v := 7) dX0_measure_88 (by decide) ?_
  refine jx_icmp_ge (tgt := 176) dX0_measure_90 (by decide) (fun hc => ?_) (fun hc => ?_)
  · have h := h.1 hc
    refine jx_iinc (v := x3 + 1) dX0_measure_176 rfl rfl (Nat.le_of_ble_eq_true rfl) (lv' := [jx_t, jx_i x1, jx_i x2, jx_i (x3 + 1), jx_i x4, jx_i x5, none]) rfl ?_
    refine jx_goto (tgt := 56) dX0_measure_179 (by decide) ?_
    exact jx_weak (jx_Le.s (jx_Le.s (jx_Le.s (jx_Le.s (jx_Le.n (jx_Le.n (jx_Le.s jx_Le.z))))))) h
  · have h := h.2 hc
    refine jx_aload_n dX0_measure_93 rfl rfl ?_
    refine jx_getX0 rfl rfl 0 (by decide) rfl q37 (v := .inr 1) (fun _ => rfl) dX0_measure_94 ?_
    refine jx_iload dX0_measure_97 rfl ?_
    refine jx_bipush (v := 7) dX0_measure_99 (by decide) ?_
    refine jx_imul dX0_measure_101 ?_
    refine jx_iload dX0_measure_102 rfl ?_
    refine jx_iadd dX0_measure_104 ?_
    refine jx_bald 0 0 49 rfl dX0_measure_105 h.1 (fun v1 e_v1 => ?_)
    have h := h.2 v1 e_v1
    refine jx_aload_n dX0_measure_106 rfl rfl ?_
    refine jx_getX0 rfl rfl 4 (by decide) rfl q41 (v := .inr 5) (fun _ => rfl) dX0_measure_107 ?_
    refine jx_iload dX0_measure_110 rfl ?_
    refine jx_bipush (v := 7) dX0_measure_112 (by decide) ?_
    refine jx_imul dX0_measure_114 ?_
    refine jx_iload_n dX0_measure_115 rfl rfl ?_
    refine jx_iadd dX0_measure_116 ?_
    refine jx_iald 2 4 49 rfl dX0_measure_117 h.1 (fun v2 e_v2 => ?_)
    have h := h.2 v2 e_v2
    refine jx_iadd dX0_measure_118 ?_
    refine jx_istore dX0_measure_119 (Nat.le_of_ble_eq_true rfl) (lv' := [jx_t, jx_i x1, jx_i x2, jx_i x3, jx_i x4, jx_i x5, jx_i (v1 + v2)]) rfl ?_
    refine jx_iload dX0_measure_121 rfl ?_
    refine jx_iload dX0_measure_123 rfl ?_
    refine jx_icmp_eq (tgt := 170) dX0_measure_125 (by decide) (fun hc => ?_) (fun hc => ?_)
    · have h := h.1 hc
      refine jx_iinc (v := x5 + 1) dX0_measure_170 rfl rfl (Nat.le_of_ble_eq_true rfl) (lv' := [jx_t, jx_i x1, jx_i x2, jx_i x3, jx_i x4, jx_i (x5 + 1), jx_i (v1 + v2)]) rfl ?_
      refine jx_goto (tgt := 86) dX0_measure_173 (by decide) ?_
      exact jx_weak (jx_Le.s (jx_Le.s (jx_Le.s (jx_Le.s (jx_Le.s (jx_Le.s (jx_Le.n jx_Le.z))))))) h
    · have h := h.2 hc
      refine jx_aload_n dX0_measure_128 rfl rfl ?_
      refine jx_iload dX0_measure_129 rfl ?_
      refine jx_iload dX0_measure_131 rfl ?_
      refine jx_callVi (N := MX0_counts) [.inl x5, .inl x4] rfl rfl rfl rfl okX0_counts (by decide) rfl (Nat.le_of_ble_eq_true rfl) dX0_measure_133 h (fun r4 w3 h => ?_)
      refine jx_if_eq (tgt := 170) dX0_measure_136 (by decide) (fun hc => ?_) (fun hc => ?_)
      · have h := h.1 hc
        refine jx_iinc (v := x5 + 1) dX0_measure_170 rfl rfl (Nat.le_of_ble_eq_true rfl) (lv' := [jx_t, jx_i x1, jx_i x2, jx_i x3, jx_i x4, jx_i (x5 + 1), jx_i (v1 + v2)]) rfl ?_
        refine jx_goto (tgt := 86) dX0_measure_173 (by decide) ?_
        exact jx_weak (jx_Le.s (jx_Le.s (jx_Le.s (jx_Le.s (jx_Le.s (jx_Le.s (jx_Le.n jx_Le.z))))))) h
      · have h := h.2 hc
        refine jx_iload dX0_measure_139 rfl ?_
        refine jx_aload_n dX0_measure_141 rfl rfl ?_
        refine jx_getX0 rfl rfl 4 (by decide) rfl q41 (v := .inr 5) (fun _ => rfl) dX0_measure_142 ?_
        refine jx_iload dX0_measure_145 rfl ?_
        refine jx_bipush (v := 7) dX0_measure_147 (by decide) ?_
        refine jx_imul dX0_measure_149 ?_
        refine jx_iload_n dX0_measure_150 rfl rfl ?_
        refine jx_iadd dX0_measure_151 ?_
        refine jx_iald 2 4 49 rfl dX0_measure_152 h.1 (fun v5 e_v5 => ?_)
        have h := h.2 v5 e_v5
        refine jx_icmp_ge (tgt := 170) dX0_measure_153 (by decide) (fun hc => ?_) (fun hc => ?_)
        · have h := h.1 hc
          refine jx_iinc (v := x5 + 1) dX0_measure_170 rfl rfl (Nat.le_of_ble_eq_true rfl) (lv' := [jx_t, jx_i x1, jx_i x2, jx_i x3, jx_i x4, jx_i (x5 + 1), jx_i (v1 + v2)]) rfl ?_
          refine jx_goto (tgt := 86) dX0_measure_173 (by decide) ?_
          exact jx_weak (jx_Le.s (jx_Le.s (jx_Le.s (jx_Le.s (jx_Le.s (jx_Le.s (jx_Le.n jx_Le.z))))))) h
        · have h := h.2 hc
          refine jx_aload_n dX0_measure_156 rfl rfl ?_
          refine jx_getX0 rfl rfl 4 (by decide) rfl q41 (v := .inr 5) (fun _ => rfl) dX0_measure_157 ?_
          refine jx_iload dX0_measure_160 rfl ?_
          refine jx_bipush (v := 7) dX0_measure_162 (by decide) ?_
          refine jx_imul dX0_measure_164 ?_
          refine jx_iload_n dX0_measure_165 rfl rfl ?_
          refine jx_iadd dX0_measure_166 ?_
          refine jx_iload dX0_measure_167 rfl ?_
          refine jx_iast 2 4 49 rfl stX0_4 dX0_measure_169 h.1 (fun w6 e_w6 => ?_)
          have h := h.2 w6 e_w6
          refine jx_iinc (v := x5 + 1) dX0_measure_170 rfl rfl (Nat.le_of_ble_eq_true rfl) (lv' := [jx_t, jx_i x1, jx_i x2, jx_i x3, jx_i x4, jx_i (x5 + 1), jx_i (v1 + v2)]) rfl ?_
          refine jx_goto (tgt := 86) dX0_measure_173 (by decide) ?_
          exact jx_weak (jx_Le.s (jx_Le.s (jx_Le.s (jx_Le.s (jx_Le.s (jx_Le.s (jx_Le.n jx_Le.z))))))) h
theorem bX0_chooseHop_0 (Φ : Int32 → jx_Wd → Prop) (x1 x2 : Int32) (w : jx_Wd) (h :
    vp_in ((x1 * 7) + x2) 49 ∧ ∀ v1 : Int32, v1 = w 4 ((x1 * 7) + x2).toNatClampNeg → (
    jx_J MX0_chooseHop (jx_qi Φ) 15 [jx_t, jx_i x1, jx_i x2, jx_i v1, jx_i 0, none] [] w
    )
    ) : jx_J MX0_chooseHop (jx_qi Φ) 0 [jx_t, jx_i x1, jx_i x2, none, none, none] [] w := by
  refine jx_aload_n dX0_chooseHop_0 rfl rfl ?_
  refine jx_getX0 rfl rfl 4 (by decide) rfl q41 (v := .inr 5) (fun _ => rfl) dX0_chooseHop_1 ?_
  refine jx_iload_n dX0_chooseHop_4 rfl rfl ?_
  refine jx_bipush (v := 7) dX0_chooseHop_5 (by decide) ?_
  refine jx_imul dX0_chooseHop_7 ?_
  refine jx_iload_n dX0_chooseHop_8 rfl rfl ?_
  refine jx_iadd dX0_chooseHop_9 ?_
  refine jx_iald 2 4 49 rfl dX0_chooseHop_10 h.1 (fun v1 e_v1 => ?_)
  have h := h.2 v1 e_v1
  refine jx_istore_n dX0_chooseHop_11 rfl (Nat.le_of_ble_eq_true rfl) (lv' := [jx_t, jx_i x1, jx_i x2, jx_i v1, none, none]) rfl ?_
  refine jx_iconst (v := 0) dX0_chooseHop_12 (by decide) ?_
  refine jx_istore dX0_chooseHop_13 (Nat.le_of_ble_eq_true rfl) (lv' := [jx_t, jx_i x1, jx_i x2, jx_i v1, jx_i 0, none]) rfl ?_
  exact h
theorem eX0_chooseHop {Φ : Int32 → jx_Wd → Prop} {x1 x2 : Int32} {w : jx_Wd} (h : jx_J MX0_chooseHop (jx_qi Φ) 0 [jx_t, jx_i x1, jx_i x2, none, none, none] [] w) : jx_CI MX0_chooseHop [.inr 0, .inl x1, .inl x2] w Φ := jx_of _ (by decide +kernel) ⟨rfl, rfl⟩ (Nat.le_of_ble_eq_true rfl) rfl h
theorem bX0_chooseHop_15 (Φ : Int32 → jx_Wd → Prop) (x1 x2 x3 x4 : Int32) (w : jx_Wd) (h :
    (7 ≤ x4 → (
      Φ (-1) w
    )) ∧ (¬ 7 ≤ x4 → (
      (x1 = x2 → (
        jx_J MX0_chooseHop (jx_qi Φ) 15 [jx_t, jx_i x1, jx_i x2, jx_i x3, jx_i (x4 + 1), none] [] w
      )) ∧ (¬ x1 = x2 → (
        (10000 ≤ x3 → (
          jx_J MX0_chooseHop (jx_qi Φ) 15 [jx_t, jx_i x1, jx_i x2, jx_i x3, jx_i (x4 + 1), none] [] w
        )) ∧ (¬ 10000 ≤ x3 → (
          (x4 = x1 → (
            jx_J MX0_chooseHop (jx_qi Φ) 15 [jx_t, jx_i x1, jx_i x2, jx_i x3, jx_i (x4 + 1), none] [] w
          )) ∧ (¬ x4 = x1 → (
            jx_CI MX0_counts [.inr 0, .inl x1, .inl x4] w (fun r2 w1 => (
            (r2 = 0 → (
              jx_J MX0_chooseHop (jx_qi Φ) 15 [jx_t, jx_i x1, jx_i x2, jx_i x3, jx_i (x4 + 1), none] [] w1
            )) ∧ (¬ r2 = 0 → (
              vp_in ((x1 * 7) + x4) 49 ∧ ∀ v3 : Int32, v3 = w1 0 ((x1 * 7) + x4).toNatClampNeg → (
              vp_in ((x4 * 7) + x2) 49 ∧ ∀ v4 : Int32, v4 = w1 4 ((x4 * 7) + x2).toNatClampNeg → (
              ((v3 + v4) = x3 → (
                Φ x4 w1
              )) ∧ (¬ (v3 + v4) = x3 → (
                jx_J MX0_chooseHop (jx_qi Φ) 15 [jx_t, jx_i x1, jx_i x2, jx_i x3, jx_i (x4 + 1), none] [] w1
              ))
              )
              )
            ))
            ))
          ))
        ))
      ))
    ))
    ) : jx_J MX0_chooseHop (jx_qi Φ) 15 [jx_t, jx_i x1, jx_i x2, jx_i x3, jx_i x4, none] [] w := by
  refine jx_iload dX0_chooseHop_15 rfl ?_
  refine jx_bipush (v := 7) dX0_chooseHop_17 (by decide) ?_
  refine jx_icmp_ge (tgt := 100) dX0_chooseHop_19 (by decide) (fun hc => ?_) (fun hc => ?_)
  · have h := h.1 hc
    refine jx_iconst (v := (-1)) dX0_chooseHop_100 (by decide) ?_
    exact jx_iret dX0_chooseHop_101 rfl rfl ⟨_, rfl, h⟩
  · have h := h.2 hc
    refine jx_iload_n dX0_chooseHop_22 rfl rfl ?_
    refine jx_iload_n dX0_chooseHop_23 rfl rfl ?_
    refine jx_icmp_eq (tgt := 54) dX0_chooseHop_24 (by decide) (fun hc => ?_) (fun hc => ?_)
    · have h := h.1 hc
      refine jx_iconst (v := 0) dX0_chooseHop_54 (by decide) ?_
      refine jx_istore dX0_chooseHop_55 (Nat.le_of_ble_eq_true rfl) (lv' := [jx_t, jx_i x1, jx_i x2, jx_i x3, jx_i x4, jx_i 0]) rfl ?_
      refine jx_iload dX0_chooseHop_57 rfl ?_
      refine jx_if_eq (tgt := 94) dX0_chooseHop_59 (by decide) (fun hc => ?_) (fun hc => absurd (by decide) hc)
      refine jx_iinc (v := x4 + 1) dX0_chooseHop_94 rfl rfl (Nat.le_of_ble_eq_true rfl) (lv' := [jx_t, jx_i x1, jx_i x2, jx_i x3, jx_i (x4 + 1), jx_i 0]) rfl ?_
      refine jx_goto (tgt := 15) dX0_chooseHop_97 (by decide) ?_
      exact jx_weak (jx_Le.s (jx_Le.s (jx_Le.s (jx_Le.s (jx_Le.s (jx_Le.n jx_Le.z)))))) h
    · have h := h.2 hc
      refine jx_iload_n dX0_chooseHop_27 rfl rfl ?_
      refine jx_sipush (v := 10000) dX0_chooseHop_28 (by decide) ?_
      refine jx_icmp_ge (tgt := 54) dX0_chooseHop_31 (by decide) (fun hc => ?_) (fun hc => ?_)
      · have h := h.1 hc
        refine jx_iconst (v := 0) dX0_chooseHop_54 (by decide) ?_
        refine jx_istore dX0_chooseHop_55 (Nat.le_of_ble_eq_true rfl) (lv' := [jx_t, jx_i x1, jx_i x2, jx_i x3, jx_i x4, jx_i 0]) rfl ?_
        refine jx_iload dX0_chooseHop_57 rfl ?_
        refine jx_if_eq (tgt := 94) dX0_chooseHop_59 (by decide) (fun hc => ?_) (fun hc => absurd (by decide) hc)
        refine jx_iinc (v := x4 + 1) dX0_chooseHop_94 rfl rfl (Nat.le_of_ble_eq_true rfl) (lv' := [jx_t, jx_i x1, jx_i x2, jx_i x3, jx_i (x4 + 1), jx_i 0]) rfl ?_
        refine jx_goto (tgt := 15) dX0_chooseHop_97 (by decide) ?_
        exact jx_weak (jx_Le.s (jx_Le.s (jx_Le.s (jx_Le.s (jx_Le.s (jx_Le.n jx_Le.z)))))) h
      · have h := h.2 hc
        refine jx_iload dX0_chooseHop_34 rfl ?_
        refine jx_iload_n dX0_chooseHop_36 rfl rfl ?_
        refine jx_icmp_eq (tgt := 54) dX0_chooseHop_37 (by decide) (fun hc => ?_) (fun hc => ?_)
        · have h := h.1 hc
          refine jx_iconst (v := 0) dX0_chooseHop_54 (by decide) ?_
          refine jx_istore dX0_chooseHop_55 (Nat.le_of_ble_eq_true rfl) (lv' := [jx_t, jx_i x1, jx_i x2, jx_i x3, jx_i x4, jx_i 0]) rfl ?_
          refine jx_iload dX0_chooseHop_57 rfl ?_
          refine jx_if_eq (tgt := 94) dX0_chooseHop_59 (by decide) (fun hc => ?_) (fun hc => absurd (by decide) hc)
          refine jx_iinc (v := x4 + 1) dX0_chooseHop_94 rfl rfl (Nat.le_of_ble_eq_true rfl) (lv' := [jx_t, jx_i x1, jx_i x2, jx_i x3, jx_i (x4 + 1), jx_i 0]) rfl ?_
          refine jx_goto (tgt := 15) dX0_chooseHop_97 (by decide) ?_
          exact jx_weak (jx_Le.s (jx_Le.s (jx_Le.s (jx_Le.s (jx_Le.s (jx_Le.n jx_Le.z)))))) h
        · have h := h.2 hc
          refine jx_aload_n dX0_chooseHop_40 rfl rfl ?_
          refine jx_iload_n dX0_chooseHop_41 rfl rfl ?_
          refine jx_iload dX0_chooseHop_42 rfl ?_
          refine jx_callVi (N := MX0_counts) [.inl x1, .inl x4] rfl rfl rfl rfl okX0_counts (by decide) rfl (Nat.le_of_ble_eq_true rfl) dX0_chooseHop_44 h (fun r2 w1 h => ?_)
          refine jx_if_eq (tgt := 54) dX0_chooseHop_47 (by decide) (fun hc => ?_) (fun hc => ?_)
          · have h := h.1 hc
            refine jx_iconst (v := 0) dX0_chooseHop_54 (by decide) ?_
            refine jx_istore dX0_chooseHop_55 (Nat.le_of_ble_eq_true rfl) (lv' := [jx_t, jx_i x1, jx_i x2, jx_i x3, jx_i x4, jx_i 0]) rfl ?_
            refine jx_iload dX0_chooseHop_57 rfl ?_
            refine jx_if_eq (tgt := 94) dX0_chooseHop_59 (by decide) (fun hc => ?_) (fun hc => absurd (by decide) hc)
            refine jx_iinc (v := x4 + 1) dX0_chooseHop_94 rfl rfl (Nat.le_of_ble_eq_true rfl) (lv' := [jx_t, jx_i x1, jx_i x2, jx_i x3, jx_i (x4 + 1), jx_i 0]) rfl ?_
            refine jx_goto (tgt := 15) dX0_chooseHop_97 (by decide) ?_
            exact jx_weak (jx_Le.s (jx_Le.s (jx_Le.s (jx_Le.s (jx_Le.s (jx_Le.n jx_Le.z)))))) h
          · have h := h.2 hc
            refine jx_iconst (v := 1) dX0_chooseHop_50 (by decide) ?_
            refine jx_goto (tgt := 55) dX0_chooseHop_51 (by decide) ?_
            refine jx_istore dX0_chooseHop_55 (Nat.le_of_ble_eq_true rfl) (lv' := [jx_t, jx_i x1, jx_i x2, jx_i x3, jx_i x4, jx_i 1]) rfl ?_
            refine jx_iload dX0_chooseHop_57 rfl ?_
            refine jx_if_eq (tgt := 94) dX0_chooseHop_59 (by decide) (fun hc => absurd hc (by decide)) (fun hc => ?_)
            refine jx_aload_n dX0_chooseHop_62 rfl rfl ?_
            refine jx_getX0 rfl rfl 0 (by decide) rfl q37 (v := .inr 1) (fun _ => rfl) dX0_chooseHop_63 ?_
            refine jx_iload_n dX0_chooseHop_66 rfl rfl ?_
            refine jx_bipush (v := 7) dX0_chooseHop_67 (by decide) ?_
            refine jx_imul dX0_chooseHop_69 ?_
            refine jx_iload dX0_chooseHop_70 rfl ?_
            refine jx_iadd dX0_chooseHop_72 ?_
            refine jx_bald 0 0 49 rfl dX0_chooseHop_73 h.1 (fun v3 e_v3 => ?_)
            have h := h.2 v3 e_v3
            refine jx_aload_n dX0_chooseHop_74 rfl rfl ?_
            refine jx_getX0 rfl rfl 4 (by decide) rfl q41 (v := .inr 5) (fun _ => rfl) dX0_chooseHop_75 ?_
            refine jx_iload dX0_chooseHop_78 rfl ?_
            refine jx_bipush (v := 7) dX0_chooseHop_80 (by decide) ?_
            refine jx_imul dX0_chooseHop_82 ?_
            refine jx_iload_n dX0_chooseHop_83 rfl rfl ?_
            refine jx_iadd dX0_chooseHop_84 ?_
            refine jx_iald 2 4 49 rfl dX0_chooseHop_85 h.1 (fun v4 e_v4 => ?_)
            have h := h.2 v4 e_v4
            refine jx_iadd dX0_chooseHop_86 ?_
            refine jx_iload_n dX0_chooseHop_87 rfl rfl ?_
            refine jx_icmp_ne (tgt := 94) dX0_chooseHop_88 (by decide) (fun hc => ?_) (fun hc => ?_)
            · have h := h.2 hc
              refine jx_iinc (v := x4 + 1) dX0_chooseHop_94 rfl rfl (Nat.le_of_ble_eq_true rfl) (lv' := [jx_t, jx_i x1, jx_i x2, jx_i x3, jx_i (x4 + 1), jx_i 1]) rfl ?_
              refine jx_goto (tgt := 15) dX0_chooseHop_97 (by decide) ?_
              exact jx_weak (jx_Le.s (jx_Le.s (jx_Le.s (jx_Le.s (jx_Le.s (jx_Le.n jx_Le.z)))))) h
            · have h := h.1 hc
              refine jx_iload dX0_chooseHop_91 rfl ?_
              exact jx_iret dX0_chooseHop_93 rfl rfl ⟨_, rfl, h⟩
theorem bX0_bindOne_0 (Φ : jx_Wd → Prop) (x1 x2 : Int32) (w : jx_Wd) (h :
    vp_in ((x1 * 7) + x2) 49 ∧ ∀ v1 : Int32, v1 = w 5 ((x1 * 7) + x2).toNatClampNeg → (
    (v1 < 0 → (
      vp_in ((x1 * 7) + x2) 49 ∧ ∀ w2 : jx_Wd, w2 = jx_up w 9 (upd (w 9) ((x1 * 7) + x2).toNatClampNeg (vp_nar .short (0 : Int32).toInt16.toInt32)) → (
      vp_in ((x1 * 7) + x2) 49 ∧ ∀ v3 : Int32, v3 = w2 6 ((x1 * 7) + x2).toNatClampNeg → (
      vp_in ((x1 * 16) + (v3 &&& 15)) 112 ∧ ∀ w4 : jx_Wd, w4 = jx_up w2 7 (upd (w2 7) ((x1 * 16) + (v3 &&& 15)).toNatClampNeg (vp_nar .short (0 : Int32).toInt16.toInt32)) → (
      vp_in ((x1 * 16) + (v3 &&& 15)) 112 ∧ ∀ w5 : jx_Wd, w5 = jx_up w4 8 (upd (w4 8) ((x1 * 16) + (v3 &&& 15)).toNatClampNeg (vp_nar .byte v1.toInt8.toInt32)) → (
      Φ w5
      )
      )
      )
      )
    )) ∧ (¬ v1 < 0 → (
      (v1 = x2 → (
        vp_in ((x1 * 7) + x2) 49 ∧ ∀ w11 : jx_Wd, w11 = jx_up w 9 (upd (w 9) ((x1 * 7) + x2).toNatClampNeg (vp_nar .short (0 : Int32).toInt16.toInt32)) → (
        vp_in ((x1 * 7) + x2) 49 ∧ ∀ v12 : Int32, v12 = w11 6 ((x1 * 7) + x2).toNatClampNeg → (
        vp_in ((x1 * 16) + (v12 &&& 15)) 112 ∧ ∀ w13 : jx_Wd, w13 = jx_up w11 7 (upd (w11 7) ((x1 * 16) + (v12 &&& 15)).toNatClampNeg (vp_nar .short (0 : Int32).toInt16.toInt32)) → (
        vp_in ((x1 * 16) + (v12 &&& 15)) 112 ∧ ∀ w14 : jx_Wd, w14 = jx_up w13 8 (upd (w13 8) ((x1 * 16) + (v12 &&& 15)).toNatClampNeg (vp_nar .byte v1.toInt8.toInt32)) → (
        Φ w14
        )
        )
        )
        )
      )) ∧ (¬ v1 = x2 → (
        vp_in ((v1 * 7) + x2) 49 ∧ ∀ v6 : Int32, v6 = w 6 ((v1 * 7) + x2).toNatClampNeg → (
        vp_in ((x1 * 7) + x2) 49 ∧ ∀ w7 : jx_Wd, w7 = jx_up w 9 (upd (w 9) ((x1 * 7) + x2).toNatClampNeg (vp_nar .short v6.toInt16.toInt32)) → (
        vp_in ((x1 * 7) + x2) 49 ∧ ∀ v8 : Int32, v8 = w7 6 ((x1 * 7) + x2).toNatClampNeg → (
        vp_in ((x1 * 16) + (v8 &&& 15)) 112 ∧ ∀ w9 : jx_Wd, w9 = jx_up w7 7 (upd (w7 7) ((x1 * 16) + (v8 &&& 15)).toNatClampNeg (vp_nar .short v6.toInt16.toInt32)) → (
        vp_in ((x1 * 16) + (v8 &&& 15)) 112 ∧ ∀ w10 : jx_Wd, w10 = jx_up w9 8 (upd (w9 8) ((x1 * 16) + (v8 &&& 15)).toNatClampNeg (vp_nar .byte v1.toInt8.toInt32)) → (
        Φ w10
        )
        )
        )
        )
        )
      ))
    ))
    )
    ) : jx_J MX0_bindOne (jx_qv Φ) 0 [jx_t, jx_i x1, jx_i x2, none, none, none] [] w := by
  refine jx_aload_n dX0_bindOne_0 rfl rfl ?_
  refine jx_getX0 rfl rfl 5 (by decide) rfl q42 (v := .inr 6) (fun _ => rfl) dX0_bindOne_1 ?_
  refine jx_iload_n dX0_bindOne_4 rfl rfl ?_
  refine jx_bipush (v := 7) dX0_bindOne_5 (by decide) ?_
  refine jx_imul dX0_bindOne_7 ?_
  refine jx_iload_n dX0_bindOne_8 rfl rfl ?_
  refine jx_iadd dX0_bindOne_9 ?_
  refine jx_bald 3 5 49 rfl dX0_bindOne_10 h.1 (fun v1 e_v1 => ?_)
  have h := h.2 v1 e_v1
  refine jx_istore_n dX0_bindOne_11 rfl (Nat.le_of_ble_eq_true rfl) (lv' := [jx_t, jx_i x1, jx_i x2, jx_i v1, none, none]) rfl ?_
  refine jx_iload_n dX0_bindOne_12 rfl rfl ?_
  refine jx_if_lt (tgt := 21) dX0_bindOne_13 (by decide) (fun hc => ?_) (fun hc => ?_)
  · have h := h.1 hc
    refine jx_iconst (v := 0) dX0_bindOne_21 (by decide) ?_
    refine jx_goto (tgt := 36) dX0_bindOne_22 (by decide) ?_
    refine jx_istore dX0_bindOne_36 (Nat.le_of_ble_eq_true rfl) (lv' := [jx_t, jx_i x1, jx_i x2, jx_i v1, jx_i 0, none]) rfl ?_
    refine jx_aload_n dX0_bindOne_38 rfl rfl ?_
    refine jx_getX0 rfl rfl 9 (by decide) rfl q46 (v := .inr 10) (fun _ => rfl) dX0_bindOne_39 ?_
    refine jx_iload_n dX0_bindOne_42 rfl rfl ?_
    refine jx_bipush (v := 7) dX0_bindOne_43 (by decide) ?_
    refine jx_imul dX0_bindOne_45 ?_
    refine jx_iload_n dX0_bindOne_46 rfl rfl ?_
    refine jx_iadd dX0_bindOne_47 ?_
    refine jx_iload dX0_bindOne_48 rfl ?_
    refine jx_i2s dX0_bindOne_50 ?_
    refine jx_sast 7 9 49 rfl stX0_9 dX0_bindOne_51 h.1 (fun w2 e_w2 => ?_)
    have h := h.2 w2 e_w2
    refine jx_iload_n dX0_bindOne_52 rfl rfl ?_
    refine jx_bipush (v := 16) dX0_bindOne_53 (by decide) ?_
    refine jx_imul dX0_bindOne_55 ?_
    refine jx_aload_n dX0_bindOne_56 rfl rfl ?_
    refine jx_getX0 rfl rfl 6 (by decide) rfl q43 (v := .inr 7) (fun _ => rfl) dX0_bindOne_57 ?_
    refine jx_iload_n dX0_bindOne_60 rfl rfl ?_
    refine jx_bipush (v := 7) dX0_bindOne_61 (by decide) ?_
    refine jx_imul dX0_bindOne_63 ?_
    refine jx_iload_n dX0_bindOne_64 rfl rfl ?_
    refine jx_iadd dX0_bindOne_65 ?_
    refine jx_sald 4 6 49 rfl dX0_bindOne_66 h.1 (fun v3 e_v3 => ?_)
    have h := h.2 v3 e_v3
    refine jx_bipush (v := 15) dX0_bindOne_67 (by decide) ?_
    refine jx_iand dX0_bindOne_69 ?_
    refine jx_iadd dX0_bindOne_70 ?_
    refine jx_istore dX0_bindOne_71 (Nat.le_of_ble_eq_true rfl) (lv' := [jx_t, jx_i x1, jx_i x2, jx_i v1, jx_i 0, jx_i ((x1 * 16) + (v3 &&& 15))]) rfl ?_
    refine jx_aload_n dX0_bindOne_73 rfl rfl ?_
    refine jx_getX0 rfl rfl 7 (by decide) rfl q44 (v := .inr 8) (fun _ => rfl) dX0_bindOne_74 ?_
    refine jx_iload dX0_bindOne_77 rfl ?_
    refine jx_iload dX0_bindOne_79 rfl ?_
    refine jx_i2s dX0_bindOne_81 ?_
    refine jx_sast 5 7 112 rfl stX0_7 dX0_bindOne_82 h.1 (fun w4 e_w4 => ?_)
    have h := h.2 w4 e_w4
    refine jx_aload_n dX0_bindOne_83 rfl rfl ?_
    refine jx_getX0 rfl rfl 8 (by decide) rfl q45 (v := .inr 9) (fun _ => rfl) dX0_bindOne_84 ?_
    refine jx_iload dX0_bindOne_87 rfl ?_
    refine jx_iload_n dX0_bindOne_89 rfl rfl ?_
    refine jx_i2b dX0_bindOne_90 ?_
    refine jx_bast 6 8 112 rfl stX0_8 dX0_bindOne_91 h.1 (fun w5 e_w5 => ?_)
    have h := h.2 w5 e_w5
    exact jx_vret dX0_bindOne_92 rfl ⟨rfl, h⟩
  · have h := h.2 hc
    refine jx_iload_n dX0_bindOne_16 rfl rfl ?_
    refine jx_iload_n dX0_bindOne_17 rfl rfl ?_
    refine jx_icmp_ne (tgt := 25) dX0_bindOne_18 (by decide) (fun hc => ?_) (fun hc => ?_)
    · have h := h.2 hc
      refine jx_aload_n dX0_bindOne_25 rfl rfl ?_
      refine jx_getX0 rfl rfl 6 (by decide) rfl q43 (v := .inr 7) (fun _ => rfl) dX0_bindOne_26 ?_
      refine jx_iload_n dX0_bindOne_29 rfl rfl ?_
      refine jx_bipush (v := 7) dX0_bindOne_30 (by decide) ?_
      refine jx_imul dX0_bindOne_32 ?_
      refine jx_iload_n dX0_bindOne_33 rfl rfl ?_
      refine jx_iadd dX0_bindOne_34 ?_
      refine jx_sald 4 6 49 rfl dX0_bindOne_35 h.1 (fun v6 e_v6 => ?_)
      have h := h.2 v6 e_v6
      refine jx_istore dX0_bindOne_36 (Nat.le_of_ble_eq_true rfl) (lv' := [jx_t, jx_i x1, jx_i x2, jx_i v1, jx_i v6, none]) rfl ?_
      refine jx_aload_n dX0_bindOne_38 rfl rfl ?_
      refine jx_getX0 rfl rfl 9 (by decide) rfl q46 (v := .inr 10) (fun _ => rfl) dX0_bindOne_39 ?_
      refine jx_iload_n dX0_bindOne_42 rfl rfl ?_
      refine jx_bipush (v := 7) dX0_bindOne_43 (by decide) ?_
      refine jx_imul dX0_bindOne_45 ?_
      refine jx_iload_n dX0_bindOne_46 rfl rfl ?_
      refine jx_iadd dX0_bindOne_47 ?_
      refine jx_iload dX0_bindOne_48 rfl ?_
      refine jx_i2s dX0_bindOne_50 ?_
      refine jx_sast 7 9 49 rfl stX0_9 dX0_bindOne_51 h.1 (fun w7 e_w7 => ?_)
      have h := h.2 w7 e_w7
      refine jx_iload_n dX0_bindOne_52 rfl rfl ?_
      refine jx_bipush (v := 16) dX0_bindOne_53 (by decide) ?_
      refine jx_imul dX0_bindOne_55 ?_
      refine jx_aload_n dX0_bindOne_56 rfl rfl ?_
      refine jx_getX0 rfl rfl 6 (by decide) rfl q43 (v := .inr 7) (fun _ => rfl) dX0_bindOne_57 ?_
      refine jx_iload_n dX0_bindOne_60 rfl rfl ?_
      refine jx_bipush (v := 7) dX0_bindOne_61 (by decide) ?_
      refine jx_imul dX0_bindOne_63 ?_
      refine jx_iload_n dX0_bindOne_64 rfl rfl ?_
      refine jx_iadd dX0_bindOne_65 ?_
      refine jx_sald 4 6 49 rfl dX0_bindOne_66 h.1 (fun v8 e_v8 => ?_)
      have h := h.2 v8 e_v8
      refine jx_bipush (v := 15) dX0_bindOne_67 (by decide) ?_
      refine jx_iand dX0_bindOne_69 ?_
      refine jx_iadd dX0_bindOne_70 ?_
      refine jx_istore dX0_bindOne_71 (Nat.le_of_ble_eq_true rfl) (lv' := [jx_t, jx_i x1, jx_i x2, jx_i v1, jx_i v6, jx_i ((x1 * 16) + (v8 &&& 15))]) rfl ?_
      refine jx_aload_n dX0_bindOne_73 rfl rfl ?_
      refine jx_getX0 rfl rfl 7 (by decide) rfl q44 (v := .inr 8) (fun _ => rfl) dX0_bindOne_74 ?_
      refine jx_iload dX0_bindOne_77 rfl ?_
      refine jx_iload dX0_bindOne_79 rfl ?_
      refine jx_i2s dX0_bindOne_81 ?_
      refine jx_sast 5 7 112 rfl stX0_7 dX0_bindOne_82 h.1 (fun w9 e_w9 => ?_)
      have h := h.2 w9 e_w9
      refine jx_aload_n dX0_bindOne_83 rfl rfl ?_
      refine jx_getX0 rfl rfl 8 (by decide) rfl q45 (v := .inr 9) (fun _ => rfl) dX0_bindOne_84 ?_
      refine jx_iload dX0_bindOne_87 rfl ?_
      refine jx_iload_n dX0_bindOne_89 rfl rfl ?_
      refine jx_i2b dX0_bindOne_90 ?_
      refine jx_bast 6 8 112 rfl stX0_8 dX0_bindOne_91 h.1 (fun w10 e_w10 => ?_)
      have h := h.2 w10 e_w10
      exact jx_vret dX0_bindOne_92 rfl ⟨rfl, h⟩
    · have h := h.1 hc
      refine jx_iconst (v := 0) dX0_bindOne_21 (by decide) ?_
      refine jx_goto (tgt := 36) dX0_bindOne_22 (by decide) ?_
      refine jx_istore dX0_bindOne_36 (Nat.le_of_ble_eq_true rfl) (lv' := [jx_t, jx_i x1, jx_i x2, jx_i v1, jx_i 0, none]) rfl ?_
      refine jx_aload_n dX0_bindOne_38 rfl rfl ?_
      refine jx_getX0 rfl rfl 9 (by decide) rfl q46 (v := .inr 10) (fun _ => rfl) dX0_bindOne_39 ?_
      refine jx_iload_n dX0_bindOne_42 rfl rfl ?_
      refine jx_bipush (v := 7) dX0_bindOne_43 (by decide) ?_
      refine jx_imul dX0_bindOne_45 ?_
      refine jx_iload_n dX0_bindOne_46 rfl rfl ?_
      refine jx_iadd dX0_bindOne_47 ?_
      refine jx_iload dX0_bindOne_48 rfl ?_
      refine jx_i2s dX0_bindOne_50 ?_
      refine jx_sast 7 9 49 rfl stX0_9 dX0_bindOne_51 h.1 (fun w11 e_w11 => ?_)
      have h := h.2 w11 e_w11
      refine jx_iload_n dX0_bindOne_52 rfl rfl ?_
      refine jx_bipush (v := 16) dX0_bindOne_53 (by decide) ?_
      refine jx_imul dX0_bindOne_55 ?_
      refine jx_aload_n dX0_bindOne_56 rfl rfl ?_
      refine jx_getX0 rfl rfl 6 (by decide) rfl q43 (v := .inr 7) (fun _ => rfl) dX0_bindOne_57 ?_
      refine jx_iload_n dX0_bindOne_60 rfl rfl ?_
      refine jx_bipush (v := 7) dX0_bindOne_61 (by decide) ?_
      refine jx_imul dX0_bindOne_63 ?_
      refine jx_iload_n dX0_bindOne_64 rfl rfl ?_
      refine jx_iadd dX0_bindOne_65 ?_
      refine jx_sald 4 6 49 rfl dX0_bindOne_66 h.1 (fun v12 e_v12 => ?_)
      have h := h.2 v12 e_v12
      refine jx_bipush (v := 15) dX0_bindOne_67 (by decide) ?_
      refine jx_iand dX0_bindOne_69 ?_
      refine jx_iadd dX0_bindOne_70 ?_
      refine jx_istore dX0_bindOne_71 (Nat.le_of_ble_eq_true rfl) (lv' := [jx_t, jx_i x1, jx_i x2, jx_i v1, jx_i 0, jx_i ((x1 * 16) + (v12 &&& 15))]) rfl ?_
      refine jx_aload_n dX0_bindOne_73 rfl rfl ?_
      refine jx_getX0 rfl rfl 7 (by decide) rfl q44 (v := .inr 8) (fun _ => rfl) dX0_bindOne_74 ?_
      refine jx_iload dX0_bindOne_77 rfl ?_
      refine jx_iload dX0_bindOne_79 rfl ?_
      refine jx_i2s dX0_bindOne_81 ?_
      refine jx_sast 5 7 112 rfl stX0_7 dX0_bindOne_82 h.1 (fun w13 e_w13 => ?_)
      have h := h.2 w13 e_w13
      refine jx_aload_n dX0_bindOne_83 rfl rfl ?_
      refine jx_getX0 rfl rfl 8 (by decide) rfl q45 (v := .inr 9) (fun _ => rfl) dX0_bindOne_84 ?_
      refine jx_iload dX0_bindOne_87 rfl ?_
      refine jx_iload_n dX0_bindOne_89 rfl rfl ?_
      refine jx_i2b dX0_bindOne_90 ?_
      refine jx_bast 6 8 112 rfl stX0_8 dX0_bindOne_91 h.1 (fun w14 e_w14 => ?_)
      have h := h.2 w14 e_w14
      exact jx_vret dX0_bindOne_92 rfl ⟨rfl, h⟩
theorem eX0_bindOne {Φ : jx_Wd → Prop} {x1 x2 : Int32} {w : jx_Wd} (h : jx_J MX0_bindOne (jx_qv Φ) 0 [jx_t, jx_i x1, jx_i x2, none, none, none] [] w) : jx_CV MX0_bindOne [.inr 0, .inl x1, .inl x2] w Φ := jx_of _ (by decide +kernel) ⟨rfl, rfl⟩ (Nat.le_of_ble_eq_true rfl) rfl h
theorem bX0_bind_0 (Φ : jx_Wd → Prop) (w : jx_Wd) (h :
    jx_J MX0_bind (jx_qv Φ) 2 [jx_t, jx_i 0, none] [] w
    ) : jx_J MX0_bind (jx_qv Φ) 0 [jx_t, none, none] [] w := by
  refine jx_iconst (v := 0) dX0_bind_0 (by decide) ?_
  refine jx_istore_n dX0_bind_1 rfl (Nat.le_of_ble_eq_true rfl) (lv' := [jx_t, jx_i 0, none]) rfl ?_
  exact h
theorem eX0_bind {Φ : jx_Wd → Prop} {w : jx_Wd} (h : jx_J MX0_bind (jx_qv Φ) 0 [jx_t, none, none] [] w) : jx_CV MX0_bind [.inr 0] w Φ := jx_of _ (by decide +kernel) ⟨rfl, rfl⟩ (Nat.le_of_ble_eq_true rfl) rfl h
theorem bX0_bind_2 (Φ : jx_Wd → Prop) (x1 : Int32) (w : jx_Wd) (h :
    (112 ≤ x1 → (
      jx_J MX0_bind (jx_qv Φ) 30 [jx_t, jx_i 0, none] [] w
    )) ∧ (¬ 112 ≤ x1 → (
      vp_in x1 112 ∧ ∀ w1 : jx_Wd, w1 = jx_up w 7 (upd (w 7) x1.toNatClampNeg (vp_nar .short 0)) → (
      vp_in x1 112 ∧ ∀ w2 : jx_Wd, w2 = jx_up w1 8 (upd (w1 8) x1.toNatClampNeg (vp_nar .byte (-1))) → (
      jx_J MX0_bind (jx_qv Φ) 2 [jx_t, jx_i (x1 + 1), none] [] w2
      )
      )
    ))
    ) : jx_J MX0_bind (jx_qv Φ) 2 [jx_t, jx_i x1, none] [] w := by
  refine jx_iload_n dX0_bind_2 rfl rfl ?_
  refine jx_bipush (v := 112) dX0_bind_3 (by decide) ?_
  refine jx_icmp_ge (tgt := 28) dX0_bind_5 (by decide) (fun hc => ?_) (fun hc => ?_)
  · have h := h.1 hc
    refine jx_iconst (v := 0) dX0_bind_28 (by decide) ?_
    refine jx_istore_n dX0_bind_29 rfl (Nat.le_of_ble_eq_true rfl) (lv' := [jx_t, jx_i 0, none]) rfl ?_
    exact h
  · have h := h.2 hc
    refine jx_aload_n dX0_bind_8 rfl rfl ?_
    refine jx_getX0 rfl rfl 7 (by decide) rfl q44 (v := .inr 8) (fun _ => rfl) dX0_bind_9 ?_
    refine jx_iload_n dX0_bind_12 rfl rfl ?_
    refine jx_iconst (v := 0) dX0_bind_13 (by decide) ?_
    refine jx_sast 5 7 112 rfl stX0_7 dX0_bind_14 h.1 (fun w1 e_w1 => ?_)
    have h := h.2 w1 e_w1
    refine jx_aload_n dX0_bind_15 rfl rfl ?_
    refine jx_getX0 rfl rfl 8 (by decide) rfl q45 (v := .inr 9) (fun _ => rfl) dX0_bind_16 ?_
    refine jx_iload_n dX0_bind_19 rfl rfl ?_
    refine jx_iconst (v := (-1)) dX0_bind_20 (by decide) ?_
    refine jx_bast 6 8 112 rfl stX0_8 dX0_bind_21 h.1 (fun w2 e_w2 => ?_)
    have h := h.2 w2 e_w2
    refine jx_iinc (v := x1 + 1) dX0_bind_22 rfl rfl (Nat.le_of_ble_eq_true rfl) (lv' := [jx_t, jx_i (x1 + 1), none]) rfl ?_
    refine jx_goto (tgt := 2) dX0_bind_25 (by decide) ?_
    exact h
theorem bX0_bind_30 (Φ : jx_Wd → Prop) (x1 : Int32) (w : jx_Wd) (h :
    (7 ≤ x1 → (
      Φ w
    )) ∧ (¬ 7 ≤ x1 → (
      jx_J MX0_bind (jx_qv Φ) 38 [jx_t, jx_i x1, jx_i 0] [] w
    ))
    ) : jx_J MX0_bind (jx_qv Φ) 30 [jx_t, jx_i x1, none] [] w := by
  refine jx_iload_n dX0_bind_30 rfl rfl ?_
  refine jx_bipush (v := 7) dX0_bind_31 (by decide) ?_
  refine jx_icmp_ge (tgt := 62) dX0_bind_33 (by decide) (fun hc => ?_) (fun hc => ?_)
  · have h := h.1 hc
    exact jx_vret dX0_bind_62 rfl ⟨rfl, h⟩
  · have h := h.2 hc
    refine jx_iconst (v := 0) dX0_bind_36 (by decide) ?_
    refine jx_istore_n dX0_bind_37 rfl (Nat.le_of_ble_eq_true rfl) (lv' := [jx_t, jx_i x1, jx_i 0]) rfl ?_
    exact h
theorem bX0_bind_38 (Φ : jx_Wd → Prop) (x1 x2 : Int32) (w : jx_Wd) (h :
    (7 ≤ x2 → (
      jx_J MX0_bind (jx_qv Φ) 30 [jx_t, jx_i (x1 + 1), none] [] w
    )) ∧ (¬ 7 ≤ x2 → (
      jx_CV MX0_bindOne [.inr 0, .inl x1, .inl x2] w (fun w1 => (
      jx_J MX0_bind (jx_qv Φ) 38 [jx_t, jx_i x1, jx_i (x2 + 1)] [] w1
      ))
    ))
    ) : jx_J MX0_bind (jx_qv Φ) 38 [jx_t, jx_i x1, jx_i x2] [] w := by
  refine jx_iload_n dX0_bind_38 rfl rfl ?_
  refine jx_bipush (v := 7) dX0_bind_39 (by decide) ?_
  refine jx_icmp_ge (tgt := 56) dX0_bind_41 (by decide) (fun hc => ?_) (fun hc => ?_)
  · have h := h.1 hc
    refine jx_iinc (v := x1 + 1) dX0_bind_56 rfl rfl (Nat.le_of_ble_eq_true rfl) (lv' := [jx_t, jx_i (x1 + 1), jx_i x2]) rfl ?_
    refine jx_goto (tgt := 30) dX0_bind_59 (by decide) ?_
    exact jx_weak (jx_Le.s (jx_Le.s (jx_Le.n jx_Le.z))) h
  · have h := h.2 hc
    refine jx_aload_n dX0_bind_44 rfl rfl ?_
    refine jx_iload_n dX0_bind_45 rfl rfl ?_
    refine jx_iload_n dX0_bind_46 rfl rfl ?_
    refine jx_callVv (N := MX0_bindOne) [.inl x1, .inl x2] rfl rfl rfl rfl okX0_bindOne (by decide) rfl (Nat.le_of_ble_eq_true rfl) dX0_bind_47 h (fun w1 h => ?_)
    refine jx_iinc (v := x2 + 1) dX0_bind_50 rfl rfl (Nat.le_of_ble_eq_true rfl) (lv' := [jx_t, jx_i x1, jx_i (x2 + 1)]) rfl ?_
    refine jx_goto (tgt := 38) dX0_bind_53 (by decide) ?_
    exact h
theorem bX0_learn_0 (Φ : jx_Wd → Prop) (w : jx_Wd) (h :
    ∀ v1 : Int32, v1 = w 3 0 → (
    (v1 = 0 → (
      ∀ w2 : jx_Wd, w2 = jx_up w 3 (fun _ => 1) → (
      jx_J MX0_learn (jx_qv Φ) 15 [jx_t, jx_i 0, none] [] w2
      )
    )) ∧ (¬ v1 = 0 → (
      Φ w
    ))
    )
    ) : jx_J MX0_learn (jx_qv Φ) 0 [jx_t, none, none] [] w := by
  refine jx_aload_n dX0_learn_0 rfl rfl ?_
  refine jx_getX0 rfl rfl 3 (by decide) rfl q40 (v := .inl (w 3 0)) (fun _ => rfl) dX0_learn_1 ?_
  refine jx_nm (fun v1 e_v1 => ?_)
  have h := h v1 e_v1
  refine jx_if_eq (tgt := 8) dX0_learn_4 (by decide) (fun hc => ?_) (fun hc => ?_)
  · have h := h.1 hc
    refine jx_aload_n dX0_learn_8 rfl rfl ?_
    refine jx_iconst (v := 1) dX0_learn_9 (by decide) ?_
    refine jx_putX0 rfl rfl 3 (by decide) rfl q40 rfl (ty := .boolean) (by decide +kernel) rfl rfl (fun _ _ => Nat.le_of_ble_eq_true rfl) ptX0_3 dX0_learn_10 (fun w2 e_w2 => ?_)
    have h := h w2 e_w2
    refine jx_iconst (v := 0) dX0_learn_13 (by decide) ?_
    refine jx_istore_n dX0_learn_14 rfl (Nat.le_of_ble_eq_true rfl) (lv' := [jx_t, jx_i 0, none]) rfl ?_
    exact h
  · have h := h.2 hc
    exact jx_vret dX0_learn_7 rfl ⟨rfl, h⟩
theorem eX0_learn {Φ : jx_Wd → Prop} {w : jx_Wd} (h : jx_J MX0_learn (jx_qv Φ) 0 [jx_t, none, none] [] w) : jx_CV MX0_learn [.inr 0] w Φ := jx_of _ (by decide +kernel) ⟨rfl, rfl⟩ (Nat.le_of_ble_eq_true rfl) rfl h
theorem bX0_learn_15 (Φ : jx_Wd → Prop) (x1 : Int32) (w : jx_Wd) (h :
    (7 ≤ x1 → (
      jx_J MX0_learn (jx_qv Φ) 34 [jx_t, jx_i 0, none] [] w
    )) ∧ (¬ 7 ≤ x1 → (
      jx_CV MX0_measure [.inr 0, .inl x1] w (fun w1 => (
      jx_J MX0_learn (jx_qv Φ) 15 [jx_t, jx_i (x1 + 1), none] [] w1
      ))
    ))
    ) : jx_J MX0_learn (jx_qv Φ) 15 [jx_t, jx_i x1, none] [] w := by
  refine jx_iload_n dX0_learn_15 rfl rfl ?_
  refine jx_bipush (v := 7) dX0_learn_16 (by decide) ?_
  refine jx_icmp_ge (tgt := 32) dX0_learn_18 (by decide) (fun hc => ?_) (fun hc => ?_)
  · have h := h.1 hc
    refine jx_iconst (v := 0) dX0_learn_32 (by decide) ?_
    refine jx_istore_n dX0_learn_33 rfl (Nat.le_of_ble_eq_true rfl) (lv' := [jx_t, jx_i 0, none]) rfl ?_
    exact h
  · have h := h.2 hc
    refine jx_aload_n dX0_learn_21 rfl rfl ?_
    refine jx_iload_n dX0_learn_22 rfl rfl ?_
    refine jx_callVv (N := MX0_measure) [.inl x1] rfl rfl rfl rfl okX0_measure (by decide) rfl (Nat.le_of_ble_eq_true rfl) dX0_learn_23 h (fun w1 h => ?_)
    refine jx_iinc (v := x1 + 1) dX0_learn_26 rfl rfl (Nat.le_of_ble_eq_true rfl) (lv' := [jx_t, jx_i (x1 + 1), none]) rfl ?_
    refine jx_goto (tgt := 15) dX0_learn_29 (by decide) ?_
    exact h
theorem bX0_learn_34 (Φ : jx_Wd → Prop) (x1 : Int32) (w : jx_Wd) (h :
    (7 ≤ x1 → (
      jx_CV MX0_bind [.inr 0] w (fun w1 => (
      Φ w1
      ))
    )) ∧ (¬ 7 ≤ x1 → (
      jx_J MX0_learn (jx_qv Φ) 42 [jx_t, jx_i x1, jx_i 0] [] w
    ))
    ) : jx_J MX0_learn (jx_qv Φ) 34 [jx_t, jx_i x1, none] [] w := by
  refine jx_iload_n dX0_learn_34 rfl rfl ?_
  refine jx_bipush (v := 7) dX0_learn_35 (by decide) ?_
  refine jx_icmp_ge (tgt := 78) dX0_learn_37 (by decide) (fun hc => ?_) (fun hc => ?_)
  · have h := h.1 hc
    refine jx_aload_n dX0_learn_78 rfl rfl ?_
    refine jx_callVv (N := MX0_bind) [] rfl rfl rfl rfl okX0_bind (by decide) rfl (Nat.le_of_ble_eq_true rfl) dX0_learn_79 h (fun w1 h => ?_)
    exact jx_vret dX0_learn_82 rfl ⟨rfl, h⟩
  · have h := h.2 hc
    refine jx_iconst (v := 0) dX0_learn_40 (by decide) ?_
    refine jx_istore_n dX0_learn_41 rfl (Nat.le_of_ble_eq_true rfl) (lv' := [jx_t, jx_i x1, jx_i 0]) rfl ?_
    exact h
theorem bX0_learn_42 (Φ : jx_Wd → Prop) (x1 x2 : Int32) (w : jx_Wd) (h :
    (7 ≤ x2 → (
      jx_J MX0_learn (jx_qv Φ) 34 [jx_t, jx_i (x1 + 1), none] [] w
    )) ∧ (¬ 7 ≤ x2 → (
      jx_CI MX0_chooseHop [.inr 0, .inl x1, .inl x2] w (fun r2 w1 => (
      vp_in ((x1 * 7) + x2) 49 ∧ ∀ w3 : jx_Wd, w3 = jx_up w1 5 (upd (w1 5) ((x1 * 7) + x2).toNatClampNeg (vp_nar .byte r2.toInt8.toInt32)) → (
      jx_J MX0_learn (jx_qv Φ) 42 [jx_t, jx_i x1, jx_i (x2 + 1)] [] w3
      )
      ))
    ))
    ) : jx_J MX0_learn (jx_qv Φ) 42 [jx_t, jx_i x1, jx_i x2] [] w := by
  refine jx_iload_n dX0_learn_42 rfl rfl ?_
  refine jx_bipush (v := 7) dX0_learn_43 (by decide) ?_
  refine jx_icmp_ge (tgt := 72) dX0_learn_45 (by decide) (fun hc => ?_) (fun hc => ?_)
  · have h := h.1 hc
    refine jx_iinc (v := x1 + 1) dX0_learn_72 rfl rfl (Nat.le_of_ble_eq_true rfl) (lv' := [jx_t, jx_i (x1 + 1), jx_i x2]) rfl ?_
    refine jx_goto (tgt := 34) dX0_learn_75 (by decide) ?_
    exact jx_weak (jx_Le.s (jx_Le.s (jx_Le.n jx_Le.z))) h
  · have h := h.2 hc
    refine jx_aload_n dX0_learn_48 rfl rfl ?_
    refine jx_getX0 rfl rfl 5 (by decide) rfl q42 (v := .inr 6) (fun _ => rfl) dX0_learn_49 ?_
    refine jx_iload_n dX0_learn_52 rfl rfl ?_
    refine jx_bipush (v := 7) dX0_learn_53 (by decide) ?_
    refine jx_imul dX0_learn_55 ?_
    refine jx_iload_n dX0_learn_56 rfl rfl ?_
    refine jx_iadd dX0_learn_57 ?_
    refine jx_aload_n dX0_learn_58 rfl rfl ?_
    refine jx_iload_n dX0_learn_59 rfl rfl ?_
    refine jx_iload_n dX0_learn_60 rfl rfl ?_
    refine jx_callVi (N := MX0_chooseHop) [.inl x1, .inl x2] rfl rfl rfl rfl okX0_chooseHop (by decide) rfl (Nat.le_of_ble_eq_true rfl) dX0_learn_61 h (fun r2 w1 h => ?_)
    refine jx_i2b dX0_learn_64 ?_
    refine jx_bast 3 5 49 rfl stX0_5 dX0_learn_65 h.1 (fun w3 e_w3 => ?_)
    have h := h.2 w3 e_w3
    refine jx_iinc (v := x2 + 1) dX0_learn_66 rfl rfl (Nat.le_of_ble_eq_true rfl) (lv' := [jx_t, jx_i x1, jx_i (x2 + 1)]) rfl ?_
    refine jx_goto (tgt := 42) dX0_learn_69 (by decide) ?_
    exact h
theorem bX0_connected_0 (Φ : Int32 → jx_Wd → Prop) (x1 x2 : Int32) (w : jx_Wd) (h :
    jx_CI MX0_isRouter [.inl x1] w (fun r2 w1 => (
    (r2 = 0 → (
      Φ 0 w1
    )) ∧ (¬ r2 = 0 → (
      jx_CI MX0_isRouter [.inl x2] w1 (fun r4 w3 => (
      (r4 = 0 → (
        Φ 0 w3
      )) ∧ (¬ r4 = 0 → (
        jx_CV MX0_learn [.inr 0] w3 (fun w5 => (
        vp_in ((x1 * 7) + x2) 49 ∧ ∀ v6 : Int32, v6 = w5 4 ((x1 * 7) + x2).toNatClampNeg → (
        (10000 ≤ v6 → (
          Φ 0 w5
        )) ∧ (¬ 10000 ≤ v6 → (
          Φ 1 w5
        ))
        )
        ))
      ))
      ))
    ))
    ))
    ) : jx_J MX0_connected (jx_qi Φ) 0 [jx_t, jx_i x1, jx_i x2] [] w := by
  refine jx_iload_n dX0_connected_0 rfl rfl ?_
  refine jx_callSi (N := MX0_isRouter) [.inl x1] rfl rfl okX0_isRouter (by decide) rfl (Nat.le_of_ble_eq_true rfl) dX0_connected_1 h (fun r2 w1 h => ?_)
  refine jx_if_eq (tgt := 14) dX0_connected_4 (by decide) (fun hc => ?_) (fun hc => ?_)
  · have h := h.1 hc
    refine jx_iconst (v := 0) dX0_connected_14 (by decide) ?_
    exact jx_iret dX0_connected_15 rfl rfl ⟨_, rfl, h⟩
  · have h := h.2 hc
    refine jx_iload_n dX0_connected_7 rfl rfl ?_
    refine jx_callSi (N := MX0_isRouter) [.inl x2] rfl rfl okX0_isRouter (by decide) rfl (Nat.le_of_ble_eq_true rfl) dX0_connected_8 h (fun r4 w3 h => ?_)
    refine jx_if_ne (tgt := 16) dX0_connected_11 (by decide) (fun hc => ?_) (fun hc => ?_)
    · have h := h.2 hc
      refine jx_aload_n dX0_connected_16 rfl rfl ?_
      refine jx_callVv (N := MX0_learn) [] rfl rfl rfl rfl okX0_learn (by decide) rfl (Nat.le_of_ble_eq_true rfl) dX0_connected_17 h (fun w5 h => ?_)
      refine jx_aload_n dX0_connected_20 rfl rfl ?_
      refine jx_getX0 rfl rfl 4 (by decide) rfl q41 (v := .inr 5) (fun _ => rfl) dX0_connected_21 ?_
      refine jx_iload_n dX0_connected_24 rfl rfl ?_
      refine jx_bipush (v := 7) dX0_connected_25 (by decide) ?_
      refine jx_imul dX0_connected_27 ?_
      refine jx_iload_n dX0_connected_28 rfl rfl ?_
      refine jx_iadd dX0_connected_29 ?_
      refine jx_iald 2 4 49 rfl dX0_connected_30 h.1 (fun v6 e_v6 => ?_)
      have h := h.2 v6 e_v6
      refine jx_sipush (v := 10000) dX0_connected_31 (by decide) ?_
      refine jx_icmp_ge (tgt := 41) dX0_connected_34 (by decide) (fun hc => ?_) (fun hc => ?_)
      · have h := h.1 hc
        refine jx_iconst (v := 0) dX0_connected_41 (by decide) ?_
        exact jx_iret dX0_connected_42 rfl rfl ⟨_, rfl, h⟩
      · have h := h.2 hc
        refine jx_iconst (v := 1) dX0_connected_37 (by decide) ?_
        refine jx_goto (tgt := 42) dX0_connected_38 (by decide) ?_
        exact jx_iret dX0_connected_42 rfl rfl ⟨_, rfl, h⟩
    · have h := h.1 hc
      refine jx_iconst (v := 0) dX0_connected_14 (by decide) ?_
      exact jx_iret dX0_connected_15 rfl rfl ⟨_, rfl, h⟩
theorem eX0_connected {Φ : Int32 → jx_Wd → Prop} {x1 x2 : Int32} {w : jx_Wd} (h : jx_J MX0_connected (jx_qi Φ) 0 [jx_t, jx_i x1, jx_i x2] [] w) : jx_CI MX0_connected [.inr 0, .inl x1, .inl x2] w Φ := jx_of _ (by decide +kernel) ⟨rfl, rfl⟩ (Nat.le_of_ble_eq_true rfl) rfl h
theorem bX0_distance_0 (Φ : Int32 → jx_Wd → Prop) (x1 x2 : Int32) (w : jx_Wd) (h :
    jx_CI MX0_connected [.inr 0, .inl x1, .inl x2] w (fun r2 w1 => (
    (r2 = 0 → (
      Φ (-1) w1
    )) ∧ (¬ r2 = 0 → (
      vp_in ((x1 * 7) + x2) 49 ∧ ∀ v3 : Int32, v3 = w1 4 ((x1 * 7) + x2).toNatClampNeg → (
      Φ v3 w1
      )
    ))
    ))
    ) : jx_J MX0_distance (jx_qi Φ) 0 [jx_t, jx_i x1, jx_i x2] [] w := by
  refine jx_aload_n dX0_distance_0 rfl rfl ?_
  refine jx_iload_n dX0_distance_1 rfl rfl ?_
  refine jx_iload_n dX0_distance_2 rfl rfl ?_
  refine jx_callVi (N := MX0_connected) [.inl x1, .inl x2] rfl rfl rfl rfl okX0_connected (by decide) rfl (Nat.le_of_ble_eq_true rfl) dX0_distance_3 h (fun r2 w1 h => ?_)
  refine jx_if_eq (tgt := 23) dX0_distance_6 (by decide) (fun hc => ?_) (fun hc => ?_)
  · have h := h.1 hc
    refine jx_iconst (v := (-1)) dX0_distance_23 (by decide) ?_
    exact jx_iret dX0_distance_24 rfl rfl ⟨_, rfl, h⟩
  · have h := h.2 hc
    refine jx_aload_n dX0_distance_9 rfl rfl ?_
    refine jx_getX0 rfl rfl 4 (by decide) rfl q41 (v := .inr 5) (fun _ => rfl) dX0_distance_10 ?_
    refine jx_iload_n dX0_distance_13 rfl rfl ?_
    refine jx_bipush (v := 7) dX0_distance_14 (by decide) ?_
    refine jx_imul dX0_distance_16 ?_
    refine jx_iload_n dX0_distance_17 rfl rfl ?_
    refine jx_iadd dX0_distance_18 ?_
    refine jx_iald 2 4 49 rfl dX0_distance_19 h.1 (fun v3 e_v3 => ?_)
    have h := h.2 v3 e_v3
    refine jx_goto (tgt := 24) dX0_distance_20 (by decide) ?_
    exact jx_iret dX0_distance_24 rfl rfl ⟨_, rfl, h⟩
theorem eX0_distance {Φ : Int32 → jx_Wd → Prop} {x1 x2 : Int32} {w : jx_Wd} (h : jx_J MX0_distance (jx_qi Φ) 0 [jx_t, jx_i x1, jx_i x2] [] w) : jx_CI MX0_distance [.inr 0, .inl x1, .inl x2] w Φ := jx_of _ (by decide +kernel) ⟨rfl, rfl⟩ (Nat.le_of_ble_eq_true rfl) rfl h
theorem bX0_nextHop_0 (Φ : Int32 → jx_Wd → Prop) (x1 x2 : Int32) (w : jx_Wd) (h :
    jx_CI MX0_connected [.inr 0, .inl x1, .inl x2] w (fun r2 w1 => (
    (r2 = 0 → (
      Φ (-1) w1
    )) ∧ (¬ r2 = 0 → (
      vp_in ((x1 * 7) + x2) 49 ∧ ∀ v3 : Int32, v3 = w1 5 ((x1 * 7) + x2).toNatClampNeg → (
      Φ v3 w1
      )
    ))
    ))
    ) : jx_J MX0_nextHop (jx_qi Φ) 0 [jx_t, jx_i x1, jx_i x2] [] w := by
  refine jx_aload_n dX0_nextHop_0 rfl rfl ?_
  refine jx_iload_n dX0_nextHop_1 rfl rfl ?_
  refine jx_iload_n dX0_nextHop_2 rfl rfl ?_
  refine jx_callVi (N := MX0_connected) [.inl x1, .inl x2] rfl rfl rfl rfl okX0_connected (by decide) rfl (Nat.le_of_ble_eq_true rfl) dX0_nextHop_3 h (fun r2 w1 h => ?_)
  refine jx_if_eq (tgt := 23) dX0_nextHop_6 (by decide) (fun hc => ?_) (fun hc => ?_)
  · have h := h.1 hc
    refine jx_iconst (v := (-1)) dX0_nextHop_23 (by decide) ?_
    exact jx_iret dX0_nextHop_24 rfl rfl ⟨_, rfl, h⟩
  · have h := h.2 hc
    refine jx_aload_n dX0_nextHop_9 rfl rfl ?_
    refine jx_getX0 rfl rfl 5 (by decide) rfl q42 (v := .inr 6) (fun _ => rfl) dX0_nextHop_10 ?_
    refine jx_iload_n dX0_nextHop_13 rfl rfl ?_
    refine jx_bipush (v := 7) dX0_nextHop_14 (by decide) ?_
    refine jx_imul dX0_nextHop_16 ?_
    refine jx_iload_n dX0_nextHop_17 rfl rfl ?_
    refine jx_iadd dX0_nextHop_18 ?_
    refine jx_bald 3 5 49 rfl dX0_nextHop_19 h.1 (fun v3 e_v3 => ?_)
    have h := h.2 v3 e_v3
    refine jx_goto (tgt := 24) dX0_nextHop_20 (by decide) ?_
    exact jx_iret dX0_nextHop_24 rfl rfl ⟨_, rfl, h⟩
theorem eX0_nextHop {Φ : Int32 → jx_Wd → Prop} {x1 x2 : Int32} {w : jx_Wd} (h : jx_J MX0_nextHop (jx_qi Φ) 0 [jx_t, jx_i x1, jx_i x2] [] w) : jx_CI MX0_nextHop [.inr 0, .inl x1, .inl x2] w Φ := jx_of _ (by decide +kernel) ⟨rfl, rfl⟩ (Nat.le_of_ble_eq_true rfl) rfl h
theorem bX0_launch_0 (Φ : jx_Wd → Prop) (x1 x2 : Int32) (w : jx_Wd) (h :
    ∀ w1 : jx_Wd, w1 = jx_up w 10 (fun _ => x1) → (
    (x1 = x2 → (
      ∀ w3 : jx_Wd, w3 = jx_up w1 11 (fun _ => 0) → (
      Φ w3
      )
    )) ∧ (¬ x1 = x2 → (
      ∀ w2 : jx_Wd, w2 = jx_up w1 11 (fun _ => (-1) - x2) → (
      Φ w2
      )
    ))
    )
    ) : jx_J MX0_launch (jx_qv Φ) 0 [jx_t, jx_i x1, jx_i x2] [] w := by
  refine jx_aload_n dX0_launch_0 rfl rfl ?_
  refine jx_iload_n dX0_launch_1 rfl rfl ?_
  refine jx_putX0 rfl rfl 10 (by decide) rfl q47 rfl (ty := .int) (by decide +kernel) rfl rfl (fun _ _ => Nat.le_of_ble_eq_true rfl) ptX0_10 dX0_launch_2 (fun w1 e_w1 => ?_)
  have h := h w1 e_w1
  refine jx_aload_n dX0_launch_5 rfl rfl ?_
  refine jx_iload_n dX0_launch_6 rfl rfl ?_
  refine jx_iload_n dX0_launch_7 rfl rfl ?_
  refine jx_icmp_ne (tgt := 15) dX0_launch_8 (by decide) (fun hc => ?_) (fun hc => ?_)
  · have h := h.2 hc
    refine jx_iconst (v := (-1)) dX0_launch_15 (by decide) ?_
    refine jx_iload_n dX0_launch_16 rfl rfl ?_
    refine jx_isub dX0_launch_17 ?_
    refine jx_putX0 rfl rfl 11 (by decide) rfl q48 rfl (ty := .int) (by decide +kernel) rfl rfl (fun _ _ => Nat.le_of_ble_eq_true rfl) ptX0_11 dX0_launch_18 (fun w2 e_w2 => ?_)
    have h := h w2 e_w2
    exact jx_vret dX0_launch_21 rfl ⟨rfl, h⟩
  · have h := h.1 hc
    refine jx_iconst (v := 0) dX0_launch_11 (by decide) ?_
    refine jx_goto (tgt := 18) dX0_launch_12 (by decide) ?_
    refine jx_putX0 rfl rfl 11 (by decide) rfl q48 rfl (ty := .int) (by decide +kernel) rfl rfl (fun _ _ => Nat.le_of_ble_eq_true rfl) ptX0_11 dX0_launch_18 (fun w3 e_w3 => ?_)
    have h := h w3 e_w3
    exact jx_vret dX0_launch_21 rfl ⟨rfl, h⟩
theorem eX0_launch {Φ : jx_Wd → Prop} {x1 x2 : Int32} {w : jx_Wd} (h : jx_J MX0_launch (jx_qv Φ) 0 [jx_t, jx_i x1, jx_i x2] [] w) : jx_CV MX0_launch [.inr 0, .inl x1, .inl x2] w Φ := jx_of _ (by decide +kernel) ⟨rfl, rfl⟩ (Nat.le_of_ble_eq_true rfl) rfl h
theorem bX0_forward_0 (Φ : Int32 → jx_Wd → Prop) (w : jx_Wd) (h :
    ∀ v1 : Int32, v1 = w 11 0 → (
    (v1 = 0 → (
      Φ 0 w
    )) ∧ (¬ v1 = 0 → (
      ∀ v2 : Int32, v2 = w 11 0 → (
      (0 ≤ v2 → (
        ∀ v3 : Int32, v3 = w 10 0 → (
        ∀ v4 : Int32, v4 = w 11 0 → (
        vp_in ((v3 * 16) + (v4 &&& 15)) 112 ∧ ∀ v5 : Int32, v5 = w 7 ((v3 * 16) + (v4 &&& 15)).toNatClampNeg → (
        ∀ w6 : jx_Wd, w6 = jx_up w 11 (fun _ => v5) → (
        vp_in ((v3 * 16) + (v4 &&& 15)) 112 ∧ ∀ v7 : Int32, v7 = w6 8 ((v3 * 16) + (v4 &&& 15)).toNatClampNeg → (
        ∀ w8 : jx_Wd, w8 = jx_up w6 10 (fun _ => v7) → (
        Φ 1 w8
        )
        )
        )
        )
        )
        )
      )) ∧ (¬ 0 ≤ v2 → (
        ∀ v9 : Int32, v9 = w 11 0 → (
        ∀ v10 : Int32, v10 = w 10 0 → (
        vp_in ((v10 * 7) + ((-1) - v9)) 49 ∧ ∀ v11 : Int32, v11 = w 9 ((v10 * 7) + ((-1) - v9)).toNatClampNeg → (
        ∀ w12 : jx_Wd, w12 = jx_up w 11 (fun _ => v11) → (
        ∀ v13 : Int32, v13 = w12 10 0 → (
        vp_in ((v13 * 7) + ((-1) - v9)) 49 ∧ ∀ v14 : Int32, v14 = w12 5 ((v13 * 7) + ((-1) - v9)).toNatClampNeg → (
        ∀ w15 : jx_Wd, w15 = jx_up w12 10 (fun _ => v14) → (
        Φ 1 w15
        )
        )
        )
        )
        )
        )
        )
      ))
      )
    ))
    )
    ) : jx_J MX0_forward (jx_qi Φ) 0 [jx_t, none] [] w := by
  refine jx_aload_n dX0_forward_0 rfl rfl ?_
  refine jx_getX0 rfl rfl 11 (by decide) rfl q48 (v := .inl (w 11 0)) (fun _ => rfl) dX0_forward_1 ?_
  refine jx_nm (fun v1 e_v1 => ?_)
  have h := h v1 e_v1
  refine jx_if_ne (tgt := 9) dX0_forward_4 (by decide) (fun hc => ?_) (fun hc => ?_)
  · have h := h.2 hc
    refine jx_aload_n dX0_forward_9 rfl rfl ?_
    refine jx_getX0 rfl rfl 11 (by decide) rfl q48 (v := .inl (w 11 0)) (fun _ => rfl) dX0_forward_10 ?_
    refine jx_nm (fun v2 e_v2 => ?_)
    have h := h v2 e_v2
    refine jx_if_ge (tgt := 61) dX0_forward_13 (by decide) (fun hc => ?_) (fun hc => ?_)
    · have h := h.1 hc
      refine jx_aload_n dX0_forward_61 rfl rfl ?_
      refine jx_getX0 rfl rfl 10 (by decide) rfl q47 (v := .inl (w 10 0)) (fun _ => rfl) dX0_forward_62 ?_
      refine jx_nm (fun v3 e_v3 => ?_)
      have h := h v3 e_v3
      refine jx_bipush (v := 16) dX0_forward_65 (by decide) ?_
      refine jx_imul dX0_forward_67 ?_
      refine jx_aload_n dX0_forward_68 rfl rfl ?_
      refine jx_getX0 rfl rfl 11 (by decide) rfl q48 (v := .inl (w 11 0)) (fun _ => rfl) dX0_forward_69 ?_
      refine jx_nm (fun v4 e_v4 => ?_)
      have h := h v4 e_v4
      refine jx_bipush (v := 15) dX0_forward_72 (by decide) ?_
      refine jx_iand dX0_forward_74 ?_
      refine jx_iadd dX0_forward_75 ?_
      refine jx_istore_n dX0_forward_76 rfl (Nat.le_of_ble_eq_true rfl) (lv' := [jx_t, jx_i ((v3 * 16) + (v4 &&& 15))]) rfl ?_
      refine jx_aload_n dX0_forward_77 rfl rfl ?_
      refine jx_aload_n dX0_forward_78 rfl rfl ?_
      refine jx_getX0 rfl rfl 7 (by decide) rfl q44 (v := .inr 8) (fun _ => rfl) dX0_forward_79 ?_
      refine jx_iload_n dX0_forward_82 rfl rfl ?_
      refine jx_sald 5 7 112 rfl dX0_forward_83 h.1 (fun v5 e_v5 => ?_)
      have h := h.2 v5 e_v5
      refine jx_putX0 rfl rfl 11 (by decide) rfl q48 rfl (ty := .int) (by decide +kernel) rfl rfl (fun _ _ => Nat.le_of_ble_eq_true rfl) ptX0_11 dX0_forward_84 (fun w6 e_w6 => ?_)
      have h := h w6 e_w6
      refine jx_aload_n dX0_forward_87 rfl rfl ?_
      refine jx_aload_n dX0_forward_88 rfl rfl ?_
      refine jx_getX0 rfl rfl 8 (by decide) rfl q45 (v := .inr 9) (fun _ => rfl) dX0_forward_89 ?_
      refine jx_iload_n dX0_forward_92 rfl rfl ?_
      refine jx_bald 6 8 112 rfl dX0_forward_93 h.1 (fun v7 e_v7 => ?_)
      have h := h.2 v7 e_v7
      refine jx_putX0 rfl rfl 10 (by decide) rfl q47 rfl (ty := .int) (by decide +kernel) rfl rfl (fun _ _ => Nat.le_of_ble_eq_true rfl) ptX0_10 dX0_forward_94 (fun w8 e_w8 => ?_)
      have h := h w8 e_w8
      refine jx_iconst (v := 1) dX0_forward_97 (by decide) ?_
      exact jx_iret dX0_forward_98 rfl rfl ⟨_, rfl, h⟩
    · have h := h.2 hc
      refine jx_iconst (v := (-1)) dX0_forward_16 (by decide) ?_
      refine jx_aload_n dX0_forward_17 rfl rfl ?_
      refine jx_getX0 rfl rfl 11 (by decide) rfl q48 (v := .inl (w 11 0)) (fun _ => rfl) dX0_forward_18 ?_
      refine jx_nm (fun v9 e_v9 => ?_)
      have h := h v9 e_v9
      refine jx_isub dX0_forward_21 ?_
      refine jx_istore_n dX0_forward_22 rfl (Nat.le_of_ble_eq_true rfl) (lv' := [jx_t, jx_i ((-1) - v9)]) rfl ?_
      refine jx_aload_n dX0_forward_23 rfl rfl ?_
      refine jx_aload_n dX0_forward_24 rfl rfl ?_
      refine jx_getX0 rfl rfl 9 (by decide) rfl q46 (v := .inr 10) (fun _ => rfl) dX0_forward_25 ?_
      refine jx_aload_n dX0_forward_28 rfl rfl ?_
      refine jx_getX0 rfl rfl 10 (by decide) rfl q47 (v := .inl (w 10 0)) (fun _ => rfl) dX0_forward_29 ?_
      refine jx_nm (fun v10 e_v10 => ?_)
      have h := h v10 e_v10
      refine jx_bipush (v := 7) dX0_forward_32 (by decide) ?_
      refine jx_imul dX0_forward_34 ?_
      refine jx_iload_n dX0_forward_35 rfl rfl ?_
      refine jx_iadd dX0_forward_36 ?_
      refine jx_sald 7 9 49 rfl dX0_forward_37 h.1 (fun v11 e_v11 => ?_)
      have h := h.2 v11 e_v11
      refine jx_putX0 rfl rfl 11 (by decide) rfl q48 rfl (ty := .int) (by decide +kernel) rfl rfl (fun _ _ => Nat.le_of_ble_eq_true rfl) ptX0_11 dX0_forward_38 (fun w12 e_w12 => ?_)
      have h := h w12 e_w12
      refine jx_aload_n dX0_forward_41 rfl rfl ?_
      refine jx_aload_n dX0_forward_42 rfl rfl ?_
      refine jx_getX0 rfl rfl 5 (by decide) rfl q42 (v := .inr 6) (fun _ => rfl) dX0_forward_43 ?_
      refine jx_aload_n dX0_forward_46 rfl rfl ?_
      refine jx_getX0 rfl rfl 10 (by decide) rfl q47 (v := .inl (w12 10 0)) (fun _ => rfl) dX0_forward_47 ?_
      refine jx_nm (fun v13 e_v13 => ?_)
      have h := h v13 e_v13
      refine jx_bipush (v := 7) dX0_forward_50 (by decide) ?_
      refine jx_imul dX0_forward_52 ?_
      refine jx_iload_n dX0_forward_53 rfl rfl ?_
      refine jx_iadd dX0_forward_54 ?_
      refine jx_bald 3 5 49 rfl dX0_forward_55 h.1 (fun v14 e_v14 => ?_)
      have h := h.2 v14 e_v14
      refine jx_putX0 rfl rfl 10 (by decide) rfl q47 rfl (ty := .int) (by decide +kernel) rfl rfl (fun _ _ => Nat.le_of_ble_eq_true rfl) ptX0_10 dX0_forward_56 (fun w15 e_w15 => ?_)
      have h := h w15 e_w15
      refine jx_iconst (v := 1) dX0_forward_59 (by decide) ?_
      exact jx_iret dX0_forward_60 rfl rfl ⟨_, rfl, h⟩
  · have h := h.1 hc
    refine jx_iconst (v := 0) dX0_forward_7 (by decide) ?_
    exact jx_iret dX0_forward_8 rfl rfl ⟨_, rfl, h⟩
theorem eX0_forward {Φ : Int32 → jx_Wd → Prop} {w : jx_Wd} (h : jx_J MX0_forward (jx_qi Φ) 0 [jx_t, none] [] w) : jx_CI MX0_forward [.inr 0] w Φ := jx_of _ (by decide +kernel) ⟨rfl, rfl⟩ (Nat.le_of_ble_eq_true rfl) rfl h
theorem bX0_hops_0 (Φ : Int32 → jx_Wd → Prop) (x1 x2 : Int32) (w : jx_Wd) (h :
    jx_CI MX0_connected [.inr 0, .inl x1, .inl x2] w (fun r2 w1 => (
    (r2 = 0 → (
      Φ (-1) w1
    )) ∧ (¬ r2 = 0 → (
      jx_CV MX0_launch [.inr 0, .inl x1, .inl x2] w1 (fun w3 => (
      jx_J MX0_hops (jx_qi Φ) 22 [jx_t, none, none, jx_i 0, jx_i 0] [] w3
      ))
    ))
    ))
    ) : jx_J MX0_hops (jx_qi Φ) 0 [jx_t, jx_i x1, jx_i x2, none, none] [] w := by
  refine jx_aload_n dX0_hops_0 rfl rfl ?_
  refine jx_iload_n dX0_hops_1 rfl rfl ?_
  refine jx_iload_n dX0_hops_2 rfl rfl ?_
  refine jx_callVi (N := MX0_connected) [.inl x1, .inl x2] rfl rfl rfl rfl okX0_connected (by decide) rfl (Nat.le_of_ble_eq_true rfl) dX0_hops_3 h (fun r2 w1 h => ?_)
  refine jx_if_ne (tgt := 11) dX0_hops_6 (by decide) (fun hc => ?_) (fun hc => ?_)
  · have h := h.2 hc
    refine jx_aload_n dX0_hops_11 rfl rfl ?_
    refine jx_iload_n dX0_hops_12 rfl rfl ?_
    refine jx_iload_n dX0_hops_13 rfl rfl ?_
    refine jx_callVv (N := MX0_launch) [.inl x1, .inl x2] rfl rfl rfl rfl okX0_launch (by decide) rfl (Nat.le_of_ble_eq_true rfl) dX0_hops_14 h (fun w3 h => ?_)
    refine jx_iconst (v := 0) dX0_hops_17 (by decide) ?_
    refine jx_istore_n dX0_hops_18 rfl (Nat.le_of_ble_eq_true rfl) (lv' := [jx_t, jx_i x1, jx_i x2, jx_i 0, none]) rfl ?_
    refine jx_iconst (v := 0) dX0_hops_19 (by decide) ?_
    refine jx_istore dX0_hops_20 (Nat.le_of_ble_eq_true rfl) (lv' := [jx_t, jx_i x1, jx_i x2, jx_i 0, jx_i 0]) rfl ?_
    exact jx_weak (jx_Le.s (jx_Le.n (jx_Le.n (jx_Le.s (jx_Le.s jx_Le.z))))) h
  · have h := h.1 hc
    refine jx_iconst (v := (-1)) dX0_hops_9 (by decide) ?_
    exact jx_iret dX0_hops_10 rfl rfl ⟨_, rfl, h⟩
theorem eX0_hops {Φ : Int32 → jx_Wd → Prop} {x1 x2 : Int32} {w : jx_Wd} (h : jx_J MX0_hops (jx_qi Φ) 0 [jx_t, jx_i x1, jx_i x2, none, none] [] w) : jx_CI MX0_hops [.inr 0, .inl x1, .inl x2] w Φ := jx_of _ (by decide +kernel) ⟨rfl, rfl⟩ (Nat.le_of_ble_eq_true rfl) rfl h
theorem bX0_hops_22 (Φ : Int32 → jx_Wd → Prop) (x3 x4 : Int32) (w : jx_Wd) (h :
    (7 ≤ x4 → (
      Φ x3 w
    )) ∧ (¬ 7 ≤ x4 → (
      jx_CI MX0_forward [.inr 0] w (fun r2 w1 => (
      (r2 = 0 → (
        Φ x3 w1
      )) ∧ (¬ r2 = 0 → (
        jx_J MX0_hops (jx_qi Φ) 22 [jx_t, none, none, jx_i (x3 + 1), jx_i (x4 + 1)] [] w1
      ))
      ))
    ))
    ) : jx_J MX0_hops (jx_qi Φ) 22 [jx_t, none, none, jx_i x3, jx_i x4] [] w := by
  refine jx_iload dX0_hops_22 rfl ?_
  refine jx_bipush (v := 7) dX0_hops_24 (by decide) ?_
  refine jx_icmp_ge (tgt := 45) dX0_hops_26 (by decide) (fun hc => ?_) (fun hc => ?_)
  · have h := h.1 hc
    refine jx_iload_n dX0_hops_45 rfl rfl ?_
    exact jx_iret dX0_hops_46 rfl rfl ⟨_, rfl, h⟩
  · have h := h.2 hc
    refine jx_aload_n dX0_hops_29 rfl rfl ?_
    refine jx_callVi (N := MX0_forward) [] rfl rfl rfl rfl okX0_forward (by decide) rfl (Nat.le_of_ble_eq_true rfl) dX0_hops_30 h (fun r2 w1 h => ?_)
    refine jx_if_eq (tgt := 45) dX0_hops_33 (by decide) (fun hc => ?_) (fun hc => ?_)
    · have h := h.1 hc
      refine jx_iload_n dX0_hops_45 rfl rfl ?_
      exact jx_iret dX0_hops_46 rfl rfl ⟨_, rfl, h⟩
    · have h := h.2 hc
      refine jx_iinc (v := x3 + 1) dX0_hops_36 rfl rfl (Nat.le_of_ble_eq_true rfl) (lv' := [jx_t, none, none, jx_i (x3 + 1), jx_i x4]) rfl ?_
      refine jx_iinc (v := x4 + 1) dX0_hops_39 rfl rfl (Nat.le_of_ble_eq_true rfl) (lv' := [jx_t, none, none, jx_i (x3 + 1), jx_i (x4 + 1)]) rfl ?_
      refine jx_goto (tgt := 22) dX0_hops_42 (by decide) ?_
      exact h
theorem bX0_after_0 (Φ : Int32 → jx_Wd → Prop) (x1 x2 x3 : Int32) (w : jx_Wd) (h :
    jx_CI MX0_connected [.inr 0, .inl x1, .inl x2] w (fun r2 w1 => (
    (r2 = 0 → (
      Φ (-1) w1
    )) ∧ (¬ r2 = 0 → (
      jx_CV MX0_launch [.inr 0, .inl x1, .inl x2] w1 (fun w3 => (
      jx_J MX0_after (jx_qi Φ) 20 [jx_t, none, none, jx_i x3, jx_i 0] [] w3
      ))
    ))
    ))
    ) : jx_J MX0_after (jx_qi Φ) 0 [jx_t, jx_i x1, jx_i x2, jx_i x3, none] [] w := by
  refine jx_aload_n dX0_after_0 rfl rfl ?_
  refine jx_iload_n dX0_after_1 rfl rfl ?_
  refine jx_iload_n dX0_after_2 rfl rfl ?_
  refine jx_callVi (N := MX0_connected) [.inl x1, .inl x2] rfl rfl rfl rfl okX0_connected (by decide) rfl (Nat.le_of_ble_eq_true rfl) dX0_after_3 h (fun r2 w1 h => ?_)
  refine jx_if_ne (tgt := 11) dX0_after_6 (by decide) (fun hc => ?_) (fun hc => ?_)
  · have h := h.2 hc
    refine jx_aload_n dX0_after_11 rfl rfl ?_
    refine jx_iload_n dX0_after_12 rfl rfl ?_
    refine jx_iload_n dX0_after_13 rfl rfl ?_
    refine jx_callVv (N := MX0_launch) [.inl x1, .inl x2] rfl rfl rfl rfl okX0_launch (by decide) rfl (Nat.le_of_ble_eq_true rfl) dX0_after_14 h (fun w3 h => ?_)
    refine jx_iconst (v := 0) dX0_after_17 (by decide) ?_
    refine jx_istore dX0_after_18 (Nat.le_of_ble_eq_true rfl) (lv' := [jx_t, jx_i x1, jx_i x2, jx_i x3, jx_i 0]) rfl ?_
    exact jx_weak (jx_Le.s (jx_Le.n (jx_Le.n (jx_Le.s (jx_Le.s jx_Le.z))))) h
  · have h := h.1 hc
    refine jx_iconst (v := (-1)) dX0_after_9 (by decide) ?_
    exact jx_iret dX0_after_10 rfl rfl ⟨_, rfl, h⟩
theorem eX0_after {Φ : Int32 → jx_Wd → Prop} {x1 x2 x3 : Int32} {w : jx_Wd} (h : jx_J MX0_after (jx_qi Φ) 0 [jx_t, jx_i x1, jx_i x2, jx_i x3, none] [] w) : jx_CI MX0_after [.inr 0, .inl x1, .inl x2, .inl x3] w Φ := jx_of _ (by decide +kernel) ⟨rfl, rfl⟩ (Nat.le_of_ble_eq_true rfl) rfl h
theorem bX0_after_20 (Φ : Int32 → jx_Wd → Prop) (x3 x4 : Int32) (w : jx_Wd) (h :
    (7 ≤ x4 → (
      ∀ v1 : Int32, v1 = w 10 0 → (
      Φ v1 w
      )
    )) ∧ (¬ 7 ≤ x4 → (
      (x3 ≤ x4 → (
        ∀ v2 : Int32, v2 = w 10 0 → (
        Φ v2 w
        )
      )) ∧ (¬ x3 ≤ x4 → (
        jx_CI MX0_forward [.inr 0] w (fun r4 w3 => (
        jx_J MX0_after (jx_qi Φ) 20 [jx_t, none, none, jx_i x3, jx_i (x4 + 1)] [] w3
        ))
      ))
    ))
    ) : jx_J MX0_after (jx_qi Φ) 20 [jx_t, none, none, jx_i x3, jx_i x4] [] w := by
  refine jx_iload dX0_after_20 rfl ?_
  refine jx_bipush (v := 7) dX0_after_22 (by decide) ?_
  refine jx_icmp_ge (tgt := 44) dX0_after_24 (by decide) (fun hc => ?_) (fun hc => ?_)
  · have h := h.1 hc
    refine jx_aload_n dX0_after_44 rfl rfl ?_
    refine jx_getX0 rfl rfl 10 (by decide) rfl q47 (v := .inl (w 10 0)) (fun _ => rfl) dX0_after_45 ?_
    refine jx_nm (fun v1 e_v1 => ?_)
    have h := h v1 e_v1
    exact jx_iret dX0_after_48 rfl rfl ⟨_, rfl, h⟩
  · have h := h.2 hc
    refine jx_iload dX0_after_27 rfl ?_
    refine jx_iload_n dX0_after_29 rfl rfl ?_
    refine jx_icmp_ge (tgt := 44) dX0_after_30 (by decide) (fun hc => ?_) (fun hc => ?_)
    · have h := h.1 hc
      refine jx_aload_n dX0_after_44 rfl rfl ?_
      refine jx_getX0 rfl rfl 10 (by decide) rfl q47 (v := .inl (w 10 0)) (fun _ => rfl) dX0_after_45 ?_
      refine jx_nm (fun v2 e_v2 => ?_)
      have h := h v2 e_v2
      exact jx_iret dX0_after_48 rfl rfl ⟨_, rfl, h⟩
    · have h := h.2 hc
      refine jx_aload_n dX0_after_33 rfl rfl ?_
      refine jx_callVi (N := MX0_forward) [] rfl rfl rfl rfl okX0_forward (by decide) rfl (Nat.le_of_ble_eq_true rfl) dX0_after_34 h (fun r4 w3 h => ?_)
      refine jx_pop dX0_after_37 ?_
      refine jx_iinc (v := x4 + 1) dX0_after_38 rfl rfl (Nat.le_of_ble_eq_true rfl) (lv' := [jx_t, none, none, jx_i x3, jx_i (x4 + 1)]) rfl ?_
      refine jx_goto (tgt := 20) dX0_after_41 (by decide) ?_
      exact h
theorem bX0_routeAt_0 (Φ : Int32 → jx_Wd → Prop) (x1 x2 x3 : Int32) (w : jx_Wd) (h :
    jx_CI MX0_hops [.inr 0, .inl x1, .inl x2] w (fun r2 w1 => (
    (r2 < 0 → (
      Φ (-1) w1
    )) ∧ (¬ r2 < 0 → (
      (x3 < 0 → (
        Φ (-1) w1
      )) ∧ (¬ x3 < 0 → (
        (x3 ≤ r2 → (
          jx_CI MX0_after [.inr 0, .inl x1, .inl x2, .inl x3] w1 (fun r4 w3 => (
          Φ r4 w3
          ))
        )) ∧ (¬ x3 ≤ r2 → (
          Φ (-1) w1
        ))
      ))
    ))
    ))
    ) : jx_J MX0_routeAt (jx_qi Φ) 0 [jx_t, jx_i x1, jx_i x2, jx_i x3, none] [] w := by
  refine jx_aload_n dX0_routeAt_0 rfl rfl ?_
  refine jx_iload_n dX0_routeAt_1 rfl rfl ?_
  refine jx_iload_n dX0_routeAt_2 rfl rfl ?_
  refine jx_callVi (N := MX0_hops) [.inl x1, .inl x2] rfl rfl rfl rfl okX0_hops (by decide) rfl (Nat.le_of_ble_eq_true rfl) dX0_routeAt_3 h (fun r2 w1 h => ?_)
  refine jx_istore dX0_routeAt_6 (Nat.le_of_ble_eq_true rfl) (lv' := [jx_t, jx_i x1, jx_i x2, jx_i x3, jx_i r2]) rfl ?_
  refine jx_iload dX0_routeAt_8 rfl ?_
  refine jx_if_lt (tgt := 23) dX0_routeAt_10 (by decide) (fun hc => ?_) (fun hc => ?_)
  · have h := h.1 hc
    refine jx_iconst (v := (-1)) dX0_routeAt_23 (by decide) ?_
    exact jx_iret dX0_routeAt_24 rfl rfl ⟨_, rfl, h⟩
  · have h := h.2 hc
    refine jx_iload_n dX0_routeAt_13 rfl rfl ?_
    refine jx_if_lt (tgt := 23) dX0_routeAt_14 (by decide) (fun hc => ?_) (fun hc => ?_)
    · have h := h.1 hc
      refine jx_iconst (v := (-1)) dX0_routeAt_23 (by decide) ?_
      exact jx_iret dX0_routeAt_24 rfl rfl ⟨_, rfl, h⟩
    · have h := h.2 hc
      refine jx_iload_n dX0_routeAt_17 rfl rfl ?_
      refine jx_iload dX0_routeAt_18 rfl ?_
      refine jx_icmp_le (tgt := 25) dX0_routeAt_20 (by decide) (fun hc => ?_) (fun hc => ?_)
      · have h := h.1 hc
        refine jx_aload_n dX0_routeAt_25 rfl rfl ?_
        refine jx_iload_n dX0_routeAt_26 rfl rfl ?_
        refine jx_iload_n dX0_routeAt_27 rfl rfl ?_
        refine jx_iload_n dX0_routeAt_28 rfl rfl ?_
        refine jx_callVi (N := MX0_after) [.inl x1, .inl x2, .inl x3] rfl rfl rfl rfl okX0_after (by decide) rfl (Nat.le_of_ble_eq_true rfl) dX0_routeAt_29 h (fun r4 w3 h => ?_)
        exact jx_iret dX0_routeAt_32 rfl rfl ⟨_, rfl, h⟩
      · have h := h.2 hc
        refine jx_iconst (v := (-1)) dX0_routeAt_23 (by decide) ?_
        exact jx_iret dX0_routeAt_24 rfl rfl ⟨_, rfl, h⟩
theorem eX0_routeAt {Φ : Int32 → jx_Wd → Prop} {x1 x2 x3 : Int32} {w : jx_Wd} (h : jx_J MX0_routeAt (jx_qi Φ) 0 [jx_t, jx_i x1, jx_i x2, jx_i x3, none] [] w) : jx_CI MX0_routeAt [.inr 0, .inl x1, .inl x2, .inl x3] w Φ := jx_of _ (by decide +kernel) ⟨rfl, rfl⟩ (Nat.le_of_ble_eq_true rfl) rfl h
theorem bX0_comesThrough_0 (Φ : Int32 → jx_Wd → Prop) (x1 x2 x3 : Int32) (w : jx_Wd) (h :
    jx_CV MX0_launch [.inr 0, .inl x1, .inl x2] w (fun w1 => (
    jx_J MX0_comesThrough (jx_qi Φ) 9 [jx_t, none, none, jx_i x3, jx_i 0] [] w1
    ))
    ) : jx_J MX0_comesThrough (jx_qi Φ) 0 [jx_t, jx_i x1, jx_i x2, jx_i x3, none] [] w := by
  refine jx_aload_n dX0_comesThrough_0 rfl rfl ?_
  refine jx_iload_n dX0_comesThrough_1 rfl rfl ?_
  refine jx_iload_n dX0_comesThrough_2 rfl rfl ?_
  refine jx_callVv (N := MX0_launch) [.inl x1, .inl x2] rfl rfl rfl rfl okX0_launch (by decide) rfl (Nat.le_of_ble_eq_true rfl) dX0_comesThrough_3 h (fun w1 h => ?_)
  refine jx_iconst (v := 0) dX0_comesThrough_6 (by decide) ?_
  refine jx_istore dX0_comesThrough_7 (Nat.le_of_ble_eq_true rfl) (lv' := [jx_t, jx_i x1, jx_i x2, jx_i x3, jx_i 0]) rfl ?_
  exact jx_weak (jx_Le.s (jx_Le.n (jx_Le.n (jx_Le.s (jx_Le.s jx_Le.z))))) h
theorem eX0_comesThrough {Φ : Int32 → jx_Wd → Prop} {x1 x2 x3 : Int32} {w : jx_Wd} (h : jx_J MX0_comesThrough (jx_qi Φ) 0 [jx_t, jx_i x1, jx_i x2, jx_i x3, none] [] w) : jx_CI MX0_comesThrough [.inr 0, .inl x1, .inl x2, .inl x3] w Φ := jx_of _ (by decide +kernel) ⟨rfl, rfl⟩ (Nat.le_of_ble_eq_true rfl) rfl h
theorem bX0_comesThrough_9 (Φ : Int32 → jx_Wd → Prop) (x3 x4 : Int32) (w : jx_Wd) (h :
    (7 ≤ x4 → (
      Φ 0 w
    )) ∧ (¬ 7 ≤ x4 → (
      jx_CI MX0_forward [.inr 0] w (fun r2 w1 => (
      (r2 = 0 → (
        Φ 0 w1
      )) ∧ (¬ r2 = 0 → (
        ∀ v3 : Int32, v3 = w1 10 0 → (
        (v3 = x3 → (
          Φ 1 w1
        )) ∧ (¬ v3 = x3 → (
          jx_J MX0_comesThrough (jx_qi Φ) 9 [jx_t, none, none, jx_i x3, jx_i (x4 + 1)] [] w1
        ))
        )
      ))
      ))
    ))
    ) : jx_J MX0_comesThrough (jx_qi Φ) 9 [jx_t, none, none, jx_i x3, jx_i x4] [] w := by
  refine jx_iload dX0_comesThrough_9 rfl ?_
  refine jx_bipush (v := 7) dX0_comesThrough_11 (by decide) ?_
  refine jx_icmp_ge (tgt := 39) dX0_comesThrough_13 (by decide) (fun hc => ?_) (fun hc => ?_)
  · have h := h.1 hc
    refine jx_iconst (v := 0) dX0_comesThrough_39 (by decide) ?_
    exact jx_iret dX0_comesThrough_40 rfl rfl ⟨_, rfl, h⟩
  · have h := h.2 hc
    refine jx_aload_n dX0_comesThrough_16 rfl rfl ?_
    refine jx_callVi (N := MX0_forward) [] rfl rfl rfl rfl okX0_forward (by decide) rfl (Nat.le_of_ble_eq_true rfl) dX0_comesThrough_17 h (fun r2 w1 h => ?_)
    refine jx_if_eq (tgt := 39) dX0_comesThrough_20 (by decide) (fun hc => ?_) (fun hc => ?_)
    · have h := h.1 hc
      refine jx_iconst (v := 0) dX0_comesThrough_39 (by decide) ?_
      exact jx_iret dX0_comesThrough_40 rfl rfl ⟨_, rfl, h⟩
    · have h := h.2 hc
      refine jx_aload_n dX0_comesThrough_23 rfl rfl ?_
      refine jx_getX0 rfl rfl 10 (by decide) rfl q47 (v := .inl (w1 10 0)) (fun _ => rfl) dX0_comesThrough_24 ?_
      refine jx_nm (fun v3 e_v3 => ?_)
      have h := h v3 e_v3
      refine jx_iload_n dX0_comesThrough_27 rfl rfl ?_
      refine jx_icmp_ne (tgt := 33) dX0_comesThrough_28 (by decide) (fun hc => ?_) (fun hc => ?_)
      · have h := h.2 hc
        refine jx_iinc (v := x4 + 1) dX0_comesThrough_33 rfl rfl (Nat.le_of_ble_eq_true rfl) (lv' := [jx_t, none, none, jx_i x3, jx_i (x4 + 1)]) rfl ?_
        refine jx_goto (tgt := 9) dX0_comesThrough_36 (by decide) ?_
        exact h
      · have h := h.1 hc
        refine jx_iconst (v := 1) dX0_comesThrough_31 (by decide) ?_
        exact jx_iret dX0_comesThrough_32 rfl rfl ⟨_, rfl, h⟩
theorem bX0_load_0 (Φ : Int32 → jx_Wd → Prop) (x1 : Int32) (w : jx_Wd) (h :
    jx_CI MX0_isRouter [.inl x1] w (fun r2 w1 => (
    (r2 = 0 → (
      Φ 0 w1
    )) ∧ (¬ r2 = 0 → (
      jx_J MX0_load (jx_qi Φ) 13 [jx_t, jx_i x1, jx_i 0, jx_i 0, none, none] [] w1
    ))
    ))
    ) : jx_J MX0_load (jx_qi Φ) 0 [jx_t, jx_i x1, none, none, none, none] [] w := by
  refine jx_iload_n dX0_load_0 rfl rfl ?_
  refine jx_callSi (N := MX0_isRouter) [.inl x1] rfl rfl okX0_isRouter (by decide) rfl (Nat.le_of_ble_eq_true rfl) dX0_load_1 h (fun r2 w1 h => ?_)
  refine jx_if_ne (tgt := 9) dX0_load_4 (by decide) (fun hc => ?_) (fun hc => ?_)
  · have h := h.2 hc
    refine jx_iconst (v := 0) dX0_load_9 (by decide) ?_
    refine jx_istore_n dX0_load_10 rfl (Nat.le_of_ble_eq_true rfl) (lv' := [jx_t, jx_i x1, jx_i 0, none, none, none]) rfl ?_
    refine jx_iconst (v := 0) dX0_load_11 (by decide) ?_
    refine jx_istore_n dX0_load_12 rfl (Nat.le_of_ble_eq_true rfl) (lv' := [jx_t, jx_i x1, jx_i 0, jx_i 0, none, none]) rfl ?_
    exact h
  · have h := h.1 hc
    refine jx_iconst (v := 0) dX0_load_7 (by decide) ?_
    exact jx_iret dX0_load_8 rfl rfl ⟨_, rfl, h⟩
theorem eX0_load {Φ : Int32 → jx_Wd → Prop} {x1 : Int32} {w : jx_Wd} (h : jx_J MX0_load (jx_qi Φ) 0 [jx_t, jx_i x1, none, none, none, none] [] w) : jx_CI MX0_load [.inr 0, .inl x1] w Φ := jx_of _ (by decide +kernel) ⟨rfl, rfl⟩ (Nat.le_of_ble_eq_true rfl) rfl h
theorem bX0_load_13 (Φ : Int32 → jx_Wd → Prop) (x1 x2 x3 : Int32) (w : jx_Wd) (h :
    (49 ≤ x3 → (
      Φ x2 w
    )) ∧ (¬ 49 ≤ x3 → (
      ((x3 / 7) = (x3 - x3 / 7 * 7) → (
        jx_J MX0_load (jx_qi Φ) 13 [jx_t, jx_i x1, jx_i x2, jx_i (x3 + 1), none, none] [] w
      )) ∧ (¬ (x3 / 7) = (x3 - x3 / 7 * 7) → (
        ((x3 / 7) = x1 → (
          jx_J MX0_load (jx_qi Φ) 13 [jx_t, jx_i x1, jx_i x2, jx_i (x3 + 1), none, none] [] w
        )) ∧ (¬ (x3 / 7) = x1 → (
          ((x3 - x3 / 7 * 7) = x1 → (
            jx_J MX0_load (jx_qi Φ) 13 [jx_t, jx_i x1, jx_i x2, jx_i (x3 + 1), none, none] [] w
          )) ∧ (¬ (x3 - x3 / 7 * 7) = x1 → (
            jx_CI MX0_connected [.inr 0, .inl (x3 / 7), .inl (x3 - x3 / 7 * 7)] w (fun r2 w1 => (
            (r2 = 0 → (
              jx_J MX0_load (jx_qi Φ) 13 [jx_t, jx_i x1, jx_i x2, jx_i (x3 + 1), none, none] [] w1
            )) ∧ (¬ r2 = 0 → (
              jx_CI MX0_comesThrough [.inr 0, .inl (x3 / 7), .inl (x3 - x3 / 7 * 7), .inl x1] w1 (fun r4 w3 => (
              (r4 = 0 → (
                jx_J MX0_load (jx_qi Φ) 13 [jx_t, jx_i x1, jx_i x2, jx_i (x3 + 1), none, none] [] w3
              )) ∧ (¬ r4 = 0 → (
                jx_J MX0_load (jx_qi Φ) 13 [jx_t, jx_i x1, jx_i (x2 + 1), jx_i (x3 + 1), none, none] [] w3
              ))
              ))
            ))
            ))
          ))
        ))
      ))
    ))
    ) : jx_J MX0_load (jx_qi Φ) 13 [jx_t, jx_i x1, jx_i x2, jx_i x3, none, none] [] w := by
  refine jx_iload_n dX0_load_13 rfl rfl ?_
  refine jx_bipush (v := 49) dX0_load_14 (by decide) ?_
  refine jx_icmp_ge (tgt := 82) dX0_load_16 (by decide) (fun hc => ?_) (fun hc => ?_)
  · have h := h.1 hc
    refine jx_iload_n dX0_load_82 rfl rfl ?_
    exact jx_iret dX0_load_83 rfl rfl ⟨_, rfl, h⟩
  · have h := h.2 hc
    refine jx_iload_n dX0_load_19 rfl rfl ?_
    refine jx_bipush (v := 7) dX0_load_20 (by decide) ?_
    refine jx_idiv dX0_load_22 (by decide) ?_
    refine jx_istore dX0_load_23 (Nat.le_of_ble_eq_true rfl) (lv' := [jx_t, jx_i x1, jx_i x2, jx_i x3, jx_i (x3 / 7), none]) rfl ?_
    refine jx_iload_n dX0_load_25 rfl rfl ?_
    refine jx_bipush (v := 7) dX0_load_26 (by decide) ?_
    refine jx_irem dX0_load_28 (by decide) ?_
    refine jx_istore dX0_load_29 (Nat.le_of_ble_eq_true rfl) (lv' := [jx_t, jx_i x1, jx_i x2, jx_i x3, jx_i (x3 / 7), jx_i (x3 - x3 / 7 * 7)]) rfl ?_
    refine jx_iload dX0_load_31 rfl ?_
    refine jx_iload dX0_load_33 rfl ?_
    refine jx_icmp_eq (tgt := 76) dX0_load_35 (by decide) (fun hc => ?_) (fun hc => ?_)
    · have h := h.1 hc
      refine jx_iinc (v := x3 + 1) dX0_load_76 rfl rfl (Nat.le_of_ble_eq_true rfl) (lv' := [jx_t, jx_i x1, jx_i x2, jx_i (x3 + 1), jx_i (x3 / 7), jx_i (x3 - x3 / 7 * 7)]) rfl ?_
      refine jx_goto (tgt := 13) dX0_load_79 (by decide) ?_
      exact jx_weak (jx_Le.s (jx_Le.s (jx_Le.s (jx_Le.s (jx_Le.n (jx_Le.n jx_Le.z)))))) h
    · have h := h.2 hc
      refine jx_iload dX0_load_38 rfl ?_
      refine jx_iload_n dX0_load_40 rfl rfl ?_
      refine jx_icmp_eq (tgt := 76) dX0_load_41 (by decide) (fun hc => ?_) (fun hc => ?_)
      · have h := h.1 hc
        refine jx_iinc (v := x3 + 1) dX0_load_76 rfl rfl (Nat.le_of_ble_eq_true rfl) (lv' := [jx_t, jx_i x1, jx_i x2, jx_i (x3 + 1), jx_i (x3 / 7), jx_i (x3 - x3 / 7 * 7)]) rfl ?_
        refine jx_goto (tgt := 13) dX0_load_79 (by decide) ?_
        exact jx_weak (jx_Le.s (jx_Le.s (jx_Le.s (jx_Le.s (jx_Le.n (jx_Le.n jx_Le.z)))))) h
      · have h := h.2 hc
        refine jx_iload dX0_load_44 rfl ?_
        refine jx_iload_n dX0_load_46 rfl rfl ?_
        refine jx_icmp_eq (tgt := 76) dX0_load_47 (by decide) (fun hc => ?_) (fun hc => ?_)
        · have h := h.1 hc
          refine jx_iinc (v := x3 + 1) dX0_load_76 rfl rfl (Nat.le_of_ble_eq_true rfl) (lv' := [jx_t, jx_i x1, jx_i x2, jx_i (x3 + 1), jx_i (x3 / 7), jx_i (x3 - x3 / 7 * 7)]) rfl ?_
          refine jx_goto (tgt := 13) dX0_load_79 (by decide) ?_
          exact jx_weak (jx_Le.s (jx_Le.s (jx_Le.s (jx_Le.s (jx_Le.n (jx_Le.n jx_Le.z)))))) h
        · have h := h.2 hc
          refine jx_aload_n dX0_load_50 rfl rfl ?_
          refine jx_iload dX0_load_51 rfl ?_
          refine jx_iload dX0_load_53 rfl ?_
          refine jx_callVi (N := MX0_connected) [.inl (x3 / 7), .inl (x3 - x3 / 7 * 7)] rfl rfl rfl rfl okX0_connected (by decide) rfl (Nat.le_of_ble_eq_true rfl) dX0_load_55 h (fun r2 w1 h => ?_)
          refine jx_if_eq (tgt := 76) dX0_load_58 (by decide) (fun hc => ?_) (fun hc => ?_)
          · have h := h.1 hc
            refine jx_iinc (v := x3 + 1) dX0_load_76 rfl rfl (Nat.le_of_ble_eq_true rfl) (lv' := [jx_t, jx_i x1, jx_i x2, jx_i (x3 + 1), jx_i (x3 / 7), jx_i (x3 - x3 / 7 * 7)]) rfl ?_
            refine jx_goto (tgt := 13) dX0_load_79 (by decide) ?_
            exact jx_weak (jx_Le.s (jx_Le.s (jx_Le.s (jx_Le.s (jx_Le.n (jx_Le.n jx_Le.z)))))) h
          · have h := h.2 hc
            refine jx_aload_n dX0_load_61 rfl rfl ?_
            refine jx_iload dX0_load_62 rfl ?_
            refine jx_iload dX0_load_64 rfl ?_
            refine jx_iload_n dX0_load_66 rfl rfl ?_
            refine jx_callVi (N := MX0_comesThrough) [.inl (x3 / 7), .inl (x3 - x3 / 7 * 7), .inl x1] rfl rfl rfl rfl okX0_comesThrough (by decide) rfl (Nat.le_of_ble_eq_true rfl) dX0_load_67 h (fun r4 w3 h => ?_)
            refine jx_if_eq (tgt := 76) dX0_load_70 (by decide) (fun hc => ?_) (fun hc => ?_)
            · have h := h.1 hc
              refine jx_iinc (v := x3 + 1) dX0_load_76 rfl rfl (Nat.le_of_ble_eq_true rfl) (lv' := [jx_t, jx_i x1, jx_i x2, jx_i (x3 + 1), jx_i (x3 / 7), jx_i (x3 - x3 / 7 * 7)]) rfl ?_
              refine jx_goto (tgt := 13) dX0_load_79 (by decide) ?_
              exact jx_weak (jx_Le.s (jx_Le.s (jx_Le.s (jx_Le.s (jx_Le.n (jx_Le.n jx_Le.z)))))) h
            · have h := h.2 hc
              refine jx_iinc (v := x2 + 1) dX0_load_73 rfl rfl (Nat.le_of_ble_eq_true rfl) (lv' := [jx_t, jx_i x1, jx_i (x2 + 1), jx_i x3, jx_i (x3 / 7), jx_i (x3 - x3 / 7 * 7)]) rfl ?_
              refine jx_iinc (v := x3 + 1) dX0_load_76 rfl rfl (Nat.le_of_ble_eq_true rfl) (lv' := [jx_t, jx_i x1, jx_i (x2 + 1), jx_i (x3 + 1), jx_i (x3 / 7), jx_i (x3 - x3 / 7 * 7)]) rfl ?_
              refine jx_goto (tgt := 13) dX0_load_79 (by decide) ?_
              exact jx_weak (jx_Le.s (jx_Le.s (jx_Le.s (jx_Le.s (jx_Le.n (jx_Le.n jx_Le.z)))))) h
theorem bX0_goesAlong_0 (Φ : Int32 → jx_Wd → Prop) (x1 x2 x3 : Int32) (w : jx_Wd) (h :
    jx_CV MX0_launch [.inr 0, .inl x1, .inl x2] w (fun w1 => (
    jx_J MX0_goesAlong (jx_qi Φ) 12 [jx_t, none, none, jx_i x3, jx_i x1, jx_i 0] [] w1
    ))
    ) : jx_J MX0_goesAlong (jx_qi Φ) 0 [jx_t, jx_i x1, jx_i x2, jx_i x3, none, none] [] w := by
  refine jx_aload_n dX0_goesAlong_0 rfl rfl ?_
  refine jx_iload_n dX0_goesAlong_1 rfl rfl ?_
  refine jx_iload_n dX0_goesAlong_2 rfl rfl ?_
  refine jx_callVv (N := MX0_launch) [.inl x1, .inl x2] rfl rfl rfl rfl okX0_launch (by decide) rfl (Nat.le_of_ble_eq_true rfl) dX0_goesAlong_3 h (fun w1 h => ?_)
  refine jx_iload_n dX0_goesAlong_6 rfl rfl ?_
  refine jx_istore dX0_goesAlong_7 (Nat.le_of_ble_eq_true rfl) (lv' := [jx_t, jx_i x1, jx_i x2, jx_i x3, jx_i x1, none]) rfl ?_
  refine jx_iconst (v := 0) dX0_goesAlong_9 (by decide) ?_
  refine jx_istore dX0_goesAlong_10 (Nat.le_of_ble_eq_true rfl) (lv' := [jx_t, jx_i x1, jx_i x2, jx_i x3, jx_i x1, jx_i 0]) rfl ?_
  exact jx_weak (jx_Le.s (jx_Le.n (jx_Le.n (jx_Le.s (jx_Le.s (jx_Le.s jx_Le.z)))))) h
theorem eX0_goesAlong {Φ : Int32 → jx_Wd → Prop} {x1 x2 x3 : Int32} {w : jx_Wd} (h : jx_J MX0_goesAlong (jx_qi Φ) 0 [jx_t, jx_i x1, jx_i x2, jx_i x3, none, none] [] w) : jx_CI MX0_goesAlong [.inr 0, .inl x1, .inl x2, .inl x3] w Φ := jx_of _ (by decide +kernel) ⟨rfl, rfl⟩ (Nat.le_of_ble_eq_true rfl) rfl h
theorem bX0_goesAlong_12 (Φ : Int32 → jx_Wd → Prop) (x3 x4 x5 : Int32) (w : jx_Wd) (h :
    (7 ≤ x5 → (
      Φ 0 w
    )) ∧ (¬ 7 ≤ x5 → (
      jx_CI MX0_forward [.inr 0] w (fun r2 w1 => (
      (r2 = 0 → (
        Φ 0 w1
      )) ∧ (¬ r2 = 0 → (
        ∀ v3 : Int32, v3 = w1 10 0 → (
        (((1 <<< (x4 &&& 31)) ||| (1 <<< (v3 &&& 31))) = x3 → (
          Φ 1 w1
        )) ∧ (¬ ((1 <<< (x4 &&& 31)) ||| (1 <<< (v3 &&& 31))) = x3 → (
          ∀ v4 : Int32, v4 = w1 10 0 → (
          jx_J MX0_goesAlong (jx_qi Φ) 12 [jx_t, none, none, jx_i x3, jx_i v4, jx_i (x5 + 1)] [] w1
          )
        ))
        )
      ))
      ))
    ))
    ) : jx_J MX0_goesAlong (jx_qi Φ) 12 [jx_t, none, none, jx_i x3, jx_i x4, jx_i x5] [] w := by
  refine jx_iload dX0_goesAlong_12 rfl ?_
  refine jx_bipush (v := 7) dX0_goesAlong_14 (by decide) ?_
  refine jx_icmp_ge (tgt := 55) dX0_goesAlong_16 (by decide) (fun hc => ?_) (fun hc => ?_)
  · have h := h.1 hc
    refine jx_iconst (v := 0) dX0_goesAlong_55 (by decide) ?_
    exact jx_iret dX0_goesAlong_56 rfl rfl ⟨_, rfl, h⟩
  · have h := h.2 hc
    refine jx_aload_n dX0_goesAlong_19 rfl rfl ?_
    refine jx_callVi (N := MX0_forward) [] rfl rfl rfl rfl okX0_forward (by decide) rfl (Nat.le_of_ble_eq_true rfl) dX0_goesAlong_20 h (fun r2 w1 h => ?_)
    refine jx_if_eq (tgt := 55) dX0_goesAlong_23 (by decide) (fun hc => ?_) (fun hc => ?_)
    · have h := h.1 hc
      refine jx_iconst (v := 0) dX0_goesAlong_55 (by decide) ?_
      exact jx_iret dX0_goesAlong_56 rfl rfl ⟨_, rfl, h⟩
    · have h := h.2 hc
      refine jx_iconst (v := 1) dX0_goesAlong_26 (by decide) ?_
      refine jx_iload dX0_goesAlong_27 rfl ?_
      refine jx_ishl dX0_goesAlong_29 ?_
      refine jx_iconst (v := 1) dX0_goesAlong_30 (by decide) ?_
      refine jx_aload_n dX0_goesAlong_31 rfl rfl ?_
      refine jx_getX0 rfl rfl 10 (by decide) rfl q47 (v := .inl (w1 10 0)) (fun _ => rfl) dX0_goesAlong_32 ?_
      refine jx_nm (fun v3 e_v3 => ?_)
      have h := h v3 e_v3
      refine jx_ishl dX0_goesAlong_35 ?_
      refine jx_ior dX0_goesAlong_36 ?_
      refine jx_iload_n dX0_goesAlong_37 rfl rfl ?_
      refine jx_icmp_ne (tgt := 43) dX0_goesAlong_38 (by decide) (fun hc => ?_) (fun hc => ?_)
      · have h := h.2 hc
        refine jx_aload_n dX0_goesAlong_43 rfl rfl ?_
        refine jx_getX0 rfl rfl 10 (by decide) rfl q47 (v := .inl (w1 10 0)) (fun _ => rfl) dX0_goesAlong_44 ?_
        refine jx_nm (fun v4 e_v4 => ?_)
        have h := h v4 e_v4
        refine jx_istore dX0_goesAlong_47 (Nat.le_of_ble_eq_true rfl) (lv' := [jx_t, none, none, jx_i x3, jx_i v4, jx_i x5]) rfl ?_
        refine jx_iinc (v := x5 + 1) dX0_goesAlong_49 rfl rfl (Nat.le_of_ble_eq_true rfl) (lv' := [jx_t, none, none, jx_i x3, jx_i v4, jx_i (x5 + 1)]) rfl ?_
        refine jx_goto (tgt := 12) dX0_goesAlong_52 (by decide) ?_
        exact h
      · have h := h.1 hc
        refine jx_iconst (v := 1) dX0_goesAlong_41 (by decide) ?_
        exact jx_iret dX0_goesAlong_42 rfl rfl ⟨_, rfl, h⟩
theorem bX0_linkLoad_0 (Φ : Int32 → jx_Wd → Prop) (x1 x2 : Int32) (w : jx_Wd) (h :
    jx_CI MX0_linked [.inr 0, .inl x1, .inl x2] w (fun r2 w1 => (
    (r2 = 0 → (
      Φ 0 w1
    )) ∧ (¬ r2 = 0 → (
      jx_CI MX0_counts [.inr 0, .inl x1, .inl x2] w1 (fun r4 w3 => (
      (r4 = 0 → (
        Φ 0 w3
      )) ∧ (¬ r4 = 0 → (
        jx_J MX0_linkLoad (jx_qi Φ) 25 [jx_t, jx_i x1, jx_i x2, jx_i 0, jx_i 0, none, none] [] w3
      ))
      ))
    ))
    ))
    ) : jx_J MX0_linkLoad (jx_qi Φ) 0 [jx_t, jx_i x1, jx_i x2, none, none, none, none] [] w := by
  refine jx_aload_n dX0_linkLoad_0 rfl rfl ?_
  refine jx_iload_n dX0_linkLoad_1 rfl rfl ?_
  refine jx_iload_n dX0_linkLoad_2 rfl rfl ?_
  refine jx_callVi (N := MX0_linked) [.inl x1, .inl x2] rfl rfl rfl rfl okX0_linked (by decide) rfl (Nat.le_of_ble_eq_true rfl) dX0_linkLoad_3 h (fun r2 w1 h => ?_)
  refine jx_if_eq (tgt := 18) dX0_linkLoad_6 (by decide) (fun hc => ?_) (fun hc => ?_)
  · have h := h.1 hc
    refine jx_iconst (v := 0) dX0_linkLoad_18 (by decide) ?_
    exact jx_iret dX0_linkLoad_19 rfl rfl ⟨_, rfl, h⟩
  · have h := h.2 hc
    refine jx_aload_n dX0_linkLoad_9 rfl rfl ?_
    refine jx_iload_n dX0_linkLoad_10 rfl rfl ?_
    refine jx_iload_n dX0_linkLoad_11 rfl rfl ?_
    refine jx_callVi (N := MX0_counts) [.inl x1, .inl x2] rfl rfl rfl rfl okX0_counts (by decide) rfl (Nat.le_of_ble_eq_true rfl) dX0_linkLoad_12 h (fun r4 w3 h => ?_)
    refine jx_if_ne (tgt := 20) dX0_linkLoad_15 (by decide) (fun hc => ?_) (fun hc => ?_)
    · have h := h.2 hc
      refine jx_iconst (v := 0) dX0_linkLoad_20 (by decide) ?_
      refine jx_istore_n dX0_linkLoad_21 rfl (Nat.le_of_ble_eq_true rfl) (lv' := [jx_t, jx_i x1, jx_i x2, jx_i 0, none, none, none]) rfl ?_
      refine jx_iconst (v := 0) dX0_linkLoad_22 (by decide) ?_
      refine jx_istore dX0_linkLoad_23 (Nat.le_of_ble_eq_true rfl) (lv' := [jx_t, jx_i x1, jx_i x2, jx_i 0, jx_i 0, none, none]) rfl ?_
      exact h
    · have h := h.1 hc
      refine jx_iconst (v := 0) dX0_linkLoad_18 (by decide) ?_
      exact jx_iret dX0_linkLoad_19 rfl rfl ⟨_, rfl, h⟩
theorem eX0_linkLoad {Φ : Int32 → jx_Wd → Prop} {x1 x2 : Int32} {w : jx_Wd} (h : jx_J MX0_linkLoad (jx_qi Φ) 0 [jx_t, jx_i x1, jx_i x2, none, none, none, none] [] w) : jx_CI MX0_linkLoad [.inr 0, .inl x1, .inl x2] w Φ := jx_of _ (by decide +kernel) ⟨rfl, rfl⟩ (Nat.le_of_ble_eq_true rfl) rfl h
theorem bX0_linkLoad_25 (Φ : Int32 → jx_Wd → Prop) (x1 x2 x3 x4 : Int32) (w : jx_Wd) (h :
    (49 ≤ x4 → (
      Φ x3 w
    )) ∧ (¬ 49 ≤ x4 → (
      ((x4 / 7) = (x4 - x4 / 7 * 7) → (
        jx_J MX0_linkLoad (jx_qi Φ) 25 [jx_t, jx_i x1, jx_i x2, jx_i x3, jx_i (x4 + 1), none, none] [] w
      )) ∧ (¬ (x4 / 7) = (x4 - x4 / 7 * 7) → (
        jx_CI MX0_connected [.inr 0, .inl (x4 / 7), .inl (x4 - x4 / 7 * 7)] w (fun r2 w1 => (
        (r2 = 0 → (
          jx_J MX0_linkLoad (jx_qi Φ) 25 [jx_t, jx_i x1, jx_i x2, jx_i x3, jx_i (x4 + 1), none, none] [] w1
        )) ∧ (¬ r2 = 0 → (
          jx_CI MX0_goesAlong [.inr 0, .inl (x4 / 7), .inl (x4 - x4 / 7 * 7), .inl ((1 <<< (x1 &&& 31)) ||| (1 <<< (x2 &&& 31)))] w1 (fun r4 w3 => (
          (r4 = 0 → (
            jx_J MX0_linkLoad (jx_qi Φ) 25 [jx_t, jx_i x1, jx_i x2, jx_i x3, jx_i (x4 + 1), none, none] [] w3
          )) ∧ (¬ r4 = 0 → (
            jx_J MX0_linkLoad (jx_qi Φ) 25 [jx_t, jx_i x1, jx_i x2, jx_i (x3 + 1), jx_i (x4 + 1), none, none] [] w3
          ))
          ))
        ))
        ))
      ))
    ))
    ) : jx_J MX0_linkLoad (jx_qi Φ) 25 [jx_t, jx_i x1, jx_i x2, jx_i x3, jx_i x4, none, none] [] w := by
  refine jx_iload dX0_linkLoad_25 rfl ?_
  refine jx_bipush (v := 49) dX0_linkLoad_27 (by decide) ?_
  refine jx_icmp_ge (tgt := 91) dX0_linkLoad_29 (by decide) (fun hc => ?_) (fun hc => ?_)
  · have h := h.1 hc
    refine jx_iload_n dX0_linkLoad_91 rfl rfl ?_
    exact jx_iret dX0_linkLoad_92 rfl rfl ⟨_, rfl, h⟩
  · have h := h.2 hc
    refine jx_iload dX0_linkLoad_32 rfl ?_
    refine jx_bipush (v := 7) dX0_linkLoad_34 (by decide) ?_
    refine jx_idiv dX0_linkLoad_36 (by decide) ?_
    refine jx_istore dX0_linkLoad_37 (Nat.le_of_ble_eq_true rfl) (lv' := [jx_t, jx_i x1, jx_i x2, jx_i x3, jx_i x4, jx_i (x4 / 7), none]) rfl ?_
    refine jx_iload dX0_linkLoad_39 rfl ?_
    refine jx_bipush (v := 7) dX0_linkLoad_41 (by decide) ?_
    refine jx_irem dX0_linkLoad_43 (by decide) ?_
    refine jx_istore dX0_linkLoad_44 (Nat.le_of_ble_eq_true rfl) (lv' := [jx_t, jx_i x1, jx_i x2, jx_i x3, jx_i x4, jx_i (x4 / 7), jx_i (x4 - x4 / 7 * 7)]) rfl ?_
    refine jx_iload dX0_linkLoad_46 rfl ?_
    refine jx_iload dX0_linkLoad_48 rfl ?_
    refine jx_icmp_eq (tgt := 85) dX0_linkLoad_50 (by decide) (fun hc => ?_) (fun hc => ?_)
    · have h := h.1 hc
      refine jx_iinc (v := x4 + 1) dX0_linkLoad_85 rfl rfl (Nat.le_of_ble_eq_true rfl) (lv' := [jx_t, jx_i x1, jx_i x2, jx_i x3, jx_i (x4 + 1), jx_i (x4 / 7), jx_i (x4 - x4 / 7 * 7)]) rfl ?_
      refine jx_goto (tgt := 25) dX0_linkLoad_88 (by decide) ?_
      exact jx_weak (jx_Le.s (jx_Le.s (jx_Le.s (jx_Le.s (jx_Le.s (jx_Le.n (jx_Le.n jx_Le.z))))))) h
    · have h := h.2 hc
      refine jx_aload_n dX0_linkLoad_53 rfl rfl ?_
      refine jx_iload dX0_linkLoad_54 rfl ?_
      refine jx_iload dX0_linkLoad_56 rfl ?_
      refine jx_callVi (N := MX0_connected) [.inl (x4 / 7), .inl (x4 - x4 / 7 * 7)] rfl rfl rfl rfl okX0_connected (by decide) rfl (Nat.le_of_ble_eq_true rfl) dX0_linkLoad_58 h (fun r2 w1 h => ?_)
      refine jx_if_eq (tgt := 85) dX0_linkLoad_61 (by decide) (fun hc => ?_) (fun hc => ?_)
      · have h := h.1 hc
        refine jx_iinc (v := x4 + 1) dX0_linkLoad_85 rfl rfl (Nat.le_of_ble_eq_true rfl) (lv' := [jx_t, jx_i x1, jx_i x2, jx_i x3, jx_i (x4 + 1), jx_i (x4 / 7), jx_i (x4 - x4 / 7 * 7)]) rfl ?_
        refine jx_goto (tgt := 25) dX0_linkLoad_88 (by decide) ?_
        exact jx_weak (jx_Le.s (jx_Le.s (jx_Le.s (jx_Le.s (jx_Le.s (jx_Le.n (jx_Le.n jx_Le.z))))))) h
      · have h := h.2 hc
        refine jx_aload_n dX0_linkLoad_64 rfl rfl ?_
        refine jx_iload dX0_linkLoad_65 rfl ?_
        refine jx_iload dX0_linkLoad_67 rfl ?_
        refine jx_iconst (v := 1) dX0_linkLoad_69 (by decide) ?_
        refine jx_iload_n dX0_linkLoad_70 rfl rfl ?_
        refine jx_ishl dX0_linkLoad_71 ?_
        refine jx_iconst (v := 1) dX0_linkLoad_72 (by decide) ?_
        refine jx_iload_n dX0_linkLoad_73 rfl rfl ?_
        refine jx_ishl dX0_linkLoad_74 ?_
        refine jx_ior dX0_linkLoad_75 ?_
        refine jx_callVi (N := MX0_goesAlong) [.inl (x4 / 7), .inl (x4 - x4 / 7 * 7), .inl ((1 <<< (x1 &&& 31)) ||| (1 <<< (x2 &&& 31)))] rfl rfl rfl rfl okX0_goesAlong (by decide) rfl (Nat.le_of_ble_eq_true rfl) dX0_linkLoad_76 h (fun r4 w3 h => ?_)
        refine jx_if_eq (tgt := 85) dX0_linkLoad_79 (by decide) (fun hc => ?_) (fun hc => ?_)
        · have h := h.1 hc
          refine jx_iinc (v := x4 + 1) dX0_linkLoad_85 rfl rfl (Nat.le_of_ble_eq_true rfl) (lv' := [jx_t, jx_i x1, jx_i x2, jx_i x3, jx_i (x4 + 1), jx_i (x4 / 7), jx_i (x4 - x4 / 7 * 7)]) rfl ?_
          refine jx_goto (tgt := 25) dX0_linkLoad_88 (by decide) ?_
          exact jx_weak (jx_Le.s (jx_Le.s (jx_Le.s (jx_Le.s (jx_Le.s (jx_Le.n (jx_Le.n jx_Le.z))))))) h
        · have h := h.2 hc
          refine jx_iinc (v := x3 + 1) dX0_linkLoad_82 rfl rfl (Nat.le_of_ble_eq_true rfl) (lv' := [jx_t, jx_i x1, jx_i x2, jx_i (x3 + 1), jx_i x4, jx_i (x4 / 7), jx_i (x4 - x4 / 7 * 7)]) rfl ?_
          refine jx_iinc (v := x4 + 1) dX0_linkLoad_85 rfl rfl (Nat.le_of_ble_eq_true rfl) (lv' := [jx_t, jx_i x1, jx_i x2, jx_i (x3 + 1), jx_i (x4 + 1), jx_i (x4 / 7), jx_i (x4 - x4 / 7 * 7)]) rfl ?_
          refine jx_goto (tgt := 25) dX0_linkLoad_88 (by decide) ?_
          exact jx_weak (jx_Le.s (jx_Le.s (jx_Le.s (jx_Le.s (jx_Le.s (jx_Le.n (jx_Le.n jx_Le.z))))))) h
theorem bX0_reachable_0 (Φ : Int32 → jx_Wd → Prop) (x1 : Int32) (w : jx_Wd) (h :
    jx_J MX0_reachable (jx_qi Φ) 4 [jx_t, jx_i x1, jx_i 0, jx_i 0] [] w
    ) : jx_J MX0_reachable (jx_qi Φ) 0 [jx_t, jx_i x1, none, none] [] w := by
  refine jx_iconst (v := 0) dX0_reachable_0 (by decide) ?_
  refine jx_istore_n dX0_reachable_1 rfl (Nat.le_of_ble_eq_true rfl) (lv' := [jx_t, jx_i x1, jx_i 0, none]) rfl ?_
  refine jx_iconst (v := 0) dX0_reachable_2 (by decide) ?_
  refine jx_istore_n dX0_reachable_3 rfl (Nat.le_of_ble_eq_true rfl) (lv' := [jx_t, jx_i x1, jx_i 0, jx_i 0]) rfl ?_
  exact h
theorem eX0_reachable {Φ : Int32 → jx_Wd → Prop} {x1 : Int32} {w : jx_Wd} (h : jx_J MX0_reachable (jx_qi Φ) 0 [jx_t, jx_i x1, none, none] [] w) : jx_CI MX0_reachable [.inr 0, .inl x1] w Φ := jx_of _ (by decide +kernel) ⟨rfl, rfl⟩ (Nat.le_of_ble_eq_true rfl) rfl h
theorem bX0_reachable_4 (Φ : Int32 → jx_Wd → Prop) (x1 x2 x3 : Int32) (w : jx_Wd) (h :
    (7 ≤ x3 → (
      Φ x2 w
    )) ∧ (¬ 7 ≤ x3 → (
      (x3 = x1 → (
        jx_J MX0_reachable (jx_qi Φ) 4 [jx_t, jx_i x1, jx_i x2, jx_i (x3 + 1)] [] w
      )) ∧ (¬ x3 = x1 → (
        jx_CI MX0_connected [.inr 0, .inl x1, .inl x3] w (fun r2 w1 => (
        (r2 = 0 → (
          jx_J MX0_reachable (jx_qi Φ) 4 [jx_t, jx_i x1, jx_i x2, jx_i (x3 + 1)] [] w1
        )) ∧ (¬ r2 = 0 → (
          jx_J MX0_reachable (jx_qi Φ) 4 [jx_t, jx_i x1, jx_i (x2 ||| (1 <<< (x3 &&& 31))), jx_i (x3 + 1)] [] w1
        ))
        ))
      ))
    ))
    ) : jx_J MX0_reachable (jx_qi Φ) 4 [jx_t, jx_i x1, jx_i x2, jx_i x3] [] w := by
  refine jx_iload_n dX0_reachable_4 rfl rfl ?_
  refine jx_bipush (v := 7) dX0_reachable_5 (by decide) ?_
  refine jx_icmp_ge (tgt := 36) dX0_reachable_7 (by decide) (fun hc => ?_) (fun hc => ?_)
  · have h := h.1 hc
    refine jx_iload_n dX0_reachable_36 rfl rfl ?_
    exact jx_iret dX0_reachable_37 rfl rfl ⟨_, rfl, h⟩
  · have h := h.2 hc
    refine jx_iload_n dX0_reachable_10 rfl rfl ?_
    refine jx_iload_n dX0_reachable_11 rfl rfl ?_
    refine jx_icmp_eq (tgt := 30) dX0_reachable_12 (by decide) (fun hc => ?_) (fun hc => ?_)
    · have h := h.1 hc
      refine jx_iinc (v := x3 + 1) dX0_reachable_30 rfl rfl (Nat.le_of_ble_eq_true rfl) (lv' := [jx_t, jx_i x1, jx_i x2, jx_i (x3 + 1)]) rfl ?_
      refine jx_goto (tgt := 4) dX0_reachable_33 (by decide) ?_
      exact h
    · have h := h.2 hc
      refine jx_aload_n dX0_reachable_15 rfl rfl ?_
      refine jx_iload_n dX0_reachable_16 rfl rfl ?_
      refine jx_iload_n dX0_reachable_17 rfl rfl ?_
      refine jx_callVi (N := MX0_connected) [.inl x1, .inl x3] rfl rfl rfl rfl okX0_connected (by decide) rfl (Nat.le_of_ble_eq_true rfl) dX0_reachable_18 h (fun r2 w1 h => ?_)
      refine jx_if_eq (tgt := 30) dX0_reachable_21 (by decide) (fun hc => ?_) (fun hc => ?_)
      · have h := h.1 hc
        refine jx_iinc (v := x3 + 1) dX0_reachable_30 rfl rfl (Nat.le_of_ble_eq_true rfl) (lv' := [jx_t, jx_i x1, jx_i x2, jx_i (x3 + 1)]) rfl ?_
        refine jx_goto (tgt := 4) dX0_reachable_33 (by decide) ?_
        exact h
      · have h := h.2 hc
        refine jx_iload_n dX0_reachable_24 rfl rfl ?_
        refine jx_iconst (v := 1) dX0_reachable_25 (by decide) ?_
        refine jx_iload_n dX0_reachable_26 rfl rfl ?_
        refine jx_ishl dX0_reachable_27 ?_
        refine jx_ior dX0_reachable_28 ?_
        refine jx_istore_n dX0_reachable_29 rfl (Nat.le_of_ble_eq_true rfl) (lv' := [jx_t, jx_i x1, jx_i (x2 ||| (1 <<< (x3 &&& 31))), jx_i x3]) rfl ?_
        refine jx_iinc (v := x3 + 1) dX0_reachable_30 rfl rfl (Nat.le_of_ble_eq_true rfl) (lv' := [jx_t, jx_i x1, jx_i (x2 ||| (1 <<< (x3 &&& 31))), jx_i (x3 + 1)]) rfl ?_
        refine jx_goto (tgt := 4) dX0_reachable_33 (by decide) ?_
        exact h
theorem bX0_farthest_0 (Φ : Int32 → jx_Wd → Prop) (x1 : Int32) (w : jx_Wd) (h :
    jx_CI MX0_connected [.inr 0, .inl x1, .inl x1] w (fun r2 w1 => (
    (r2 = 0 → (
      Φ (-1) w1
    )) ∧ (¬ r2 = 0 → (
      jx_J MX0_farthest (jx_qi Φ) 15 [jx_t, jx_i x1, jx_i 0, jx_i 0, none] [] w1
    ))
    ))
    ) : jx_J MX0_farthest (jx_qi Φ) 0 [jx_t, jx_i x1, none, none, none] [] w := by
  refine jx_aload_n dX0_farthest_0 rfl rfl ?_
  refine jx_iload_n dX0_farthest_1 rfl rfl ?_
  refine jx_iload_n dX0_farthest_2 rfl rfl ?_
  refine jx_callVi (N := MX0_connected) [.inl x1, .inl x1] rfl rfl rfl rfl okX0_connected (by decide) rfl (Nat.le_of_ble_eq_true rfl) dX0_farthest_3 h (fun r2 w1 h => ?_)
  refine jx_if_ne (tgt := 11) dX0_farthest_6 (by decide) (fun hc => ?_) (fun hc => ?_)
  · have h := h.2 hc
    refine jx_iconst (v := 0) dX0_farthest_11 (by decide) ?_
    refine jx_istore_n dX0_farthest_12 rfl (Nat.le_of_ble_eq_true rfl) (lv' := [jx_t, jx_i x1, jx_i 0, none, none]) rfl ?_
    refine jx_iconst (v := 0) dX0_farthest_13 (by decide) ?_
    refine jx_istore_n dX0_farthest_14 rfl (Nat.le_of_ble_eq_true rfl) (lv' := [jx_t, jx_i x1, jx_i 0, jx_i 0, none]) rfl ?_
    exact h
  · have h := h.1 hc
    refine jx_iconst (v := (-1)) dX0_farthest_9 (by decide) ?_
    exact jx_iret dX0_farthest_10 rfl rfl ⟨_, rfl, h⟩
theorem eX0_farthest {Φ : Int32 → jx_Wd → Prop} {x1 : Int32} {w : jx_Wd} (h : jx_J MX0_farthest (jx_qi Φ) 0 [jx_t, jx_i x1, none, none, none] [] w) : jx_CI MX0_farthest [.inr 0, .inl x1] w Φ := jx_of _ (by decide +kernel) ⟨rfl, rfl⟩ (Nat.le_of_ble_eq_true rfl) rfl h
theorem bX0_farthest_15 (Φ : Int32 → jx_Wd → Prop) (x1 x2 x3 : Int32) (w : jx_Wd) (h :
    (7 ≤ x3 → (
      Φ x2 w
    )) ∧ (¬ 7 ≤ x3 → (
      vp_in ((x1 * 7) + x3) 49 ∧ ∀ v1 : Int32, v1 = w 4 ((x1 * 7) + x3).toNatClampNeg → (
      (10000 ≤ v1 → (
        jx_J MX0_farthest (jx_qi Φ) 15 [jx_t, jx_i x1, jx_i x2, jx_i (x3 + 1), none] [] w
      )) ∧ (¬ 10000 ≤ v1 → (
        (v1 ≤ x2 → (
          jx_J MX0_farthest (jx_qi Φ) 15 [jx_t, jx_i x1, jx_i x2, jx_i (x3 + 1), none] [] w
        )) ∧ (¬ v1 ≤ x2 → (
          jx_J MX0_farthest (jx_qi Φ) 15 [jx_t, jx_i x1, jx_i v1, jx_i (x3 + 1), none] [] w
        ))
      ))
      )
    ))
    ) : jx_J MX0_farthest (jx_qi Φ) 15 [jx_t, jx_i x1, jx_i x2, jx_i x3, none] [] w := by
  refine jx_iload_n dX0_farthest_15 rfl rfl ?_
  refine jx_bipush (v := 7) dX0_farthest_16 (by decide) ?_
  refine jx_icmp_ge (tgt := 61) dX0_farthest_18 (by decide) (fun hc => ?_) (fun hc => ?_)
  · have h := h.1 hc
    refine jx_iload_n dX0_farthest_61 rfl rfl ?_
    exact jx_iret dX0_farthest_62 rfl rfl ⟨_, rfl, h⟩
  · have h := h.2 hc
    refine jx_aload_n dX0_farthest_21 rfl rfl ?_
    refine jx_getX0 rfl rfl 4 (by decide) rfl q41 (v := .inr 5) (fun _ => rfl) dX0_farthest_22 ?_
    refine jx_iload_n dX0_farthest_25 rfl rfl ?_
    refine jx_bipush (v := 7) dX0_farthest_26 (by decide) ?_
    refine jx_imul dX0_farthest_28 ?_
    refine jx_iload_n dX0_farthest_29 rfl rfl ?_
    refine jx_iadd dX0_farthest_30 ?_
    refine jx_iald 2 4 49 rfl dX0_farthest_31 h.1 (fun v1 e_v1 => ?_)
    have h := h.2 v1 e_v1
    refine jx_istore dX0_farthest_32 (Nat.le_of_ble_eq_true rfl) (lv' := [jx_t, jx_i x1, jx_i x2, jx_i x3, jx_i v1]) rfl ?_
    refine jx_iload dX0_farthest_34 rfl ?_
    refine jx_sipush (v := 10000) dX0_farthest_36 (by decide) ?_
    refine jx_icmp_ge (tgt := 53) dX0_farthest_39 (by decide) (fun hc => ?_) (fun hc => ?_)
    · have h := h.1 hc
      refine jx_iload_n dX0_farthest_53 rfl rfl ?_
      refine jx_istore_n dX0_farthest_54 rfl (Nat.le_of_ble_eq_true rfl) (lv' := [jx_t, jx_i x1, jx_i x2, jx_i x3, jx_i v1]) rfl ?_
      refine jx_iinc (v := x3 + 1) dX0_farthest_55 rfl rfl (Nat.le_of_ble_eq_true rfl) (lv' := [jx_t, jx_i x1, jx_i x2, jx_i (x3 + 1), jx_i v1]) rfl ?_
      refine jx_goto (tgt := 15) dX0_farthest_58 (by decide) ?_
      exact jx_weak (jx_Le.s (jx_Le.s (jx_Le.s (jx_Le.s (jx_Le.n jx_Le.z))))) h
    · have h := h.2 hc
      refine jx_iload dX0_farthest_42 rfl ?_
      refine jx_iload_n dX0_farthest_44 rfl rfl ?_
      refine jx_icmp_le (tgt := 53) dX0_farthest_45 (by decide) (fun hc => ?_) (fun hc => ?_)
      · have h := h.1 hc
        refine jx_iload_n dX0_farthest_53 rfl rfl ?_
        refine jx_istore_n dX0_farthest_54 rfl (Nat.le_of_ble_eq_true rfl) (lv' := [jx_t, jx_i x1, jx_i x2, jx_i x3, jx_i v1]) rfl ?_
        refine jx_iinc (v := x3 + 1) dX0_farthest_55 rfl rfl (Nat.le_of_ble_eq_true rfl) (lv' := [jx_t, jx_i x1, jx_i x2, jx_i (x3 + 1), jx_i v1]) rfl ?_
        refine jx_goto (tgt := 15) dX0_farthest_58 (by decide) ?_
        exact jx_weak (jx_Le.s (jx_Le.s (jx_Le.s (jx_Le.s (jx_Le.n jx_Le.z))))) h
      · have h := h.2 hc
        refine jx_iload dX0_farthest_48 rfl ?_
        refine jx_goto (tgt := 54) dX0_farthest_50 (by decide) ?_
        refine jx_istore_n dX0_farthest_54 rfl (Nat.le_of_ble_eq_true rfl) (lv' := [jx_t, jx_i x1, jx_i v1, jx_i x3, jx_i v1]) rfl ?_
        refine jx_iinc (v := x3 + 1) dX0_farthest_55 rfl rfl (Nat.le_of_ble_eq_true rfl) (lv' := [jx_t, jx_i x1, jx_i v1, jx_i (x3 + 1), jx_i v1]) rfl ?_
        refine jx_goto (tgt := 15) dX0_farthest_58 (by decide) ?_
        exact jx_weak (jx_Le.s (jx_Le.s (jx_Le.s (jx_Le.s (jx_Le.n jx_Le.z))))) h
theorem bX0_routeDiffers_0 (Φ : Int32 → jx_Wd → Prop) (x1 x2 : Int32) (w : jx_Wd) (h :
    jx_J MX0_routeDiffers (jx_qi Φ) 5 [jx_t, none, jx_i x2, jx_i x1, jx_i 0, none] [] w
    ) : jx_J MX0_routeDiffers (jx_qi Φ) 0 [jx_t, jx_i x1, jx_i x2, none, none, none] [] w := by
  refine jx_iload_n dX0_routeDiffers_0 rfl rfl ?_
  refine jx_istore_n dX0_routeDiffers_1 rfl (Nat.le_of_ble_eq_true rfl) (lv' := [jx_t, jx_i x1, jx_i x2, jx_i x1, none, none]) rfl ?_
  refine jx_iconst (v := 0) dX0_routeDiffers_2 (by decide) ?_
  refine jx_istore dX0_routeDiffers_3 (Nat.le_of_ble_eq_true rfl) (lv' := [jx_t, jx_i x1, jx_i x2, jx_i x1, jx_i 0, none]) rfl ?_
  exact jx_weak (jx_Le.s (jx_Le.n (jx_Le.s (jx_Le.s (jx_Le.s (jx_Le.s jx_Le.z)))))) h
theorem eX0_routeDiffers {Φ : Int32 → jx_Wd → Prop} {x1 x2 : Int32} {w : jx_Wd} (h : jx_J MX0_routeDiffers (jx_qi Φ) 0 [jx_t, jx_i x1, jx_i x2, none, none, none] [] w) : jx_CI MX0_routeDiffers [.inr 0, .inl x1, .inl x2] w Φ := jx_of _ (by decide +kernel) ⟨rfl, rfl⟩ (Nat.le_of_ble_eq_true rfl) rfl h
theorem bX0_routeDiffers_5 (Φ : Int32 → jx_Wd → Prop) (x2 x3 x4 : Int32) (w : jx_Wd) (h :
    (7 ≤ x4 → (
      Φ 0 w
    )) ∧ (¬ 7 ≤ x4 → (
      (x3 = x2 → (
        Φ 0 w
      )) ∧ (¬ x3 = x2 → (
        vp_in ((x3 * 7) + x2) 49 ∧ ∀ v1 : Int32, v1 = w 12 ((x3 * 7) + x2).toNatClampNeg → (
        vp_in ((x3 * 7) + x2) 49 ∧ ∀ v2 : Int32, v2 = w 5 ((x3 * 7) + x2).toNatClampNeg → (
        (v1 = v2 → (
          (0 ≤ v1 → (
            jx_J MX0_routeDiffers (jx_qi Φ) 5 [jx_t, none, jx_i x2, jx_i v1, jx_i (x4 + 1), none] [] w
          )) ∧ (¬ 0 ≤ v1 → (
            Φ 0 w
          ))
        )) ∧ (¬ v1 = v2 → (
          Φ 1 w
        ))
        )
        )
      ))
    ))
    ) : jx_J MX0_routeDiffers (jx_qi Φ) 5 [jx_t, none, jx_i x2, jx_i x3, jx_i x4, none] [] w := by
  refine jx_iload dX0_routeDiffers_5 rfl ?_
  refine jx_bipush (v := 7) dX0_routeDiffers_7 (by decide) ?_
  refine jx_icmp_ge (tgt := 64) dX0_routeDiffers_9 (by decide) (fun hc => ?_) (fun hc => ?_)
  · have h := h.1 hc
    refine jx_iconst (v := 0) dX0_routeDiffers_64 (by decide) ?_
    exact jx_iret dX0_routeDiffers_65 rfl rfl ⟨_, rfl, h⟩
  · have h := h.2 hc
    refine jx_iload_n dX0_routeDiffers_12 rfl rfl ?_
    refine jx_iload_n dX0_routeDiffers_13 rfl rfl ?_
    refine jx_icmp_eq (tgt := 64) dX0_routeDiffers_14 (by decide) (fun hc => ?_) (fun hc => ?_)
    · have h := h.1 hc
      refine jx_iconst (v := 0) dX0_routeDiffers_64 (by decide) ?_
      exact jx_iret dX0_routeDiffers_65 rfl rfl ⟨_, rfl, h⟩
    · have h := h.2 hc
      refine jx_aload_n dX0_routeDiffers_17 rfl rfl ?_
      refine jx_getX0 rfl rfl 12 (by decide) rfl q49 (v := .inr 13) (fun _ => rfl) dX0_routeDiffers_18 ?_
      refine jx_iload_n dX0_routeDiffers_21 rfl rfl ?_
      refine jx_bipush (v := 7) dX0_routeDiffers_22 (by decide) ?_
      refine jx_imul dX0_routeDiffers_24 ?_
      refine jx_iload_n dX0_routeDiffers_25 rfl rfl ?_
      refine jx_iadd dX0_routeDiffers_26 ?_
      refine jx_bald 8 12 49 rfl dX0_routeDiffers_27 h.1 (fun v1 e_v1 => ?_)
      have h := h.2 v1 e_v1
      refine jx_istore dX0_routeDiffers_28 (Nat.le_of_ble_eq_true rfl) (lv' := [jx_t, none, jx_i x2, jx_i x3, jx_i x4, jx_i v1]) rfl ?_
      refine jx_iload dX0_routeDiffers_30 rfl ?_
      refine jx_aload_n dX0_routeDiffers_32 rfl rfl ?_
      refine jx_getX0 rfl rfl 5 (by decide) rfl q42 (v := .inr 6) (fun _ => rfl) dX0_routeDiffers_33 ?_
      refine jx_iload_n dX0_routeDiffers_36 rfl rfl ?_
      refine jx_bipush (v := 7) dX0_routeDiffers_37 (by decide) ?_
      refine jx_imul dX0_routeDiffers_39 ?_
      refine jx_iload_n dX0_routeDiffers_40 rfl rfl ?_
      refine jx_iadd dX0_routeDiffers_41 ?_
      refine jx_bald 3 5 49 rfl dX0_routeDiffers_42 h.1 (fun v2 e_v2 => ?_)
      have h := h.2 v2 e_v2
      refine jx_icmp_eq (tgt := 48) dX0_routeDiffers_43 (by decide) (fun hc => ?_) (fun hc => ?_)
      · have h := h.1 hc
        refine jx_iload dX0_routeDiffers_48 rfl ?_
        refine jx_if_ge (tgt := 55) dX0_routeDiffers_50 (by decide) (fun hc => ?_) (fun hc => ?_)
        · have h := h.1 hc
          refine jx_iload dX0_routeDiffers_55 rfl ?_
          refine jx_istore_n dX0_routeDiffers_57 rfl (Nat.le_of_ble_eq_true rfl) (lv' := [jx_t, none, jx_i x2, jx_i v1, jx_i x4, jx_i v1]) rfl ?_
          refine jx_iinc (v := x4 + 1) dX0_routeDiffers_58 rfl rfl (Nat.le_of_ble_eq_true rfl) (lv' := [jx_t, none, jx_i x2, jx_i v1, jx_i (x4 + 1), jx_i v1]) rfl ?_
          refine jx_goto (tgt := 5) dX0_routeDiffers_61 (by decide) ?_
          exact jx_weak (jx_Le.s (jx_Le.s (jx_Le.s (jx_Le.s (jx_Le.s (jx_Le.n jx_Le.z)))))) h
        · have h := h.2 hc
          refine jx_iconst (v := 0) dX0_routeDiffers_53 (by decide) ?_
          exact jx_iret dX0_routeDiffers_54 rfl rfl ⟨_, rfl, h⟩
      · have h := h.2 hc
        refine jx_iconst (v := 1) dX0_routeDiffers_46 (by decide) ?_
        exact jx_iret dX0_routeDiffers_47 rfl rfl ⟨_, rfl, h⟩
theorem bX0_impact_0 (Φ : Int32 → jx_Wd → Prop) (x1 x2 : Int32) (w : jx_Wd) (h :
    jx_CI MX0_linked [.inr 0, .inl x1, .inl x2] w (fun r2 w1 => (
    (r2 = 0 → (
      Φ 0 w1
    )) ∧ (¬ r2 = 0 → (
      jx_CV MX0_learn [.inr 0] w1 (fun w3 => (
      jx_J MX0_impact (jx_qi Φ) 17 [jx_t, jx_i x1, jx_i x2, jx_i 0, none, none] [] w3
      ))
    ))
    ))
    ) : jx_J MX0_impact (jx_qi Φ) 0 [jx_t, jx_i x1, jx_i x2, none, none, none] [] w := by
  refine jx_aload_n dX0_impact_0 rfl rfl ?_
  refine jx_iload_n dX0_impact_1 rfl rfl ?_
  refine jx_iload_n dX0_impact_2 rfl rfl ?_
  refine jx_callVi (N := MX0_linked) [.inl x1, .inl x2] rfl rfl rfl rfl okX0_linked (by decide) rfl (Nat.le_of_ble_eq_true rfl) dX0_impact_3 h (fun r2 w1 h => ?_)
  refine jx_if_ne (tgt := 11) dX0_impact_6 (by decide) (fun hc => ?_) (fun hc => ?_)
  · have h := h.2 hc
    refine jx_aload_n dX0_impact_11 rfl rfl ?_
    refine jx_callVv (N := MX0_learn) [] rfl rfl rfl rfl okX0_learn (by decide) rfl (Nat.le_of_ble_eq_true rfl) dX0_impact_12 h (fun w3 h => ?_)
    refine jx_iconst (v := 0) dX0_impact_15 (by decide) ?_
    refine jx_istore_n dX0_impact_16 rfl (Nat.le_of_ble_eq_true rfl) (lv' := [jx_t, jx_i x1, jx_i x2, jx_i 0, none, none]) rfl ?_
    exact h
  · have h := h.1 hc
    refine jx_iconst (v := 0) dX0_impact_9 (by decide) ?_
    exact jx_iret dX0_impact_10 rfl rfl ⟨_, rfl, h⟩
theorem eX0_impact {Φ : Int32 → jx_Wd → Prop} {x1 x2 : Int32} {w : jx_Wd} (h : jx_J MX0_impact (jx_qi Φ) 0 [jx_t, jx_i x1, jx_i x2, none, none, none] [] w) : jx_CI MX0_impact [.inr 0, .inl x1, .inl x2] w Φ := jx_of _ (by decide +kernel) ⟨rfl, rfl⟩ (Nat.le_of_ble_eq_true rfl) rfl h
theorem bX0_impact_17 (Φ : Int32 → jx_Wd → Prop) (x1 x2 x3 : Int32) (w : jx_Wd) (h :
    (49 ≤ x3 → (
      vp_in x1 7 ∧ ∀ v1 : Int32, v1 = w 1 x1.toNatClampNeg → (
      (((v1 >>> (x2 &&& 31)) &&& 1) = 0 → (
        jx_CV MX0_turn [.inr 0, .inl x1, .inl x2, .inl 1] w (fun w2 => (
        jx_CV MX0_learn [.inr 0] w2 (fun w3 => (
        jx_J MX0_impact (jx_qi Φ) 85 [jx_t, jx_i x1, jx_i x2, jx_i 0, jx_i 0, jx_i 0] [] w3
        ))
        ))
      )) ∧ (¬ ((v1 >>> (x2 &&& 31)) &&& 1) = 0 → (
        jx_CV MX0_turn [.inr 0, .inl x1, .inl x2, .inl 0] w (fun w4 => (
        jx_CV MX0_learn [.inr 0] w4 (fun w5 => (
        jx_J MX0_impact (jx_qi Φ) 85 [jx_t, jx_i x1, jx_i x2, jx_i 1, jx_i 0, jx_i 0] [] w5
        ))
        ))
      ))
      )
    )) ∧ (¬ 49 ≤ x3 → (
      vp_in x3 49 ∧ ∀ v6 : Int32, v6 = w 5 x3.toNatClampNeg → (
      vp_in x3 49 ∧ ∀ w7 : jx_Wd, w7 = jx_up w 12 (upd (w 12) x3.toNatClampNeg (vp_nar .byte v6)) → (
      jx_J MX0_impact (jx_qi Φ) 17 [jx_t, jx_i x1, jx_i x2, jx_i (x3 + 1), none, none] [] w7
      )
      )
    ))
    ) : jx_J MX0_impact (jx_qi Φ) 17 [jx_t, jx_i x1, jx_i x2, jx_i x3, none, none] [] w := by
  refine jx_iload_n dX0_impact_17 rfl rfl ?_
  refine jx_bipush (v := 49) dX0_impact_18 (by decide) ?_
  refine jx_icmp_ge (tgt := 41) dX0_impact_20 (by decide) (fun hc => ?_) (fun hc => ?_)
  · have h := h.1 hc
    refine jx_aload_n dX0_impact_41 rfl rfl ?_
    refine jx_getX0 rfl rfl 1 (by decide) rfl q38 (v := .inr 2) (fun _ => rfl) dX0_impact_42 ?_
    refine jx_iload_n dX0_impact_45 rfl rfl ?_
    refine jx_bald 1 1 7 rfl dX0_impact_46 h.1 (fun v1 e_v1 => ?_)
    have h := h.2 v1 e_v1
    refine jx_iload_n dX0_impact_47 rfl rfl ?_
    refine jx_ishr dX0_impact_48 ?_
    refine jx_iconst (v := 1) dX0_impact_49 (by decide) ?_
    refine jx_iand dX0_impact_50 ?_
    refine jx_if_eq (tgt := 58) dX0_impact_51 (by decide) (fun hc => ?_) (fun hc => ?_)
    · have h := h.1 hc
      refine jx_iconst (v := 0) dX0_impact_58 (by decide) ?_
      refine jx_istore_n dX0_impact_59 rfl (Nat.le_of_ble_eq_true rfl) (lv' := [jx_t, jx_i x1, jx_i x2, jx_i 0, none, none]) rfl ?_
      refine jx_aload_n dX0_impact_60 rfl rfl ?_
      refine jx_iload_n dX0_impact_61 rfl rfl ?_
      refine jx_iload_n dX0_impact_62 rfl rfl ?_
      refine jx_iload_n dX0_impact_63 rfl rfl ?_
      refine jx_if_ne (tgt := 71) dX0_impact_64 (by decide) (fun hc => absurd hc (by decide)) (fun hc => ?_)
      refine jx_iconst (v := 1) dX0_impact_67 (by decide) ?_
      refine jx_goto (tgt := 72) dX0_impact_68 (by decide) ?_
      refine jx_callVv (N := MX0_turn) [.inl x1, .inl x2, .inl 1] rfl rfl rfl rfl okX0_turn (by decide) rfl (Nat.le_of_ble_eq_true rfl) dX0_impact_72 h (fun w2 h => ?_)
      refine jx_aload_n dX0_impact_75 rfl rfl ?_
      refine jx_callVv (N := MX0_learn) [] rfl rfl rfl rfl okX0_learn (by decide) rfl (Nat.le_of_ble_eq_true rfl) dX0_impact_76 h (fun w3 h => ?_)
      refine jx_iconst (v := 0) dX0_impact_79 (by decide) ?_
      refine jx_istore dX0_impact_80 (Nat.le_of_ble_eq_true rfl) (lv' := [jx_t, jx_i x1, jx_i x2, jx_i 0, jx_i 0, none]) rfl ?_
      refine jx_iconst (v := 0) dX0_impact_82 (by decide) ?_
      refine jx_istore dX0_impact_83 (Nat.le_of_ble_eq_true rfl) (lv' := [jx_t, jx_i x1, jx_i x2, jx_i 0, jx_i 0, jx_i 0]) rfl ?_
      exact h
    · have h := h.2 hc
      refine jx_iconst (v := 1) dX0_impact_54 (by decide) ?_
      refine jx_goto (tgt := 59) dX0_impact_55 (by decide) ?_
      refine jx_istore_n dX0_impact_59 rfl (Nat.le_of_ble_eq_true rfl) (lv' := [jx_t, jx_i x1, jx_i x2, jx_i 1, none, none]) rfl ?_
      refine jx_aload_n dX0_impact_60 rfl rfl ?_
      refine jx_iload_n dX0_impact_61 rfl rfl ?_
      refine jx_iload_n dX0_impact_62 rfl rfl ?_
      refine jx_iload_n dX0_impact_63 rfl rfl ?_
      refine jx_if_ne (tgt := 71) dX0_impact_64 (by decide) (fun hc => ?_) (fun hc => absurd hc (by decide))
      refine jx_iconst (v := 0) dX0_impact_71 (by decide) ?_
      refine jx_callVv (N := MX0_turn) [.inl x1, .inl x2, .inl 0] rfl rfl rfl rfl okX0_turn (by decide) rfl (Nat.le_of_ble_eq_true rfl) dX0_impact_72 h (fun w4 h => ?_)
      refine jx_aload_n dX0_impact_75 rfl rfl ?_
      refine jx_callVv (N := MX0_learn) [] rfl rfl rfl rfl okX0_learn (by decide) rfl (Nat.le_of_ble_eq_true rfl) dX0_impact_76 h (fun w5 h => ?_)
      refine jx_iconst (v := 0) dX0_impact_79 (by decide) ?_
      refine jx_istore dX0_impact_80 (Nat.le_of_ble_eq_true rfl) (lv' := [jx_t, jx_i x1, jx_i x2, jx_i 1, jx_i 0, none]) rfl ?_
      refine jx_iconst (v := 0) dX0_impact_82 (by decide) ?_
      refine jx_istore dX0_impact_83 (Nat.le_of_ble_eq_true rfl) (lv' := [jx_t, jx_i x1, jx_i x2, jx_i 1, jx_i 0, jx_i 0]) rfl ?_
      exact h
  · have h := h.2 hc
    refine jx_aload_n dX0_impact_23 rfl rfl ?_
    refine jx_getX0 rfl rfl 12 (by decide) rfl q49 (v := .inr 13) (fun _ => rfl) dX0_impact_24 ?_
    refine jx_iload_n dX0_impact_27 rfl rfl ?_
    refine jx_aload_n dX0_impact_28 rfl rfl ?_
    refine jx_getX0 rfl rfl 5 (by decide) rfl q42 (v := .inr 6) (fun _ => rfl) dX0_impact_29 ?_
    refine jx_iload_n dX0_impact_32 rfl rfl ?_
    refine jx_bald 3 5 49 rfl dX0_impact_33 h.1 (fun v6 e_v6 => ?_)
    have h := h.2 v6 e_v6
    refine jx_bast 8 12 49 rfl stX0_12 dX0_impact_34 h.1 (fun w7 e_w7 => ?_)
    have h := h.2 w7 e_w7
    refine jx_iinc (v := x3 + 1) dX0_impact_35 rfl rfl (Nat.le_of_ble_eq_true rfl) (lv' := [jx_t, jx_i x1, jx_i x2, jx_i (x3 + 1), none, none]) rfl ?_
    refine jx_goto (tgt := 17) dX0_impact_38 (by decide) ?_
    exact h
theorem bX0_impact_85 (Φ : Int32 → jx_Wd → Prop) (x1 x2 x3 x4 x5 : Int32) (w : jx_Wd) (h :
    (49 ≤ x5 → (
      jx_CV MX0_turn [.inr 0, .inl x1, .inl x2, .inl x3] w (fun w1 => (
      Φ x4 w1
      ))
    )) ∧ (¬ 49 ≤ x5 → (
      jx_CI MX0_routeDiffers [.inr 0, .inl (x5 / 7), .inl (x5 - x5 / 7 * 7)] w (fun r3 w2 => (
      (r3 = 0 → (
        jx_J MX0_impact (jx_qi Φ) 85 [jx_t, jx_i x1, jx_i x2, jx_i x3, jx_i (x4 + 0), jx_i (x5 + 1)] [] w2
      )) ∧ (¬ r3 = 0 → (
        jx_J MX0_impact (jx_qi Φ) 85 [jx_t, jx_i x1, jx_i x2, jx_i x3, jx_i (x4 + 1), jx_i (x5 + 1)] [] w2
      ))
      ))
    ))
    ) : jx_J MX0_impact (jx_qi Φ) 85 [jx_t, jx_i x1, jx_i x2, jx_i x3, jx_i x4, jx_i x5] [] w := by
  refine jx_iload dX0_impact_85 rfl ?_
  refine jx_bipush (v := 49) dX0_impact_87 (by decide) ?_
  refine jx_icmp_ge (tgt := 125) dX0_impact_89 (by decide) (fun hc => ?_) (fun hc => ?_)
  · have h := h.1 hc
    refine jx_aload_n dX0_impact_125 rfl rfl ?_
    refine jx_iload_n dX0_impact_126 rfl rfl ?_
    refine jx_iload_n dX0_impact_127 rfl rfl ?_
    refine jx_iload_n dX0_impact_128 rfl rfl ?_
    refine jx_callVv (N := MX0_turn) [.inl x1, .inl x2, .inl x3] rfl rfl rfl rfl okX0_turn (by decide) rfl (Nat.le_of_ble_eq_true rfl) dX0_impact_129 h (fun w1 h => ?_)
    refine jx_iload dX0_impact_132 rfl ?_
    exact jx_iret dX0_impact_134 rfl rfl ⟨_, rfl, h⟩
  · have h := h.2 hc
    refine jx_iload dX0_impact_92 rfl ?_
    refine jx_aload_n dX0_impact_94 rfl rfl ?_
    refine jx_iload dX0_impact_95 rfl ?_
    refine jx_bipush (v := 7) dX0_impact_97 (by decide) ?_
    refine jx_idiv dX0_impact_99 (by decide) ?_
    refine jx_iload dX0_impact_100 rfl ?_
    refine jx_bipush (v := 7) dX0_impact_102 (by decide) ?_
    refine jx_irem dX0_impact_104 (by decide) ?_
    refine jx_callVi (N := MX0_routeDiffers) [.inl (x5 / 7), .inl (x5 - x5 / 7 * 7)] rfl rfl rfl rfl okX0_routeDiffers (by decide) rfl (Nat.le_of_ble_eq_true rfl) dX0_impact_105 h (fun r3 w2 h => ?_)
    refine jx_if_eq (tgt := 115) dX0_impact_108 (by decide) (fun hc => ?_) (fun hc => ?_)
    · have h := h.1 hc
      refine jx_iconst (v := 0) dX0_impact_115 (by decide) ?_
      refine jx_iadd dX0_impact_116 ?_
      refine jx_istore dX0_impact_117 (Nat.le_of_ble_eq_true rfl) (lv' := [jx_t, jx_i x1, jx_i x2, jx_i x3, jx_i (x4 + 0), jx_i x5]) rfl ?_
      refine jx_iinc (v := x5 + 1) dX0_impact_119 rfl rfl (Nat.le_of_ble_eq_true rfl) (lv' := [jx_t, jx_i x1, jx_i x2, jx_i x3, jx_i (x4 + 0), jx_i (x5 + 1)]) rfl ?_
      refine jx_goto (tgt := 85) dX0_impact_122 (by decide) ?_
      exact h
    · have h := h.2 hc
      refine jx_iconst (v := 1) dX0_impact_111 (by decide) ?_
      refine jx_goto (tgt := 116) dX0_impact_112 (by decide) ?_
      refine jx_iadd dX0_impact_116 ?_
      refine jx_istore dX0_impact_117 (Nat.le_of_ble_eq_true rfl) (lv' := [jx_t, jx_i x1, jx_i x2, jx_i x3, jx_i (x4 + 1), jx_i x5]) rfl ?_
      refine jx_iinc (v := x5 + 1) dX0_impact_119 rfl rfl (Nat.le_of_ble_eq_true rfl) (lv' := [jx_t, jx_i x1, jx_i x2, jx_i x3, jx_i (x4 + 1), jx_i (x5 + 1)]) rfl ?_
      refine jx_goto (tgt := 85) dX0_impact_122 (by decide) ?_
      exact h
end
section
/-! THE WALKS of LabelNetModel, by a program: what each asks from its entry and from each loop's head -/
set_option maxRecDepth 100000
def fsX1 (g : Nat → Nat) (w : jx_Wd) : List Value := [.ref (g 1), .ref (g 2), .ref (g 3), .ref (g 4), .ref (g 5)]
def arX1 : List (Nat × FieldType × Nat) := [(0, .int, 49), (1, .boolean, 49), (2, .boolean, 7), (3, .int, 49), (4, .int, 49)]
def SX1 : jx_S := (1, (RX1, TX1, 5), fsX1, arX1)
theorem stX1_0 : ∀ (g : Nat → Nat) (ct : Nat → ClassId) (w : jx_Wd) (f : Nat → Int32), (jx_W SX1 g ct w).set (0 + 1) (g (0 + 1), .inl (ct 0, 49, .inl f)) = jx_W SX1 g ct (jx_up w 0 f) := fun _ _ _ _ => rfl
theorem stX1_1 : ∀ (g : Nat → Nat) (ct : Nat → ClassId) (w : jx_Wd) (f : Nat → Int32), (jx_W SX1 g ct w).set (1 + 1) (g (1 + 1), .inl (ct 1, 49, .inl f)) = jx_W SX1 g ct (jx_up w 1 f) := fun _ _ _ _ => rfl
theorem stX1_2 : ∀ (g : Nat → Nat) (ct : Nat → ClassId) (w : jx_Wd) (f : Nat → Int32), (jx_W SX1 g ct w).set (2 + 1) (g (2 + 1), .inl (ct 2, 7, .inl f)) = jx_W SX1 g ct (jx_up w 2 f) := fun _ _ _ _ => rfl
theorem stX1_3 : ∀ (g : Nat → Nat) (ct : Nat → ClassId) (w : jx_Wd) (f : Nat → Int32), (jx_W SX1 g ct w).set (3 + 1) (g (3 + 1), .inl (ct 3, 49, .inl f)) = jx_W SX1 g ct (jx_up w 3 f) := fun _ _ _ _ => rfl
theorem stX1_4 : ∀ (g : Nat → Nat) (ct : Nat → ClassId) (w : jx_Wd) (f : Nat → Int32), (jx_W SX1 g ct w).set (4 + 1) (g (4 + 1), .inl (ct 4, 49, .inl f)) = jx_W SX1 g ct (jx_up w 4 f) := fun _ _ _ _ => rfl
def MX1_router : jx_M := (SX1, yX1_router, cX1_router, 2, some .boolean, { frames := 0, cells := 0, slots := 0, locals := 0 })
theorem okX1_router : jx_okV MX1_router RX1 26 1 := ⟨lw_V q235 q237 qs15 q28 q238, by decide +kernel, rfl, rfl⟩
def MX1_join : jx_M := (SX1, yX1_join, cX1_join, 4, some .boolean, { frames := 1, cells := 0, slots := 0, locals := 21 })
def MX1_link : jx_M := (SX1, yX1_link, cX1_link, 3, some .boolean, { frames := 1, cells := 0, slots := 0, locals := 21 })
theorem okX1_link : jx_okV MX1_link RX1 30 2 := ⟨lw_V q243 q245 qs16 q28 q246, by decide +kernel, rfl, rfl⟩
def MX1_cut : jx_M := (SX1, yX1_cut, cX1_cut, 3, some .boolean, { frames := 2, cells := 0, slots := 0, locals := 43 })
def MX1_setLink : jx_M := (SX1, yX1_setLink, cX1_setLink, 4, some .boolean, { frames := 2, cells := 0, slots := 0, locals := 43 })
theorem okX1_setLink : jx_okV MX1_setLink RX1 65 3 := ⟨lw_V q335 q248 q249 q28 q250, by decide +kernel, rfl, rfl⟩
def MX1_setRouter : jx_M := (SX1, yX1_setRouter, cX1_setRouter, 3, some .boolean, { frames := 1, cells := 0, slots := 0, locals := 21 })
def MX1_cost : jx_M := (SX1, yX1_cost, cX1_cost, 3, some .int, { frames := 2, cells := 0, slots := 0, locals := 43 })
def MX1_counts : jx_M := (SX1, yX1_counts, cX1_counts, 3, some .boolean, { frames := 2, cells := 0, slots := 0, locals := 43 })
theorem okX1_counts : jx_okV MX1_counts RX1 38 2 := ⟨lw_V q271 q273 qs19 q28 q274, by decide +kernel, rfl, rfl⟩
def MX1_lower : jx_M := (SX1, yX1_lower, cX1_lower, 4, none, { frames := 3, cells := 0, slots := 0, locals := 65 })
theorem okX1_lower : jx_okV MX1_lower RX1 34 2 := ⟨lw_V q267 q269 qs18 q28 q270, by decide +kernel, rfl, rfl⟩
def MX1_work : jx_M := (SX1, yX1_work, cX1_work, 3, none, { frames := 4, cells := 0, slots := 0, locals := 88 })
theorem okX1_work : jx_okV MX1_work RX1 41 0 := ⟨lw_V q263 q265 qs17 q28 q266, by decide +kernel, rfl, rfl⟩
def MX1_has : jx_M := (SX1, yX1_has, cX1_has, 3, some .boolean, { frames := 1, cells := 0, slots := 0, locals := 21 })
theorem okX1_has : jx_okV MX1_has RX1 44 2 := ⟨lw_V q275 q277 qs20 q28 q278, by decide +kernel, rfl, rfl⟩
def MX1_distance : jx_M := (SX1, yX1_distance, cX1_distance, 3, some .int, { frames := 5, cells := 0, slots := 0, locals := 110 })
def MX1_hop : jx_M := (SX1, yX1_hop, cX1_hop, 4, some .int, { frames := 3, cells := 0, slots := 0, locals := 65 })
theorem okX1_hop : jx_okV MX1_hop RX1 47 2 := ⟨lw_V q283 q285 qs21 q28 q286, by decide +kernel, rfl, rfl⟩
def MX1_nextHop : jx_M := (SX1, yX1_nextHop, cX1_nextHop, 3, some .int, { frames := 5, cells := 0, slots := 0, locals := 110 })
def MX1_count : jx_M := (SX1, yX1_count, cX1_count, 5, some .int, { frames := 4, cells := 0, slots := 0, locals := 88 })
theorem okX1_count : jx_okV MX1_count RX1 51 2 := ⟨lw_V q291 q293 qs22 q28 q294, by decide +kernel, rfl, rfl⟩
def MX1_hops : jx_M := (SX1, yX1_hops, cX1_hops, 3, some .int, { frames := 5, cells := 0, slots := 0, locals := 112 })
def MX1_walk : jx_M := (SX1, yX1_walk, cX1_walk, 6, some .int, { frames := 4, cells := 0, slots := 0, locals := 88 })
theorem okX1_walk : jx_okV MX1_walk RX1 54 3 := ⟨lw_V q299 q301 qs23 q28 q302, by decide +kernel, rfl, rfl⟩
def MX1_routeAt : jx_M := (SX1, yX1_routeAt, cX1_routeAt, 4, some .int, { frames := 5, cells := 0, slots := 0, locals := 113 })
def MX1_after : jx_M := (SX1, yX1_after, cX1_after, 4, some .int, { frames := 5, cells := 0, slots := 0, locals := 113 })
def MX1_passes : jx_M := (SX1, yX1_passes, cX1_passes, 9, some .boolean, { frames := 5, cells := 0, slots := 0, locals := 113 })
theorem okX1_passes : jx_okV MX1_passes RX1 58 4 := ⟨lw_V q311 q313 qs24 q28 q314, by decide +kernel, rfl, rfl⟩
def MX1_load : jx_M := (SX1, yX1_load, cX1_load, 6, some .int, { frames := 6, cells := 0, slots := 0, locals := 141 })
def MX1_linkLoad : jx_M := (SX1, yX1_linkLoad, cX1_linkLoad, 7, some .int, { frames := 6, cells := 0, slots := 0, locals := 141 })
def MX1_reachable : jx_M := (SX1, yX1_reachable, cX1_reachable, 4, some .int, { frames := 5, cells := 0, slots := 0, locals := 110 })
def MX1_farthest : jx_M := (SX1, yX1_farthest, cX1_farthest, 4, some .int, { frames := 5, cells := 0, slots := 0, locals := 110 })
def MX1_route : jx_M := (SX1, yX1_route, cX1_route, 6, some .int, { frames := 5, cells := 0, slots := 0, locals := 113 })
theorem okX1_route : jx_okV MX1_route RX1 62 2 := ⟨lw_V q331 q333 qs25 q28 q334, by decide +kernel, rfl, rfl⟩
def MX1_impact : jx_M := (SX1, yX1_impact, cX1_impact, 6, some .int, { frames := 6, cells := 0, slots := 0, locals := 138 })
theorem bX1_router_0 (Φ : Int32 → jx_Wd → Prop) (x1 : Int32) (w : jx_Wd) (h :
    (x1 < 0 → (
      Φ 0 w
    )) ∧ (¬ x1 < 0 → (
      (7 ≤ x1 → (
        Φ 0 w
      )) ∧ (¬ 7 ≤ x1 → (
        Φ 1 w
      ))
    ))
    ) : jx_J MX1_router (jx_qi Φ) 0 [jx_t, jx_i x1] [] w := by
  refine jx_iload_n dX1_router_0 rfl rfl ?_
  refine jx_if_lt (tgt := 14) dX1_router_1 (by decide) (fun hc => ?_) (fun hc => ?_)
  · have h := h.1 hc
    refine jx_iconst (v := 0) dX1_router_14 (by decide) ?_
    exact jx_iret dX1_router_15 rfl rfl ⟨_, rfl, h⟩
  · have h := h.2 hc
    refine jx_iload_n dX1_router_4 rfl rfl ?_
    refine jx_bipush (v := 7) dX1_router_5 (by decide) ?_
    refine jx_icmp_ge (tgt := 14) dX1_router_7 (by decide) (fun hc => ?_) (fun hc => ?_)
    · have h := h.1 hc
      refine jx_iconst (v := 0) dX1_router_14 (by decide) ?_
      exact jx_iret dX1_router_15 rfl rfl ⟨_, rfl, h⟩
    · have h := h.2 hc
      refine jx_iconst (v := 1) dX1_router_10 (by decide) ?_
      refine jx_goto (tgt := 15) dX1_router_11 (by decide) ?_
      exact jx_iret dX1_router_15 rfl rfl ⟨_, rfl, h⟩
theorem eX1_router {Φ : Int32 → jx_Wd → Prop} {x1 : Int32} {w : jx_Wd} (h : jx_J MX1_router (jx_qi Φ) 0 [jx_t, jx_i x1] [] w) : jx_CI MX1_router [.inr 0, .inl x1] w Φ := jx_of _ (by decide +kernel) ⟨rfl, rfl⟩ (Nat.le_of_ble_eq_true rfl) rfl h
theorem bX1_join_0 (Φ : Int32 → jx_Wd → Prop) (x1 x2 x3 : Int32) (w : jx_Wd) (h :
    (x1 = x2 → (
      Φ 0 w
    )) ∧ (¬ x1 = x2 → (
      jx_CI MX1_router [.inr 0, .inl x1] w (fun r2 w1 => (
      (r2 = 0 → (
        Φ 0 w1
      )) ∧ (¬ r2 = 0 → (
        jx_CI MX1_router [.inr 0, .inl x2] w1 (fun r4 w3 => (
        (r4 = 0 → (
          Φ 0 w3
        )) ∧ (¬ r4 = 0 → (
          (x3 < 1 → (
            Φ 0 w3
          )) ∧ (¬ x3 < 1 → (
            (x3 ≤ 9 → (
              vp_in ((7 * x1) + x2) 49 ∧ ∀ w5 : jx_Wd, w5 = jx_up w3 0 (upd (w3 0) ((7 * x1) + x2).toNatClampNeg x3) → (
              vp_in ((7 * x2) + x1) 49 ∧ ∀ w6 : jx_Wd, w6 = jx_up w5 0 (upd (w5 0) ((7 * x2) + x1).toNatClampNeg x3) → (
              vp_in ((7 * x1) + x2) 49 ∧ ∀ w7 : jx_Wd, w7 = jx_up w6 1 (upd (w6 1) ((7 * x1) + x2).toNatClampNeg (vp_nar .boolean 1)) → (
              vp_in ((7 * x2) + x1) 49 ∧ ∀ w8 : jx_Wd, w8 = jx_up w7 1 (upd (w7 1) ((7 * x2) + x1).toNatClampNeg (vp_nar .boolean 1)) → (
              Φ 1 w8
              )
              )
              )
              )
            )) ∧ (¬ x3 ≤ 9 → (
              Φ 0 w3
            ))
          ))
        ))
        ))
      ))
      ))
    ))
    ) : jx_J MX1_join (jx_qi Φ) 0 [jx_t, jx_i x1, jx_i x2, jx_i x3] [] w := by
  refine jx_iload_n dX1_join_0 rfl rfl ?_
  refine jx_iload_n dX1_join_1 rfl rfl ?_
  refine jx_icmp_eq (tgt := 32) dX1_join_2 (by decide) (fun hc => ?_) (fun hc => ?_)
  · have h := h.1 hc
    refine jx_iconst (v := 0) dX1_join_32 (by decide) ?_
    exact jx_iret dX1_join_33 rfl rfl ⟨_, rfl, h⟩
  · have h := h.2 hc
    refine jx_aload_n dX1_join_5 rfl rfl ?_
    refine jx_iload_n dX1_join_6 rfl rfl ?_
    refine jx_callVi (N := MX1_router) [.inl x1] rfl rfl rfl rfl okX1_router (by decide) rfl (Nat.le_of_ble_eq_true rfl) dX1_join_7 h (fun r2 w1 h => ?_)
    refine jx_if_eq (tgt := 32) dX1_join_10 (by decide) (fun hc => ?_) (fun hc => ?_)
    · have h := h.1 hc
      refine jx_iconst (v := 0) dX1_join_32 (by decide) ?_
      exact jx_iret dX1_join_33 rfl rfl ⟨_, rfl, h⟩
    · have h := h.2 hc
      refine jx_aload_n dX1_join_13 rfl rfl ?_
      refine jx_iload_n dX1_join_14 rfl rfl ?_
      refine jx_callVi (N := MX1_router) [.inl x2] rfl rfl rfl rfl okX1_router (by decide) rfl (Nat.le_of_ble_eq_true rfl) dX1_join_15 h (fun r4 w3 h => ?_)
      refine jx_if_eq (tgt := 32) dX1_join_18 (by decide) (fun hc => ?_) (fun hc => ?_)
      · have h := h.1 hc
        refine jx_iconst (v := 0) dX1_join_32 (by decide) ?_
        exact jx_iret dX1_join_33 rfl rfl ⟨_, rfl, h⟩
      · have h := h.2 hc
        refine jx_iload_n dX1_join_21 rfl rfl ?_
        refine jx_iconst (v := 1) dX1_join_22 (by decide) ?_
        refine jx_icmp_lt (tgt := 32) dX1_join_23 (by decide) (fun hc => ?_) (fun hc => ?_)
        · have h := h.1 hc
          refine jx_iconst (v := 0) dX1_join_32 (by decide) ?_
          exact jx_iret dX1_join_33 rfl rfl ⟨_, rfl, h⟩
        · have h := h.2 hc
          refine jx_iload_n dX1_join_26 rfl rfl ?_
          refine jx_bipush (v := 9) dX1_join_27 (by decide) ?_
          refine jx_icmp_le (tgt := 34) dX1_join_29 (by decide) (fun hc => ?_) (fun hc => ?_)
          · have h := h.1 hc
            refine jx_aload_n dX1_join_34 rfl rfl ?_
            refine jx_getX1 rfl rfl 0 (by decide) rfl q214 (v := .inr 1) (fun _ => rfl) dX1_join_35 ?_
            refine jx_bipush (v := 7) dX1_join_38 (by decide) ?_
            refine jx_iload_n dX1_join_40 rfl rfl ?_
            refine jx_imul dX1_join_41 ?_
            refine jx_iload_n dX1_join_42 rfl rfl ?_
            refine jx_iadd dX1_join_43 ?_
            refine jx_iload_n dX1_join_44 rfl rfl ?_
            refine jx_iast 0 0 49 rfl stX1_0 dX1_join_45 h.1 (fun w5 e_w5 => ?_)
            have h := h.2 w5 e_w5
            refine jx_aload_n dX1_join_46 rfl rfl ?_
            refine jx_getX1 rfl rfl 0 (by decide) rfl q214 (v := .inr 1) (fun _ => rfl) dX1_join_47 ?_
            refine jx_bipush (v := 7) dX1_join_50 (by decide) ?_
            refine jx_iload_n dX1_join_52 rfl rfl ?_
            refine jx_imul dX1_join_53 ?_
            refine jx_iload_n dX1_join_54 rfl rfl ?_
            refine jx_iadd dX1_join_55 ?_
            refine jx_iload_n dX1_join_56 rfl rfl ?_
            refine jx_iast 0 0 49 rfl stX1_0 dX1_join_57 h.1 (fun w6 e_w6 => ?_)
            have h := h.2 w6 e_w6
            refine jx_aload_n dX1_join_58 rfl rfl ?_
            refine jx_getX1 rfl rfl 1 (by decide) rfl q215 (v := .inr 2) (fun _ => rfl) dX1_join_59 ?_
            refine jx_bipush (v := 7) dX1_join_62 (by decide) ?_
            refine jx_iload_n dX1_join_64 rfl rfl ?_
            refine jx_imul dX1_join_65 ?_
            refine jx_iload_n dX1_join_66 rfl rfl ?_
            refine jx_iadd dX1_join_67 ?_
            refine jx_iconst (v := 1) dX1_join_68 (by decide) ?_
            refine jx_zast 1 1 49 rfl stX1_1 dX1_join_69 h.1 (fun w7 e_w7 => ?_)
            have h := h.2 w7 e_w7
            refine jx_aload_n dX1_join_70 rfl rfl ?_
            refine jx_getX1 rfl rfl 1 (by decide) rfl q215 (v := .inr 2) (fun _ => rfl) dX1_join_71 ?_
            refine jx_bipush (v := 7) dX1_join_74 (by decide) ?_
            refine jx_iload_n dX1_join_76 rfl rfl ?_
            refine jx_imul dX1_join_77 ?_
            refine jx_iload_n dX1_join_78 rfl rfl ?_
            refine jx_iadd dX1_join_79 ?_
            refine jx_iconst (v := 1) dX1_join_80 (by decide) ?_
            refine jx_zast 1 1 49 rfl stX1_1 dX1_join_81 h.1 (fun w8 e_w8 => ?_)
            have h := h.2 w8 e_w8
            refine jx_iconst (v := 1) dX1_join_82 (by decide) ?_
            exact jx_iret dX1_join_83 rfl rfl ⟨_, rfl, h⟩
          · have h := h.2 hc
            refine jx_iconst (v := 0) dX1_join_32 (by decide) ?_
            exact jx_iret dX1_join_33 rfl rfl ⟨_, rfl, h⟩
theorem eX1_join {Φ : Int32 → jx_Wd → Prop} {x1 x2 x3 : Int32} {w : jx_Wd} (h : jx_J MX1_join (jx_qi Φ) 0 [jx_t, jx_i x1, jx_i x2, jx_i x3] [] w) : jx_CI MX1_join [.inr 0, .inl x1, .inl x2, .inl x3] w Φ := jx_of _ (by decide +kernel) ⟨rfl, rfl⟩ (Nat.le_of_ble_eq_true rfl) rfl h
theorem bX1_link_0 (Φ : Int32 → jx_Wd → Prop) (x1 x2 : Int32) (w : jx_Wd) (h :
    jx_CI MX1_router [.inr 0, .inl x1] w (fun r2 w1 => (
    (r2 = 0 → (
      Φ 0 w1
    )) ∧ (¬ r2 = 0 → (
      jx_CI MX1_router [.inr 0, .inl x2] w1 (fun r4 w3 => (
      (r4 = 0 → (
        Φ 0 w3
      )) ∧ (¬ r4 = 0 → (
        vp_in ((7 * x1) + x2) 49 ∧ ∀ v5 : Int32, v5 = w3 0 ((7 * x1) + x2).toNatClampNeg → (
        (v5 ≤ 0 → (
          Φ 0 w3
        )) ∧ (¬ v5 ≤ 0 → (
          Φ 1 w3
        ))
        )
      ))
      ))
    ))
    ))
    ) : jx_J MX1_link (jx_qi Φ) 0 [jx_t, jx_i x1, jx_i x2] [] w := by
  refine jx_aload_n dX1_link_0 rfl rfl ?_
  refine jx_iload_n dX1_link_1 rfl rfl ?_
  refine jx_callVi (N := MX1_router) [.inl x1] rfl rfl rfl rfl okX1_router (by decide) rfl (Nat.le_of_ble_eq_true rfl) dX1_link_2 h (fun r2 w1 h => ?_)
  refine jx_if_eq (tgt := 34) dX1_link_5 (by decide) (fun hc => ?_) (fun hc => ?_)
  · have h := h.1 hc
    refine jx_iconst (v := 0) dX1_link_34 (by decide) ?_
    exact jx_iret dX1_link_35 rfl rfl ⟨_, rfl, h⟩
  · have h := h.2 hc
    refine jx_aload_n dX1_link_8 rfl rfl ?_
    refine jx_iload_n dX1_link_9 rfl rfl ?_
    refine jx_callVi (N := MX1_router) [.inl x2] rfl rfl rfl rfl okX1_router (by decide) rfl (Nat.le_of_ble_eq_true rfl) dX1_link_10 h (fun r4 w3 h => ?_)
    refine jx_if_eq (tgt := 34) dX1_link_13 (by decide) (fun hc => ?_) (fun hc => ?_)
    · have h := h.1 hc
      refine jx_iconst (v := 0) dX1_link_34 (by decide) ?_
      exact jx_iret dX1_link_35 rfl rfl ⟨_, rfl, h⟩
    · have h := h.2 hc
      refine jx_aload_n dX1_link_16 rfl rfl ?_
      refine jx_getX1 rfl rfl 0 (by decide) rfl q214 (v := .inr 1) (fun _ => rfl) dX1_link_17 ?_
      refine jx_bipush (v := 7) dX1_link_20 (by decide) ?_
      refine jx_iload_n dX1_link_22 rfl rfl ?_
      refine jx_imul dX1_link_23 ?_
      refine jx_iload_n dX1_link_24 rfl rfl ?_
      refine jx_iadd dX1_link_25 ?_
      refine jx_iald 0 0 49 rfl dX1_link_26 h.1 (fun v5 e_v5 => ?_)
      have h := h.2 v5 e_v5
      refine jx_if_le (tgt := 34) dX1_link_27 (by decide) (fun hc => ?_) (fun hc => ?_)
      · have h := h.1 hc
        refine jx_iconst (v := 0) dX1_link_34 (by decide) ?_
        exact jx_iret dX1_link_35 rfl rfl ⟨_, rfl, h⟩
      · have h := h.2 hc
        refine jx_iconst (v := 1) dX1_link_30 (by decide) ?_
        refine jx_goto (tgt := 35) dX1_link_31 (by decide) ?_
        exact jx_iret dX1_link_35 rfl rfl ⟨_, rfl, h⟩
theorem eX1_link {Φ : Int32 → jx_Wd → Prop} {x1 x2 : Int32} {w : jx_Wd} (h : jx_J MX1_link (jx_qi Φ) 0 [jx_t, jx_i x1, jx_i x2] [] w) : jx_CI MX1_link [.inr 0, .inl x1, .inl x2] w Φ := jx_of _ (by decide +kernel) ⟨rfl, rfl⟩ (Nat.le_of_ble_eq_true rfl) rfl h
theorem bX1_cut_0 (Φ : Int32 → jx_Wd → Prop) (x1 x2 : Int32) (w : jx_Wd) (h :
    jx_CI MX1_link [.inr 0, .inl x1, .inl x2] w (fun r2 w1 => (
    (r2 = 0 → (
      Φ 0 w1
    )) ∧ (¬ r2 = 0 → (
      vp_in ((7 * x1) + x2) 49 ∧ ∀ w3 : jx_Wd, w3 = jx_up w1 0 (upd (w1 0) ((7 * x1) + x2).toNatClampNeg 0) → (
      vp_in ((7 * x2) + x1) 49 ∧ ∀ w4 : jx_Wd, w4 = jx_up w3 0 (upd (w3 0) ((7 * x2) + x1).toNatClampNeg 0) → (
      Φ 1 w4
      )
      )
    ))
    ))
    ) : jx_J MX1_cut (jx_qi Φ) 0 [jx_t, jx_i x1, jx_i x2] [] w := by
  refine jx_aload_n dX1_cut_0 rfl rfl ?_
  refine jx_iload_n dX1_cut_1 rfl rfl ?_
  refine jx_iload_n dX1_cut_2 rfl rfl ?_
  refine jx_callVi (N := MX1_link) [.inl x1, .inl x2] rfl rfl rfl rfl okX1_link (by decide) rfl (Nat.le_of_ble_eq_true rfl) dX1_cut_3 h (fun r2 w1 h => ?_)
  refine jx_if_ne (tgt := 11) dX1_cut_6 (by decide) (fun hc => ?_) (fun hc => ?_)
  · have h := h.2 hc
    refine jx_aload_n dX1_cut_11 rfl rfl ?_
    refine jx_getX1 rfl rfl 0 (by decide) rfl q214 (v := .inr 1) (fun _ => rfl) dX1_cut_12 ?_
    refine jx_bipush (v := 7) dX1_cut_15 (by decide) ?_
    refine jx_iload_n dX1_cut_17 rfl rfl ?_
    refine jx_imul dX1_cut_18 ?_
    refine jx_iload_n dX1_cut_19 rfl rfl ?_
    refine jx_iadd dX1_cut_20 ?_
    refine jx_iconst (v := 0) dX1_cut_21 (by decide) ?_
    refine jx_iast 0 0 49 rfl stX1_0 dX1_cut_22 h.1 (fun w3 e_w3 => ?_)
    have h := h.2 w3 e_w3
    refine jx_aload_n dX1_cut_23 rfl rfl ?_
    refine jx_getX1 rfl rfl 0 (by decide) rfl q214 (v := .inr 1) (fun _ => rfl) dX1_cut_24 ?_
    refine jx_bipush (v := 7) dX1_cut_27 (by decide) ?_
    refine jx_iload_n dX1_cut_29 rfl rfl ?_
    refine jx_imul dX1_cut_30 ?_
    refine jx_iload_n dX1_cut_31 rfl rfl ?_
    refine jx_iadd dX1_cut_32 ?_
    refine jx_iconst (v := 0) dX1_cut_33 (by decide) ?_
    refine jx_iast 0 0 49 rfl stX1_0 dX1_cut_34 h.1 (fun w4 e_w4 => ?_)
    have h := h.2 w4 e_w4
    refine jx_iconst (v := 1) dX1_cut_35 (by decide) ?_
    exact jx_iret dX1_cut_36 rfl rfl ⟨_, rfl, h⟩
  · have h := h.1 hc
    refine jx_iconst (v := 0) dX1_cut_9 (by decide) ?_
    exact jx_iret dX1_cut_10 rfl rfl ⟨_, rfl, h⟩
theorem eX1_cut {Φ : Int32 → jx_Wd → Prop} {x1 x2 : Int32} {w : jx_Wd} (h : jx_J MX1_cut (jx_qi Φ) 0 [jx_t, jx_i x1, jx_i x2] [] w) : jx_CI MX1_cut [.inr 0, .inl x1, .inl x2] w Φ := jx_of _ (by decide +kernel) ⟨rfl, rfl⟩ (Nat.le_of_ble_eq_true rfl) rfl h
theorem bX1_setLink_0 (Φ : Int32 → jx_Wd → Prop) (x1 x2 x3 : Int32) (w : jx_Wd) (h :
    jx_CI MX1_link [.inr 0, .inl x1, .inl x2] w (fun r2 w1 => (
    (r2 = 0 → (
      Φ 0 w1
    )) ∧ (¬ r2 = 0 → (
      vp_in ((7 * x1) + x2) 49 ∧ ∀ w3 : jx_Wd, w3 = jx_up w1 1 (upd (w1 1) ((7 * x1) + x2).toNatClampNeg (vp_nar .boolean x3)) → (
      vp_in ((7 * x2) + x1) 49 ∧ ∀ w4 : jx_Wd, w4 = jx_up w3 1 (upd (w3 1) ((7 * x2) + x1).toNatClampNeg (vp_nar .boolean x3)) → (
      Φ 1 w4
      )
      )
    ))
    ))
    ) : jx_J MX1_setLink (jx_qi Φ) 0 [jx_t, jx_i x1, jx_i x2, jx_i x3] [] w := by
  refine jx_aload_n dX1_setLink_0 rfl rfl ?_
  refine jx_iload_n dX1_setLink_1 rfl rfl ?_
  refine jx_iload_n dX1_setLink_2 rfl rfl ?_
  refine jx_callVi (N := MX1_link) [.inl x1, .inl x2] rfl rfl rfl rfl okX1_link (by decide) rfl (Nat.le_of_ble_eq_true rfl) dX1_setLink_3 h (fun r2 w1 h => ?_)
  refine jx_if_ne (tgt := 11) dX1_setLink_6 (by decide) (fun hc => ?_) (fun hc => ?_)
  · have h := h.2 hc
    refine jx_aload_n dX1_setLink_11 rfl rfl ?_
    refine jx_getX1 rfl rfl 1 (by decide) rfl q215 (v := .inr 2) (fun _ => rfl) dX1_setLink_12 ?_
    refine jx_bipush (v := 7) dX1_setLink_15 (by decide) ?_
    refine jx_iload_n dX1_setLink_17 rfl rfl ?_
    refine jx_imul dX1_setLink_18 ?_
    refine jx_iload_n dX1_setLink_19 rfl rfl ?_
    refine jx_iadd dX1_setLink_20 ?_
    refine jx_iload_n dX1_setLink_21 rfl rfl ?_
    refine jx_zast 1 1 49 rfl stX1_1 dX1_setLink_22 h.1 (fun w3 e_w3 => ?_)
    have h := h.2 w3 e_w3
    refine jx_aload_n dX1_setLink_23 rfl rfl ?_
    refine jx_getX1 rfl rfl 1 (by decide) rfl q215 (v := .inr 2) (fun _ => rfl) dX1_setLink_24 ?_
    refine jx_bipush (v := 7) dX1_setLink_27 (by decide) ?_
    refine jx_iload_n dX1_setLink_29 rfl rfl ?_
    refine jx_imul dX1_setLink_30 ?_
    refine jx_iload_n dX1_setLink_31 rfl rfl ?_
    refine jx_iadd dX1_setLink_32 ?_
    refine jx_iload_n dX1_setLink_33 rfl rfl ?_
    refine jx_zast 1 1 49 rfl stX1_1 dX1_setLink_34 h.1 (fun w4 e_w4 => ?_)
    have h := h.2 w4 e_w4
    refine jx_iconst (v := 1) dX1_setLink_35 (by decide) ?_
    exact jx_iret dX1_setLink_36 rfl rfl ⟨_, rfl, h⟩
  · have h := h.1 hc
    refine jx_iconst (v := 0) dX1_setLink_9 (by decide) ?_
    exact jx_iret dX1_setLink_10 rfl rfl ⟨_, rfl, h⟩
theorem eX1_setLink {Φ : Int32 → jx_Wd → Prop} {x1 x2 x3 : Int32} {w : jx_Wd} (h : jx_J MX1_setLink (jx_qi Φ) 0 [jx_t, jx_i x1, jx_i x2, jx_i x3] [] w) : jx_CI MX1_setLink [.inr 0, .inl x1, .inl x2, .inl x3] w Φ := jx_of _ (by decide +kernel) ⟨rfl, rfl⟩ (Nat.le_of_ble_eq_true rfl) rfl h
theorem bX1_setRouter_0 (Φ : Int32 → jx_Wd → Prop) (x1 x2 : Int32) (w : jx_Wd) (h :
    jx_CI MX1_router [.inr 0, .inl x1] w (fun r2 w1 => (
    (r2 = 0 → (
      Φ 0 w1
    )) ∧ (¬ r2 = 0 → (
      vp_in x1 7 ∧ ∀ w3 : jx_Wd, w3 = jx_up w1 2 (upd (w1 2) x1.toNatClampNeg (vp_nar .boolean x2)) → (
      Φ 1 w3
      )
    ))
    ))
    ) : jx_J MX1_setRouter (jx_qi Φ) 0 [jx_t, jx_i x1, jx_i x2] [] w := by
  refine jx_aload_n dX1_setRouter_0 rfl rfl ?_
  refine jx_iload_n dX1_setRouter_1 rfl rfl ?_
  refine jx_callVi (N := MX1_router) [.inl x1] rfl rfl rfl rfl okX1_router (by decide) rfl (Nat.le_of_ble_eq_true rfl) dX1_setRouter_2 h (fun r2 w1 h => ?_)
  refine jx_if_ne (tgt := 10) dX1_setRouter_5 (by decide) (fun hc => ?_) (fun hc => ?_)
  · have h := h.2 hc
    refine jx_aload_n dX1_setRouter_10 rfl rfl ?_
    refine jx_getX1 rfl rfl 2 (by decide) rfl q216 (v := .inr 3) (fun _ => rfl) dX1_setRouter_11 ?_
    refine jx_iload_n dX1_setRouter_14 rfl rfl ?_
    refine jx_iload_n dX1_setRouter_15 rfl rfl ?_
    refine jx_zast 2 2 7 rfl stX1_2 dX1_setRouter_16 h.1 (fun w3 e_w3 => ?_)
    have h := h.2 w3 e_w3
    refine jx_iconst (v := 1) dX1_setRouter_17 (by decide) ?_
    exact jx_iret dX1_setRouter_18 rfl rfl ⟨_, rfl, h⟩
  · have h := h.1 hc
    refine jx_iconst (v := 0) dX1_setRouter_8 (by decide) ?_
    exact jx_iret dX1_setRouter_9 rfl rfl ⟨_, rfl, h⟩
theorem eX1_setRouter {Φ : Int32 → jx_Wd → Prop} {x1 x2 : Int32} {w : jx_Wd} (h : jx_J MX1_setRouter (jx_qi Φ) 0 [jx_t, jx_i x1, jx_i x2] [] w) : jx_CI MX1_setRouter [.inr 0, .inl x1, .inl x2] w Φ := jx_of _ (by decide +kernel) ⟨rfl, rfl⟩ (Nat.le_of_ble_eq_true rfl) rfl h
theorem bX1_cost_0 (Φ : Int32 → jx_Wd → Prop) (x1 x2 : Int32) (w : jx_Wd) (h :
    jx_CI MX1_link [.inr 0, .inl x1, .inl x2] w (fun r2 w1 => (
    (r2 = 0 → (
      Φ (-1) w1
    )) ∧ (¬ r2 = 0 → (
      vp_in ((7 * x1) + x2) 49 ∧ ∀ v3 : Int32, v3 = w1 0 ((7 * x1) + x2).toNatClampNeg → (
      Φ v3 w1
      )
    ))
    ))
    ) : jx_J MX1_cost (jx_qi Φ) 0 [jx_t, jx_i x1, jx_i x2] [] w := by
  refine jx_aload_n dX1_cost_0 rfl rfl ?_
  refine jx_iload_n dX1_cost_1 rfl rfl ?_
  refine jx_iload_n dX1_cost_2 rfl rfl ?_
  refine jx_callVi (N := MX1_link) [.inl x1, .inl x2] rfl rfl rfl rfl okX1_link (by decide) rfl (Nat.le_of_ble_eq_true rfl) dX1_cost_3 h (fun r2 w1 h => ?_)
  refine jx_if_eq (tgt := 23) dX1_cost_6 (by decide) (fun hc => ?_) (fun hc => ?_)
  · have h := h.1 hc
    refine jx_iconst (v := (-1)) dX1_cost_23 (by decide) ?_
    exact jx_iret dX1_cost_24 rfl rfl ⟨_, rfl, h⟩
  · have h := h.2 hc
    refine jx_aload_n dX1_cost_9 rfl rfl ?_
    refine jx_getX1 rfl rfl 0 (by decide) rfl q214 (v := .inr 1) (fun _ => rfl) dX1_cost_10 ?_
    refine jx_bipush (v := 7) dX1_cost_13 (by decide) ?_
    refine jx_iload_n dX1_cost_15 rfl rfl ?_
    refine jx_imul dX1_cost_16 ?_
    refine jx_iload_n dX1_cost_17 rfl rfl ?_
    refine jx_iadd dX1_cost_18 ?_
    refine jx_iald 0 0 49 rfl dX1_cost_19 h.1 (fun v3 e_v3 => ?_)
    have h := h.2 v3 e_v3
    refine jx_goto (tgt := 24) dX1_cost_20 (by decide) ?_
    exact jx_iret dX1_cost_24 rfl rfl ⟨_, rfl, h⟩
theorem eX1_cost {Φ : Int32 → jx_Wd → Prop} {x1 x2 : Int32} {w : jx_Wd} (h : jx_J MX1_cost (jx_qi Φ) 0 [jx_t, jx_i x1, jx_i x2] [] w) : jx_CI MX1_cost [.inr 0, .inl x1, .inl x2] w Φ := jx_of _ (by decide +kernel) ⟨rfl, rfl⟩ (Nat.le_of_ble_eq_true rfl) rfl h
theorem bX1_counts_0 (Φ : Int32 → jx_Wd → Prop) (x1 x2 : Int32) (w : jx_Wd) (h :
    jx_CI MX1_link [.inr 0, .inl x1, .inl x2] w (fun r2 w1 => (
    (r2 = 0 → (
      Φ 0 w1
    )) ∧ (¬ r2 = 0 → (
      vp_in ((7 * x1) + x2) 49 ∧ ∀ v3 : Int32, v3 = w1 1 ((7 * x1) + x2).toNatClampNeg → (
      (v3 = 0 → (
        Φ 0 w1
      )) ∧ (¬ v3 = 0 → (
        vp_in x1 7 ∧ ∀ v4 : Int32, v4 = w1 2 x1.toNatClampNeg → (
        (v4 = 0 → (
          Φ 0 w1
        )) ∧ (¬ v4 = 0 → (
          vp_in x2 7 ∧ ∀ v5 : Int32, v5 = w1 2 x2.toNatClampNeg → (
          (v5 = 0 → (
            Φ 0 w1
          )) ∧ (¬ v5 = 0 → (
            Φ 1 w1
          ))
          )
        ))
        )
      ))
      )
    ))
    ))
    ) : jx_J MX1_counts (jx_qi Φ) 0 [jx_t, jx_i x1, jx_i x2] [] w := by
  refine jx_aload_n dX1_counts_0 rfl rfl ?_
  refine jx_iload_n dX1_counts_1 rfl rfl ?_
  refine jx_iload_n dX1_counts_2 rfl rfl ?_
  refine jx_callVi (N := MX1_link) [.inl x1, .inl x2] rfl rfl rfl rfl okX1_link (by decide) rfl (Nat.le_of_ble_eq_true rfl) dX1_counts_3 h (fun r2 w1 h => ?_)
  refine jx_if_eq (tgt := 45) dX1_counts_6 (by decide) (fun hc => ?_) (fun hc => ?_)
  · have h := h.1 hc
    refine jx_iconst (v := 0) dX1_counts_45 (by decide) ?_
    exact jx_iret dX1_counts_46 rfl rfl ⟨_, rfl, h⟩
  · have h := h.2 hc
    refine jx_aload_n dX1_counts_9 rfl rfl ?_
    refine jx_getX1 rfl rfl 1 (by decide) rfl q215 (v := .inr 2) (fun _ => rfl) dX1_counts_10 ?_
    refine jx_bipush (v := 7) dX1_counts_13 (by decide) ?_
    refine jx_iload_n dX1_counts_15 rfl rfl ?_
    refine jx_imul dX1_counts_16 ?_
    refine jx_iload_n dX1_counts_17 rfl rfl ?_
    refine jx_iadd dX1_counts_18 ?_
    refine jx_zald 1 1 49 rfl dX1_counts_19 h.1 (fun v3 e_v3 => ?_)
    have h := h.2 v3 e_v3
    refine jx_if_eq (tgt := 45) dX1_counts_20 (by decide) (fun hc => ?_) (fun hc => ?_)
    · have h := h.1 hc
      refine jx_iconst (v := 0) dX1_counts_45 (by decide) ?_
      exact jx_iret dX1_counts_46 rfl rfl ⟨_, rfl, h⟩
    · have h := h.2 hc
      refine jx_aload_n dX1_counts_23 rfl rfl ?_
      refine jx_getX1 rfl rfl 2 (by decide) rfl q216 (v := .inr 3) (fun _ => rfl) dX1_counts_24 ?_
      refine jx_iload_n dX1_counts_27 rfl rfl ?_
      refine jx_zald 2 2 7 rfl dX1_counts_28 h.1 (fun v4 e_v4 => ?_)
      have h := h.2 v4 e_v4
      refine jx_if_eq (tgt := 45) dX1_counts_29 (by decide) (fun hc => ?_) (fun hc => ?_)
      · have h := h.1 hc
        refine jx_iconst (v := 0) dX1_counts_45 (by decide) ?_
        exact jx_iret dX1_counts_46 rfl rfl ⟨_, rfl, h⟩
      · have h := h.2 hc
        refine jx_aload_n dX1_counts_32 rfl rfl ?_
        refine jx_getX1 rfl rfl 2 (by decide) rfl q216 (v := .inr 3) (fun _ => rfl) dX1_counts_33 ?_
        refine jx_iload_n dX1_counts_36 rfl rfl ?_
        refine jx_zald 2 2 7 rfl dX1_counts_37 h.1 (fun v5 e_v5 => ?_)
        have h := h.2 v5 e_v5
        refine jx_if_eq (tgt := 45) dX1_counts_38 (by decide) (fun hc => ?_) (fun hc => ?_)
        · have h := h.1 hc
          refine jx_iconst (v := 0) dX1_counts_45 (by decide) ?_
          exact jx_iret dX1_counts_46 rfl rfl ⟨_, rfl, h⟩
        · have h := h.2 hc
          refine jx_iconst (v := 1) dX1_counts_41 (by decide) ?_
          refine jx_goto (tgt := 46) dX1_counts_42 (by decide) ?_
          exact jx_iret dX1_counts_46 rfl rfl ⟨_, rfl, h⟩
theorem eX1_counts {Φ : Int32 → jx_Wd → Prop} {x1 x2 : Int32} {w : jx_Wd} (h : jx_J MX1_counts (jx_qi Φ) 0 [jx_t, jx_i x1, jx_i x2] [] w) : jx_CI MX1_counts [.inr 0, .inl x1, .inl x2] w Φ := jx_of _ (by decide +kernel) ⟨rfl, rfl⟩ (Nat.le_of_ble_eq_true rfl) rfl h
theorem bX1_lower_0 (Φ : jx_Wd → Prop) (x1 x2 : Int32) (w : jx_Wd) (h :
    jx_J MX1_lower (jx_qv Φ) 2 [jx_t, jx_i x1, jx_i x2, jx_i 0] [] w
    ) : jx_J MX1_lower (jx_qv Φ) 0 [jx_t, jx_i x1, jx_i x2, none] [] w := by
  refine jx_iconst (v := 0) dX1_lower_0 (by decide) ?_
  refine jx_istore_n dX1_lower_1 rfl (Nat.le_of_ble_eq_true rfl) (lv' := [jx_t, jx_i x1, jx_i x2, jx_i 0]) rfl ?_
  exact h
theorem eX1_lower {Φ : jx_Wd → Prop} {x1 x2 : Int32} {w : jx_Wd} (h : jx_J MX1_lower (jx_qv Φ) 0 [jx_t, jx_i x1, jx_i x2, none] [] w) : jx_CV MX1_lower [.inr 0, .inl x1, .inl x2] w Φ := jx_of _ (by decide +kernel) ⟨rfl, rfl⟩ (Nat.le_of_ble_eq_true rfl) rfl h
theorem bX1_lower_2 (Φ : jx_Wd → Prop) (x1 x2 x3 : Int32) (w : jx_Wd) (h :
    (7 ≤ x3 → (
      Φ w
    )) ∧ (¬ 7 ≤ x3 → (
      jx_CI MX1_counts [.inr 0, .inl x1, .inl x2] w (fun r2 w1 => (
      (r2 = 0 → (
        jx_J MX1_lower (jx_qv Φ) 2 [jx_t, jx_i x1, jx_i x2, jx_i (x3 + 1)] [] w1
      )) ∧ (¬ r2 = 0 → (
        vp_in ((7 * x1) + x2) 49 ∧ ∀ v3 : Int32, v3 = w1 0 ((7 * x1) + x2).toNatClampNeg → (
        vp_in ((7 * x2) + x3) 49 ∧ ∀ v4 : Int32, v4 = w1 3 ((7 * x2) + x3).toNatClampNeg → (
        vp_in ((7 * x1) + x3) 49 ∧ ∀ v5 : Int32, v5 = w1 3 ((7 * x1) + x3).toNatClampNeg → (
        (v5 ≤ (v3 + v4) → (
          jx_J MX1_lower (jx_qv Φ) 2 [jx_t, jx_i x1, jx_i x2, jx_i (x3 + 1)] [] w1
        )) ∧ (¬ v5 ≤ (v3 + v4) → (
          vp_in ((7 * x1) + x2) 49 ∧ ∀ v6 : Int32, v6 = w1 0 ((7 * x1) + x2).toNatClampNeg → (
          vp_in ((7 * x2) + x3) 49 ∧ ∀ v7 : Int32, v7 = w1 3 ((7 * x2) + x3).toNatClampNeg → (
          vp_in ((7 * x1) + x3) 49 ∧ ∀ w8 : jx_Wd, w8 = jx_up w1 3 (upd (w1 3) ((7 * x1) + x3).toNatClampNeg (v6 + v7)) → (
          jx_J MX1_lower (jx_qv Φ) 2 [jx_t, jx_i x1, jx_i x2, jx_i (x3 + 1)] [] w8
          )
          )
          )
        ))
        )
        )
        )
      ))
      ))
    ))
    ) : jx_J MX1_lower (jx_qv Φ) 2 [jx_t, jx_i x1, jx_i x2, jx_i x3] [] w := by
  refine jx_iload_n dX1_lower_2 rfl rfl ?_
  refine jx_bipush (v := 7) dX1_lower_3 (by decide) ?_
  refine jx_icmp_ge (tgt := 94) dX1_lower_5 (by decide) (fun hc => ?_) (fun hc => ?_)
  · have h := h.1 hc
    exact jx_vret dX1_lower_94 rfl ⟨rfl, h⟩
  · have h := h.2 hc
    refine jx_aload_n dX1_lower_8 rfl rfl ?_
    refine jx_iload_n dX1_lower_9 rfl rfl ?_
    refine jx_iload_n dX1_lower_10 rfl rfl ?_
    refine jx_callVi (N := MX1_counts) [.inl x1, .inl x2] rfl rfl rfl rfl okX1_counts (by decide) rfl (Nat.le_of_ble_eq_true rfl) dX1_lower_11 h (fun r2 w1 h => ?_)
    refine jx_if_eq (tgt := 88) dX1_lower_14 (by decide) (fun hc => ?_) (fun hc => ?_)
    · have h := h.1 hc
      refine jx_iinc (v := x3 + 1) dX1_lower_88 rfl rfl (Nat.le_of_ble_eq_true rfl) (lv' := [jx_t, jx_i x1, jx_i x2, jx_i (x3 + 1)]) rfl ?_
      refine jx_goto (tgt := 2) dX1_lower_91 (by decide) ?_
      exact h
    · have h := h.2 hc
      refine jx_aload_n dX1_lower_17 rfl rfl ?_
      refine jx_getX1 rfl rfl 0 (by decide) rfl q214 (v := .inr 1) (fun _ => rfl) dX1_lower_18 ?_
      refine jx_bipush (v := 7) dX1_lower_21 (by decide) ?_
      refine jx_iload_n dX1_lower_23 rfl rfl ?_
      refine jx_imul dX1_lower_24 ?_
      refine jx_iload_n dX1_lower_25 rfl rfl ?_
      refine jx_iadd dX1_lower_26 ?_
      refine jx_iald 0 0 49 rfl dX1_lower_27 h.1 (fun v3 e_v3 => ?_)
      have h := h.2 v3 e_v3
      refine jx_aload_n dX1_lower_28 rfl rfl ?_
      refine jx_getX1 rfl rfl 3 (by decide) rfl q217 (v := .inr 4) (fun _ => rfl) dX1_lower_29 ?_
      refine jx_bipush (v := 7) dX1_lower_32 (by decide) ?_
      refine jx_iload_n dX1_lower_34 rfl rfl ?_
      refine jx_imul dX1_lower_35 ?_
      refine jx_iload_n dX1_lower_36 rfl rfl ?_
      refine jx_iadd dX1_lower_37 ?_
      refine jx_iald 3 3 49 rfl dX1_lower_38 h.1 (fun v4 e_v4 => ?_)
      have h := h.2 v4 e_v4
      refine jx_iadd dX1_lower_39 ?_
      refine jx_aload_n dX1_lower_40 rfl rfl ?_
      refine jx_getX1 rfl rfl 3 (by decide) rfl q217 (v := .inr 4) (fun _ => rfl) dX1_lower_41 ?_
      refine jx_bipush (v := 7) dX1_lower_44 (by decide) ?_
      refine jx_iload_n dX1_lower_46 rfl rfl ?_
      refine jx_imul dX1_lower_47 ?_
      refine jx_iload_n dX1_lower_48 rfl rfl ?_
      refine jx_iadd dX1_lower_49 ?_
      refine jx_iald 3 3 49 rfl dX1_lower_50 h.1 (fun v5 e_v5 => ?_)
      have h := h.2 v5 e_v5
      refine jx_icmp_ge (tgt := 88) dX1_lower_51 (by decide) (fun hc => ?_) (fun hc => ?_)
      · have h := h.1 hc
        refine jx_iinc (v := x3 + 1) dX1_lower_88 rfl rfl (Nat.le_of_ble_eq_true rfl) (lv' := [jx_t, jx_i x1, jx_i x2, jx_i (x3 + 1)]) rfl ?_
        refine jx_goto (tgt := 2) dX1_lower_91 (by decide) ?_
        exact h
      · have h := h.2 hc
        refine jx_aload_n dX1_lower_54 rfl rfl ?_
        refine jx_getX1 rfl rfl 3 (by decide) rfl q217 (v := .inr 4) (fun _ => rfl) dX1_lower_55 ?_
        refine jx_bipush (v := 7) dX1_lower_58 (by decide) ?_
        refine jx_iload_n dX1_lower_60 rfl rfl ?_
        refine jx_imul dX1_lower_61 ?_
        refine jx_iload_n dX1_lower_62 rfl rfl ?_
        refine jx_iadd dX1_lower_63 ?_
        refine jx_aload_n dX1_lower_64 rfl rfl ?_
        refine jx_getX1 rfl rfl 0 (by decide) rfl q214 (v := .inr 1) (fun _ => rfl) dX1_lower_65 ?_
        refine jx_bipush (v := 7) dX1_lower_68 (by decide) ?_
        refine jx_iload_n dX1_lower_70 rfl rfl ?_
        refine jx_imul dX1_lower_71 ?_
        refine jx_iload_n dX1_lower_72 rfl rfl ?_
        refine jx_iadd dX1_lower_73 ?_
        refine jx_iald 0 0 49 rfl dX1_lower_74 h.1 (fun v6 e_v6 => ?_)
        have h := h.2 v6 e_v6
        refine jx_aload_n dX1_lower_75 rfl rfl ?_
        refine jx_getX1 rfl rfl 3 (by decide) rfl q217 (v := .inr 4) (fun _ => rfl) dX1_lower_76 ?_
        refine jx_bipush (v := 7) dX1_lower_79 (by decide) ?_
        refine jx_iload_n dX1_lower_81 rfl rfl ?_
        refine jx_imul dX1_lower_82 ?_
        refine jx_iload_n dX1_lower_83 rfl rfl ?_
        refine jx_iadd dX1_lower_84 ?_
        refine jx_iald 3 3 49 rfl dX1_lower_85 h.1 (fun v7 e_v7 => ?_)
        have h := h.2 v7 e_v7
        refine jx_iadd dX1_lower_86 ?_
        refine jx_iast 3 3 49 rfl stX1_3 dX1_lower_87 h.1 (fun w8 e_w8 => ?_)
        have h := h.2 w8 e_w8
        refine jx_iinc (v := x3 + 1) dX1_lower_88 rfl rfl (Nat.le_of_ble_eq_true rfl) (lv' := [jx_t, jx_i x1, jx_i x2, jx_i (x3 + 1)]) rfl ?_
        refine jx_goto (tgt := 2) dX1_lower_91 (by decide) ?_
        exact h
theorem bX1_work_0 (Φ : jx_Wd → Prop) (w : jx_Wd) (h :
    jx_J MX1_work (jx_qv Φ) 2 [jx_t, jx_i 0, none] [] w
    ) : jx_J MX1_work (jx_qv Φ) 0 [jx_t, none, none] [] w := by
  refine jx_iconst (v := 0) dX1_work_0 (by decide) ?_
  refine jx_istore_n dX1_work_1 rfl (Nat.le_of_ble_eq_true rfl) (lv' := [jx_t, jx_i 0, none]) rfl ?_
  exact h
theorem eX1_work {Φ : jx_Wd → Prop} {w : jx_Wd} (h : jx_J MX1_work (jx_qv Φ) 0 [jx_t, none, none] [] w) : jx_CV MX1_work [.inr 0] w Φ := jx_of _ (by decide +kernel) ⟨rfl, rfl⟩ (Nat.le_of_ble_eq_true rfl) rfl h
theorem bX1_work_2 (Φ : jx_Wd → Prop) (x1 : Int32) (w : jx_Wd) (h :
    (49 ≤ x1 → (
      jx_J MX1_work (jx_qv Φ) 52 [jx_t, jx_i 0, none] [] w
    )) ∧ (¬ 49 ≤ x1 → (
      ((x1 / 7) = (x1 - x1 / 7 * 7) → (
        vp_in (x1 / 7) 7 ∧ ∀ v2 : Int32, v2 = w 2 (x1 / 7).toNatClampNeg → (
        (v2 = 0 → (
          vp_in x1 49 ∧ ∀ w3 : jx_Wd, w3 = jx_up w 3 (upd (w 3) x1.toNatClampNeg 1000) → (
          jx_J MX1_work (jx_qv Φ) 2 [jx_t, jx_i (x1 + 1), none] [] w3
          )
        )) ∧ (¬ v2 = 0 → (
          vp_in x1 49 ∧ ∀ w4 : jx_Wd, w4 = jx_up w 3 (upd (w 3) x1.toNatClampNeg 0) → (
          jx_J MX1_work (jx_qv Φ) 2 [jx_t, jx_i (x1 + 1), none] [] w4
          )
        ))
        )
      )) ∧ (¬ (x1 / 7) = (x1 - x1 / 7 * 7) → (
        vp_in x1 49 ∧ ∀ w1 : jx_Wd, w1 = jx_up w 3 (upd (w 3) x1.toNatClampNeg 1000) → (
        jx_J MX1_work (jx_qv Φ) 2 [jx_t, jx_i (x1 + 1), none] [] w1
        )
      ))
    ))
    ) : jx_J MX1_work (jx_qv Φ) 2 [jx_t, jx_i x1, none] [] w := by
  refine jx_iload_n dX1_work_2 rfl rfl ?_
  refine jx_bipush (v := 49) dX1_work_3 (by decide) ?_
  refine jx_icmp_ge (tgt := 50) dX1_work_5 (by decide) (fun hc => ?_) (fun hc => ?_)
  · have h := h.1 hc
    refine jx_iconst (v := 0) dX1_work_50 (by decide) ?_
    refine jx_istore_n dX1_work_51 rfl (Nat.le_of_ble_eq_true rfl) (lv' := [jx_t, jx_i 0, none]) rfl ?_
    exact h
  · have h := h.2 hc
    refine jx_aload_n dX1_work_8 rfl rfl ?_
    refine jx_getX1 rfl rfl 3 (by decide) rfl q217 (v := .inr 4) (fun _ => rfl) dX1_work_9 ?_
    refine jx_iload_n dX1_work_12 rfl rfl ?_
    refine jx_iload_n dX1_work_13 rfl rfl ?_
    refine jx_bipush (v := 7) dX1_work_14 (by decide) ?_
    refine jx_idiv dX1_work_16 (by decide) ?_
    refine jx_iload_n dX1_work_17 rfl rfl ?_
    refine jx_bipush (v := 7) dX1_work_18 (by decide) ?_
    refine jx_irem dX1_work_20 (by decide) ?_
    refine jx_icmp_ne (tgt := 40) dX1_work_21 (by decide) (fun hc => ?_) (fun hc => ?_)
    · have h := h.2 hc
      refine jx_sipush (v := 1000) dX1_work_40 (by decide) ?_
      refine jx_iast 3 3 49 rfl stX1_3 dX1_work_43 h.1 (fun w1 e_w1 => ?_)
      have h := h.2 w1 e_w1
      refine jx_iinc (v := x1 + 1) dX1_work_44 rfl rfl (Nat.le_of_ble_eq_true rfl) (lv' := [jx_t, jx_i (x1 + 1), none]) rfl ?_
      refine jx_goto (tgt := 2) dX1_work_47 (by decide) ?_
      exact h
    · have h := h.1 hc
      refine jx_aload_n dX1_work_24 rfl rfl ?_
      refine jx_getX1 rfl rfl 2 (by decide) rfl q216 (v := .inr 3) (fun _ => rfl) dX1_work_25 ?_
      refine jx_iload_n dX1_work_28 rfl rfl ?_
      refine jx_bipush (v := 7) dX1_work_29 (by decide) ?_
      refine jx_idiv dX1_work_31 (by decide) ?_
      refine jx_zald 2 2 7 rfl dX1_work_32 h.1 (fun v2 e_v2 => ?_)
      have h := h.2 v2 e_v2
      refine jx_if_eq (tgt := 40) dX1_work_33 (by decide) (fun hc => ?_) (fun hc => ?_)
      · have h := h.1 hc
        refine jx_sipush (v := 1000) dX1_work_40 (by decide) ?_
        refine jx_iast 3 3 49 rfl stX1_3 dX1_work_43 h.1 (fun w3 e_w3 => ?_)
        have h := h.2 w3 e_w3
        refine jx_iinc (v := x1 + 1) dX1_work_44 rfl rfl (Nat.le_of_ble_eq_true rfl) (lv' := [jx_t, jx_i (x1 + 1), none]) rfl ?_
        refine jx_goto (tgt := 2) dX1_work_47 (by decide) ?_
        exact h
      · have h := h.2 hc
        refine jx_iconst (v := 0) dX1_work_36 (by decide) ?_
        refine jx_goto (tgt := 43) dX1_work_37 (by decide) ?_
        refine jx_iast 3 3 49 rfl stX1_3 dX1_work_43 h.1 (fun w4 e_w4 => ?_)
        have h := h.2 w4 e_w4
        refine jx_iinc (v := x1 + 1) dX1_work_44 rfl rfl (Nat.le_of_ble_eq_true rfl) (lv' := [jx_t, jx_i (x1 + 1), none]) rfl ?_
        refine jx_goto (tgt := 2) dX1_work_47 (by decide) ?_
        exact h
theorem bX1_work_52 (Φ : jx_Wd → Prop) (x1 : Int32) (w : jx_Wd) (h :
    (6 ≤ x1 → (
      Φ w
    )) ∧ (¬ 6 ≤ x1 → (
      jx_J MX1_work (jx_qv Φ) 60 [jx_t, jx_i x1, jx_i 0] [] w
    ))
    ) : jx_J MX1_work (jx_qv Φ) 52 [jx_t, jx_i x1, none] [] w := by
  refine jx_iload_n dX1_work_52 rfl rfl ?_
  refine jx_bipush (v := 6) dX1_work_53 (by decide) ?_
  refine jx_icmp_ge (tgt := 90) dX1_work_55 (by decide) (fun hc => ?_) (fun hc => ?_)
  · have h := h.1 hc
    exact jx_vret dX1_work_90 rfl ⟨rfl, h⟩
  · have h := h.2 hc
    refine jx_iconst (v := 0) dX1_work_58 (by decide) ?_
    refine jx_istore_n dX1_work_59 rfl (Nat.le_of_ble_eq_true rfl) (lv' := [jx_t, jx_i x1, jx_i 0]) rfl ?_
    exact h
theorem bX1_work_60 (Φ : jx_Wd → Prop) (x1 x2 : Int32) (w : jx_Wd) (h :
    (49 ≤ x2 → (
      jx_J MX1_work (jx_qv Φ) 52 [jx_t, jx_i (x1 + 1), none] [] w
    )) ∧ (¬ 49 ≤ x2 → (
      jx_CV MX1_lower [.inr 0, .inl (x2 / 7), .inl (x2 - x2 / 7 * 7)] w (fun w1 => (
      jx_J MX1_work (jx_qv Φ) 60 [jx_t, jx_i x1, jx_i (x2 + 1)] [] w1
      ))
    ))
    ) : jx_J MX1_work (jx_qv Φ) 60 [jx_t, jx_i x1, jx_i x2] [] w := by
  refine jx_iload_n dX1_work_60 rfl rfl ?_
  refine jx_bipush (v := 49) dX1_work_61 (by decide) ?_
  refine jx_icmp_ge (tgt := 84) dX1_work_63 (by decide) (fun hc => ?_) (fun hc => ?_)
  · have h := h.1 hc
    refine jx_iinc (v := x1 + 1) dX1_work_84 rfl rfl (Nat.le_of_ble_eq_true rfl) (lv' := [jx_t, jx_i (x1 + 1), jx_i x2]) rfl ?_
    refine jx_goto (tgt := 52) dX1_work_87 (by decide) ?_
    exact jx_weak (jx_Le.s (jx_Le.s (jx_Le.n jx_Le.z))) h
  · have h := h.2 hc
    refine jx_aload_n dX1_work_66 rfl rfl ?_
    refine jx_iload_n dX1_work_67 rfl rfl ?_
    refine jx_bipush (v := 7) dX1_work_68 (by decide) ?_
    refine jx_idiv dX1_work_70 (by decide) ?_
    refine jx_iload_n dX1_work_71 rfl rfl ?_
    refine jx_bipush (v := 7) dX1_work_72 (by decide) ?_
    refine jx_irem dX1_work_74 (by decide) ?_
    refine jx_callVv (N := MX1_lower) [.inl (x2 / 7), .inl (x2 - x2 / 7 * 7)] rfl rfl rfl rfl okX1_lower (by decide) rfl (Nat.le_of_ble_eq_true rfl) dX1_work_75 h (fun w1 h => ?_)
    refine jx_iinc (v := x2 + 1) dX1_work_78 rfl rfl (Nat.le_of_ble_eq_true rfl) (lv' := [jx_t, jx_i x1, jx_i (x2 + 1)]) rfl ?_
    refine jx_goto (tgt := 60) dX1_work_81 (by decide) ?_
    exact h
theorem bX1_has_0 (Φ : Int32 → jx_Wd → Prop) (x1 x2 : Int32) (w : jx_Wd) (h :
    jx_CI MX1_router [.inr 0, .inl x1] w (fun r2 w1 => (
    (r2 = 0 → (
      Φ 0 w1
    )) ∧ (¬ r2 = 0 → (
      jx_CI MX1_router [.inr 0, .inl x2] w1 (fun r4 w3 => (
      (r4 = 0 → (
        Φ 0 w3
      )) ∧ (¬ r4 = 0 → (
        vp_in ((7 * x1) + x2) 49 ∧ ∀ v5 : Int32, v5 = w3 3 ((7 * x1) + x2).toNatClampNeg → (
        (1000 ≤ v5 → (
          Φ 0 w3
        )) ∧ (¬ 1000 ≤ v5 → (
          Φ 1 w3
        ))
        )
      ))
      ))
    ))
    ))
    ) : jx_J MX1_has (jx_qi Φ) 0 [jx_t, jx_i x1, jx_i x2] [] w := by
  refine jx_aload_n dX1_has_0 rfl rfl ?_
  refine jx_iload_n dX1_has_1 rfl rfl ?_
  refine jx_callVi (N := MX1_router) [.inl x1] rfl rfl rfl rfl okX1_router (by decide) rfl (Nat.le_of_ble_eq_true rfl) dX1_has_2 h (fun r2 w1 h => ?_)
  refine jx_if_eq (tgt := 37) dX1_has_5 (by decide) (fun hc => ?_) (fun hc => ?_)
  · have h := h.1 hc
    refine jx_iconst (v := 0) dX1_has_37 (by decide) ?_
    exact jx_iret dX1_has_38 rfl rfl ⟨_, rfl, h⟩
  · have h := h.2 hc
    refine jx_aload_n dX1_has_8 rfl rfl ?_
    refine jx_iload_n dX1_has_9 rfl rfl ?_
    refine jx_callVi (N := MX1_router) [.inl x2] rfl rfl rfl rfl okX1_router (by decide) rfl (Nat.le_of_ble_eq_true rfl) dX1_has_10 h (fun r4 w3 h => ?_)
    refine jx_if_eq (tgt := 37) dX1_has_13 (by decide) (fun hc => ?_) (fun hc => ?_)
    · have h := h.1 hc
      refine jx_iconst (v := 0) dX1_has_37 (by decide) ?_
      exact jx_iret dX1_has_38 rfl rfl ⟨_, rfl, h⟩
    · have h := h.2 hc
      refine jx_aload_n dX1_has_16 rfl rfl ?_
      refine jx_getX1 rfl rfl 3 (by decide) rfl q217 (v := .inr 4) (fun _ => rfl) dX1_has_17 ?_
      refine jx_bipush (v := 7) dX1_has_20 (by decide) ?_
      refine jx_iload_n dX1_has_22 rfl rfl ?_
      refine jx_imul dX1_has_23 ?_
      refine jx_iload_n dX1_has_24 rfl rfl ?_
      refine jx_iadd dX1_has_25 ?_
      refine jx_iald 3 3 49 rfl dX1_has_26 h.1 (fun v5 e_v5 => ?_)
      have h := h.2 v5 e_v5
      refine jx_sipush (v := 1000) dX1_has_27 (by decide) ?_
      refine jx_icmp_ge (tgt := 37) dX1_has_30 (by decide) (fun hc => ?_) (fun hc => ?_)
      · have h := h.1 hc
        refine jx_iconst (v := 0) dX1_has_37 (by decide) ?_
        exact jx_iret dX1_has_38 rfl rfl ⟨_, rfl, h⟩
      · have h := h.2 hc
        refine jx_iconst (v := 1) dX1_has_33 (by decide) ?_
        refine jx_goto (tgt := 38) dX1_has_34 (by decide) ?_
        exact jx_iret dX1_has_38 rfl rfl ⟨_, rfl, h⟩
theorem eX1_has {Φ : Int32 → jx_Wd → Prop} {x1 x2 : Int32} {w : jx_Wd} (h : jx_J MX1_has (jx_qi Φ) 0 [jx_t, jx_i x1, jx_i x2] [] w) : jx_CI MX1_has [.inr 0, .inl x1, .inl x2] w Φ := jx_of _ (by decide +kernel) ⟨rfl, rfl⟩ (Nat.le_of_ble_eq_true rfl) rfl h
theorem bX1_distance_0 (Φ : Int32 → jx_Wd → Prop) (x1 x2 : Int32) (w : jx_Wd) (h :
    jx_CV MX1_work [.inr 0] w (fun w1 => (
    jx_CI MX1_has [.inr 0, .inl x1, .inl x2] w1 (fun r3 w2 => (
    (r3 = 0 → (
      Φ (-1) w2
    )) ∧ (¬ r3 = 0 → (
      vp_in ((7 * x1) + x2) 49 ∧ ∀ v4 : Int32, v4 = w2 3 ((7 * x1) + x2).toNatClampNeg → (
      Φ v4 w2
      )
    ))
    ))
    ))
    ) : jx_J MX1_distance (jx_qi Φ) 0 [jx_t, jx_i x1, jx_i x2] [] w := by
  refine jx_aload_n dX1_distance_0 rfl rfl ?_
  refine jx_callVv (N := MX1_work) [] rfl rfl rfl rfl okX1_work (by decide) rfl (Nat.le_of_ble_eq_true rfl) dX1_distance_1 h (fun w1 h => ?_)
  refine jx_aload_n dX1_distance_4 rfl rfl ?_
  refine jx_iload_n dX1_distance_5 rfl rfl ?_
  refine jx_iload_n dX1_distance_6 rfl rfl ?_
  refine jx_callVi (N := MX1_has) [.inl x1, .inl x2] rfl rfl rfl rfl okX1_has (by decide) rfl (Nat.le_of_ble_eq_true rfl) dX1_distance_7 h (fun r3 w2 h => ?_)
  refine jx_if_eq (tgt := 27) dX1_distance_10 (by decide) (fun hc => ?_) (fun hc => ?_)
  · have h := h.1 hc
    refine jx_iconst (v := (-1)) dX1_distance_27 (by decide) ?_
    exact jx_iret dX1_distance_28 rfl rfl ⟨_, rfl, h⟩
  · have h := h.2 hc
    refine jx_aload_n dX1_distance_13 rfl rfl ?_
    refine jx_getX1 rfl rfl 3 (by decide) rfl q217 (v := .inr 4) (fun _ => rfl) dX1_distance_14 ?_
    refine jx_bipush (v := 7) dX1_distance_17 (by decide) ?_
    refine jx_iload_n dX1_distance_19 rfl rfl ?_
    refine jx_imul dX1_distance_20 ?_
    refine jx_iload_n dX1_distance_21 rfl rfl ?_
    refine jx_iadd dX1_distance_22 ?_
    refine jx_iald 3 3 49 rfl dX1_distance_23 h.1 (fun v4 e_v4 => ?_)
    have h := h.2 v4 e_v4
    refine jx_goto (tgt := 28) dX1_distance_24 (by decide) ?_
    exact jx_iret dX1_distance_28 rfl rfl ⟨_, rfl, h⟩
theorem eX1_distance {Φ : Int32 → jx_Wd → Prop} {x1 x2 : Int32} {w : jx_Wd} (h : jx_J MX1_distance (jx_qi Φ) 0 [jx_t, jx_i x1, jx_i x2] [] w) : jx_CI MX1_distance [.inr 0, .inl x1, .inl x2] w Φ := jx_of _ (by decide +kernel) ⟨rfl, rfl⟩ (Nat.le_of_ble_eq_true rfl) rfl h
theorem bX1_hop_0 (Φ : Int32 → jx_Wd → Prop) (x1 x2 : Int32) (w : jx_Wd) (h :
    jx_J MX1_hop (jx_qi Φ) 2 [jx_t, jx_i x1, jx_i x2, jx_i 0] [] w
    ) : jx_J MX1_hop (jx_qi Φ) 0 [jx_t, jx_i x1, jx_i x2, none] [] w := by
  refine jx_iconst (v := 0) dX1_hop_0 (by decide) ?_
  refine jx_istore_n dX1_hop_1 rfl (Nat.le_of_ble_eq_true rfl) (lv' := [jx_t, jx_i x1, jx_i x2, jx_i 0]) rfl ?_
  exact h
theorem eX1_hop {Φ : Int32 → jx_Wd → Prop} {x1 x2 : Int32} {w : jx_Wd} (h : jx_J MX1_hop (jx_qi Φ) 0 [jx_t, jx_i x1, jx_i x2, none] [] w) : jx_CI MX1_hop [.inr 0, .inl x1, .inl x2] w Φ := jx_of _ (by decide +kernel) ⟨rfl, rfl⟩ (Nat.le_of_ble_eq_true rfl) rfl h
theorem bX1_hop_2 (Φ : Int32 → jx_Wd → Prop) (x1 x2 x3 : Int32) (w : jx_Wd) (h :
    (7 ≤ x3 → (
      Φ x2 w
    )) ∧ (¬ 7 ≤ x3 → (
      jx_CI MX1_counts [.inr 0, .inl x1, .inl x3] w (fun r2 w1 => (
      (r2 = 0 → (
        jx_J MX1_hop (jx_qi Φ) 2 [jx_t, jx_i x1, jx_i x2, jx_i (x3 + 1)] [] w1
      )) ∧ (¬ r2 = 0 → (
        vp_in ((7 * x1) + x3) 49 ∧ ∀ v3 : Int32, v3 = w1 0 ((7 * x1) + x3).toNatClampNeg → (
        vp_in ((7 * x3) + x2) 49 ∧ ∀ v4 : Int32, v4 = w1 3 ((7 * x3) + x2).toNatClampNeg → (
        vp_in ((7 * x1) + x2) 49 ∧ ∀ v5 : Int32, v5 = w1 3 ((7 * x1) + x2).toNatClampNeg → (
        ((v3 + v4) = v5 → (
          Φ x3 w1
        )) ∧ (¬ (v3 + v4) = v5 → (
          jx_J MX1_hop (jx_qi Φ) 2 [jx_t, jx_i x1, jx_i x2, jx_i (x3 + 1)] [] w1
        ))
        )
        )
        )
      ))
      ))
    ))
    ) : jx_J MX1_hop (jx_qi Φ) 2 [jx_t, jx_i x1, jx_i x2, jx_i x3] [] w := by
  refine jx_iload_n dX1_hop_2 rfl rfl ?_
  refine jx_bipush (v := 7) dX1_hop_3 (by decide) ?_
  refine jx_icmp_ge (tgt := 62) dX1_hop_5 (by decide) (fun hc => ?_) (fun hc => ?_)
  · have h := h.1 hc
    refine jx_iload_n dX1_hop_62 rfl rfl ?_
    exact jx_iret dX1_hop_63 rfl rfl ⟨_, rfl, h⟩
  · have h := h.2 hc
    refine jx_aload_n dX1_hop_8 rfl rfl ?_
    refine jx_iload_n dX1_hop_9 rfl rfl ?_
    refine jx_iload_n dX1_hop_10 rfl rfl ?_
    refine jx_callVi (N := MX1_counts) [.inl x1, .inl x3] rfl rfl rfl rfl okX1_counts (by decide) rfl (Nat.le_of_ble_eq_true rfl) dX1_hop_11 h (fun r2 w1 h => ?_)
    refine jx_if_eq (tgt := 56) dX1_hop_14 (by decide) (fun hc => ?_) (fun hc => ?_)
    · have h := h.1 hc
      refine jx_iinc (v := x3 + 1) dX1_hop_56 rfl rfl (Nat.le_of_ble_eq_true rfl) (lv' := [jx_t, jx_i x1, jx_i x2, jx_i (x3 + 1)]) rfl ?_
      refine jx_goto (tgt := 2) dX1_hop_59 (by decide) ?_
      exact h
    · have h := h.2 hc
      refine jx_aload_n dX1_hop_17 rfl rfl ?_
      refine jx_getX1 rfl rfl 0 (by decide) rfl q214 (v := .inr 1) (fun _ => rfl) dX1_hop_18 ?_
      refine jx_bipush (v := 7) dX1_hop_21 (by decide) ?_
      refine jx_iload_n dX1_hop_23 rfl rfl ?_
      refine jx_imul dX1_hop_24 ?_
      refine jx_iload_n dX1_hop_25 rfl rfl ?_
      refine jx_iadd dX1_hop_26 ?_
      refine jx_iald 0 0 49 rfl dX1_hop_27 h.1 (fun v3 e_v3 => ?_)
      have h := h.2 v3 e_v3
      refine jx_aload_n dX1_hop_28 rfl rfl ?_
      refine jx_getX1 rfl rfl 3 (by decide) rfl q217 (v := .inr 4) (fun _ => rfl) dX1_hop_29 ?_
      refine jx_bipush (v := 7) dX1_hop_32 (by decide) ?_
      refine jx_iload_n dX1_hop_34 rfl rfl ?_
      refine jx_imul dX1_hop_35 ?_
      refine jx_iload_n dX1_hop_36 rfl rfl ?_
      refine jx_iadd dX1_hop_37 ?_
      refine jx_iald 3 3 49 rfl dX1_hop_38 h.1 (fun v4 e_v4 => ?_)
      have h := h.2 v4 e_v4
      refine jx_iadd dX1_hop_39 ?_
      refine jx_aload_n dX1_hop_40 rfl rfl ?_
      refine jx_getX1 rfl rfl 3 (by decide) rfl q217 (v := .inr 4) (fun _ => rfl) dX1_hop_41 ?_
      refine jx_bipush (v := 7) dX1_hop_44 (by decide) ?_
      refine jx_iload_n dX1_hop_46 rfl rfl ?_
      refine jx_imul dX1_hop_47 ?_
      refine jx_iload_n dX1_hop_48 rfl rfl ?_
      refine jx_iadd dX1_hop_49 ?_
      refine jx_iald 3 3 49 rfl dX1_hop_50 h.1 (fun v5 e_v5 => ?_)
      have h := h.2 v5 e_v5
      refine jx_icmp_ne (tgt := 56) dX1_hop_51 (by decide) (fun hc => ?_) (fun hc => ?_)
      · have h := h.2 hc
        refine jx_iinc (v := x3 + 1) dX1_hop_56 rfl rfl (Nat.le_of_ble_eq_true rfl) (lv' := [jx_t, jx_i x1, jx_i x2, jx_i (x3 + 1)]) rfl ?_
        refine jx_goto (tgt := 2) dX1_hop_59 (by decide) ?_
        exact h
      · have h := h.1 hc
        refine jx_iload_n dX1_hop_54 rfl rfl ?_
        exact jx_iret dX1_hop_55 rfl rfl ⟨_, rfl, h⟩
theorem bX1_nextHop_0 (Φ : Int32 → jx_Wd → Prop) (x1 x2 : Int32) (w : jx_Wd) (h :
    jx_CV MX1_work [.inr 0] w (fun w1 => (
    (x1 = x2 → (
      Φ (-1) w1
    )) ∧ (¬ x1 = x2 → (
      jx_CI MX1_has [.inr 0, .inl x1, .inl x2] w1 (fun r3 w2 => (
      (r3 = 0 → (
        Φ (-1) w2
      )) ∧ (¬ r3 = 0 → (
        jx_CI MX1_hop [.inr 0, .inl x1, .inl x2] w2 (fun r5 w4 => (
        Φ r5 w4
        ))
      ))
      ))
    ))
    ))
    ) : jx_J MX1_nextHop (jx_qi Φ) 0 [jx_t, jx_i x1, jx_i x2] [] w := by
  refine jx_aload_n dX1_nextHop_0 rfl rfl ?_
  refine jx_callVv (N := MX1_work) [] rfl rfl rfl rfl okX1_work (by decide) rfl (Nat.le_of_ble_eq_true rfl) dX1_nextHop_1 h (fun w1 h => ?_)
  refine jx_iload_n dX1_nextHop_4 rfl rfl ?_
  refine jx_iload_n dX1_nextHop_5 rfl rfl ?_
  refine jx_icmp_eq (tgt := 27) dX1_nextHop_6 (by decide) (fun hc => ?_) (fun hc => ?_)
  · have h := h.1 hc
    refine jx_iconst (v := (-1)) dX1_nextHop_27 (by decide) ?_
    exact jx_iret dX1_nextHop_28 rfl rfl ⟨_, rfl, h⟩
  · have h := h.2 hc
    refine jx_aload_n dX1_nextHop_9 rfl rfl ?_
    refine jx_iload_n dX1_nextHop_10 rfl rfl ?_
    refine jx_iload_n dX1_nextHop_11 rfl rfl ?_
    refine jx_callVi (N := MX1_has) [.inl x1, .inl x2] rfl rfl rfl rfl okX1_has (by decide) rfl (Nat.le_of_ble_eq_true rfl) dX1_nextHop_12 h (fun r3 w2 h => ?_)
    refine jx_if_eq (tgt := 27) dX1_nextHop_15 (by decide) (fun hc => ?_) (fun hc => ?_)
    · have h := h.1 hc
      refine jx_iconst (v := (-1)) dX1_nextHop_27 (by decide) ?_
      exact jx_iret dX1_nextHop_28 rfl rfl ⟨_, rfl, h⟩
    · have h := h.2 hc
      refine jx_aload_n dX1_nextHop_18 rfl rfl ?_
      refine jx_iload_n dX1_nextHop_19 rfl rfl ?_
      refine jx_iload_n dX1_nextHop_20 rfl rfl ?_
      refine jx_callVi (N := MX1_hop) [.inl x1, .inl x2] rfl rfl rfl rfl okX1_hop (by decide) rfl (Nat.le_of_ble_eq_true rfl) dX1_nextHop_21 h (fun r5 w4 h => ?_)
      refine jx_goto (tgt := 28) dX1_nextHop_24 (by decide) ?_
      exact jx_iret dX1_nextHop_28 rfl rfl ⟨_, rfl, h⟩
theorem eX1_nextHop {Φ : Int32 → jx_Wd → Prop} {x1 x2 : Int32} {w : jx_Wd} (h : jx_J MX1_nextHop (jx_qi Φ) 0 [jx_t, jx_i x1, jx_i x2] [] w) : jx_CI MX1_nextHop [.inr 0, .inl x1, .inl x2] w Φ := jx_of _ (by decide +kernel) ⟨rfl, rfl⟩ (Nat.le_of_ble_eq_true rfl) rfl h
theorem bX1_count_0 (Φ : Int32 → jx_Wd → Prop) (x1 x2 : Int32) (w : jx_Wd) (h :
    jx_J MX1_count (jx_qi Φ) 5 [jx_t, none, jx_i x2, jx_i 0, jx_i x1] [] w
    ) : jx_J MX1_count (jx_qi Φ) 0 [jx_t, jx_i x1, jx_i x2, none, none] [] w := by
  refine jx_iconst (v := 0) dX1_count_0 (by decide) ?_
  refine jx_istore_n dX1_count_1 rfl (Nat.le_of_ble_eq_true rfl) (lv' := [jx_t, jx_i x1, jx_i x2, jx_i 0, none]) rfl ?_
  refine jx_iload_n dX1_count_2 rfl rfl ?_
  refine jx_istore dX1_count_3 (Nat.le_of_ble_eq_true rfl) (lv' := [jx_t, jx_i x1, jx_i x2, jx_i 0, jx_i x1]) rfl ?_
  exact jx_weak (jx_Le.s (jx_Le.n (jx_Le.s (jx_Le.s (jx_Le.s jx_Le.z))))) h
theorem eX1_count {Φ : Int32 → jx_Wd → Prop} {x1 x2 : Int32} {w : jx_Wd} (h : jx_J MX1_count (jx_qi Φ) 0 [jx_t, jx_i x1, jx_i x2, none, none] [] w) : jx_CI MX1_count [.inr 0, .inl x1, .inl x2] w Φ := jx_of _ (by decide +kernel) ⟨rfl, rfl⟩ (Nat.le_of_ble_eq_true rfl) rfl h
theorem bX1_count_5 (Φ : Int32 → jx_Wd → Prop) (x2 x3 x4 : Int32) (w : jx_Wd) (h :
    (6 ≤ x3 → (
      Φ x3 w
    )) ∧ (¬ 6 ≤ x3 → (
      (x4 = x2 → (
        Φ x3 w
      )) ∧ (¬ x4 = x2 → (
        jx_CI MX1_hop [.inr 0, .inl x4, .inl x2] w (fun r2 w1 => (
        jx_J MX1_count (jx_qi Φ) 5 [jx_t, none, jx_i x2, jx_i (x3 + 1), jx_i r2] [] w1
        ))
      ))
    ))
    ) : jx_J MX1_count (jx_qi Φ) 5 [jx_t, none, jx_i x2, jx_i x3, jx_i x4] [] w := by
  refine jx_iload_n dX1_count_5 rfl rfl ?_
  refine jx_bipush (v := 6) dX1_count_6 (by decide) ?_
  refine jx_icmp_ge (tgt := 32) dX1_count_8 (by decide) (fun hc => ?_) (fun hc => ?_)
  · have h := h.1 hc
    refine jx_iload_n dX1_count_32 rfl rfl ?_
    exact jx_iret dX1_count_33 rfl rfl ⟨_, rfl, h⟩
  · have h := h.2 hc
    refine jx_iload dX1_count_11 rfl ?_
    refine jx_iload_n dX1_count_13 rfl rfl ?_
    refine jx_icmp_eq (tgt := 32) dX1_count_14 (by decide) (fun hc => ?_) (fun hc => ?_)
    · have h := h.1 hc
      refine jx_iload_n dX1_count_32 rfl rfl ?_
      exact jx_iret dX1_count_33 rfl rfl ⟨_, rfl, h⟩
    · have h := h.2 hc
      refine jx_aload_n dX1_count_17 rfl rfl ?_
      refine jx_iload dX1_count_18 rfl ?_
      refine jx_iload_n dX1_count_20 rfl rfl ?_
      refine jx_callVi (N := MX1_hop) [.inl x4, .inl x2] rfl rfl rfl rfl okX1_hop (by decide) rfl (Nat.le_of_ble_eq_true rfl) dX1_count_21 h (fun r2 w1 h => ?_)
      refine jx_istore dX1_count_24 (Nat.le_of_ble_eq_true rfl) (lv' := [jx_t, none, jx_i x2, jx_i x3, jx_i r2]) rfl ?_
      refine jx_iinc (v := x3 + 1) dX1_count_26 rfl rfl (Nat.le_of_ble_eq_true rfl) (lv' := [jx_t, none, jx_i x2, jx_i (x3 + 1), jx_i r2]) rfl ?_
      refine jx_goto (tgt := 5) dX1_count_29 (by decide) ?_
      exact h
theorem bX1_hops_0 (Φ : Int32 → jx_Wd → Prop) (x1 x2 : Int32) (w : jx_Wd) (h :
    jx_CV MX1_work [.inr 0] w (fun w1 => (
    jx_CI MX1_has [.inr 0, .inl x1, .inl x2] w1 (fun r3 w2 => (
    (r3 = 0 → (
      Φ (-1) w2
    )) ∧ (¬ r3 = 0 → (
      jx_CI MX1_count [.inr 0, .inl x1, .inl x2] w2 (fun r5 w4 => (
      Φ r5 w4
      ))
    ))
    ))
    ))
    ) : jx_J MX1_hops (jx_qi Φ) 0 [jx_t, jx_i x1, jx_i x2] [] w := by
  refine jx_aload_n dX1_hops_0 rfl rfl ?_
  refine jx_callVv (N := MX1_work) [] rfl rfl rfl rfl okX1_work (by decide) rfl (Nat.le_of_ble_eq_true rfl) dX1_hops_1 h (fun w1 h => ?_)
  refine jx_aload_n dX1_hops_4 rfl rfl ?_
  refine jx_iload_n dX1_hops_5 rfl rfl ?_
  refine jx_iload_n dX1_hops_6 rfl rfl ?_
  refine jx_callVi (N := MX1_has) [.inl x1, .inl x2] rfl rfl rfl rfl okX1_has (by decide) rfl (Nat.le_of_ble_eq_true rfl) dX1_hops_7 h (fun r3 w2 h => ?_)
  refine jx_if_eq (tgt := 22) dX1_hops_10 (by decide) (fun hc => ?_) (fun hc => ?_)
  · have h := h.1 hc
    refine jx_iconst (v := (-1)) dX1_hops_22 (by decide) ?_
    exact jx_iret dX1_hops_23 rfl rfl ⟨_, rfl, h⟩
  · have h := h.2 hc
    refine jx_aload_n dX1_hops_13 rfl rfl ?_
    refine jx_iload_n dX1_hops_14 rfl rfl ?_
    refine jx_iload_n dX1_hops_15 rfl rfl ?_
    refine jx_callVi (N := MX1_count) [.inl x1, .inl x2] rfl rfl rfl rfl okX1_count (by decide) rfl (Nat.le_of_ble_eq_true rfl) dX1_hops_16 h (fun r5 w4 h => ?_)
    refine jx_goto (tgt := 23) dX1_hops_19 (by decide) ?_
    exact jx_iret dX1_hops_23 rfl rfl ⟨_, rfl, h⟩
theorem eX1_hops {Φ : Int32 → jx_Wd → Prop} {x1 x2 : Int32} {w : jx_Wd} (h : jx_J MX1_hops (jx_qi Φ) 0 [jx_t, jx_i x1, jx_i x2] [] w) : jx_CI MX1_hops [.inr 0, .inl x1, .inl x2] w Φ := jx_of _ (by decide +kernel) ⟨rfl, rfl⟩ (Nat.le_of_ble_eq_true rfl) rfl h
theorem bX1_walk_0 (Φ : Int32 → jx_Wd → Prop) (x1 x2 x3 : Int32) (w : jx_Wd) (h :
    jx_J MX1_walk (jx_qi Φ) 6 [jx_t, none, jx_i x2, jx_i x3, jx_i x1, jx_i 0] [] w
    ) : jx_J MX1_walk (jx_qi Φ) 0 [jx_t, jx_i x1, jx_i x2, jx_i x3, none, none] [] w := by
  refine jx_iload_n dX1_walk_0 rfl rfl ?_
  refine jx_istore dX1_walk_1 (Nat.le_of_ble_eq_true rfl) (lv' := [jx_t, jx_i x1, jx_i x2, jx_i x3, jx_i x1, none]) rfl ?_
  refine jx_iconst (v := 0) dX1_walk_3 (by decide) ?_
  refine jx_istore dX1_walk_4 (Nat.le_of_ble_eq_true rfl) (lv' := [jx_t, jx_i x1, jx_i x2, jx_i x3, jx_i x1, jx_i 0]) rfl ?_
  exact jx_weak (jx_Le.s (jx_Le.n (jx_Le.s (jx_Le.s (jx_Le.s (jx_Le.s jx_Le.z)))))) h
theorem eX1_walk {Φ : Int32 → jx_Wd → Prop} {x1 x2 x3 : Int32} {w : jx_Wd} (h : jx_J MX1_walk (jx_qi Φ) 0 [jx_t, jx_i x1, jx_i x2, jx_i x3, none, none] [] w) : jx_CI MX1_walk [.inr 0, .inl x1, .inl x2, .inl x3] w Φ := jx_of _ (by decide +kernel) ⟨rfl, rfl⟩ (Nat.le_of_ble_eq_true rfl) rfl h
theorem bX1_walk_6 (Φ : Int32 → jx_Wd → Prop) (x2 x3 x4 x5 : Int32) (w : jx_Wd) (h :
    (x3 ≤ x5 → (
      Φ x4 w
    )) ∧ (¬ x3 ≤ x5 → (
      (6 ≤ x5 → (
        Φ x4 w
      )) ∧ (¬ 6 ≤ x5 → (
        (x4 = x2 → (
          Φ x4 w
        )) ∧ (¬ x4 = x2 → (
          jx_CI MX1_hop [.inr 0, .inl x4, .inl x2] w (fun r2 w1 => (
          jx_J MX1_walk (jx_qi Φ) 6 [jx_t, none, jx_i x2, jx_i x3, jx_i r2, jx_i (x5 + 1)] [] w1
          ))
        ))
      ))
    ))
    ) : jx_J MX1_walk (jx_qi Φ) 6 [jx_t, none, jx_i x2, jx_i x3, jx_i x4, jx_i x5] [] w := by
  refine jx_iload dX1_walk_6 rfl ?_
  refine jx_iload_n dX1_walk_8 rfl rfl ?_
  refine jx_icmp_ge (tgt := 40) dX1_walk_9 (by decide) (fun hc => ?_) (fun hc => ?_)
  · have h := h.1 hc
    refine jx_iload dX1_walk_40 rfl ?_
    exact jx_iret dX1_walk_42 rfl rfl ⟨_, rfl, h⟩
  · have h := h.2 hc
    refine jx_iload dX1_walk_12 rfl ?_
    refine jx_bipush (v := 6) dX1_walk_14 (by decide) ?_
    refine jx_icmp_ge (tgt := 40) dX1_walk_16 (by decide) (fun hc => ?_) (fun hc => ?_)
    · have h := h.1 hc
      refine jx_iload dX1_walk_40 rfl ?_
      exact jx_iret dX1_walk_42 rfl rfl ⟨_, rfl, h⟩
    · have h := h.2 hc
      refine jx_iload dX1_walk_19 rfl ?_
      refine jx_iload_n dX1_walk_21 rfl rfl ?_
      refine jx_icmp_eq (tgt := 40) dX1_walk_22 (by decide) (fun hc => ?_) (fun hc => ?_)
      · have h := h.1 hc
        refine jx_iload dX1_walk_40 rfl ?_
        exact jx_iret dX1_walk_42 rfl rfl ⟨_, rfl, h⟩
      · have h := h.2 hc
        refine jx_aload_n dX1_walk_25 rfl rfl ?_
        refine jx_iload dX1_walk_26 rfl ?_
        refine jx_iload_n dX1_walk_28 rfl rfl ?_
        refine jx_callVi (N := MX1_hop) [.inl x4, .inl x2] rfl rfl rfl rfl okX1_hop (by decide) rfl (Nat.le_of_ble_eq_true rfl) dX1_walk_29 h (fun r2 w1 h => ?_)
        refine jx_istore dX1_walk_32 (Nat.le_of_ble_eq_true rfl) (lv' := [jx_t, none, jx_i x2, jx_i x3, jx_i r2, jx_i x5]) rfl ?_
        refine jx_iinc (v := x5 + 1) dX1_walk_34 rfl rfl (Nat.le_of_ble_eq_true rfl) (lv' := [jx_t, none, jx_i x2, jx_i x3, jx_i r2, jx_i (x5 + 1)]) rfl ?_
        refine jx_goto (tgt := 6) dX1_walk_37 (by decide) ?_
        exact h
theorem bX1_routeAt_0 (Φ : Int32 → jx_Wd → Prop) (x1 x2 x3 : Int32) (w : jx_Wd) (h :
    jx_CV MX1_work [.inr 0] w (fun w1 => (
    jx_CI MX1_has [.inr 0, .inl x1, .inl x2] w1 (fun r3 w2 => (
    (r3 = 0 → (
      Φ (-1) w2
    )) ∧ (¬ r3 = 0 → (
      (x3 < 0 → (
        Φ (-1) w2
      )) ∧ (¬ x3 < 0 → (
        jx_CI MX1_count [.inr 0, .inl x1, .inl x2] w2 (fun r5 w4 => (
        (r5 < x3 → (
          Φ (-1) w4
        )) ∧ (¬ r5 < x3 → (
          jx_CI MX1_walk [.inr 0, .inl x1, .inl x2, .inl x3] w4 (fun r7 w6 => (
          Φ r7 w6
          ))
        ))
        ))
      ))
    ))
    ))
    ))
    ) : jx_J MX1_routeAt (jx_qi Φ) 0 [jx_t, jx_i x1, jx_i x2, jx_i x3] [] w := by
  refine jx_aload_n dX1_routeAt_0 rfl rfl ?_
  refine jx_callVv (N := MX1_work) [] rfl rfl rfl rfl okX1_work (by decide) rfl (Nat.le_of_ble_eq_true rfl) dX1_routeAt_1 h (fun w1 h => ?_)
  refine jx_aload_n dX1_routeAt_4 rfl rfl ?_
  refine jx_iload_n dX1_routeAt_5 rfl rfl ?_
  refine jx_iload_n dX1_routeAt_6 rfl rfl ?_
  refine jx_callVi (N := MX1_has) [.inl x1, .inl x2] rfl rfl rfl rfl okX1_has (by decide) rfl (Nat.le_of_ble_eq_true rfl) dX1_routeAt_7 h (fun r3 w2 h => ?_)
  refine jx_if_eq (tgt := 37) dX1_routeAt_10 (by decide) (fun hc => ?_) (fun hc => ?_)
  · have h := h.1 hc
    refine jx_iconst (v := (-1)) dX1_routeAt_37 (by decide) ?_
    exact jx_iret dX1_routeAt_38 rfl rfl ⟨_, rfl, h⟩
  · have h := h.2 hc
    refine jx_iload_n dX1_routeAt_13 rfl rfl ?_
    refine jx_if_lt (tgt := 37) dX1_routeAt_14 (by decide) (fun hc => ?_) (fun hc => ?_)
    · have h := h.1 hc
      refine jx_iconst (v := (-1)) dX1_routeAt_37 (by decide) ?_
      exact jx_iret dX1_routeAt_38 rfl rfl ⟨_, rfl, h⟩
    · have h := h.2 hc
      refine jx_iload_n dX1_routeAt_17 rfl rfl ?_
      refine jx_aload_n dX1_routeAt_18 rfl rfl ?_
      refine jx_iload_n dX1_routeAt_19 rfl rfl ?_
      refine jx_iload_n dX1_routeAt_20 rfl rfl ?_
      refine jx_callVi (N := MX1_count) [.inl x1, .inl x2] rfl rfl rfl rfl okX1_count (by decide) rfl (Nat.le_of_ble_eq_true rfl) dX1_routeAt_21 h (fun r5 w4 h => ?_)
      refine jx_icmp_gt (tgt := 37) dX1_routeAt_24 (by decide) (fun hc => ?_) (fun hc => ?_)
      · have h := h.1 hc
        refine jx_iconst (v := (-1)) dX1_routeAt_37 (by decide) ?_
        exact jx_iret dX1_routeAt_38 rfl rfl ⟨_, rfl, h⟩
      · have h := h.2 hc
        refine jx_aload_n dX1_routeAt_27 rfl rfl ?_
        refine jx_iload_n dX1_routeAt_28 rfl rfl ?_
        refine jx_iload_n dX1_routeAt_29 rfl rfl ?_
        refine jx_iload_n dX1_routeAt_30 rfl rfl ?_
        refine jx_callVi (N := MX1_walk) [.inl x1, .inl x2, .inl x3] rfl rfl rfl rfl okX1_walk (by decide) rfl (Nat.le_of_ble_eq_true rfl) dX1_routeAt_31 h (fun r7 w6 h => ?_)
        refine jx_goto (tgt := 38) dX1_routeAt_34 (by decide) ?_
        exact jx_iret dX1_routeAt_38 rfl rfl ⟨_, rfl, h⟩
theorem eX1_routeAt {Φ : Int32 → jx_Wd → Prop} {x1 x2 x3 : Int32} {w : jx_Wd} (h : jx_J MX1_routeAt (jx_qi Φ) 0 [jx_t, jx_i x1, jx_i x2, jx_i x3] [] w) : jx_CI MX1_routeAt [.inr 0, .inl x1, .inl x2, .inl x3] w Φ := jx_of _ (by decide +kernel) ⟨rfl, rfl⟩ (Nat.le_of_ble_eq_true rfl) rfl h
theorem bX1_after_0 (Φ : Int32 → jx_Wd → Prop) (x1 x2 x3 : Int32) (w : jx_Wd) (h :
    jx_CV MX1_work [.inr 0] w (fun w1 => (
    jx_CI MX1_has [.inr 0, .inl x1, .inl x2] w1 (fun r3 w2 => (
    (r3 = 0 → (
      Φ (-1) w2
    )) ∧ (¬ r3 = 0 → (
      jx_CI MX1_walk [.inr 0, .inl x1, .inl x2, .inl x3] w2 (fun r5 w4 => (
      Φ r5 w4
      ))
    ))
    ))
    ))
    ) : jx_J MX1_after (jx_qi Φ) 0 [jx_t, jx_i x1, jx_i x2, jx_i x3] [] w := by
  refine jx_aload_n dX1_after_0 rfl rfl ?_
  refine jx_callVv (N := MX1_work) [] rfl rfl rfl rfl okX1_work (by decide) rfl (Nat.le_of_ble_eq_true rfl) dX1_after_1 h (fun w1 h => ?_)
  refine jx_aload_n dX1_after_4 rfl rfl ?_
  refine jx_iload_n dX1_after_5 rfl rfl ?_
  refine jx_iload_n dX1_after_6 rfl rfl ?_
  refine jx_callVi (N := MX1_has) [.inl x1, .inl x2] rfl rfl rfl rfl okX1_has (by decide) rfl (Nat.le_of_ble_eq_true rfl) dX1_after_7 h (fun r3 w2 h => ?_)
  refine jx_if_eq (tgt := 23) dX1_after_10 (by decide) (fun hc => ?_) (fun hc => ?_)
  · have h := h.1 hc
    refine jx_iconst (v := (-1)) dX1_after_23 (by decide) ?_
    exact jx_iret dX1_after_24 rfl rfl ⟨_, rfl, h⟩
  · have h := h.2 hc
    refine jx_aload_n dX1_after_13 rfl rfl ?_
    refine jx_iload_n dX1_after_14 rfl rfl ?_
    refine jx_iload_n dX1_after_15 rfl rfl ?_
    refine jx_iload_n dX1_after_16 rfl rfl ?_
    refine jx_callVi (N := MX1_walk) [.inl x1, .inl x2, .inl x3] rfl rfl rfl rfl okX1_walk (by decide) rfl (Nat.le_of_ble_eq_true rfl) dX1_after_17 h (fun r5 w4 h => ?_)
    refine jx_goto (tgt := 24) dX1_after_20 (by decide) ?_
    exact jx_iret dX1_after_24 rfl rfl ⟨_, rfl, h⟩
theorem eX1_after {Φ : Int32 → jx_Wd → Prop} {x1 x2 x3 : Int32} {w : jx_Wd} (h : jx_J MX1_after (jx_qi Φ) 0 [jx_t, jx_i x1, jx_i x2, jx_i x3] [] w) : jx_CI MX1_after [.inr 0, .inl x1, .inl x2, .inl x3] w Φ := jx_of _ (by decide +kernel) ⟨rfl, rfl⟩ (Nat.le_of_ble_eq_true rfl) rfl h
theorem bX1_passes_0 (Φ : Int32 → jx_Wd → Prop) (x1 x2 x3 x4 : Int32) (w : jx_Wd) (h :
    jx_CI MX1_count [.inr 0, .inl x1, .inl x2] w (fun r2 w1 => (
    jx_J MX1_passes (jx_qi Φ) 14 [jx_t, jx_i x1, jx_i x2, jx_i x3, jx_i x4, jx_i 0, jx_i r2, jx_i 0, none] [] w1
    ))
    ) : jx_J MX1_passes (jx_qi Φ) 0 [jx_t, jx_i x1, jx_i x2, jx_i x3, jx_i x4, none, none, none, none] [] w := by
  refine jx_iconst (v := 0) dX1_passes_0 (by decide) ?_
  refine jx_istore dX1_passes_1 (Nat.le_of_ble_eq_true rfl) (lv' := [jx_t, jx_i x1, jx_i x2, jx_i x3, jx_i x4, jx_i 0, none, none, none]) rfl ?_
  refine jx_aload_n dX1_passes_3 rfl rfl ?_
  refine jx_iload_n dX1_passes_4 rfl rfl ?_
  refine jx_iload_n dX1_passes_5 rfl rfl ?_
  refine jx_callVi (N := MX1_count) [.inl x1, .inl x2] rfl rfl rfl rfl okX1_count (by decide) rfl (Nat.le_of_ble_eq_true rfl) dX1_passes_6 h (fun r2 w1 h => ?_)
  refine jx_istore dX1_passes_9 (Nat.le_of_ble_eq_true rfl) (lv' := [jx_t, jx_i x1, jx_i x2, jx_i x3, jx_i x4, jx_i 0, jx_i r2, none, none]) rfl ?_
  refine jx_iconst (v := 0) dX1_passes_11 (by decide) ?_
  refine jx_istore dX1_passes_12 (Nat.le_of_ble_eq_true rfl) (lv' := [jx_t, jx_i x1, jx_i x2, jx_i x3, jx_i x4, jx_i 0, jx_i r2, jx_i 0, none]) rfl ?_
  exact h
theorem eX1_passes {Φ : Int32 → jx_Wd → Prop} {x1 x2 x3 x4 : Int32} {w : jx_Wd} (h : jx_J MX1_passes (jx_qi Φ) 0 [jx_t, jx_i x1, jx_i x2, jx_i x3, jx_i x4, none, none, none, none] [] w) : jx_CI MX1_passes [.inr 0, .inl x1, .inl x2, .inl x3, .inl x4] w Φ := jx_of _ (by decide +kernel) ⟨rfl, rfl⟩ (Nat.le_of_ble_eq_true rfl) rfl h
theorem bX1_passes_14 (Φ : Int32 → jx_Wd → Prop) (x1 x2 x3 x4 x5 x6 x7 : Int32) (w : jx_Wd) (h :
    (x6 < x7 → (
      (x5 = 0 ∨ x5 = 1) ∧ Φ x5 w
    )) ∧ (¬ x6 < x7 → (
      jx_CI MX1_walk [.inr 0, .inl x1, .inl x2, .inl x7] w (fun r2 w1 => (
      (r2 = x3 → (
        (x5 = 0 → (
          (x4 < 0 → (
            jx_J MX1_passes (jx_qi Φ) 14 [jx_t, jx_i x1, jx_i x2, jx_i x3, jx_i x4, jx_i 1, jx_i x6, jx_i (x7 + 1), none] [] w1
          )) ∧ (¬ x4 < 0 → (
            (x6 ≤ x7 → (
              jx_J MX1_passes (jx_qi Φ) 14 [jx_t, jx_i x1, jx_i x2, jx_i x3, jx_i x4, jx_i 0, jx_i x6, jx_i (x7 + 1), none] [] w1
            )) ∧ (¬ x6 ≤ x7 → (
              jx_CI MX1_walk [.inr 0, .inl x1, .inl x2, .inl (x7 + 1)] w1 (fun r4 w3 => (
              (r4 = x4 → (
                jx_J MX1_passes (jx_qi Φ) 14 [jx_t, jx_i x1, jx_i x2, jx_i x3, jx_i x4, jx_i 1, jx_i x6, jx_i (x7 + 1), none] [] w3
              )) ∧ (¬ r4 = x4 → (
                jx_J MX1_passes (jx_qi Φ) 14 [jx_t, jx_i x1, jx_i x2, jx_i x3, jx_i x4, jx_i 0, jx_i x6, jx_i (x7 + 1), none] [] w3
              ))
              ))
            ))
          ))
        )) ∧ (¬ x5 = 0 → (
          jx_J MX1_passes (jx_qi Φ) 14 [jx_t, jx_i x1, jx_i x2, jx_i x3, jx_i x4, jx_i 1, jx_i x6, jx_i (x7 + 1), none] [] w1
        ))
      )) ∧ (¬ r2 = x3 → (
        (x5 = 0 → (
          jx_J MX1_passes (jx_qi Φ) 14 [jx_t, jx_i x1, jx_i x2, jx_i x3, jx_i x4, jx_i 0, jx_i x6, jx_i (x7 + 1), none] [] w1
        )) ∧ (¬ x5 = 0 → (
          jx_J MX1_passes (jx_qi Φ) 14 [jx_t, jx_i x1, jx_i x2, jx_i x3, jx_i x4, jx_i 1, jx_i x6, jx_i (x7 + 1), none] [] w1
        ))
      ))
      ))
    ))
    ) : jx_J MX1_passes (jx_qi Φ) 14 [jx_t, jx_i x1, jx_i x2, jx_i x3, jx_i x4, jx_i x5, jx_i x6, jx_i x7, none] [] w := by
  refine jx_iload dX1_passes_14 rfl ?_
  refine jx_iload dX1_passes_16 rfl ?_
  refine jx_icmp_gt (tgt := 90) dX1_passes_18 (by decide) (fun hc => ?_) (fun hc => ?_)
  · have h := h.1 hc
    refine jx_iload dX1_passes_90 rfl ?_
    exact jx_iret dX1_passes_92 rfl (jx_nb h.1) ⟨_, rfl, h.2⟩
  · have h := h.2 hc
    refine jx_aload_n dX1_passes_21 rfl rfl ?_
    refine jx_iload_n dX1_passes_22 rfl rfl ?_
    refine jx_iload_n dX1_passes_23 rfl rfl ?_
    refine jx_iload dX1_passes_24 rfl ?_
    refine jx_callVi (N := MX1_walk) [.inl x1, .inl x2, .inl x7] rfl rfl rfl rfl okX1_walk (by decide) rfl (Nat.le_of_ble_eq_true rfl) dX1_passes_26 h (fun r2 w1 h => ?_)
    refine jx_iload_n dX1_passes_29 rfl rfl ?_
    refine jx_icmp_ne (tgt := 37) dX1_passes_30 (by decide) (fun hc => ?_) (fun hc => ?_)
    · have h := h.2 hc
      refine jx_iconst (v := 0) dX1_passes_37 (by decide) ?_
      refine jx_istore dX1_passes_38 (Nat.le_of_ble_eq_true rfl) (lv' := [jx_t, jx_i x1, jx_i x2, jx_i x3, jx_i x4, jx_i x5, jx_i x6, jx_i x7, jx_i 0]) rfl ?_
      refine jx_iload dX1_passes_40 rfl ?_
      refine jx_if_ne (tgt := 77) dX1_passes_42 (by decide) (fun hc => ?_) (fun hc => ?_)
      · have h := h.2 hc
        refine jx_iconst (v := 1) dX1_passes_77 (by decide) ?_
        refine jx_goto (tgt := 82) dX1_passes_78 (by decide) ?_
        refine jx_istore dX1_passes_82 (Nat.le_of_ble_eq_true rfl) (lv' := [jx_t, jx_i x1, jx_i x2, jx_i x3, jx_i x4, jx_i 1, jx_i x6, jx_i x7, jx_i 0]) rfl ?_
        refine jx_iinc (v := x7 + 1) dX1_passes_84 rfl rfl (Nat.le_of_ble_eq_true rfl) (lv' := [jx_t, jx_i x1, jx_i x2, jx_i x3, jx_i x4, jx_i 1, jx_i x6, jx_i (x7 + 1), jx_i 0]) rfl ?_
        refine jx_goto (tgt := 14) dX1_passes_87 (by decide) ?_
        exact jx_weak (jx_Le.s (jx_Le.s (jx_Le.s (jx_Le.s (jx_Le.s (jx_Le.s (jx_Le.s (jx_Le.s (jx_Le.n jx_Le.z))))))))) h
      · have h := h.1 hc
        refine jx_iload dX1_passes_45 rfl ?_
        refine jx_if_eq (tgt := 81) dX1_passes_47 (by decide) (fun hc => ?_) (fun hc => absurd (by decide) hc)
        refine jx_iconst (v := 0) dX1_passes_81 (by decide) ?_
        refine jx_istore dX1_passes_82 (Nat.le_of_ble_eq_true rfl) (lv' := [jx_t, jx_i x1, jx_i x2, jx_i x3, jx_i x4, jx_i 0, jx_i x6, jx_i x7, jx_i 0]) rfl ?_
        refine jx_iinc (v := x7 + 1) dX1_passes_84 rfl rfl (Nat.le_of_ble_eq_true rfl) (lv' := [jx_t, jx_i x1, jx_i x2, jx_i x3, jx_i x4, jx_i 0, jx_i x6, jx_i (x7 + 1), jx_i 0]) rfl ?_
        refine jx_goto (tgt := 14) dX1_passes_87 (by decide) ?_
        exact jx_weak (jx_Le.s (jx_Le.s (jx_Le.s (jx_Le.s (jx_Le.s (jx_Le.s (jx_Le.s (jx_Le.s (jx_Le.n jx_Le.z))))))))) h
    · have h := h.1 hc
      refine jx_iconst (v := 1) dX1_passes_33 (by decide) ?_
      refine jx_goto (tgt := 38) dX1_passes_34 (by decide) ?_
      refine jx_istore dX1_passes_38 (Nat.le_of_ble_eq_true rfl) (lv' := [jx_t, jx_i x1, jx_i x2, jx_i x3, jx_i x4, jx_i x5, jx_i x6, jx_i x7, jx_i 1]) rfl ?_
      refine jx_iload dX1_passes_40 rfl ?_
      refine jx_if_ne (tgt := 77) dX1_passes_42 (by decide) (fun hc => ?_) (fun hc => ?_)
      · have h := h.2 hc
        refine jx_iconst (v := 1) dX1_passes_77 (by decide) ?_
        refine jx_goto (tgt := 82) dX1_passes_78 (by decide) ?_
        refine jx_istore dX1_passes_82 (Nat.le_of_ble_eq_true rfl) (lv' := [jx_t, jx_i x1, jx_i x2, jx_i x3, jx_i x4, jx_i 1, jx_i x6, jx_i x7, jx_i 1]) rfl ?_
        refine jx_iinc (v := x7 + 1) dX1_passes_84 rfl rfl (Nat.le_of_ble_eq_true rfl) (lv' := [jx_t, jx_i x1, jx_i x2, jx_i x3, jx_i x4, jx_i 1, jx_i x6, jx_i (x7 + 1), jx_i 1]) rfl ?_
        refine jx_goto (tgt := 14) dX1_passes_87 (by decide) ?_
        exact jx_weak (jx_Le.s (jx_Le.s (jx_Le.s (jx_Le.s (jx_Le.s (jx_Le.s (jx_Le.s (jx_Le.s (jx_Le.n jx_Le.z))))))))) h
      · have h := h.1 hc
        refine jx_iload dX1_passes_45 rfl ?_
        refine jx_if_eq (tgt := 81) dX1_passes_47 (by decide) (fun hc => absurd hc (by decide)) (fun hc => ?_)
        refine jx_iload dX1_passes_50 rfl ?_
        refine jx_if_lt (tgt := 77) dX1_passes_52 (by decide) (fun hc => ?_) (fun hc => ?_)
        · have h := h.1 hc
          refine jx_iconst (v := 1) dX1_passes_77 (by decide) ?_
          refine jx_goto (tgt := 82) dX1_passes_78 (by decide) ?_
          refine jx_istore dX1_passes_82 (Nat.le_of_ble_eq_true rfl) (lv' := [jx_t, jx_i x1, jx_i x2, jx_i x3, jx_i x4, jx_i 1, jx_i x6, jx_i x7, jx_i 1]) rfl ?_
          refine jx_iinc (v := x7 + 1) dX1_passes_84 rfl rfl (Nat.le_of_ble_eq_true rfl) (lv' := [jx_t, jx_i x1, jx_i x2, jx_i x3, jx_i x4, jx_i 1, jx_i x6, jx_i (x7 + 1), jx_i 1]) rfl ?_
          refine jx_goto (tgt := 14) dX1_passes_87 (by decide) ?_
          exact jx_weak (jx_Le.s (jx_Le.s (jx_Le.s (jx_Le.s (jx_Le.s (jx_Le.s (jx_Le.s (jx_Le.s (jx_Le.n jx_Le.z))))))))) h
        · have h := h.2 hc
          refine jx_iload dX1_passes_55 rfl ?_
          refine jx_iload dX1_passes_57 rfl ?_
          refine jx_icmp_ge (tgt := 81) dX1_passes_59 (by decide) (fun hc => ?_) (fun hc => ?_)
          · have h := h.1 hc
            refine jx_iconst (v := 0) dX1_passes_81 (by decide) ?_
            refine jx_istore dX1_passes_82 (Nat.le_of_ble_eq_true rfl) (lv' := [jx_t, jx_i x1, jx_i x2, jx_i x3, jx_i x4, jx_i 0, jx_i x6, jx_i x7, jx_i 1]) rfl ?_
            refine jx_iinc (v := x7 + 1) dX1_passes_84 rfl rfl (Nat.le_of_ble_eq_true rfl) (lv' := [jx_t, jx_i x1, jx_i x2, jx_i x3, jx_i x4, jx_i 0, jx_i x6, jx_i (x7 + 1), jx_i 1]) rfl ?_
            refine jx_goto (tgt := 14) dX1_passes_87 (by decide) ?_
            exact jx_weak (jx_Le.s (jx_Le.s (jx_Le.s (jx_Le.s (jx_Le.s (jx_Le.s (jx_Le.s (jx_Le.s (jx_Le.n jx_Le.z))))))))) h
          · have h := h.2 hc
            refine jx_aload_n dX1_passes_62 rfl rfl ?_
            refine jx_iload_n dX1_passes_63 rfl rfl ?_
            refine jx_iload_n dX1_passes_64 rfl rfl ?_
            refine jx_iload dX1_passes_65 rfl ?_
            refine jx_iconst (v := 1) dX1_passes_67 (by decide) ?_
            refine jx_iadd dX1_passes_68 ?_
            refine jx_callVi (N := MX1_walk) [.inl x1, .inl x2, .inl (x7 + 1)] rfl rfl rfl rfl okX1_walk (by decide) rfl (Nat.le_of_ble_eq_true rfl) dX1_passes_69 h (fun r4 w3 h => ?_)
            refine jx_iload dX1_passes_72 rfl ?_
            refine jx_icmp_ne (tgt := 81) dX1_passes_74 (by decide) (fun hc => ?_) (fun hc => ?_)
            · have h := h.2 hc
              refine jx_iconst (v := 0) dX1_passes_81 (by decide) ?_
              refine jx_istore dX1_passes_82 (Nat.le_of_ble_eq_true rfl) (lv' := [jx_t, jx_i x1, jx_i x2, jx_i x3, jx_i x4, jx_i 0, jx_i x6, jx_i x7, jx_i 1]) rfl ?_
              refine jx_iinc (v := x7 + 1) dX1_passes_84 rfl rfl (Nat.le_of_ble_eq_true rfl) (lv' := [jx_t, jx_i x1, jx_i x2, jx_i x3, jx_i x4, jx_i 0, jx_i x6, jx_i (x7 + 1), jx_i 1]) rfl ?_
              refine jx_goto (tgt := 14) dX1_passes_87 (by decide) ?_
              exact jx_weak (jx_Le.s (jx_Le.s (jx_Le.s (jx_Le.s (jx_Le.s (jx_Le.s (jx_Le.s (jx_Le.s (jx_Le.n jx_Le.z))))))))) h
            · have h := h.1 hc
              refine jx_iconst (v := 1) dX1_passes_77 (by decide) ?_
              refine jx_goto (tgt := 82) dX1_passes_78 (by decide) ?_
              refine jx_istore dX1_passes_82 (Nat.le_of_ble_eq_true rfl) (lv' := [jx_t, jx_i x1, jx_i x2, jx_i x3, jx_i x4, jx_i 1, jx_i x6, jx_i x7, jx_i 1]) rfl ?_
              refine jx_iinc (v := x7 + 1) dX1_passes_84 rfl rfl (Nat.le_of_ble_eq_true rfl) (lv' := [jx_t, jx_i x1, jx_i x2, jx_i x3, jx_i x4, jx_i 1, jx_i x6, jx_i (x7 + 1), jx_i 1]) rfl ?_
              refine jx_goto (tgt := 14) dX1_passes_87 (by decide) ?_
              exact jx_weak (jx_Le.s (jx_Le.s (jx_Le.s (jx_Le.s (jx_Le.s (jx_Le.s (jx_Le.s (jx_Le.s (jx_Le.n jx_Le.z))))))))) h
theorem bX1_load_0 (Φ : Int32 → jx_Wd → Prop) (x1 : Int32) (w : jx_Wd) (h :
    jx_CV MX1_work [.inr 0] w (fun w1 => (
    jx_J MX1_load (jx_qi Φ) 8 [jx_t, jx_i x1, jx_i 0, jx_i 0, none, none] [] w1
    ))
    ) : jx_J MX1_load (jx_qi Φ) 0 [jx_t, jx_i x1, none, none, none, none] [] w := by
  refine jx_aload_n dX1_load_0 rfl rfl ?_
  refine jx_callVv (N := MX1_work) [] rfl rfl rfl rfl okX1_work (by decide) rfl (Nat.le_of_ble_eq_true rfl) dX1_load_1 h (fun w1 h => ?_)
  refine jx_iconst (v := 0) dX1_load_4 (by decide) ?_
  refine jx_istore_n dX1_load_5 rfl (Nat.le_of_ble_eq_true rfl) (lv' := [jx_t, jx_i x1, jx_i 0, none, none, none]) rfl ?_
  refine jx_iconst (v := 0) dX1_load_6 (by decide) ?_
  refine jx_istore_n dX1_load_7 rfl (Nat.le_of_ble_eq_true rfl) (lv' := [jx_t, jx_i x1, jx_i 0, jx_i 0, none, none]) rfl ?_
  exact h
theorem eX1_load {Φ : Int32 → jx_Wd → Prop} {x1 : Int32} {w : jx_Wd} (h : jx_J MX1_load (jx_qi Φ) 0 [jx_t, jx_i x1, none, none, none, none] [] w) : jx_CI MX1_load [.inr 0, .inl x1] w Φ := jx_of _ (by decide +kernel) ⟨rfl, rfl⟩ (Nat.le_of_ble_eq_true rfl) rfl h
theorem bX1_load_8 (Φ : Int32 → jx_Wd → Prop) (x1 x2 x3 : Int32) (w : jx_Wd) (h :
    (49 ≤ x3 → (
      Φ x2 w
    )) ∧ (¬ 49 ≤ x3 → (
      jx_CI MX1_router [.inr 0, .inl x1] w (fun r2 w1 => (
      (r2 = 0 → (
        jx_J MX1_load (jx_qi Φ) 8 [jx_t, jx_i x1, jx_i (x2 + 0), jx_i (x3 + 1), none, none] [] w1
      )) ∧ (¬ r2 = 0 → (
        ((x3 / 7) = (x3 - x3 / 7 * 7) → (
          jx_J MX1_load (jx_qi Φ) 8 [jx_t, jx_i x1, jx_i (x2 + 0), jx_i (x3 + 1), none, none] [] w1
        )) ∧ (¬ (x3 / 7) = (x3 - x3 / 7 * 7) → (
          ((x3 / 7) = x1 → (
            jx_J MX1_load (jx_qi Φ) 8 [jx_t, jx_i x1, jx_i (x2 + 0), jx_i (x3 + 1), none, none] [] w1
          )) ∧ (¬ (x3 / 7) = x1 → (
            ((x3 - x3 / 7 * 7) = x1 → (
              jx_J MX1_load (jx_qi Φ) 8 [jx_t, jx_i x1, jx_i (x2 + 0), jx_i (x3 + 1), none, none] [] w1
            )) ∧ (¬ (x3 - x3 / 7 * 7) = x1 → (
              jx_CI MX1_has [.inr 0, .inl (x3 / 7), .inl (x3 - x3 / 7 * 7)] w1 (fun r4 w3 => (
              (r4 = 0 → (
                jx_J MX1_load (jx_qi Φ) 8 [jx_t, jx_i x1, jx_i (x2 + 0), jx_i (x3 + 1), none, none] [] w3
              )) ∧ (¬ r4 = 0 → (
                jx_CI MX1_passes [.inr 0, .inl (x3 / 7), .inl (x3 - x3 / 7 * 7), .inl x1, .inl (-1)] w3 (fun r6 w5 => (
                (r6 = 0 → (
                  jx_J MX1_load (jx_qi Φ) 8 [jx_t, jx_i x1, jx_i (x2 + 0), jx_i (x3 + 1), none, none] [] w5
                )) ∧ (¬ r6 = 0 → (
                  jx_J MX1_load (jx_qi Φ) 8 [jx_t, jx_i x1, jx_i (x2 + 1), jx_i (x3 + 1), none, none] [] w5
                ))
                ))
              ))
              ))
            ))
          ))
        ))
      ))
      ))
    ))
    ) : jx_J MX1_load (jx_qi Φ) 8 [jx_t, jx_i x1, jx_i x2, jx_i x3, none, none] [] w := by
  refine jx_iload_n dX1_load_8 rfl rfl ?_
  refine jx_bipush (v := 49) dX1_load_9 (by decide) ?_
  refine jx_icmp_ge (tgt := 91) dX1_load_11 (by decide) (fun hc => ?_) (fun hc => ?_)
  · have h := h.1 hc
    refine jx_iload_n dX1_load_91 rfl rfl ?_
    exact jx_iret dX1_load_92 rfl rfl ⟨_, rfl, h⟩
  · have h := h.2 hc
    refine jx_iload_n dX1_load_14 rfl rfl ?_
    refine jx_bipush (v := 7) dX1_load_15 (by decide) ?_
    refine jx_idiv dX1_load_17 (by decide) ?_
    refine jx_istore dX1_load_18 (Nat.le_of_ble_eq_true rfl) (lv' := [jx_t, jx_i x1, jx_i x2, jx_i x3, jx_i (x3 / 7), none]) rfl ?_
    refine jx_iload_n dX1_load_20 rfl rfl ?_
    refine jx_bipush (v := 7) dX1_load_21 (by decide) ?_
    refine jx_irem dX1_load_23 (by decide) ?_
    refine jx_istore dX1_load_24 (Nat.le_of_ble_eq_true rfl) (lv' := [jx_t, jx_i x1, jx_i x2, jx_i x3, jx_i (x3 / 7), jx_i (x3 - x3 / 7 * 7)]) rfl ?_
    refine jx_iload_n dX1_load_26 rfl rfl ?_
    refine jx_aload_n dX1_load_27 rfl rfl ?_
    refine jx_iload_n dX1_load_28 rfl rfl ?_
    refine jx_callVi (N := MX1_router) [.inl x1] rfl rfl rfl rfl okX1_router (by decide) rfl (Nat.le_of_ble_eq_true rfl) dX1_load_29 h (fun r2 w1 h => ?_)
    refine jx_if_eq (tgt := 82) dX1_load_32 (by decide) (fun hc => ?_) (fun hc => ?_)
    · have h := h.1 hc
      refine jx_iconst (v := 0) dX1_load_82 (by decide) ?_
      refine jx_iadd dX1_load_83 ?_
      refine jx_istore_n dX1_load_84 rfl (Nat.le_of_ble_eq_true rfl) (lv' := [jx_t, jx_i x1, jx_i (x2 + 0), jx_i x3, jx_i (x3 / 7), jx_i (x3 - x3 / 7 * 7)]) rfl ?_
      refine jx_iinc (v := x3 + 1) dX1_load_85 rfl rfl (Nat.le_of_ble_eq_true rfl) (lv' := [jx_t, jx_i x1, jx_i (x2 + 0), jx_i (x3 + 1), jx_i (x3 / 7), jx_i (x3 - x3 / 7 * 7)]) rfl ?_
      refine jx_goto (tgt := 8) dX1_load_88 (by decide) ?_
      exact jx_weak (jx_Le.s (jx_Le.s (jx_Le.s (jx_Le.s (jx_Le.n (jx_Le.n jx_Le.z)))))) h
    · have h := h.2 hc
      refine jx_iload dX1_load_35 rfl ?_
      refine jx_iload dX1_load_37 rfl ?_
      refine jx_icmp_eq (tgt := 82) dX1_load_39 (by decide) (fun hc => ?_) (fun hc => ?_)
      · have h := h.1 hc
        refine jx_iconst (v := 0) dX1_load_82 (by decide) ?_
        refine jx_iadd dX1_load_83 ?_
        refine jx_istore_n dX1_load_84 rfl (Nat.le_of_ble_eq_true rfl) (lv' := [jx_t, jx_i x1, jx_i (x2 + 0), jx_i x3, jx_i (x3 / 7), jx_i (x3 - x3 / 7 * 7)]) rfl ?_
        refine jx_iinc (v := x3 + 1) dX1_load_85 rfl rfl (Nat.le_of_ble_eq_true rfl) (lv' := [jx_t, jx_i x1, jx_i (x2 + 0), jx_i (x3 + 1), jx_i (x3 / 7), jx_i (x3 - x3 / 7 * 7)]) rfl ?_
        refine jx_goto (tgt := 8) dX1_load_88 (by decide) ?_
        exact jx_weak (jx_Le.s (jx_Le.s (jx_Le.s (jx_Le.s (jx_Le.n (jx_Le.n jx_Le.z)))))) h
      · have h := h.2 hc
        refine jx_iload dX1_load_42 rfl ?_
        refine jx_iload_n dX1_load_44 rfl rfl ?_
        refine jx_icmp_eq (tgt := 82) dX1_load_45 (by decide) (fun hc => ?_) (fun hc => ?_)
        · have h := h.1 hc
          refine jx_iconst (v := 0) dX1_load_82 (by decide) ?_
          refine jx_iadd dX1_load_83 ?_
          refine jx_istore_n dX1_load_84 rfl (Nat.le_of_ble_eq_true rfl) (lv' := [jx_t, jx_i x1, jx_i (x2 + 0), jx_i x3, jx_i (x3 / 7), jx_i (x3 - x3 / 7 * 7)]) rfl ?_
          refine jx_iinc (v := x3 + 1) dX1_load_85 rfl rfl (Nat.le_of_ble_eq_true rfl) (lv' := [jx_t, jx_i x1, jx_i (x2 + 0), jx_i (x3 + 1), jx_i (x3 / 7), jx_i (x3 - x3 / 7 * 7)]) rfl ?_
          refine jx_goto (tgt := 8) dX1_load_88 (by decide) ?_
          exact jx_weak (jx_Le.s (jx_Le.s (jx_Le.s (jx_Le.s (jx_Le.n (jx_Le.n jx_Le.z)))))) h
        · have h := h.2 hc
          refine jx_iload dX1_load_48 rfl ?_
          refine jx_iload_n dX1_load_50 rfl rfl ?_
          refine jx_icmp_eq (tgt := 82) dX1_load_51 (by decide) (fun hc => ?_) (fun hc => ?_)
          · have h := h.1 hc
            refine jx_iconst (v := 0) dX1_load_82 (by decide) ?_
            refine jx_iadd dX1_load_83 ?_
            refine jx_istore_n dX1_load_84 rfl (Nat.le_of_ble_eq_true rfl) (lv' := [jx_t, jx_i x1, jx_i (x2 + 0), jx_i x3, jx_i (x3 / 7), jx_i (x3 - x3 / 7 * 7)]) rfl ?_
            refine jx_iinc (v := x3 + 1) dX1_load_85 rfl rfl (Nat.le_of_ble_eq_true rfl) (lv' := [jx_t, jx_i x1, jx_i (x2 + 0), jx_i (x3 + 1), jx_i (x3 / 7), jx_i (x3 - x3 / 7 * 7)]) rfl ?_
            refine jx_goto (tgt := 8) dX1_load_88 (by decide) ?_
            exact jx_weak (jx_Le.s (jx_Le.s (jx_Le.s (jx_Le.s (jx_Le.n (jx_Le.n jx_Le.z)))))) h
          · have h := h.2 hc
            refine jx_aload_n dX1_load_54 rfl rfl ?_
            refine jx_iload dX1_load_55 rfl ?_
            refine jx_iload dX1_load_57 rfl ?_
            refine jx_callVi (N := MX1_has) [.inl (x3 / 7), .inl (x3 - x3 / 7 * 7)] rfl rfl rfl rfl okX1_has (by decide) rfl (Nat.le_of_ble_eq_true rfl) dX1_load_59 h (fun r4 w3 h => ?_)
            refine jx_if_eq (tgt := 82) dX1_load_62 (by decide) (fun hc => ?_) (fun hc => ?_)
            · have h := h.1 hc
              refine jx_iconst (v := 0) dX1_load_82 (by decide) ?_
              refine jx_iadd dX1_load_83 ?_
              refine jx_istore_n dX1_load_84 rfl (Nat.le_of_ble_eq_true rfl) (lv' := [jx_t, jx_i x1, jx_i (x2 + 0), jx_i x3, jx_i (x3 / 7), jx_i (x3 - x3 / 7 * 7)]) rfl ?_
              refine jx_iinc (v := x3 + 1) dX1_load_85 rfl rfl (Nat.le_of_ble_eq_true rfl) (lv' := [jx_t, jx_i x1, jx_i (x2 + 0), jx_i (x3 + 1), jx_i (x3 / 7), jx_i (x3 - x3 / 7 * 7)]) rfl ?_
              refine jx_goto (tgt := 8) dX1_load_88 (by decide) ?_
              exact jx_weak (jx_Le.s (jx_Le.s (jx_Le.s (jx_Le.s (jx_Le.n (jx_Le.n jx_Le.z)))))) h
            · have h := h.2 hc
              refine jx_aload_n dX1_load_65 rfl rfl ?_
              refine jx_iload dX1_load_66 rfl ?_
              refine jx_iload dX1_load_68 rfl ?_
              refine jx_iload_n dX1_load_70 rfl rfl ?_
              refine jx_iconst (v := (-1)) dX1_load_71 (by decide) ?_
              refine jx_callVi (N := MX1_passes) [.inl (x3 / 7), .inl (x3 - x3 / 7 * 7), .inl x1, .inl (-1)] rfl rfl rfl rfl okX1_passes (by decide) rfl (Nat.le_of_ble_eq_true rfl) dX1_load_72 h (fun r6 w5 h => ?_)
              refine jx_if_eq (tgt := 82) dX1_load_75 (by decide) (fun hc => ?_) (fun hc => ?_)
              · have h := h.1 hc
                refine jx_iconst (v := 0) dX1_load_82 (by decide) ?_
                refine jx_iadd dX1_load_83 ?_
                refine jx_istore_n dX1_load_84 rfl (Nat.le_of_ble_eq_true rfl) (lv' := [jx_t, jx_i x1, jx_i (x2 + 0), jx_i x3, jx_i (x3 / 7), jx_i (x3 - x3 / 7 * 7)]) rfl ?_
                refine jx_iinc (v := x3 + 1) dX1_load_85 rfl rfl (Nat.le_of_ble_eq_true rfl) (lv' := [jx_t, jx_i x1, jx_i (x2 + 0), jx_i (x3 + 1), jx_i (x3 / 7), jx_i (x3 - x3 / 7 * 7)]) rfl ?_
                refine jx_goto (tgt := 8) dX1_load_88 (by decide) ?_
                exact jx_weak (jx_Le.s (jx_Le.s (jx_Le.s (jx_Le.s (jx_Le.n (jx_Le.n jx_Le.z)))))) h
              · have h := h.2 hc
                refine jx_iconst (v := 1) dX1_load_78 (by decide) ?_
                refine jx_goto (tgt := 83) dX1_load_79 (by decide) ?_
                refine jx_iadd dX1_load_83 ?_
                refine jx_istore_n dX1_load_84 rfl (Nat.le_of_ble_eq_true rfl) (lv' := [jx_t, jx_i x1, jx_i (x2 + 1), jx_i x3, jx_i (x3 / 7), jx_i (x3 - x3 / 7 * 7)]) rfl ?_
                refine jx_iinc (v := x3 + 1) dX1_load_85 rfl rfl (Nat.le_of_ble_eq_true rfl) (lv' := [jx_t, jx_i x1, jx_i (x2 + 1), jx_i (x3 + 1), jx_i (x3 / 7), jx_i (x3 - x3 / 7 * 7)]) rfl ?_
                refine jx_goto (tgt := 8) dX1_load_88 (by decide) ?_
                exact jx_weak (jx_Le.s (jx_Le.s (jx_Le.s (jx_Le.s (jx_Le.n (jx_Le.n jx_Le.z)))))) h
theorem bX1_linkLoad_0 (Φ : Int32 → jx_Wd → Prop) (x1 x2 : Int32) (w : jx_Wd) (h :
    jx_CV MX1_work [.inr 0] w (fun w1 => (
    jx_J MX1_linkLoad (jx_qi Φ) 9 [jx_t, jx_i x1, jx_i x2, jx_i 0, jx_i 0, none, none] [] w1
    ))
    ) : jx_J MX1_linkLoad (jx_qi Φ) 0 [jx_t, jx_i x1, jx_i x2, none, none, none, none] [] w := by
  refine jx_aload_n dX1_linkLoad_0 rfl rfl ?_
  refine jx_callVv (N := MX1_work) [] rfl rfl rfl rfl okX1_work (by decide) rfl (Nat.le_of_ble_eq_true rfl) dX1_linkLoad_1 h (fun w1 h => ?_)
  refine jx_iconst (v := 0) dX1_linkLoad_4 (by decide) ?_
  refine jx_istore_n dX1_linkLoad_5 rfl (Nat.le_of_ble_eq_true rfl) (lv' := [jx_t, jx_i x1, jx_i x2, jx_i 0, none, none, none]) rfl ?_
  refine jx_iconst (v := 0) dX1_linkLoad_6 (by decide) ?_
  refine jx_istore dX1_linkLoad_7 (Nat.le_of_ble_eq_true rfl) (lv' := [jx_t, jx_i x1, jx_i x2, jx_i 0, jx_i 0, none, none]) rfl ?_
  exact h
theorem eX1_linkLoad {Φ : Int32 → jx_Wd → Prop} {x1 x2 : Int32} {w : jx_Wd} (h : jx_J MX1_linkLoad (jx_qi Φ) 0 [jx_t, jx_i x1, jx_i x2, none, none, none, none] [] w) : jx_CI MX1_linkLoad [.inr 0, .inl x1, .inl x2] w Φ := jx_of _ (by decide +kernel) ⟨rfl, rfl⟩ (Nat.le_of_ble_eq_true rfl) rfl h
theorem bX1_linkLoad_9 (Φ : Int32 → jx_Wd → Prop) (x1 x2 x3 x4 : Int32) (w : jx_Wd) (h :
    (49 ≤ x4 → (
      Φ x3 w
    )) ∧ (¬ 49 ≤ x4 → (
      jx_CI MX1_counts [.inr 0, .inl x1, .inl x2] w (fun r2 w1 => (
      (r2 = 0 → (
        Φ x3 w1
      )) ∧ (¬ r2 = 0 → (
        ((x4 / 7) = (x4 - x4 / 7 * 7) → (
          jx_J MX1_linkLoad (jx_qi Φ) 9 [jx_t, jx_i x1, jx_i x2, jx_i (x3 + 0), jx_i (x4 + 1), none, none] [] w1
        )) ∧ (¬ (x4 / 7) = (x4 - x4 / 7 * 7) → (
          jx_CI MX1_has [.inr 0, .inl (x4 / 7), .inl (x4 - x4 / 7 * 7)] w1 (fun r4 w3 => (
          (r4 = 0 → (
            jx_J MX1_linkLoad (jx_qi Φ) 9 [jx_t, jx_i x1, jx_i x2, jx_i (x3 + 0), jx_i (x4 + 1), none, none] [] w3
          )) ∧ (¬ r4 = 0 → (
            jx_CI MX1_passes [.inr 0, .inl (x4 / 7), .inl (x4 - x4 / 7 * 7), .inl x1, .inl x2] w3 (fun r6 w5 => (
            (r6 = 0 → (
              jx_CI MX1_passes [.inr 0, .inl (x4 / 7), .inl (x4 - x4 / 7 * 7), .inl x2, .inl x1] w5 (fun r8 w7 => (
              (r8 = 0 → (
                jx_J MX1_linkLoad (jx_qi Φ) 9 [jx_t, jx_i x1, jx_i x2, jx_i (x3 + 0), jx_i (x4 + 1), none, none] [] w7
              )) ∧ (¬ r8 = 0 → (
                jx_J MX1_linkLoad (jx_qi Φ) 9 [jx_t, jx_i x1, jx_i x2, jx_i (x3 + 1), jx_i (x4 + 1), none, none] [] w7
              ))
              ))
            )) ∧ (¬ r6 = 0 → (
              jx_J MX1_linkLoad (jx_qi Φ) 9 [jx_t, jx_i x1, jx_i x2, jx_i (x3 + 1), jx_i (x4 + 1), none, none] [] w5
            ))
            ))
          ))
          ))
        ))
      ))
      ))
    ))
    ) : jx_J MX1_linkLoad (jx_qi Φ) 9 [jx_t, jx_i x1, jx_i x2, jx_i x3, jx_i x4, none, none] [] w := by
  refine jx_iload dX1_linkLoad_9 rfl ?_
  refine jx_bipush (v := 49) dX1_linkLoad_11 (by decide) ?_
  refine jx_icmp_ge (tgt := 97) dX1_linkLoad_13 (by decide) (fun hc => ?_) (fun hc => ?_)
  · have h := h.1 hc
    refine jx_iload_n dX1_linkLoad_97 rfl rfl ?_
    exact jx_iret dX1_linkLoad_98 rfl rfl ⟨_, rfl, h⟩
  · have h := h.2 hc
    refine jx_aload_n dX1_linkLoad_16 rfl rfl ?_
    refine jx_iload_n dX1_linkLoad_17 rfl rfl ?_
    refine jx_iload_n dX1_linkLoad_18 rfl rfl ?_
    refine jx_callVi (N := MX1_counts) [.inl x1, .inl x2] rfl rfl rfl rfl okX1_counts (by decide) rfl (Nat.le_of_ble_eq_true rfl) dX1_linkLoad_19 h (fun r2 w1 h => ?_)
    refine jx_if_eq (tgt := 97) dX1_linkLoad_22 (by decide) (fun hc => ?_) (fun hc => ?_)
    · have h := h.1 hc
      refine jx_iload_n dX1_linkLoad_97 rfl rfl ?_
      exact jx_iret dX1_linkLoad_98 rfl rfl ⟨_, rfl, h⟩
    · have h := h.2 hc
      refine jx_iload dX1_linkLoad_25 rfl ?_
      refine jx_bipush (v := 7) dX1_linkLoad_27 (by decide) ?_
      refine jx_idiv dX1_linkLoad_29 (by decide) ?_
      refine jx_istore dX1_linkLoad_30 (Nat.le_of_ble_eq_true rfl) (lv' := [jx_t, jx_i x1, jx_i x2, jx_i x3, jx_i x4, jx_i (x4 / 7), none]) rfl ?_
      refine jx_iload dX1_linkLoad_32 rfl ?_
      refine jx_bipush (v := 7) dX1_linkLoad_34 (by decide) ?_
      refine jx_irem dX1_linkLoad_36 (by decide) ?_
      refine jx_istore dX1_linkLoad_37 (Nat.le_of_ble_eq_true rfl) (lv' := [jx_t, jx_i x1, jx_i x2, jx_i x3, jx_i x4, jx_i (x4 / 7), jx_i (x4 - x4 / 7 * 7)]) rfl ?_
      refine jx_iload_n dX1_linkLoad_39 rfl rfl ?_
      refine jx_iload dX1_linkLoad_40 rfl ?_
      refine jx_iload dX1_linkLoad_42 rfl ?_
      refine jx_icmp_eq (tgt := 88) dX1_linkLoad_44 (by decide) (fun hc => ?_) (fun hc => ?_)
      · have h := h.1 hc
        refine jx_iconst (v := 0) dX1_linkLoad_88 (by decide) ?_
        refine jx_iadd dX1_linkLoad_89 ?_
        refine jx_istore_n dX1_linkLoad_90 rfl (Nat.le_of_ble_eq_true rfl) (lv' := [jx_t, jx_i x1, jx_i x2, jx_i (x3 + 0), jx_i x4, jx_i (x4 / 7), jx_i (x4 - x4 / 7 * 7)]) rfl ?_
        refine jx_iinc (v := x4 + 1) dX1_linkLoad_91 rfl rfl (Nat.le_of_ble_eq_true rfl) (lv' := [jx_t, jx_i x1, jx_i x2, jx_i (x3 + 0), jx_i (x4 + 1), jx_i (x4 / 7), jx_i (x4 - x4 / 7 * 7)]) rfl ?_
        refine jx_goto (tgt := 9) dX1_linkLoad_94 (by decide) ?_
        exact jx_weak (jx_Le.s (jx_Le.s (jx_Le.s (jx_Le.s (jx_Le.s (jx_Le.n (jx_Le.n jx_Le.z))))))) h
      · have h := h.2 hc
        refine jx_aload_n dX1_linkLoad_47 rfl rfl ?_
        refine jx_iload dX1_linkLoad_48 rfl ?_
        refine jx_iload dX1_linkLoad_50 rfl ?_
        refine jx_callVi (N := MX1_has) [.inl (x4 / 7), .inl (x4 - x4 / 7 * 7)] rfl rfl rfl rfl okX1_has (by decide) rfl (Nat.le_of_ble_eq_true rfl) dX1_linkLoad_52 h (fun r4 w3 h => ?_)
        refine jx_if_eq (tgt := 88) dX1_linkLoad_55 (by decide) (fun hc => ?_) (fun hc => ?_)
        · have h := h.1 hc
          refine jx_iconst (v := 0) dX1_linkLoad_88 (by decide) ?_
          refine jx_iadd dX1_linkLoad_89 ?_
          refine jx_istore_n dX1_linkLoad_90 rfl (Nat.le_of_ble_eq_true rfl) (lv' := [jx_t, jx_i x1, jx_i x2, jx_i (x3 + 0), jx_i x4, jx_i (x4 / 7), jx_i (x4 - x4 / 7 * 7)]) rfl ?_
          refine jx_iinc (v := x4 + 1) dX1_linkLoad_91 rfl rfl (Nat.le_of_ble_eq_true rfl) (lv' := [jx_t, jx_i x1, jx_i x2, jx_i (x3 + 0), jx_i (x4 + 1), jx_i (x4 / 7), jx_i (x4 - x4 / 7 * 7)]) rfl ?_
          refine jx_goto (tgt := 9) dX1_linkLoad_94 (by decide) ?_
          exact jx_weak (jx_Le.s (jx_Le.s (jx_Le.s (jx_Le.s (jx_Le.s (jx_Le.n (jx_Le.n jx_Le.z))))))) h
        · have h := h.2 hc
          refine jx_aload_n dX1_linkLoad_58 rfl rfl ?_
          refine jx_iload dX1_linkLoad_59 rfl ?_
          refine jx_iload dX1_linkLoad_61 rfl ?_
          refine jx_iload_n dX1_linkLoad_63 rfl rfl ?_
          refine jx_iload_n dX1_linkLoad_64 rfl rfl ?_
          refine jx_callVi (N := MX1_passes) [.inl (x4 / 7), .inl (x4 - x4 / 7 * 7), .inl x1, .inl x2] rfl rfl rfl rfl okX1_passes (by decide) rfl (Nat.le_of_ble_eq_true rfl) dX1_linkLoad_65 h (fun r6 w5 h => ?_)
          refine jx_if_ne (tgt := 84) dX1_linkLoad_68 (by decide) (fun hc => ?_) (fun hc => ?_)
          · have h := h.2 hc
            refine jx_iconst (v := 1) dX1_linkLoad_84 (by decide) ?_
            refine jx_goto (tgt := 89) dX1_linkLoad_85 (by decide) ?_
            refine jx_iadd dX1_linkLoad_89 ?_
            refine jx_istore_n dX1_linkLoad_90 rfl (Nat.le_of_ble_eq_true rfl) (lv' := [jx_t, jx_i x1, jx_i x2, jx_i (x3 + 1), jx_i x4, jx_i (x4 / 7), jx_i (x4 - x4 / 7 * 7)]) rfl ?_
            refine jx_iinc (v := x4 + 1) dX1_linkLoad_91 rfl rfl (Nat.le_of_ble_eq_true rfl) (lv' := [jx_t, jx_i x1, jx_i x2, jx_i (x3 + 1), jx_i (x4 + 1), jx_i (x4 / 7), jx_i (x4 - x4 / 7 * 7)]) rfl ?_
            refine jx_goto (tgt := 9) dX1_linkLoad_94 (by decide) ?_
            exact jx_weak (jx_Le.s (jx_Le.s (jx_Le.s (jx_Le.s (jx_Le.s (jx_Le.n (jx_Le.n jx_Le.z))))))) h
          · have h := h.1 hc
            refine jx_aload_n dX1_linkLoad_71 rfl rfl ?_
            refine jx_iload dX1_linkLoad_72 rfl ?_
            refine jx_iload dX1_linkLoad_74 rfl ?_
            refine jx_iload_n dX1_linkLoad_76 rfl rfl ?_
            refine jx_iload_n dX1_linkLoad_77 rfl rfl ?_
            refine jx_callVi (N := MX1_passes) [.inl (x4 / 7), .inl (x4 - x4 / 7 * 7), .inl x2, .inl x1] rfl rfl rfl rfl okX1_passes (by decide) rfl (Nat.le_of_ble_eq_true rfl) dX1_linkLoad_78 h (fun r8 w7 h => ?_)
            refine jx_if_eq (tgt := 88) dX1_linkLoad_81 (by decide) (fun hc => ?_) (fun hc => ?_)
            · have h := h.1 hc
              refine jx_iconst (v := 0) dX1_linkLoad_88 (by decide) ?_
              refine jx_iadd dX1_linkLoad_89 ?_
              refine jx_istore_n dX1_linkLoad_90 rfl (Nat.le_of_ble_eq_true rfl) (lv' := [jx_t, jx_i x1, jx_i x2, jx_i (x3 + 0), jx_i x4, jx_i (x4 / 7), jx_i (x4 - x4 / 7 * 7)]) rfl ?_
              refine jx_iinc (v := x4 + 1) dX1_linkLoad_91 rfl rfl (Nat.le_of_ble_eq_true rfl) (lv' := [jx_t, jx_i x1, jx_i x2, jx_i (x3 + 0), jx_i (x4 + 1), jx_i (x4 / 7), jx_i (x4 - x4 / 7 * 7)]) rfl ?_
              refine jx_goto (tgt := 9) dX1_linkLoad_94 (by decide) ?_
              exact jx_weak (jx_Le.s (jx_Le.s (jx_Le.s (jx_Le.s (jx_Le.s (jx_Le.n (jx_Le.n jx_Le.z))))))) h
            · have h := h.2 hc
              refine jx_iconst (v := 1) dX1_linkLoad_84 (by decide) ?_
              refine jx_goto (tgt := 89) dX1_linkLoad_85 (by decide) ?_
              refine jx_iadd dX1_linkLoad_89 ?_
              refine jx_istore_n dX1_linkLoad_90 rfl (Nat.le_of_ble_eq_true rfl) (lv' := [jx_t, jx_i x1, jx_i x2, jx_i (x3 + 1), jx_i x4, jx_i (x4 / 7), jx_i (x4 - x4 / 7 * 7)]) rfl ?_
              refine jx_iinc (v := x4 + 1) dX1_linkLoad_91 rfl rfl (Nat.le_of_ble_eq_true rfl) (lv' := [jx_t, jx_i x1, jx_i x2, jx_i (x3 + 1), jx_i (x4 + 1), jx_i (x4 / 7), jx_i (x4 - x4 / 7 * 7)]) rfl ?_
              refine jx_goto (tgt := 9) dX1_linkLoad_94 (by decide) ?_
              exact jx_weak (jx_Le.s (jx_Le.s (jx_Le.s (jx_Le.s (jx_Le.s (jx_Le.n (jx_Le.n jx_Le.z))))))) h
theorem bX1_reachable_0 (Φ : Int32 → jx_Wd → Prop) (x1 : Int32) (w : jx_Wd) (h :
    jx_CV MX1_work [.inr 0] w (fun w1 => (
    jx_J MX1_reachable (jx_qi Φ) 8 [jx_t, jx_i x1, jx_i 0, jx_i 0] [] w1
    ))
    ) : jx_J MX1_reachable (jx_qi Φ) 0 [jx_t, jx_i x1, none, none] [] w := by
  refine jx_aload_n dX1_reachable_0 rfl rfl ?_
  refine jx_callVv (N := MX1_work) [] rfl rfl rfl rfl okX1_work (by decide) rfl (Nat.le_of_ble_eq_true rfl) dX1_reachable_1 h (fun w1 h => ?_)
  refine jx_iconst (v := 0) dX1_reachable_4 (by decide) ?_
  refine jx_istore_n dX1_reachable_5 rfl (Nat.le_of_ble_eq_true rfl) (lv' := [jx_t, jx_i x1, jx_i 0, none]) rfl ?_
  refine jx_iconst (v := 0) dX1_reachable_6 (by decide) ?_
  refine jx_istore_n dX1_reachable_7 rfl (Nat.le_of_ble_eq_true rfl) (lv' := [jx_t, jx_i x1, jx_i 0, jx_i 0]) rfl ?_
  exact h
theorem eX1_reachable {Φ : Int32 → jx_Wd → Prop} {x1 : Int32} {w : jx_Wd} (h : jx_J MX1_reachable (jx_qi Φ) 0 [jx_t, jx_i x1, none, none] [] w) : jx_CI MX1_reachable [.inr 0, .inl x1] w Φ := jx_of _ (by decide +kernel) ⟨rfl, rfl⟩ (Nat.le_of_ble_eq_true rfl) rfl h
theorem bX1_reachable_8 (Φ : Int32 → jx_Wd → Prop) (x1 x2 x3 : Int32) (w : jx_Wd) (h :
    (7 ≤ x3 → (
      Φ x2 w
    )) ∧ (¬ 7 ≤ x3 → (
      (x3 = x1 → (
        jx_J MX1_reachable (jx_qi Φ) 8 [jx_t, jx_i x1, jx_i (x2 ||| 0), jx_i (x3 + 1)] [] w
      )) ∧ (¬ x3 = x1 → (
        jx_CI MX1_has [.inr 0, .inl x1, .inl x3] w (fun r2 w1 => (
        (r2 = 0 → (
          jx_J MX1_reachable (jx_qi Φ) 8 [jx_t, jx_i x1, jx_i (x2 ||| 0), jx_i (x3 + 1)] [] w1
        )) ∧ (¬ r2 = 0 → (
          jx_J MX1_reachable (jx_qi Φ) 8 [jx_t, jx_i x1, jx_i (x2 ||| (1 <<< (x3 &&& 31))), jx_i (x3 + 1)] [] w1
        ))
        ))
      ))
    ))
    ) : jx_J MX1_reachable (jx_qi Φ) 8 [jx_t, jx_i x1, jx_i x2, jx_i x3] [] w := by
  refine jx_iload_n dX1_reachable_8 rfl rfl ?_
  refine jx_bipush (v := 7) dX1_reachable_9 (by decide) ?_
  refine jx_icmp_ge (tgt := 44) dX1_reachable_11 (by decide) (fun hc => ?_) (fun hc => ?_)
  · have h := h.1 hc
    refine jx_iload_n dX1_reachable_44 rfl rfl ?_
    exact jx_iret dX1_reachable_45 rfl rfl ⟨_, rfl, h⟩
  · have h := h.2 hc
    refine jx_iload_n dX1_reachable_14 rfl rfl ?_
    refine jx_iload_n dX1_reachable_15 rfl rfl ?_
    refine jx_iload_n dX1_reachable_16 rfl rfl ?_
    refine jx_icmp_eq (tgt := 35) dX1_reachable_17 (by decide) (fun hc => ?_) (fun hc => ?_)
    · have h := h.1 hc
      refine jx_iconst (v := 0) dX1_reachable_35 (by decide) ?_
      refine jx_ior dX1_reachable_36 ?_
      refine jx_istore_n dX1_reachable_37 rfl (Nat.le_of_ble_eq_true rfl) (lv' := [jx_t, jx_i x1, jx_i (x2 ||| 0), jx_i x3]) rfl ?_
      refine jx_iinc (v := x3 + 1) dX1_reachable_38 rfl rfl (Nat.le_of_ble_eq_true rfl) (lv' := [jx_t, jx_i x1, jx_i (x2 ||| 0), jx_i (x3 + 1)]) rfl ?_
      refine jx_goto (tgt := 8) dX1_reachable_41 (by decide) ?_
      exact h
    · have h := h.2 hc
      refine jx_aload_n dX1_reachable_20 rfl rfl ?_
      refine jx_iload_n dX1_reachable_21 rfl rfl ?_
      refine jx_iload_n dX1_reachable_22 rfl rfl ?_
      refine jx_callVi (N := MX1_has) [.inl x1, .inl x3] rfl rfl rfl rfl okX1_has (by decide) rfl (Nat.le_of_ble_eq_true rfl) dX1_reachable_23 h (fun r2 w1 h => ?_)
      refine jx_if_eq (tgt := 35) dX1_reachable_26 (by decide) (fun hc => ?_) (fun hc => ?_)
      · have h := h.1 hc
        refine jx_iconst (v := 0) dX1_reachable_35 (by decide) ?_
        refine jx_ior dX1_reachable_36 ?_
        refine jx_istore_n dX1_reachable_37 rfl (Nat.le_of_ble_eq_true rfl) (lv' := [jx_t, jx_i x1, jx_i (x2 ||| 0), jx_i x3]) rfl ?_
        refine jx_iinc (v := x3 + 1) dX1_reachable_38 rfl rfl (Nat.le_of_ble_eq_true rfl) (lv' := [jx_t, jx_i x1, jx_i (x2 ||| 0), jx_i (x3 + 1)]) rfl ?_
        refine jx_goto (tgt := 8) dX1_reachable_41 (by decide) ?_
        exact h
      · have h := h.2 hc
        refine jx_iconst (v := 1) dX1_reachable_29 (by decide) ?_
        refine jx_iload_n dX1_reachable_30 rfl rfl ?_
        refine jx_ishl dX1_reachable_31 ?_
        refine jx_goto (tgt := 36) dX1_reachable_32 (by decide) ?_
        refine jx_ior dX1_reachable_36 ?_
        refine jx_istore_n dX1_reachable_37 rfl (Nat.le_of_ble_eq_true rfl) (lv' := [jx_t, jx_i x1, jx_i (x2 ||| (1 <<< (x3 &&& 31))), jx_i x3]) rfl ?_
        refine jx_iinc (v := x3 + 1) dX1_reachable_38 rfl rfl (Nat.le_of_ble_eq_true rfl) (lv' := [jx_t, jx_i x1, jx_i (x2 ||| (1 <<< (x3 &&& 31))), jx_i (x3 + 1)]) rfl ?_
        refine jx_goto (tgt := 8) dX1_reachable_41 (by decide) ?_
        exact h
theorem bX1_farthest_0 (Φ : Int32 → jx_Wd → Prop) (x1 : Int32) (w : jx_Wd) (h :
    jx_CV MX1_work [.inr 0] w (fun w1 => (
    jx_J MX1_farthest (jx_qi Φ) 8 [jx_t, jx_i x1, jx_i (-1), jx_i 0] [] w1
    ))
    ) : jx_J MX1_farthest (jx_qi Φ) 0 [jx_t, jx_i x1, none, none] [] w := by
  refine jx_aload_n dX1_farthest_0 rfl rfl ?_
  refine jx_callVv (N := MX1_work) [] rfl rfl rfl rfl okX1_work (by decide) rfl (Nat.le_of_ble_eq_true rfl) dX1_farthest_1 h (fun w1 h => ?_)
  refine jx_iconst (v := (-1)) dX1_farthest_4 (by decide) ?_
  refine jx_istore_n dX1_farthest_5 rfl (Nat.le_of_ble_eq_true rfl) (lv' := [jx_t, jx_i x1, jx_i (-1), none]) rfl ?_
  refine jx_iconst (v := 0) dX1_farthest_6 (by decide) ?_
  refine jx_istore_n dX1_farthest_7 rfl (Nat.le_of_ble_eq_true rfl) (lv' := [jx_t, jx_i x1, jx_i (-1), jx_i 0]) rfl ?_
  exact h
theorem eX1_farthest {Φ : Int32 → jx_Wd → Prop} {x1 : Int32} {w : jx_Wd} (h : jx_J MX1_farthest (jx_qi Φ) 0 [jx_t, jx_i x1, none, none] [] w) : jx_CI MX1_farthest [.inr 0, .inl x1] w Φ := jx_of _ (by decide +kernel) ⟨rfl, rfl⟩ (Nat.le_of_ble_eq_true rfl) rfl h
theorem bX1_farthest_8 (Φ : Int32 → jx_Wd → Prop) (x1 x2 x3 : Int32) (w : jx_Wd) (h :
    (7 ≤ x3 → (
      Φ x2 w
    )) ∧ (¬ 7 ≤ x3 → (
      jx_CI MX1_has [.inr 0, .inl x1, .inl x3] w (fun r2 w1 => (
      (r2 = 0 → (
        jx_J MX1_farthest (jx_qi Φ) 8 [jx_t, jx_i x1, jx_i x2, jx_i (x3 + 1)] [] w1
      )) ∧ (¬ r2 = 0 → (
        vp_in ((7 * x1) + x3) 49 ∧ ∀ v3 : Int32, v3 = w1 3 ((7 * x1) + x3).toNatClampNeg → (
        (v3 ≤ x2 → (
          jx_J MX1_farthest (jx_qi Φ) 8 [jx_t, jx_i x1, jx_i x2, jx_i (x3 + 1)] [] w1
        )) ∧ (¬ v3 ≤ x2 → (
          vp_in ((7 * x1) + x3) 49 ∧ ∀ v4 : Int32, v4 = w1 3 ((7 * x1) + x3).toNatClampNeg → (
          jx_J MX1_farthest (jx_qi Φ) 8 [jx_t, jx_i x1, jx_i v4, jx_i (x3 + 1)] [] w1
          )
        ))
        )
      ))
      ))
    ))
    ) : jx_J MX1_farthest (jx_qi Φ) 8 [jx_t, jx_i x1, jx_i x2, jx_i x3] [] w := by
  refine jx_iload_n dX1_farthest_8 rfl rfl ?_
  refine jx_bipush (v := 7) dX1_farthest_9 (by decide) ?_
  refine jx_icmp_ge (tgt := 60) dX1_farthest_11 (by decide) (fun hc => ?_) (fun hc => ?_)
  · have h := h.1 hc
    refine jx_iload_n dX1_farthest_60 rfl rfl ?_
    exact jx_iret dX1_farthest_61 rfl rfl ⟨_, rfl, h⟩
  · have h := h.2 hc
    refine jx_aload_n dX1_farthest_14 rfl rfl ?_
    refine jx_iload_n dX1_farthest_15 rfl rfl ?_
    refine jx_iload_n dX1_farthest_16 rfl rfl ?_
    refine jx_callVi (N := MX1_has) [.inl x1, .inl x3] rfl rfl rfl rfl okX1_has (by decide) rfl (Nat.le_of_ble_eq_true rfl) dX1_farthest_17 h (fun r2 w1 h => ?_)
    refine jx_if_eq (tgt := 52) dX1_farthest_20 (by decide) (fun hc => ?_) (fun hc => ?_)
    · have h := h.1 hc
      refine jx_iload_n dX1_farthest_52 rfl rfl ?_
      refine jx_istore_n dX1_farthest_53 rfl (Nat.le_of_ble_eq_true rfl) (lv' := [jx_t, jx_i x1, jx_i x2, jx_i x3]) rfl ?_
      refine jx_iinc (v := x3 + 1) dX1_farthest_54 rfl rfl (Nat.le_of_ble_eq_true rfl) (lv' := [jx_t, jx_i x1, jx_i x2, jx_i (x3 + 1)]) rfl ?_
      refine jx_goto (tgt := 8) dX1_farthest_57 (by decide) ?_
      exact h
    · have h := h.2 hc
      refine jx_aload_n dX1_farthest_23 rfl rfl ?_
      refine jx_getX1 rfl rfl 3 (by decide) rfl q217 (v := .inr 4) (fun _ => rfl) dX1_farthest_24 ?_
      refine jx_bipush (v := 7) dX1_farthest_27 (by decide) ?_
      refine jx_iload_n dX1_farthest_29 rfl rfl ?_
      refine jx_imul dX1_farthest_30 ?_
      refine jx_iload_n dX1_farthest_31 rfl rfl ?_
      refine jx_iadd dX1_farthest_32 ?_
      refine jx_iald 3 3 49 rfl dX1_farthest_33 h.1 (fun v3 e_v3 => ?_)
      have h := h.2 v3 e_v3
      refine jx_iload_n dX1_farthest_34 rfl rfl ?_
      refine jx_icmp_le (tgt := 52) dX1_farthest_35 (by decide) (fun hc => ?_) (fun hc => ?_)
      · have h := h.1 hc
        refine jx_iload_n dX1_farthest_52 rfl rfl ?_
        refine jx_istore_n dX1_farthest_53 rfl (Nat.le_of_ble_eq_true rfl) (lv' := [jx_t, jx_i x1, jx_i x2, jx_i x3]) rfl ?_
        refine jx_iinc (v := x3 + 1) dX1_farthest_54 rfl rfl (Nat.le_of_ble_eq_true rfl) (lv' := [jx_t, jx_i x1, jx_i x2, jx_i (x3 + 1)]) rfl ?_
        refine jx_goto (tgt := 8) dX1_farthest_57 (by decide) ?_
        exact h
      · have h := h.2 hc
        refine jx_aload_n dX1_farthest_38 rfl rfl ?_
        refine jx_getX1 rfl rfl 3 (by decide) rfl q217 (v := .inr 4) (fun _ => rfl) dX1_farthest_39 ?_
        refine jx_bipush (v := 7) dX1_farthest_42 (by decide) ?_
        refine jx_iload_n dX1_farthest_44 rfl rfl ?_
        refine jx_imul dX1_farthest_45 ?_
        refine jx_iload_n dX1_farthest_46 rfl rfl ?_
        refine jx_iadd dX1_farthest_47 ?_
        refine jx_iald 3 3 49 rfl dX1_farthest_48 h.1 (fun v4 e_v4 => ?_)
        have h := h.2 v4 e_v4
        refine jx_goto (tgt := 53) dX1_farthest_49 (by decide) ?_
        refine jx_istore_n dX1_farthest_53 rfl (Nat.le_of_ble_eq_true rfl) (lv' := [jx_t, jx_i x1, jx_i v4, jx_i x3]) rfl ?_
        refine jx_iinc (v := x3 + 1) dX1_farthest_54 rfl rfl (Nat.le_of_ble_eq_true rfl) (lv' := [jx_t, jx_i x1, jx_i v4, jx_i (x3 + 1)]) rfl ?_
        refine jx_goto (tgt := 8) dX1_farthest_57 (by decide) ?_
        exact h
theorem bX1_route_0 (Φ : Int32 → jx_Wd → Prop) (x1 x2 : Int32) (w : jx_Wd) (h :
    jx_CI MX1_has [.inr 0, .inl x1, .inl x2] w (fun r2 w1 => (
    (r2 = 0 → (
      Φ 0 w1
    )) ∧ (¬ r2 = 0 → (
      jx_CI MX1_count [.inr 0, .inl x1, .inl x2] w1 (fun r4 w3 => (
      jx_J MX1_route (jx_qi Φ) 24 [jx_t, jx_i x1, jx_i x2, jx_i r4, jx_i 1, jx_i 0] [] w3
      ))
    ))
    ))
    ) : jx_J MX1_route (jx_qi Φ) 0 [jx_t, jx_i x1, jx_i x2, none, none, none] [] w := by
  refine jx_aload_n dX1_route_0 rfl rfl ?_
  refine jx_iload_n dX1_route_1 rfl rfl ?_
  refine jx_iload_n dX1_route_2 rfl rfl ?_
  refine jx_callVi (N := MX1_has) [.inl x1, .inl x2] rfl rfl rfl rfl okX1_has (by decide) rfl (Nat.le_of_ble_eq_true rfl) dX1_route_3 h (fun r2 w1 h => ?_)
  refine jx_if_ne (tgt := 11) dX1_route_6 (by decide) (fun hc => ?_) (fun hc => ?_)
  · have h := h.2 hc
    refine jx_aload_n dX1_route_11 rfl rfl ?_
    refine jx_iload_n dX1_route_12 rfl rfl ?_
    refine jx_iload_n dX1_route_13 rfl rfl ?_
    refine jx_callVi (N := MX1_count) [.inl x1, .inl x2] rfl rfl rfl rfl okX1_count (by decide) rfl (Nat.le_of_ble_eq_true rfl) dX1_route_14 h (fun r4 w3 h => ?_)
    refine jx_istore_n dX1_route_17 rfl (Nat.le_of_ble_eq_true rfl) (lv' := [jx_t, jx_i x1, jx_i x2, jx_i r4, none, none]) rfl ?_
    refine jx_iconst (v := 1) dX1_route_18 (by decide) ?_
    refine jx_istore dX1_route_19 (Nat.le_of_ble_eq_true rfl) (lv' := [jx_t, jx_i x1, jx_i x2, jx_i r4, jx_i 1, none]) rfl ?_
    refine jx_iconst (v := 0) dX1_route_21 (by decide) ?_
    refine jx_istore dX1_route_22 (Nat.le_of_ble_eq_true rfl) (lv' := [jx_t, jx_i x1, jx_i x2, jx_i r4, jx_i 1, jx_i 0]) rfl ?_
    exact h
  · have h := h.1 hc
    refine jx_iconst (v := 0) dX1_route_9 (by decide) ?_
    exact jx_iret dX1_route_10 rfl rfl ⟨_, rfl, h⟩
theorem eX1_route {Φ : Int32 → jx_Wd → Prop} {x1 x2 : Int32} {w : jx_Wd} (h : jx_J MX1_route (jx_qi Φ) 0 [jx_t, jx_i x1, jx_i x2, none, none, none] [] w) : jx_CI MX1_route [.inr 0, .inl x1, .inl x2] w Φ := jx_of _ (by decide +kernel) ⟨rfl, rfl⟩ (Nat.le_of_ble_eq_true rfl) rfl h
theorem bX1_route_24 (Φ : Int32 → jx_Wd → Prop) (x1 x2 x3 x4 x5 : Int32) (w : jx_Wd) (h :
    (x3 < x5 → (
      Φ x4 w
    )) ∧ (¬ x3 < x5 → (
      jx_CI MX1_walk [.inr 0, .inl x1, .inl x2, .inl x5] w (fun r2 w1 => (
      jx_J MX1_route (jx_qi Φ) 24 [jx_t, jx_i x1, jx_i x2, jx_i x3, jx_i ((8 * x4) + r2), jx_i (x5 + 1)] [] w1
      ))
    ))
    ) : jx_J MX1_route (jx_qi Φ) 24 [jx_t, jx_i x1, jx_i x2, jx_i x3, jx_i x4, jx_i x5] [] w := by
  refine jx_iload dX1_route_24 rfl ?_
  refine jx_iload_n dX1_route_26 rfl rfl ?_
  refine jx_icmp_gt (tgt := 52) dX1_route_27 (by decide) (fun hc => ?_) (fun hc => ?_)
  · have h := h.1 hc
    refine jx_iload dX1_route_52 rfl ?_
    exact jx_iret dX1_route_54 rfl rfl ⟨_, rfl, h⟩
  · have h := h.2 hc
    refine jx_bipush (v := 8) dX1_route_30 (by decide) ?_
    refine jx_iload dX1_route_32 rfl ?_
    refine jx_imul dX1_route_34 ?_
    refine jx_aload_n dX1_route_35 rfl rfl ?_
    refine jx_iload_n dX1_route_36 rfl rfl ?_
    refine jx_iload_n dX1_route_37 rfl rfl ?_
    refine jx_iload dX1_route_38 rfl ?_
    refine jx_callVi (N := MX1_walk) [.inl x1, .inl x2, .inl x5] rfl rfl rfl rfl okX1_walk (by decide) rfl (Nat.le_of_ble_eq_true rfl) dX1_route_40 h (fun r2 w1 h => ?_)
    refine jx_iadd dX1_route_43 ?_
    refine jx_istore dX1_route_44 (Nat.le_of_ble_eq_true rfl) (lv' := [jx_t, jx_i x1, jx_i x2, jx_i x3, jx_i ((8 * x4) + r2), jx_i x5]) rfl ?_
    refine jx_iinc (v := x5 + 1) dX1_route_46 rfl rfl (Nat.le_of_ble_eq_true rfl) (lv' := [jx_t, jx_i x1, jx_i x2, jx_i x3, jx_i ((8 * x4) + r2), jx_i (x5 + 1)]) rfl ?_
    refine jx_goto (tgt := 24) dX1_route_49 (by decide) ?_
    exact h
theorem bX1_impact_0 (Φ : Int32 → jx_Wd → Prop) (x1 x2 : Int32) (w : jx_Wd) (h :
    jx_CI MX1_link [.inr 0, .inl x1, .inl x2] w (fun r2 w1 => (
    (r2 = 0 → (
      Φ 0 w1
    )) ∧ (¬ r2 = 0 → (
      jx_CV MX1_work [.inr 0] w1 (fun w3 => (
      jx_J MX1_impact (jx_qi Φ) 17 [jx_t, jx_i x1, jx_i x2, jx_i 0, none, none] [] w3
      ))
    ))
    ))
    ) : jx_J MX1_impact (jx_qi Φ) 0 [jx_t, jx_i x1, jx_i x2, none, none, none] [] w := by
  refine jx_aload_n dX1_impact_0 rfl rfl ?_
  refine jx_iload_n dX1_impact_1 rfl rfl ?_
  refine jx_iload_n dX1_impact_2 rfl rfl ?_
  refine jx_callVi (N := MX1_link) [.inl x1, .inl x2] rfl rfl rfl rfl okX1_link (by decide) rfl (Nat.le_of_ble_eq_true rfl) dX1_impact_3 h (fun r2 w1 h => ?_)
  refine jx_if_ne (tgt := 11) dX1_impact_6 (by decide) (fun hc => ?_) (fun hc => ?_)
  · have h := h.2 hc
    refine jx_aload_n dX1_impact_11 rfl rfl ?_
    refine jx_callVv (N := MX1_work) [] rfl rfl rfl rfl okX1_work (by decide) rfl (Nat.le_of_ble_eq_true rfl) dX1_impact_12 h (fun w3 h => ?_)
    refine jx_iconst (v := 0) dX1_impact_15 (by decide) ?_
    refine jx_istore_n dX1_impact_16 rfl (Nat.le_of_ble_eq_true rfl) (lv' := [jx_t, jx_i x1, jx_i x2, jx_i 0, none, none]) rfl ?_
    exact h
  · have h := h.1 hc
    refine jx_iconst (v := 0) dX1_impact_9 (by decide) ?_
    exact jx_iret dX1_impact_10 rfl rfl ⟨_, rfl, h⟩
theorem eX1_impact {Φ : Int32 → jx_Wd → Prop} {x1 x2 : Int32} {w : jx_Wd} (h : jx_J MX1_impact (jx_qi Φ) 0 [jx_t, jx_i x1, jx_i x2, none, none, none] [] w) : jx_CI MX1_impact [.inr 0, .inl x1, .inl x2] w Φ := jx_of _ (by decide +kernel) ⟨rfl, rfl⟩ (Nat.le_of_ble_eq_true rfl) rfl h
theorem bX1_impact_17 (Φ : Int32 → jx_Wd → Prop) (x1 x2 x3 : Int32) (w : jx_Wd) (h :
    (49 ≤ x3 → (
      vp_in ((7 * x1) + x2) 49 ∧ ∀ v1 : Int32, v1 = w 1 ((7 * x1) + x2).toNatClampNeg → (
      (v1 = 0 → (
        jx_CI MX1_setLink [.inr 0, .inl x1, .inl x2, .inl 1] w (fun r6 w5 => (
        jx_CV MX1_work [.inr 0] w5 (fun w7 => (
        jx_J MX1_impact (jx_qi Φ) 85 [jx_t, jx_i x1, jx_i x2, jx_i v1, jx_i 0, jx_i 0] [] w7
        ))
        ))
      )) ∧ (¬ v1 = 0 → (
        jx_CI MX1_setLink [.inr 0, .inl x1, .inl x2, .inl 0] w (fun r3 w2 => (
        jx_CV MX1_work [.inr 0] w2 (fun w4 => (
        jx_J MX1_impact (jx_qi Φ) 85 [jx_t, jx_i x1, jx_i x2, jx_i v1, jx_i 0, jx_i 0] [] w4
        ))
        ))
      ))
      )
    )) ∧ (¬ 49 ≤ x3 → (
      jx_CI MX1_route [.inr 0, .inl (x3 / 7), .inl (x3 - x3 / 7 * 7)] w (fun r9 w8 => (
      vp_in x3 49 ∧ ∀ w10 : jx_Wd, w10 = jx_up w8 4 (upd (w8 4) x3.toNatClampNeg r9) → (
      jx_J MX1_impact (jx_qi Φ) 17 [jx_t, jx_i x1, jx_i x2, jx_i (x3 + 1), none, none] [] w10
      )
      ))
    ))
    ) : jx_J MX1_impact (jx_qi Φ) 17 [jx_t, jx_i x1, jx_i x2, jx_i x3, none, none] [] w := by
  refine jx_iload_n dX1_impact_17 rfl rfl ?_
  refine jx_bipush (v := 49) dX1_impact_18 (by decide) ?_
  refine jx_icmp_ge (tgt := 47) dX1_impact_20 (by decide) (fun hc => ?_) (fun hc => ?_)
  · have h := h.1 hc
    refine jx_aload_n dX1_impact_47 rfl rfl ?_
    refine jx_getX1 rfl rfl 1 (by decide) rfl q215 (v := .inr 2) (fun _ => rfl) dX1_impact_48 ?_
    refine jx_bipush (v := 7) dX1_impact_51 (by decide) ?_
    refine jx_iload_n dX1_impact_53 rfl rfl ?_
    refine jx_imul dX1_impact_54 ?_
    refine jx_iload_n dX1_impact_55 rfl rfl ?_
    refine jx_iadd dX1_impact_56 ?_
    refine jx_zald 1 1 49 rfl dX1_impact_57 h.1 (fun v1 e_v1 => ?_)
    have h := h.2 v1 e_v1
    refine jx_istore_n dX1_impact_58 rfl (Nat.le_of_ble_eq_true rfl) (lv' := [jx_t, jx_i x1, jx_i x2, jx_i v1, none, none]) rfl ?_
    refine jx_aload_n dX1_impact_59 rfl rfl ?_
    refine jx_iload_n dX1_impact_60 rfl rfl ?_
    refine jx_iload_n dX1_impact_61 rfl rfl ?_
    refine jx_iload_n dX1_impact_62 rfl rfl ?_
    refine jx_if_ne (tgt := 70) dX1_impact_63 (by decide) (fun hc => ?_) (fun hc => ?_)
    · have h := h.2 hc
      refine jx_iconst (v := 0) dX1_impact_70 (by decide) ?_
      refine jx_callVi (N := MX1_setLink) [.inl x1, .inl x2, .inl 0] rfl rfl rfl rfl okX1_setLink (by decide) rfl (Nat.le_of_ble_eq_true rfl) dX1_impact_71 h (fun r3 w2 h => ?_)
      refine jx_pop dX1_impact_74 ?_
      refine jx_aload_n dX1_impact_75 rfl rfl ?_
      refine jx_callVv (N := MX1_work) [] rfl rfl rfl rfl okX1_work (by decide) rfl (Nat.le_of_ble_eq_true rfl) dX1_impact_76 h (fun w4 h => ?_)
      refine jx_iconst (v := 0) dX1_impact_79 (by decide) ?_
      refine jx_istore dX1_impact_80 (Nat.le_of_ble_eq_true rfl) (lv' := [jx_t, jx_i x1, jx_i x2, jx_i v1, jx_i 0, none]) rfl ?_
      refine jx_iconst (v := 0) dX1_impact_82 (by decide) ?_
      refine jx_istore dX1_impact_83 (Nat.le_of_ble_eq_true rfl) (lv' := [jx_t, jx_i x1, jx_i x2, jx_i v1, jx_i 0, jx_i 0]) rfl ?_
      exact h
    · have h := h.1 hc
      refine jx_iconst (v := 1) dX1_impact_66 (by decide) ?_
      refine jx_goto (tgt := 71) dX1_impact_67 (by decide) ?_
      refine jx_callVi (N := MX1_setLink) [.inl x1, .inl x2, .inl 1] rfl rfl rfl rfl okX1_setLink (by decide) rfl (Nat.le_of_ble_eq_true rfl) dX1_impact_71 h (fun r6 w5 h => ?_)
      refine jx_pop dX1_impact_74 ?_
      refine jx_aload_n dX1_impact_75 rfl rfl ?_
      refine jx_callVv (N := MX1_work) [] rfl rfl rfl rfl okX1_work (by decide) rfl (Nat.le_of_ble_eq_true rfl) dX1_impact_76 h (fun w7 h => ?_)
      refine jx_iconst (v := 0) dX1_impact_79 (by decide) ?_
      refine jx_istore dX1_impact_80 (Nat.le_of_ble_eq_true rfl) (lv' := [jx_t, jx_i x1, jx_i x2, jx_i v1, jx_i 0, none]) rfl ?_
      refine jx_iconst (v := 0) dX1_impact_82 (by decide) ?_
      refine jx_istore dX1_impact_83 (Nat.le_of_ble_eq_true rfl) (lv' := [jx_t, jx_i x1, jx_i x2, jx_i v1, jx_i 0, jx_i 0]) rfl ?_
      exact h
  · have h := h.2 hc
    refine jx_aload_n dX1_impact_23 rfl rfl ?_
    refine jx_getX1 rfl rfl 4 (by decide) rfl q218 (v := .inr 5) (fun _ => rfl) dX1_impact_24 ?_
    refine jx_iload_n dX1_impact_27 rfl rfl ?_
    refine jx_aload_n dX1_impact_28 rfl rfl ?_
    refine jx_iload_n dX1_impact_29 rfl rfl ?_
    refine jx_bipush (v := 7) dX1_impact_30 (by decide) ?_
    refine jx_idiv dX1_impact_32 (by decide) ?_
    refine jx_iload_n dX1_impact_33 rfl rfl ?_
    refine jx_bipush (v := 7) dX1_impact_34 (by decide) ?_
    refine jx_irem dX1_impact_36 (by decide) ?_
    refine jx_callVi (N := MX1_route) [.inl (x3 / 7), .inl (x3 - x3 / 7 * 7)] rfl rfl rfl rfl okX1_route (by decide) rfl (Nat.le_of_ble_eq_true rfl) dX1_impact_37 h (fun r9 w8 h => ?_)
    refine jx_iast 4 4 49 rfl stX1_4 dX1_impact_40 h.1 (fun w10 e_w10 => ?_)
    have h := h.2 w10 e_w10
    refine jx_iinc (v := x3 + 1) dX1_impact_41 rfl rfl (Nat.le_of_ble_eq_true rfl) (lv' := [jx_t, jx_i x1, jx_i x2, jx_i (x3 + 1), none, none]) rfl ?_
    refine jx_goto (tgt := 17) dX1_impact_44 (by decide) ?_
    exact h
theorem bX1_impact_85 (Φ : Int32 → jx_Wd → Prop) (x1 x2 x3 x4 x5 : Int32) (w : jx_Wd) (h :
    (49 ≤ x5 → (
      jx_CI MX1_setLink [.inr 0, .inl x1, .inl x2, .inl x3] w (fun r2 w1 => (
      Φ x4 w1
      ))
    )) ∧ (¬ 49 ≤ x5 → (
      jx_CI MX1_route [.inr 0, .inl (x5 / 7), .inl (x5 - x5 / 7 * 7)] w (fun r4 w3 => (
      vp_in x5 49 ∧ ∀ v5 : Int32, v5 = w3 4 x5.toNatClampNeg → (
      (r4 = v5 → (
        jx_J MX1_impact (jx_qi Φ) 85 [jx_t, jx_i x1, jx_i x2, jx_i x3, jx_i (x4 + 0), jx_i (x5 + 1)] [] w3
      )) ∧ (¬ r4 = v5 → (
        jx_J MX1_impact (jx_qi Φ) 85 [jx_t, jx_i x1, jx_i x2, jx_i x3, jx_i (x4 + 1), jx_i (x5 + 1)] [] w3
      ))
      )
      ))
    ))
    ) : jx_J MX1_impact (jx_qi Φ) 85 [jx_t, jx_i x1, jx_i x2, jx_i x3, jx_i x4, jx_i x5] [] w := by
  refine jx_iload dX1_impact_85 rfl ?_
  refine jx_bipush (v := 49) dX1_impact_87 (by decide) ?_
  refine jx_icmp_ge (tgt := 132) dX1_impact_89 (by decide) (fun hc => ?_) (fun hc => ?_)
  · have h := h.1 hc
    refine jx_aload_n dX1_impact_132 rfl rfl ?_
    refine jx_iload_n dX1_impact_133 rfl rfl ?_
    refine jx_iload_n dX1_impact_134 rfl rfl ?_
    refine jx_iload_n dX1_impact_135 rfl rfl ?_
    refine jx_callVi (N := MX1_setLink) [.inl x1, .inl x2, .inl x3] rfl rfl rfl rfl okX1_setLink (by decide) rfl (Nat.le_of_ble_eq_true rfl) dX1_impact_136 h (fun r2 w1 h => ?_)
    refine jx_pop dX1_impact_139 ?_
    refine jx_iload dX1_impact_140 rfl ?_
    exact jx_iret dX1_impact_142 rfl rfl ⟨_, rfl, h⟩
  · have h := h.2 hc
    refine jx_iload dX1_impact_92 rfl ?_
    refine jx_aload_n dX1_impact_94 rfl rfl ?_
    refine jx_iload dX1_impact_95 rfl ?_
    refine jx_bipush (v := 7) dX1_impact_97 (by decide) ?_
    refine jx_idiv dX1_impact_99 (by decide) ?_
    refine jx_iload dX1_impact_100 rfl ?_
    refine jx_bipush (v := 7) dX1_impact_102 (by decide) ?_
    refine jx_irem dX1_impact_104 (by decide) ?_
    refine jx_callVi (N := MX1_route) [.inl (x5 / 7), .inl (x5 - x5 / 7 * 7)] rfl rfl rfl rfl okX1_route (by decide) rfl (Nat.le_of_ble_eq_true rfl) dX1_impact_105 h (fun r4 w3 h => ?_)
    refine jx_aload_n dX1_impact_108 rfl rfl ?_
    refine jx_getX1 rfl rfl 4 (by decide) rfl q218 (v := .inr 5) (fun _ => rfl) dX1_impact_109 ?_
    refine jx_iload dX1_impact_112 rfl ?_
    refine jx_iald 4 4 49 rfl dX1_impact_114 h.1 (fun v5 e_v5 => ?_)
    have h := h.2 v5 e_v5
    refine jx_icmp_ne (tgt := 122) dX1_impact_115 (by decide) (fun hc => ?_) (fun hc => ?_)
    · have h := h.2 hc
      refine jx_iconst (v := 1) dX1_impact_122 (by decide) ?_
      refine jx_iadd dX1_impact_123 ?_
      refine jx_istore dX1_impact_124 (Nat.le_of_ble_eq_true rfl) (lv' := [jx_t, jx_i x1, jx_i x2, jx_i x3, jx_i (x4 + 1), jx_i x5]) rfl ?_
      refine jx_iinc (v := x5 + 1) dX1_impact_126 rfl rfl (Nat.le_of_ble_eq_true rfl) (lv' := [jx_t, jx_i x1, jx_i x2, jx_i x3, jx_i (x4 + 1), jx_i (x5 + 1)]) rfl ?_
      refine jx_goto (tgt := 85) dX1_impact_129 (by decide) ?_
      exact h
    · have h := h.1 hc
      refine jx_iconst (v := 0) dX1_impact_118 (by decide) ?_
      refine jx_goto (tgt := 123) dX1_impact_119 (by decide) ?_
      refine jx_iadd dX1_impact_123 ?_
      refine jx_istore dX1_impact_124 (Nat.le_of_ble_eq_true rfl) (lv' := [jx_t, jx_i x1, jx_i x2, jx_i x3, jx_i (x4 + 0), jx_i x5]) rfl ?_
      refine jx_iinc (v := x5 + 1) dX1_impact_126 rfl rfl (Nat.le_of_ble_eq_true rfl) (lv' := [jx_t, jx_i x1, jx_i x2, jx_i x3, jx_i (x4 + 0), jx_i (x5 + 1)]) rfl ?_
      refine jx_goto (tgt := 85) dX1_impact_129 (by decide) ?_
      exact h
end
section
/-! THE PLAIN NET: costs c, links that are up as bits B, routers that are up as bits R; distances as the one solution of Bellman's equation; next hops; routes. No program in sight. -/
def nt_bi (b : Bool) : Int32 := if b = true then 1 else 0
theorem nt_b0 : nt_bi false = 0 := rfl
theorem nt_b1 : ¬ nt_bi true = 0 := by decide
def nt_rt (x : Int32) : Bool := decide (¬ x < 0) && decide (¬ 7 ≤ x)
theorem nt_rt_of {x : Int32} (h : nt_rt x = true) : ∃ a : Nat, a < 7 ∧ x = nI a := by
  simp only [nt_rt, Bool.and_eq_true, decide_eq_true_eq] at h
  rcases pk_ix x (n := 7) (by decide) with h1 | h1 | h1
  · exact absurd h1 h.1
  · exact absurd h1 h.2
  · exact h1
theorem nt_rt_nI {a : Nat} (h : a < 7) : nt_rt (nI a) = true := by
  have h1 : ¬ nI a < 0 := nI_pos (by omega)
  have h2 : ¬ (7 : Int32) ≤ nI a := nI_ge (b := 7) h (by decide)
  simp [nt_rt, h1, h2]
theorem nt_7 (a b : Nat) : nI a * 7 + nI b = nI (a * 7 + b) := by
  rw [show (7 : Int32) = nI 7 from rfl, pk_mul, nI_add]
theorem nt_7' (a b : Nat) : 7 * nI a + nI b = nI (7 * a + b) := by
  rw [show (7 : Int32) = nI 7 from rfl, pk_mul, nI_add]
theorem nt_in {a b : Nat} (ha : a < 7) (hb : b < 7) : vp_in (nI a * 7 + nI b) 49 := by
  rw [nt_7]
  exact vp_in_nI (by omega) (by decide)
theorem nt_in' {a b : Nat} (ha : a < 7) (hb : b < 7) : vp_in (7 * nI a + nI b) 49 := by
  rw [nt_7']
  exact vp_in_nI (by omega) (by decide)
theorem nt_at {a b : Nat} (ha : a < 7) (hb : b < 7) : (nI a * 7 + nI b).toNatClampNeg = a * 7 + b := by
  rw [nt_7]
  exact nI_clamp (by omega)
theorem nt_at' {a b : Nat} (ha : a < 7) (hb : b < 7) : (7 * nI a + nI b).toNatClampNeg = 7 * a + b := by
  rw [nt_7']
  exact nI_clamp (by omega)
theorem nt_dv {i : Nat} (h : i < 49) : nI i / 7 = nI (i / 7) := pk_div (d := 7) (by omega) (by decide) (by decide)
theorem nt_md {i : Nat} (h : i < 49) : nI i - nI i / 7 * 7 = nI (i % 7) := pk_rem (d := 7) (by omega) (by decide) (by decide)
/-- a loop over a counter that rises -/
theorem nt_lp {σ : Type} (n : Nat) (J I : Nat → σ → Prop) (step : ∀ i s, i < n → I i s → (∀ s', I (i + 1) s' → J (i + 1) s') → J i s) (last : ∀ s, I n s → J n s) : ∀ k i s, i + k = n → I i s → J i s := by
  intro k
  induction k with
  | zero =>
    intro i s hi hI
    have : i = n := by omega
    subst this
    exact last s hI
  | succ k ih =>
    intro i s hi hI
    exact step i s (by omega) hI (fun s' h' => ih (i + 1) s' (by omega) h')
theorem nt_l0 {σ : Type} (n : Nat) (J I : Nat → σ → Prop) (step : ∀ i s, i < n → I i s → (∀ s', I (i + 1) s' → J (i + 1) s') → J i s) (last : ∀ s, I n s → J n s) (s : σ) (h : I 0 s) : J 0 s := nt_lp n J I step last n 0 s (by omega) h
/-! sums -/
def nt_sm (f : Nat → Nat) : Nat → Nat
  | 0 => 0
  | n + 1 => nt_sm f n + f n
theorem nt_sm_le {f g : Nat → Nat} : ∀ n, (∀ i, i < n → g i ≤ f i) → nt_sm g n ≤ nt_sm f n
  | 0, _ => Nat.le_refl 0
  | n + 1, h => Nat.add_le_add (nt_sm_le n (fun i hi => h i (by omega))) (h n (by omega))
theorem nt_sm_lt {f g : Nat → Nat} : ∀ n, (∀ i, i < n → g i ≤ f i) → ∀ j, j < n → g j < f j → nt_sm g n < nt_sm f n
  | 0, _, j, hj, _ => absurd hj (by omega)
  | n + 1, h, j, hj, hlt => by
    by_cases e : j = n
    · subst e
      exact Nat.add_lt_add_of_le_of_lt (nt_sm_le j (fun i hi => h i (by omega))) hlt
    · exact Nat.add_lt_add_of_lt_of_le (nt_sm_lt n (fun i hi => h i (by omega)) j (by omega) hlt) (h n (by omega))
theorem nt_sm_eq {f g : Nat → Nat} : ∀ n, (∀ i, i < n → g i = f i) → nt_sm g n = nt_sm f n
  | 0, _ => rfl
  | n + 1, h => by
    show nt_sm g n + g n = nt_sm f n + f n
    rw [nt_sm_eq n (fun i hi => h i (by omega)), h n (by omega)]
/-- the first place where P holds, or d -/
def nt_fs (P : Nat → Bool) (d : Nat) : Nat → Nat → Nat
  | 0, _ => d
  | n + 1, i => if P i = true then i else nt_fs P d n (i + 1)
theorem nt_fs_at (P : Nat → Bool) (d i : Nat) (hP : P i = true) : ∀ n k, (∀ j, k ≤ j → j < i → P j = false) → k ≤ i → i < k + n → nt_fs P d n k = i := by
  intro n
  induction n with
  | zero => intro k _ h1 h2; omega
  | succ n ih =>
    intro k hb h1 h2
    by_cases e : k = i
    · subst e
      simp [nt_fs, hP]
    · have h3 := hb k (Nat.le_refl k) (by omega)
      simp only [nt_fs, h3]
      exact ih (k + 1) (fun j a b => hb j (by omega) b) (by omega) (by omega)
theorem nt_fs_no (P : Nat → Bool) (d : Nat) : ∀ n k, (∀ j, k ≤ j → j < k + n → P j = false) → nt_fs P d n k = d := by
  intro n
  induction n with
  | zero => intro k _; rfl
  | succ n ih =>
    intro k hb
    have h3 := hb k (Nat.le_refl k) (by omega)
    simp only [nt_fs, h3]
    exact ih (k + 1) (fun j a b => hb j (by omega) (by omega))
theorem nt_fs_ex (P : Nat → Bool) (d : Nat) {i n : Nat} (hi : i < n) (hP : P i = true) : nt_fs P d n 0 < n ∧ P (nt_fs P d n 0) = true ∧ ∀ j, j < nt_fs P d n 0 → P j = false := by
  obtain ⟨k, hk, hm⟩ := pk_least (fun k => P k = true) ⟨i, hP⟩
  have hki : k ≤ i := by
    rcases Nat.lt_or_ge i k with h | h
    · exact absurd hP (hm i h)
    · exact h
  have e : nt_fs P d n 0 = k := nt_fs_at P d k hk n 0 (fun j _ h => by simpa using hm j h) (by omega) (by omega)
  rw [e]
  exact ⟨by omega, hk, fun j h => by simpa using hm j h⟩
/-! the net -/
abbrev nt_N : Type := (Nat → Nat → Nat) × (Nat → Nat) × Nat
def nt_E (N : nt_N) (a b : Nat) : Bool := N.2.2.testBit a && N.2.2.testBit b && (N.2.1 a).testBit b
def nt_ok (N : nt_N) : Prop := (∀ a b, a < 7 → b < 7 → N.1 a b ≤ 9) ∧ (∀ a b, a < 7 → b < 7 → N.1 a b = N.1 b a) ∧ (∀ a, a < 7 → N.1 a a = 0) ∧ (∀ a, a < 7 → N.2.1 a < 128) ∧ N.2.2 < 128 ∧ (∀ a b, a < 7 → b < 7 → (N.2.1 a).testBit b = true → 0 < N.1 a b)
theorem nt_E_pos {N : nt_N} (hN : nt_ok N) {a b : Nat} (ha : a < 7) (hb : b < 7) (h : nt_E N a b = true) : 0 < N.1 a b := by
  simp only [nt_E, Bool.and_eq_true] at h
  exact hN.2.2.2.2.2 a b ha hb h.2
theorem nt_E_on {N : nt_N} {a b : Nat} (h : nt_E N a b = true) : N.2.2.testBit a = true ∧ N.2.2.testBit b = true := by
  simp only [nt_E, Bool.and_eq_true] at h
  exact h.1
theorem nt_E_ne {N : nt_N} (hN : nt_ok N) {a b : Nat} (ha : a < 7) (hb : b < 7) (h : nt_E N a b = true) : a ≠ b := by
  intro e
  subst e
  have := nt_E_pos hN ha ha h
  rw [hN.2.2.1 a ha] at this
  omega
/-- D solves Bellman's equation, with I for 'no way' -/
def nt_sol (N : nt_N) (I : Nat) (D : Nat → Nat → Nat) : Prop :=
  (∀ s d, s < 7 → d < 7 → D s d ≤ I) ∧ (∀ d, d < 7 → N.2.2.testBit d = true → D d d = 0) ∧ (∀ s d, s < 7 → d < 7 → N.2.2.testBit d = false → D s d = I) ∧
  (∀ s r d, s < 7 → r < 7 → d < 7 → nt_E N s r = true → D s d ≤ N.1 s r + D r d) ∧
  (∀ s d, s < 7 → d < 7 → s ≠ d → D s d < I → ∃ r, r < 7 ∧ nt_E N s r = true ∧ N.1 s r + D r d = D s d)
theorem nt_uniq {N : nt_N} (hN : nt_ok N) {I1 I2 : Nat} {D1 D2 : Nat → Nat → Nat} (h1 : nt_sol N I1 D1) (h2 : nt_sol N I2 D2) (hb : ∀ s d, s < 7 → d < 7 → D1 s d < I1 → D1 s d < I2) :
    ∀ v, (∀ s d, s < 7 → d < 7 → D1 s d = v → v < I1 → D2 s d = v) ∧ (∀ s d, s < 7 → d < 7 → D2 s d = v → v < I2 → v < I1 → D1 s d = v) := by
  intro v
  induction v using Nat.strongRecOn with
  | _ v ih =>
    obtain ⟨a1, a2, a3, a4, a5⟩ := h1
    obtain ⟨b1, b2, b3, b4, b5⟩ := h2
    constructor
    · intro s d hs hd e hv
      by_cases hsd : s = d
      · subst hsd
        cases hon : N.2.2.testBit s with
        | true =>
          rw [a2 s hs hon] at e
          rw [b2 s hs hon, e]
        | false =>
          have := a3 s s hs hs hon
          omega
      · obtain ⟨r, hr, hE, hsum⟩ := a5 s d hs hd hsd (by omega)
        have hc := nt_E_pos hN hs hr hE
        have e2 := (ih (D1 r d) (by omega)).1 r d hr hd rfl (by omega)
        have le := b4 s r d hs hr hd hE
        have hvb := hb s d hs hd (by omega)
        rcases Nat.lt_or_ge (D2 s d) v with q | q
        · have := (ih (D2 s d) q).2 s d hs hd rfl (by omega) (by omega)
          omega
        · omega
    · intro s d hs hd e hv hv2
      by_cases hsd : s = d
      · subst hsd
        cases hon : N.2.2.testBit s with
        | true =>
          rw [b2 s hs hon] at e
          rw [a2 s hs hon, e]
        | false =>
          have := b3 s s hs hs hon
          omega
      · obtain ⟨r, hr, hE, hsum⟩ := b5 s d hs hd hsd (by omega)
        have hc := nt_E_pos hN hs hr hE
        have e2 := (ih (D2 r d) (by omega)).2 r d hr hd rfl (by omega) (by omega)
        have le := a4 s r d hs hr hd hE
        rcases Nat.lt_or_ge (D1 s d) v with q | q
        · have := (ih (D1 s d) q).1 s d hs hd rfl (by omega)
          omega
        · omega
/-- a solution is there: lower as long as something can be lowered -/
def nt_pre (N : nt_N) (I : Nat) (D : Nat → Nat → Nat) : Prop :=
  (∀ s d, s < 7 → d < 7 → D s d ≤ I) ∧ (∀ d, d < 7 → N.2.2.testBit d = true → D d d = 0) ∧ (∀ s d, s < 7 → d < 7 → N.2.2.testBit d = false → D s d = I) ∧
  (∀ s d, s < 7 → d < 7 → s ≠ d → D s d < I → ∃ r, r < 7 ∧ nt_E N s r = true ∧ N.1 s r + D r d ≤ D s d)
theorem nt_ex_n {N : nt_N} (hN : nt_ok N) (I : Nat) : ∀ n D, nt_pre N I D → nt_sm (fun i => D (i / 7) (i % 7)) 49 ≤ n → ∃ D', nt_sol N I D' := by
  intro n
  induction n with
  | zero =>
    intro D h hn
    refine ⟨D, h.1, h.2.1, h.2.2.1, fun s r d hs hr hd hE => ?_, fun s d hs hd hsd hlt => ?_⟩
    · rcases Nat.lt_or_ge (N.1 s r + D r d) (D s d) with q | q
      · exfalso
        have h0 : nt_sm (fun _ => 0) 49 < nt_sm (fun i => D (i / 7) (i % 7)) 49 := nt_sm_lt 49 (fun i _ => Nat.zero_le _) (s * 7 + d) (by omega) (by
          have e1 : (s * 7 + d) / 7 = s := by omega
          have e2 : (s * 7 + d) % 7 = d := by omega
          simp only [e1, e2]
          omega)
        omega
      · exact q
    · exfalso
      have : D s d = 0 := by
        rcases Nat.eq_zero_or_pos (D s d) with q | q
        · exact q
        · exfalso
          have h0 : nt_sm (fun _ => 0) 49 < nt_sm (fun i => D (i / 7) (i % 7)) 49 := nt_sm_lt 49 (fun i _ => Nat.zero_le _) (s * 7 + d) (by omega) (by
            have e1 : (s * 7 + d) / 7 = s := by omega
            have e2 : (s * 7 + d) % 7 = d := by omega
            simp only [e1, e2]
            omega)
          omega
      obtain ⟨r, hr, hE, hle⟩ := h.2.2.2 s d hs hd hsd hlt
      have := nt_E_pos hN hs hr hE
      omega
  | succ n ih =>
    intro D h hn
    by_cases hall : ∀ s r d, s < 7 → r < 7 → d < 7 → nt_E N s r = true → D s d ≤ N.1 s r + D r d
    · refine ⟨D, h.1, h.2.1, h.2.2.1, hall, fun s d hs hd hsd hlt => ?_⟩
      obtain ⟨r, hr, hE, hle⟩ := h.2.2.2 s d hs hd hsd hlt
      exact ⟨r, hr, hE, Nat.le_antisymm hle (hall s r d hs hr hd hE)⟩
    · have : ∃ s r d, s < 7 ∧ r < 7 ∧ d < 7 ∧ nt_E N s r = true ∧ N.1 s r + D r d < D s d := by
        refine Classical.byContradiction fun hno => hall fun s r d hs hr hd hE => ?_
        rcases Nat.lt_or_ge (N.1 s r + D r d) (D s d) with q | q
        · exact absurd ⟨s, r, d, hs, hr, hd, hE, q⟩ hno
        · exact q
      obtain ⟨s, r, d, hs, hr, hd, hE, hlt⟩ := this
      have hne := nt_E_ne hN hs hr hE
      have hon : N.2.2.testBit d = true := by
        cases hon : N.2.2.testBit d with
        | true => rfl
        | false =>
          have e1 := h.2.2.1 s d hs hd hon
          have e2 := h.2.2.1 r d hr hd hon
          omega
      have hsd : s ≠ d := by
        intro e
        subst e
        rw [h.2.1 s hs hon] at hlt
        omega
      refine ih (fun x y => if x = s ∧ y = d then N.1 s r + D r d else D x y) ⟨?_, ?_, ?_, ?_⟩ ?_
      · intro x y hx hy
        have hI := h.1 s d hs hd
        dsimp only
        split
        · omega
        · exact h.1 x y hx hy
      · intro y hy hon2
        have : ¬ (y = s ∧ y = d) := fun q => hsd (q.1.symm.trans q.2)
        dsimp only
        rw [if_neg this]
        exact h.2.1 y hy hon2
      · intro x y hx hy hoff
        have : ¬ (x = s ∧ y = d) := fun q => by rw [q.2, hon] at hoff; cases hoff
        dsimp only
        rw [if_neg this]
        exact h.2.2.1 x y hx hy hoff
      · intro x y hx hy hxy hlt2
        dsimp only at hlt2 ⊢
        by_cases e : x = s ∧ y = d
        · obtain ⟨rfl, rfl⟩ := e
          refine ⟨r, hr, hE, ?_⟩
          rw [if_neg (fun q => hne q.1.symm), if_pos ⟨rfl, rfl⟩]
          exact Nat.le_refl _
        · rw [if_neg e] at hlt2 ⊢
          obtain ⟨r2, hr2, hE2, hle2⟩ := h.2.2.2 x y hx hy hxy hlt2
          refine ⟨r2, hr2, hE2, ?_⟩
          by_cases e2 : r2 = s ∧ y = d
          · rw [if_pos e2]
            obtain ⟨rfl, rfl⟩ := e2
            omega
          · rw [if_neg e2]
            exact hle2
      · have h0 : nt_sm (fun i => (fun x y => if x = s ∧ y = d then N.1 s r + D r d else D x y) (i / 7) (i % 7)) 49 < nt_sm (fun i => D (i / 7) (i % 7)) 49 := by
          refine nt_sm_lt 49 (fun i hi => ?_) (s * 7 + d) (by omega) ?_
          · dsimp only
            split
            · next q => rw [q.1, q.2]; omega
            · exact Nat.le_refl _
          · have e1 : (s * 7 + d) / 7 = s := by omega
            have e2 : (s * 7 + d) % 7 = d := by omega
            dsimp only
            rw [e1, e2, if_pos ⟨rfl, rfl⟩]
            exact hlt
        exact Nat.le_of_lt_succ (Nat.lt_of_lt_of_le h0 hn)
theorem nt_ex {N : nt_N} (hN : nt_ok N) : ∃ D, nt_sol N 1000 D := by
  refine nt_ex_n hN 1000 _ (fun s d => if s = d ∧ N.2.2.testBit d = true then 0 else 1000) ⟨?_, ?_, ?_, ?_⟩ (Nat.le_refl _)
  · intro s d _ _
    dsimp only
    split <;> omega
  · intro d _ hon
    dsimp only
    rw [if_pos ⟨rfl, hon⟩]
  · intro s d _ _ hoff
    dsimp only
    rw [if_neg (fun q => by rw [q.2] at hoff; cases hoff)]
  · intro s d _ _ hsd hlt
    dsimp only at hlt
    rw [if_neg (fun q => hsd q.1)] at hlt
    omega
noncomputable def nt_D (N : nt_N) : Nat → Nat → Nat := Classical.epsilon (nt_sol N 1000)
theorem nt_Ds {N : nt_N} (hN : nt_ok N) : nt_sol N 1000 (nt_D N) := Classical.epsilon_spec (nt_ex hN)
/-! next hops and routes -/
noncomputable def nt_P (N : nt_N) (s d r : Nat) : Bool := nt_E N s r && decide (N.1 s r + nt_D N r d = nt_D N s d)
noncomputable def nt_x (N : nt_N) (s d : Nat) : Nat := nt_fs (nt_P N s d) d 7 0
theorem nt_x_spec {N : nt_N} (hN : nt_ok N) {s d : Nat} (hs : s < 7) (hd : d < 7) (hsd : s ≠ d) (hf : nt_D N s d < 1000) : nt_x N s d < 7 ∧ nt_E N s (nt_x N s d) = true ∧ N.1 s (nt_x N s d) + nt_D N (nt_x N s d) d = nt_D N s d ∧ (∀ j, j < nt_x N s d → nt_P N s d j = false) := by
  obtain ⟨r, hr, hE, hsum⟩ := (nt_Ds hN).2.2.2.2 s d hs hd hsd hf
  have hP : nt_P N s d r = true := by simp [nt_P, hE, hsum]
  obtain ⟨h1, h2, h3⟩ := nt_fs_ex (nt_P N s d) d hr hP
  have h2' : nt_P N s d (nt_x N s d) = true := h2
  simp only [nt_P, Bool.and_eq_true, decide_eq_true_eq] at h2'
  exact ⟨h1, h2'.1, h2'.2, h3⟩
noncomputable def nt_r (N : nt_N) (s d : Nat) : Nat → Nat
  | 0 => s
  | k + 1 => if nt_r N s d k = d then d else nt_x N (nt_r N s d k) d
noncomputable def nt_rk (N : nt_N) (d s : Nat) : Nat := nt_sm (fun r => if nt_D N r d < nt_D N s d then 1 else 0) 7
theorem nt_rk_le (N : nt_N) (d : Nat) {s : Nat} (hs : s < 7) : nt_rk N d s ≤ 6 := by
  have h : nt_rk N d s < nt_sm (fun _ => 1) 7 := nt_sm_lt 7 (fun i _ => by split <;> omega) s hs (by rw [if_neg (by omega)]; omega)
  have e : nt_sm (fun _ => 1) 7 = 7 := rfl
  omega
theorem nt_rk_lt (N : nt_N) (d : Nat) {s x : Nat} (hx : x < 7) (h : nt_D N x d < nt_D N s d) : nt_rk N d x < nt_rk N d s := by
  refine nt_sm_lt 7 (fun i _ => ?_) x hx ?_
  · by_cases q : nt_D N i d < nt_D N x d
    · rw [if_pos q, if_pos (by omega)]
      exact Nat.le_refl 1
    · rw [if_neg q]
      exact Nat.zero_le _
  · rw [if_neg (by omega), if_pos h]
    omega
/-- along a route: in range, with a way, and its rank falls until it has arrived -/
theorem nt_r_in {N : nt_N} (hN : nt_ok N) {s d : Nat} (hs : s < 7) (hd : d < 7) (hf : nt_D N s d < 1000) : ∀ k, nt_r N s d k < 7 ∧ nt_D N (nt_r N s d k) d < 1000 ∧ (nt_r N s d k = d ∨ nt_rk N d (nt_r N s d k) + k ≤ 6) := by
  intro k
  induction k with
  | zero => exact ⟨hs, hf, Or.inr (by have := nt_rk_le N d hs; exact this)⟩
  | succ k ih =>
    obtain ⟨h1, h2, h3⟩ := ih
    by_cases e : nt_r N s d k = d
    · have e2 : nt_r N s d (k + 1) = d := by simp [nt_r, e]
      rw [e2]
      rw [e] at h2
      exact ⟨hd, h2, Or.inl rfl⟩
    · have e2 : nt_r N s d (k + 1) = nt_x N (nt_r N s d k) d := by simp [nt_r, e]
      obtain ⟨x1, x2, x3, -⟩ := nt_x_spec hN h1 hd e h2
      have hc := nt_E_pos hN h1 x1 x2
      rw [e2]
      refine ⟨x1, by omega, Or.inr ?_⟩
      have := nt_rk_lt N d (s := nt_r N s d k) x1 (by omega)
      rcases h3 with h3 | h3
      · exact absurd h3 e
      · omega
theorem nt_r_end {N : nt_N} (hN : nt_ok N) {s d : Nat} (hs : s < 7) (hd : d < 7) (hf : nt_D N s d < 1000) : nt_r N s d 6 = d := by
  obtain ⟨h1, h2, h3⟩ := nt_r_in hN hs hd hf 6
  rcases h3 with h3 | h3
  · exact h3
  · refine Classical.byContradiction fun e => ?_
    have hon : N.2.2.testBit d = true := by
      cases hon : N.2.2.testBit d with
      | true => rfl
      | false =>
        have := (nt_Ds hN).2.2.1 s d hs hd hon
        omega
    have h0 := (nt_Ds hN).2.1 d hd hon
    obtain ⟨x1, x2, x3, -⟩ := nt_x_spec hN h1 hd e h2
    have hc := nt_E_pos hN h1 x1 x2
    have := nt_rk_lt N d (s := nt_r N s d 6) hd (by omega)
    omega
theorem nt_r_stay (N : nt_N) (s d : Nat) {k : Nat} (h : nt_r N s d k = d) : ∀ j, nt_r N s d (k + j) = d := by
  intro j
  induction j with
  | zero => exact h
  | succ j ih =>
    show (if nt_r N s d (k + j) = d then d else _) = d
    rw [if_pos ih]
noncomputable def nt_h (N : nt_N) (s d : Nat) : Nat := nt_fs (fun k => decide (nt_r N s d k = d)) 0 7 0
theorem nt_h_spec {N : nt_N} (hN : nt_ok N) {s d : Nat} (hs : s < 7) (hd : d < 7) (hf : nt_D N s d < 1000) : nt_h N s d ≤ 6 ∧ nt_r N s d (nt_h N s d) = d ∧ ∀ j, j < nt_h N s d → nt_r N s d j ≠ d := by
  obtain ⟨h1, h2, h3⟩ := nt_fs_ex (fun k => decide (nt_r N s d k = d)) 0 (i := 6) (n := 7) (by omega) (by simp [nt_r_end hN hs hd hf])
  have h2' : decide (nt_r N s d (nt_h N s d) = d) = true := h2
  have h1' : nt_h N s d < 7 := h1
  refine ⟨by omega, by simpa using h2', fun j hj => ?_⟩
  have := h3 j hj
  simpa using this
end
section
/-! THE REFERENCE'S CONTRACTS, first half: what changes the net; the distances -/
theorem nt_ix {a b x y : Nat} (hb : b < 7) (hy : y < 7) : (7 * x + y = 7 * a + b) = (x = a ∧ y = b) := by
  apply propext
  omega
theorem nt_ix2 {a b x y : Nat} (hb : b < 7) (hy : y < 7) : (x * 7 + y = a * 7 + b) = (x = a ∧ y = b) := by
  apply propext
  omega
theorem nt_upd (f : Nat → Int32) (k : Nat) (x : Int32) (j : Nat) : upd f k x j = if j = k then x else f j := rfl
theorem nt_up2 {f : Nat → Int32} {a b p q : Nat} {x : Int32} (ha : a < 7) (hb : b < 7) (hq : q < 7) : upd (upd f (7 * a + b) x) (7 * b + a) x (7 * p + q) = if (p = a ∧ q = b) ∨ (p = b ∧ q = a) then x else f (7 * p + q) := by
  rw [nt_upd, nt_upd]
  by_cases c1 : p = b ∧ q = a
  · rw [if_pos (by omega), if_pos (Or.inr c1)]
  · rw [if_neg (by omega)]
    by_cases c2 : p = a ∧ q = b
    · rw [if_pos (by omega), if_pos (Or.inl c2)]
    · rw [if_neg (by omega), if_neg (by omega)]
theorem nt_up2x {f : Nat → Int32} {a b p q : Nat} {x : Int32} (ha : a < 7) (hb : b < 7) (hq : q < 7) : upd (upd f (a * 7 + b) x) (b * 7 + a) x (p * 7 + q) = if (p = a ∧ q = b) ∨ (p = b ∧ q = a) then x else f (p * 7 + q) := by
  rw [nt_upd, nt_upd]
  by_cases c1 : p = b ∧ q = a
  · rw [if_pos (by omega), if_pos (Or.inr c1)]
  · rw [if_neg (by omega)]
    by_cases c2 : p = a ∧ q = b
    · rw [if_pos (by omega), if_pos (Or.inl c2)]
    · rw [if_neg (by omega), if_neg (by omega)]
theorem nt_cl {a : Nat} (h : a < 7) : (nI a).toNatClampNeg = a := nI_clamp (by omega)
theorem nt_nz (z : Bool) : vp_nar .boolean (nt_bi z) = nt_bi z := by cases z <;> rfl
theorem nt_in7 {a : Nat} (h : a < 7) : vp_in (nI a) 7 := vp_in_nI h (by decide)
/-! the net's changes -/
def nt_sb (m b : Nat) (u : Bool) : Nat := if u = true then m ||| 2 ^ b else m &&& (127 ^^^ 2 ^ b)
theorem nt_sb_bit : ∀ m, m < 128 → ∀ b, b < 7 → ∀ j, j < 7 → (nt_sb m b true).testBit j = (if j = b then true else m.testBit j) ∧ (nt_sb m b false).testBit j = (if j = b then false else m.testBit j) := by decide +kernel
theorem nt_sb_lt : ∀ m, m < 128 → ∀ b, b < 7 → nt_sb m b true < 128 ∧ nt_sb m b false < 128 := by decide +kernel
theorem nt_sb_b {m b j : Nat} (u : Bool) (hm : m < 128) (hb : b < 7) (hj : j < 7) : (nt_sb m b u).testBit j = if j = b then u else m.testBit j := by
  cases u
  · exact (nt_sb_bit m hm b hb j hj).2
  · exact (nt_sb_bit m hm b hb j hj).1
theorem nt_sb_l {m b : Nat} (u : Bool) (hm : m < 128) (hb : b < 7) : nt_sb m b u < 128 := by
  cases u
  · exact (nt_sb_lt m hm b hb).2
  · exact (nt_sb_lt m hm b hb).1
def nt_turn (N : nt_N) (a b : Nat) (u : Bool) : nt_N := (N.1, (fun x => if x = a then nt_sb (N.2.1 a) b u else if x = b then nt_sb (N.2.1 b) a u else N.2.1 x), N.2.2)
def nt_cost (N : nt_N) (a b k : Nat) : nt_N := ((fun x y => if (x = a ∧ y = b) ∨ (x = b ∧ y = a) then k else N.1 x y), N.2)
def nt_join (N : nt_N) (a b k : Nat) : nt_N := nt_turn (nt_cost N a b k) a b true
def nt_cut (N : nt_N) (a b : Nat) : nt_N := nt_turn (nt_cost N a b 0) a b false
def nt_rou (N : nt_N) (r : Nat) (u : Bool) : nt_N := (N.1, N.2.1, nt_sb N.2.2 r u)
theorem nt_turn_bit {N : nt_N} (hB : ∀ a, a < 7 → N.2.1 a < 128) {a b : Nat} (ha : a < 7) (hb : b < 7) (hab : a ≠ b) (u : Bool) {x y : Nat} (hx : x < 7) (hy : y < 7) : ((nt_turn N a b u).2.1 x).testBit y = if (x = a ∧ y = b) ∨ (x = b ∧ y = a) then u else (N.2.1 x).testBit y := by
  show (if x = a then nt_sb (N.2.1 a) b u else if x = b then nt_sb (N.2.1 b) a u else N.2.1 x).testBit y = _
  by_cases e1 : x = a
  · subst e1
    rw [if_pos rfl, nt_sb_b u (hB x ha) hb hy]
    by_cases e2 : y = b
    · rw [if_pos e2, if_pos (Or.inl ⟨rfl, e2⟩)]
    · rw [if_neg e2, if_neg (by omega)]
  · rw [if_neg e1]
    by_cases e2 : x = b
    · subst e2
      rw [if_pos rfl, nt_sb_b u (hB x hx) ha hy]
      by_cases e3 : y = a
      · rw [if_pos e3, if_pos (Or.inr ⟨rfl, e3⟩)]
      · rw [if_neg e3, if_neg (by omega)]
    · rw [if_neg e2, if_neg (by omega)]
theorem nt_turn_lt {N : nt_N} (hB : ∀ a, a < 7 → N.2.1 a < 128) {a b : Nat} (ha : a < 7) (hb : b < 7) (u : Bool) : ∀ x, x < 7 → (nt_turn N a b u).2.1 x < 128 := by
  intro x hx
  show (if x = a then nt_sb (N.2.1 a) b u else if x = b then nt_sb (N.2.1 b) a u else N.2.1 x) < 128
  split
  · exact nt_sb_l u (hB a ha) hb
  · split
    · exact nt_sb_l u (hB b hb) ha
    · exact hB x hx
theorem nt_turn_ok {N : nt_N} (hN : nt_ok N) {a b : Nat} (ha : a < 7) (hb : b < 7) (hc : 0 < N.1 a b) (u : Bool) : nt_ok (nt_turn N a b u) := by
  have hab : a ≠ b := by
    intro e
    subst e
    rw [hN.2.2.1 a ha] at hc
    omega
  refine ⟨hN.1, hN.2.1, hN.2.2.1, nt_turn_lt hN.2.2.2.1 ha hb u, hN.2.2.2.2.1, fun x y hx hy h => ?_⟩
  rw [nt_turn_bit hN.2.2.2.1 ha hb hab u hx hy] at h
  show 0 < N.1 x y
  by_cases e : (x = a ∧ y = b) ∨ (x = b ∧ y = a)
  · rcases e with ⟨rfl, rfl⟩ | ⟨rfl, rfl⟩
    · exact hc
    · rw [hN.2.1 _ _ hx hy]; exact hc
  · rw [if_neg e] at h
    exact hN.2.2.2.2.2 x y hx hy h
theorem nt_join_ok {N : nt_N} (hN : nt_ok N) {a b k : Nat} (ha : a < 7) (hb : b < 7) (hab : a ≠ b) (hk : 0 < k) (hk9 : k ≤ 9) : nt_ok (nt_join N a b k) := by
  refine ⟨fun x y hx hy => ?_, fun x y hx hy => ?_, fun x hx => ?_, nt_turn_lt hN.2.2.2.1 ha hb true, hN.2.2.2.2.1, fun x y hx hy h => ?_⟩
  · show (if _ then k else N.1 x y) ≤ 9
    split
    · exact hk9
    · exact hN.1 x y hx hy
  · show (if (x = a ∧ y = b) ∨ (x = b ∧ y = a) then k else N.1 x y) = (if (y = a ∧ x = b) ∨ (y = b ∧ x = a) then k else N.1 y x)
    by_cases e : (x = a ∧ y = b) ∨ (x = b ∧ y = a)
    · rw [if_pos e, if_pos (by omega)]
    · rw [if_neg e, if_neg (by omega)]
      exact hN.2.1 x y hx hy
  · show (if (x = a ∧ x = b) ∨ (x = b ∧ x = a) then k else N.1 x x) = 0
    rw [if_neg (by omega)]
    exact hN.2.2.1 x hx
  · rw [show nt_join N a b k = nt_turn (nt_cost N a b k) a b true from rfl, nt_turn_bit (N := nt_cost N a b k) hN.2.2.2.1 ha hb hab true hx hy] at h
    show 0 < (if (x = a ∧ y = b) ∨ (x = b ∧ y = a) then k else N.1 x y)
    by_cases e : (x = a ∧ y = b) ∨ (x = b ∧ y = a)
    · rw [if_pos e]; exact hk
    · rw [if_neg e] at h ⊢
      exact hN.2.2.2.2.2 x y hx hy h
theorem nt_cut_ok {N : nt_N} (hN : nt_ok N) {a b : Nat} (ha : a < 7) (hb : b < 7) (hab : a ≠ b) : nt_ok (nt_cut N a b) := by
  refine ⟨fun x y hx hy => ?_, fun x y hx hy => ?_, fun x hx => ?_, nt_turn_lt hN.2.2.2.1 ha hb false, hN.2.2.2.2.1, fun x y hx hy h => ?_⟩
  · show (if _ then 0 else N.1 x y) ≤ 9
    split
    · omega
    · exact hN.1 x y hx hy
  · show (if (x = a ∧ y = b) ∨ (x = b ∧ y = a) then 0 else N.1 x y) = (if (y = a ∧ x = b) ∨ (y = b ∧ x = a) then 0 else N.1 y x)
    by_cases e : (x = a ∧ y = b) ∨ (x = b ∧ y = a)
    · rw [if_pos e, if_pos (by omega)]
    · rw [if_neg e, if_neg (by omega)]
      exact hN.2.1 x y hx hy
  · show (if (x = a ∧ x = b) ∨ (x = b ∧ x = a) then 0 else N.1 x x) = 0
    split
    · rfl
    · exact hN.2.2.1 x hx
  · rw [show nt_cut N a b = nt_turn (nt_cost N a b 0) a b false from rfl, nt_turn_bit (N := nt_cost N a b 0) hN.2.2.2.1 ha hb hab false hx hy] at h
    show 0 < (if (x = a ∧ y = b) ∨ (x = b ∧ y = a) then 0 else N.1 x y)
    by_cases e : (x = a ∧ y = b) ∨ (x = b ∧ y = a)
    · rw [if_pos e] at h; cases h
    · rw [if_neg e] at h ⊢
      exact hN.2.2.2.2.2 x y hx hy h
theorem nt_rou_ok {N : nt_N} (hN : nt_ok N) {r : Nat} (hr : r < 7) (u : Bool) : nt_ok (nt_rou N r u) :=
  ⟨hN.1, hN.2.1, hN.2.2.1, hN.2.2.2.1, nt_sb_l u hN.2.2.2.2.1 hr, hN.2.2.2.2.2⟩
/-! the same by the calls' arguments -/
def nt_lk (N : nt_N) (x y : Int32) : Bool := nt_rt x && nt_rt y && decide (0 < N.1 x.toNatClampNeg y.toNatClampNeg)
def nt_ee (N : nt_N) (x y : Int32) : Bool := nt_rt x && nt_rt y && nt_E N x.toNatClampNeg y.toNatClampNeg
noncomputable def nt_ft (N : nt_N) (x y : Int32) : Bool := nt_rt x && nt_rt y && decide (nt_D N x.toNatClampNeg y.toNatClampNeg < 1000)
theorem nt_lk_of {N : nt_N} {x y : Int32} (h : nt_lk N x y = true) : ∃ a b : Nat, a < 7 ∧ b < 7 ∧ x = nI a ∧ y = nI b ∧ 0 < N.1 a b := by
  simp only [nt_lk, Bool.and_eq_true, decide_eq_true_eq] at h
  obtain ⟨⟨h1, h2⟩, h3⟩ := h
  obtain ⟨a, ha, rfl⟩ := nt_rt_of h1
  obtain ⟨b, hb, rfl⟩ := nt_rt_of h2
  rw [nt_cl ha, nt_cl hb] at h3
  exact ⟨a, b, ha, hb, rfl, rfl, h3⟩
theorem nt_lk_nI {N : nt_N} {a b : Nat} (ha : a < 7) (hb : b < 7) : nt_lk N (nI a) (nI b) = decide (0 < N.1 a b) := by
  simp only [nt_lk, nt_rt_nI ha, nt_rt_nI hb, nt_cl ha, nt_cl hb, Bool.true_and]
theorem nt_ee_of {N : nt_N} {x y : Int32} (h : nt_ee N x y = true) : ∃ a b : Nat, a < 7 ∧ b < 7 ∧ x = nI a ∧ y = nI b ∧ nt_E N a b = true := by
  simp only [nt_ee, Bool.and_eq_true] at h
  obtain ⟨⟨h1, h2⟩, h3⟩ := h
  obtain ⟨a, ha, rfl⟩ := nt_rt_of h1
  obtain ⟨b, hb, rfl⟩ := nt_rt_of h2
  rw [nt_cl ha, nt_cl hb] at h3
  exact ⟨a, b, ha, hb, rfl, rfl, h3⟩
theorem nt_ee_nI {N : nt_N} {a b : Nat} (ha : a < 7) (hb : b < 7) : nt_ee N (nI a) (nI b) = nt_E N a b := by
  simp only [nt_ee, nt_rt_nI ha, nt_rt_nI hb, nt_cl ha, nt_cl hb, Bool.true_and]
theorem nt_ft_of {N : nt_N} {x y : Int32} (h : nt_ft N x y = true) : ∃ a b : Nat, a < 7 ∧ b < 7 ∧ x = nI a ∧ y = nI b ∧ nt_D N a b < 1000 := by
  simp only [nt_ft, Bool.and_eq_true, decide_eq_true_eq] at h
  obtain ⟨⟨h1, h2⟩, h3⟩ := h
  obtain ⟨a, ha, rfl⟩ := nt_rt_of h1
  obtain ⟨b, hb, rfl⟩ := nt_rt_of h2
  rw [nt_cl ha, nt_cl hb] at h3
  exact ⟨a, b, ha, hb, rfl, rfl, h3⟩
theorem nt_ft_nI {N : nt_N} {a b : Nat} (ha : a < 7) (hb : b < 7) : nt_ft N (nI a) (nI b) = decide (nt_D N a b < 1000) := by
  simp only [nt_ft, nt_rt_nI ha, nt_rt_nI hb, nt_cl ha, nt_cl hb, Bool.true_and]
def nt_jv (x y z : Int32) : Bool := nt_rt x && nt_rt y && decide (¬ x = y) && decide (¬ z < 1) && decide (z ≤ 9)
def nt_jn (N : nt_N) (x y z : Int32) : nt_N := if nt_jv x y z = true then nt_join N x.toNatClampNeg y.toNatClampNeg z.toNatClampNeg else N
def nt_cn (N : nt_N) (x y : Int32) : nt_N := if nt_lk N x y = true then nt_cut N x.toNatClampNeg y.toNatClampNeg else N
def nt_tn (N : nt_N) (x y : Int32) (u : Bool) : nt_N := if nt_lk N x y = true then nt_turn N x.toNatClampNeg y.toNatClampNeg u else N
def nt_rn (N : nt_N) (x : Int32) (u : Bool) : nt_N := if nt_rt x = true then nt_rou N x.toNatClampNeg u else N
theorem nt_jv_of {x y z : Int32} (h : nt_jv x y z = true) : ∃ a b k : Nat, a < 7 ∧ b < 7 ∧ a ≠ b ∧ 0 < k ∧ k ≤ 9 ∧ x = nI a ∧ y = nI b ∧ z = nI k := by
  simp only [nt_jv, Bool.and_eq_true, decide_eq_true_eq] at h
  obtain ⟨⟨⟨⟨h1, h2⟩, h3⟩, h4⟩, h5⟩ := h
  obtain ⟨a, ha, rfl⟩ := nt_rt_of h1
  obtain ⟨b, hb, rfl⟩ := nt_rt_of h2
  have hz : ¬ z < 0 := by
    intro q
    exact h4 (Int32.lt_trans q (by decide))
  obtain ⟨k, hk, rfl⟩ := nI_of2 (M := 9) (n := 9) (by decide) hz h5
  refine ⟨a, b, k, ha, hb, fun e => h3 (by rw [e]), ?_, hk, rfl, rfl, rfl⟩
  rcases Nat.eq_zero_or_pos k with q | q
  · subst q
    exact absurd (by decide) h4
  · exact q
/-! the reference's world -/
def nt_M (N : nt_N) (w : jx_Wd) : Prop := nt_ok N ∧ (∀ a b, a < 7 → b < 7 → w 0 (7 * a + b) = nI (N.1 a b)) ∧ (∀ a b, a < 7 → b < 7 → 0 < N.1 a b → w 1 (7 * a + b) = nt_bi ((N.2.1 a).testBit b)) ∧ (∀ r, r < 7 → w 2 r = nt_bi (N.2.2.testBit r))
def nt_MD (N : nt_N) (w : jx_Wd) : Prop := ∀ s d, s < 7 → d < 7 → w 3 (7 * s + d) = nI (nt_D N s d)
theorem nt_M.dist {N : nt_N} {w : jx_Wd} (h : nt_M N w) (f : Nat → Int32) : nt_M N (jx_up w 3 f) := h
theorem nt_M.bef {N : nt_N} {w : jx_Wd} (h : nt_M N w) (f : Nat → Int32) : nt_M N (jx_up w 4 f) := h
theorem mX1_router (w : jx_Wd) (x : Int32) : jx_CI MX1_router [.inr 0, .inl x] w (fun r u => r = nt_bi (nt_rt x) ∧ u = w) := by
  refine eX1_router (bX1_router_0 _ _ _ ?_)
  refine ⟨fun h => ⟨?_, rfl⟩, fun h => ⟨fun h2 => ⟨?_, rfl⟩, fun h2 => ⟨?_, rfl⟩⟩⟩
  · simp [nt_rt, h, nt_bi]
  · simp [nt_rt, h2, nt_bi]
  · simp [nt_rt, h, h2, nt_bi]
theorem mX1_link {N : nt_N} {w : jx_Wd} (hM : nt_M N w) (x y : Int32) : jx_CI MX1_link [.inr 0, .inl x, .inl y] w (fun r u => r = nt_bi (nt_lk N x y) ∧ u = w) := by
  refine eX1_link (bX1_link_0 _ _ _ _ ?_)
  refine (mX1_router w x).imp ?_
  rintro _ _ ⟨rfl, rfl⟩
  cases h1 : nt_rt x with
  | false => exact br_t rfl ⟨by simp [nt_lk, h1, nt_bi], rfl⟩
  | true =>
    refine br_f nt_b1 ?_
    refine (mX1_router _ y).imp ?_
    rintro _ _ ⟨rfl, rfl⟩
    cases h2 : nt_rt y with
    | false => exact br_t rfl ⟨by simp [nt_lk, h2, nt_bi], rfl⟩
    | true =>
      refine br_f nt_b1 ?_
      obtain ⟨a, ha, rfl⟩ := nt_rt_of h1
      obtain ⟨b, hb, rfl⟩ := nt_rt_of h2
      refine ⟨nt_in' ha hb, ?_⟩
      rintro _ rfl
      rw [nt_at' ha hb, hM.2.1 a b ha hb, nt_lk_nI ha hb]
      have h9 := hM.1.1 a b ha hb
      refine br_c (fun h => ⟨?_, rfl⟩) (fun h => ⟨?_, rfl⟩)
      · have : ¬ 0 < N.1 a b := fun q => absurd h (nI_nle q (by omega))
        simp [this, nt_bi]
      · have : 0 < N.1 a b := by
          rcases Nat.eq_zero_or_pos (N.1 a b) with q | q
          · rw [q] at h; exact absurd (by decide) h
          · exact q
        simp [this, nt_bi]
theorem mX1_join {N : nt_N} {w : jx_Wd} (hM : nt_M N w) (x y z : Int32) : jx_CI MX1_join [.inr 0, .inl x, .inl y, .inl z] w (fun r u => r = nt_bi (nt_jv x y z) ∧ nt_M (nt_jn N x y z) u) := by
  have no : nt_jv x y z = false → (0 : Int32) = nt_bi (nt_jv x y z) ∧ nt_M (nt_jn N x y z) w := fun h => ⟨by rw [h]; rfl, by rw [nt_jn, h]; exact hM⟩
  refine eX1_join (bX1_join_0 _ _ _ _ _ ?_)
  refine br_c (fun h => no (by simp [nt_jv, h])) (fun h0 => ?_)
  refine (mX1_router w x).imp ?_
  rintro _ _ ⟨rfl, rfl⟩
  cases h1 : nt_rt x with
  | false => exact br_t rfl (no (by simp [nt_jv, h1]))
  | true =>
    refine br_f nt_b1 ?_
    refine (mX1_router _ y).imp ?_
    rintro _ _ ⟨rfl, rfl⟩
    cases h2 : nt_rt y with
    | false => exact br_t rfl (no (by simp [nt_jv, h2]))
    | true =>
      refine br_f nt_b1 ?_
      refine br_c (fun h => no (by simp [nt_jv, h])) (fun h3 => ?_)
      refine br_c (fun h4 => ?_) (fun h => no (by simp [nt_jv, h]))
      have hv : nt_jv x y z = true := by simp [nt_jv, h0, h1, h2, h3, h4]
      obtain ⟨a, b, k, ha, hb, hab, hk, hk9, rfl, rfl, rfl⟩ := nt_jv_of hv
      refine ⟨nt_in' ha hb, ?_⟩
      rintro w5 e5
      refine ⟨nt_in' hb ha, ?_⟩
      rintro w6 e6
      refine ⟨nt_in' ha hb, ?_⟩
      rintro w7 e7
      refine ⟨nt_in' hb ha, ?_⟩
      rintro w8 e8
      rw [nt_at' ha hb] at e5 e7
      rw [nt_at' hb ha] at e6 e8
      refine ⟨by rw [hv]; rfl, ?_⟩
      rw [nt_jn, hv, if_pos rfl, nt_cl ha, nt_cl hb, nI_clamp (n := k) (by omega)]
      have e1 : vp_nar .boolean 1 = 1 := rfl
      refine ⟨nt_join_ok hM.1 ha hb hab hk hk9, fun p q hp hq => ?_, fun p q hp hq hc => ?_, fun r hr => ?_⟩
      · show w8 0 _ = nI (if (p = a ∧ q = b) ∨ (p = b ∧ q = a) then k else N.1 p q)
        subst e8 e7 e6 e5
        show upd (upd _ (7 * a + b) (nI k)) (7 * b + a) (nI k) (7 * p + q) = _
        rw [nt_up2 ha hb hq]
        split
        · rfl
        · exact hM.2.1 p q hp hq
      · rw [show nt_join N a b k = nt_turn (nt_cost N a b k) a b true from rfl, nt_turn_bit (N := nt_cost N a b k) hM.1.2.2.2.1 ha hb hab true hp hq]
        subst e8 e7 e6 e5
        show upd (upd _ (7 * a + b) 1) (7 * b + a) 1 (7 * p + q) = _
        rw [nt_up2 ha hb hq]
        by_cases c1 : (p = a ∧ q = b) ∨ (p = b ∧ q = a)
        · rw [if_pos c1, if_pos c1]
          rfl
        · rw [if_neg c1, if_neg c1]
          have hc2 : 0 < N.1 p q := by
            have : (nt_join N a b k).1 p q = N.1 p q := if_neg c1
            omega
          exact hM.2.2.1 p q hp hq hc2
      · subst e8 e7 e6 e5
        exact hM.2.2.2 r hr
theorem mX1_cut {N : nt_N} {w : jx_Wd} (hM : nt_M N w) (x y : Int32) : jx_CI MX1_cut [.inr 0, .inl x, .inl y] w (fun r u => r = nt_bi (nt_lk N x y) ∧ nt_M (nt_cn N x y) u) := by
  refine eX1_cut (bX1_cut_0 _ _ _ _ ?_)
  refine (mX1_link hM x y).imp ?_
  rintro _ _ ⟨rfl, rfl⟩
  cases h1 : nt_lk N x y with
  | false => exact br_t rfl ⟨rfl, by rw [nt_cn, h1]; exact hM⟩
  | true =>
    refine br_f nt_b1 ?_
    have h2 := h1
    obtain ⟨a, b, ha, hb, rfl, rfl, hc⟩ := nt_lk_of h1
    have hab : a ≠ b := by
      intro e
      subst e
      rw [hM.1.2.2.1 a ha] at hc
      omega
    refine ⟨nt_in' ha hb, ?_⟩
    rintro w5 e5
    refine ⟨nt_in' hb ha, ?_⟩
    rintro w6 e6
    rw [nt_at' ha hb] at e5
    rw [nt_at' hb ha] at e6
    refine ⟨rfl, ?_⟩
    rw [nt_cn, h2, if_pos rfl, nt_cl ha, nt_cl hb]
    refine ⟨nt_cut_ok hM.1 ha hb hab, fun p q hp hq => ?_, fun p q hp hq hc => ?_, fun r hr => ?_⟩
    · show w6 0 _ = nI (if (p = a ∧ q = b) ∨ (p = b ∧ q = a) then 0 else N.1 p q)
      subst e6 e5
      show upd (upd _ (7 * a + b) 0) (7 * b + a) 0 (7 * p + q) = _
      rw [nt_up2 ha hb hq]
      split
      · rfl
      · exact hM.2.1 p q hp hq
    · rw [show nt_cut N a b = nt_turn (nt_cost N a b 0) a b false from rfl, nt_turn_bit (N := nt_cost N a b 0) hM.1.2.2.2.1 ha hb hab false hp hq]
      have hc1 : ¬ ((p = a ∧ q = b) ∨ (p = b ∧ q = a)) := by
        intro e
        have : (nt_cut N a b).1 p q = 0 := if_pos e
        omega
      have hc2 : 0 < N.1 p q := by
        have : (nt_cut N a b).1 p q = N.1 p q := if_neg hc1
        omega
      rw [if_neg hc1]
      subst e6 e5
      exact hM.2.2.1 p q hp hq hc2
    · subst e6 e5
      exact hM.2.2.2 r hr
theorem mX1_setLink {N : nt_N} {w : jx_Wd} (hM : nt_M N w) (x y : Int32) (u : Bool) : jx_CI MX1_setLink [.inr 0, .inl x, .inl y, .inl (nt_bi u)] w (fun r u' => r = nt_bi (nt_lk N x y) ∧ nt_M (nt_tn N x y u) u' ∧ u' 4 = w 4) := by
  refine eX1_setLink (bX1_setLink_0 _ _ _ _ _ ?_)
  refine (mX1_link hM x y).imp ?_
  rintro _ _ ⟨rfl, rfl⟩
  cases h1 : nt_lk N x y with
  | false => exact br_t rfl ⟨rfl, by rw [nt_tn, h1]; exact hM, rfl⟩
  | true =>
    refine br_f nt_b1 ?_
    have h2 := h1
    obtain ⟨a, b, ha, hb, rfl, rfl, hc⟩ := nt_lk_of h1
    have hab : a ≠ b := by
      intro e
      subst e
      rw [hM.1.2.2.1 a ha] at hc
      omega
    refine ⟨nt_in' ha hb, ?_⟩
    rintro w5 e5
    refine ⟨nt_in' hb ha, ?_⟩
    rintro w6 e6
    rw [nt_at' ha hb, nt_nz] at e5
    rw [nt_at' hb ha, nt_nz] at e6
    refine ⟨rfl, ?_, by subst e6 e5; rfl⟩
    rw [nt_tn, h2, if_pos rfl, nt_cl ha, nt_cl hb]
    refine ⟨nt_turn_ok hM.1 ha hb hc u, fun p q hp hq => ?_, fun p q hp hq hc => ?_, fun r hr => ?_⟩
    · subst e6 e5
      exact hM.2.1 p q hp hq
    · rw [nt_turn_bit hM.1.2.2.2.1 ha hb hab u hp hq]
      subst e6 e5
      show upd (upd _ (7 * a + b) (nt_bi u)) (7 * b + a) (nt_bi u) (7 * p + q) = _
      rw [nt_up2 ha hb hq]
      split
      · rfl
      · exact hM.2.2.1 p q hp hq hc
    · subst e6 e5
      exact hM.2.2.2 r hr
theorem mX1_setRouter {N : nt_N} {w : jx_Wd} (hM : nt_M N w) (x : Int32) (u : Bool) : jx_CI MX1_setRouter [.inr 0, .inl x, .inl (nt_bi u)] w (fun r u' => r = nt_bi (nt_rt x) ∧ nt_M (nt_rn N x u) u') := by
  refine eX1_setRouter (bX1_setRouter_0 _ _ _ _ ?_)
  refine (mX1_router w x).imp ?_
  rintro _ _ ⟨rfl, rfl⟩
  cases h1 : nt_rt x with
  | false => exact br_t rfl ⟨rfl, by rw [nt_rn, h1]; exact hM⟩
  | true =>
    refine br_f nt_b1 ?_
    have h2 := h1
    obtain ⟨a, ha, rfl⟩ := nt_rt_of h1
    refine ⟨nt_in7 ha, ?_⟩
    rintro w5 e5
    rw [nt_cl ha, nt_nz] at e5
    refine ⟨rfl, ?_⟩
    rw [nt_rn, h2, if_pos rfl, nt_cl ha]
    refine ⟨nt_rou_ok hM.1 ha u, fun p q hp hq => ?_, fun p q hp hq hc => ?_, fun r hr => ?_⟩
    · subst e5
      exact hM.2.1 p q hp hq
    · subst e5
      exact hM.2.2.1 p q hp hq hc
    · show w5 2 r = nt_bi ((nt_sb N.2.2 a u).testBit r)
      rw [nt_sb_b u hM.1.2.2.2.2.1 ha hr]
      subst e5
      show upd _ a (nt_bi u) r = _
      rw [nt_upd]
      split
      · rfl
      · exact hM.2.2.2 r hr
noncomputable def nt_ac (N : nt_N) (x y : Int32) : Int32 := if nt_lk N x y = true then nI (N.1 x.toNatClampNeg y.toNatClampNeg) else -1
theorem mX1_cost {N : nt_N} {w : jx_Wd} (hM : nt_M N w) (x y : Int32) : jx_CI MX1_cost [.inr 0, .inl x, .inl y] w (fun r u => r = nt_ac N x y ∧ u = w) := by
  refine eX1_cost (bX1_cost_0 _ _ _ _ ?_)
  refine (mX1_link hM x y).imp ?_
  rintro _ _ ⟨rfl, rfl⟩
  cases h1 : nt_lk N x y with
  | false => exact br_t rfl ⟨by rw [nt_ac, h1]; rfl, rfl⟩
  | true =>
    refine br_f nt_b1 ?_
    have h2 := h1
    obtain ⟨a, b, ha, hb, rfl, rfl, hc⟩ := nt_lk_of h1
    refine ⟨nt_in' ha hb, ?_⟩
    rintro _ rfl
    refine ⟨?_, rfl⟩
    rw [nt_at' ha hb, nt_ac, h2, if_pos rfl, nt_cl ha, nt_cl hb, hM.2.1 a b ha hb]
theorem mX1_counts {N : nt_N} {w : jx_Wd} (hM : nt_M N w) (x y : Int32) : jx_CI MX1_counts [.inr 0, .inl x, .inl y] w (fun r u => r = nt_bi (nt_ee N x y) ∧ u = w) := by
  refine eX1_counts (bX1_counts_0 _ _ _ _ ?_)
  refine (mX1_link hM x y).imp ?_
  rintro _ _ ⟨rfl, rfl⟩
  cases h1 : nt_lk N x y with
  | false =>
    refine br_t rfl ⟨?_, rfl⟩
    cases h2 : nt_ee N x y with
    | false => rfl
    | true =>
      obtain ⟨a, b, ha, hb, rfl, rfl, hE⟩ := nt_ee_of h2
      rw [nt_lk_nI ha hb] at h1
      have := nt_E_pos hM.1 ha hb hE
      simp [this] at h1
  | true =>
    refine br_f nt_b1 ?_
    obtain ⟨a, b, ha, hb, rfl, rfl, hc⟩ := nt_lk_of h1
    rw [nt_ee_nI ha hb]
    refine ⟨nt_in' ha hb, ?_⟩
    rintro _ rfl
    rw [nt_at' ha hb, hM.2.2.1 a b ha hb hc]
    cases hB : (N.2.1 a).testBit b with
    | false => exact br_t rfl ⟨by simp [nt_E, hB, nt_bi], rfl⟩
    | true =>
      refine br_f nt_b1 ⟨nt_in7 ha, ?_⟩
      rintro _ rfl
      rw [nt_cl ha, hM.2.2.2 a ha]
      cases hRa : N.2.2.testBit a with
      | false => exact br_t rfl ⟨by simp [nt_E, hRa, nt_bi], rfl⟩
      | true =>
        refine br_f nt_b1 ⟨nt_in7 hb, ?_⟩
        rintro _ rfl
        rw [nt_cl hb, hM.2.2.2 b hb]
        cases hRb : N.2.2.testBit b with
        | false => exact br_t rfl ⟨by simp [nt_E, hRb, nt_bi], rfl⟩
        | true => exact br_f nt_b1 ⟨by simp [nt_E, hRa, hRb, hB, nt_bi], rfl⟩
end
section
/-! THE REFERENCE'S CONTRACTS: its distances are the net's (work) -/
theorem jx_uu (w : jx_Wd) (k : Nat) (f g : Nat → Int32) : jx_up (jx_up w k f) k g = jx_up w k g := by
  funext j
  show (if j = k then g else if j = k then f else w j) = if j = k then g else w j
  split <;> rfl
theorem jx_us (w : jx_Wd) (k : Nat) : jx_up w k (w k) = w := by
  funext j
  show (if j = k then w k else w j) = w j
  split
  · next h => rw [h]
  · rfl
theorem jx_at (w : jx_Wd) (k : Nat) (f : Nat → Int32) : jx_up w k f k = f := if_pos rfl
/-- the array of distances holds F -/
def nt_MF (F : Nat → Nat → Nat) (f : Nat → Int32) : Prop := ∀ x y, x < 7 → y < 7 → f (7 * x + y) = nI (F x y)
def nt_lw (N : nt_N) (s r : Nat) (F : Nat → Nat → Nat) : Nat → Nat → Nat := fun x y => if x = s ∧ nt_E N s r = true ∧ N.1 s r + F r y < F s y then N.1 s r + F r y else F x y
theorem mX1_lower {N : nt_N} {w : jx_Wd} (hM : nt_M N w) {s r : Nat} (hs : s < 7) (hr : r < 7) {F : Nat → Nat → Nat} (hF : nt_MF F (w 3)) (hb : ∀ x y, x < 7 → y < 7 → F x y ≤ 1000) : jx_CV MX1_lower [.inr 0, .inl (nI s), .inl (nI r)] w (fun u => ∃ f, u = jx_up w 3 f ∧ nt_MF (nt_lw N s r F) f) := by
  refine eX1_lower (bX1_lower_0 _ _ _ _ ?_)
  have key := nt_l0 7 (fun i (f : Nat → Int32) => jx_J MX1_lower (jx_qv (fun u => ∃ f, u = jx_up w 3 f ∧ nt_MF (nt_lw N s r F) f)) 2 [jx_t, jx_i (nI s), jx_i (nI r), jx_i (nI i)] [] (jx_up w 3 f))
    (fun i f => ∀ x y, x < 7 → y < 7 → f (7 * x + y) = nI (if y < i then nt_lw N s r F x y else F x y)) ?_ ?_ (w 3) (fun x y hx hy => hF x y hx hy)
  · rw [jx_us] at key
    exact key
  · intro i f hi hf ih
    refine bX1_lower_2 _ _ _ _ _ (br_f (nI_ge (b := 7) hi (by decide)) ?_)
    refine (mX1_counts (hM.dist f) _ _).imp ?_
    rintro _ _ ⟨rfl, rfl⟩
    rw [nt_ee_nI hs hr, nI_1]
    have e1 := hf r i hr hi
    rw [if_neg (Nat.lt_irrefl i)] at e1
    have e2 := hf s i hs hi
    rw [if_neg (Nat.lt_irrefl i)] at e2
    have b1 := hb r i hr hi
    have b2 := hb s i hs hi
    have b3 := hM.1.1 s r hs hr
    have same : ¬ (nt_E N s r = true ∧ N.1 s r + F r i < F s i) → jx_J MX1_lower (jx_qv (fun u => ∃ f, u = jx_up w 3 f ∧ nt_MF (nt_lw N s r F) f)) 2 [jx_t, jx_i (nI s), jx_i (nI r), jx_i (nI (i + 1))] [] (jx_up w 3 f) := by
      intro hno
      refine ih f (fun x y hx hy => ?_)
      rw [hf x y hx hy]
      by_cases c1 : y < i
      · rw [if_pos c1, if_pos (by omega)]
      · rw [if_neg c1]
        by_cases c2 : y < i + 1
        · have : y = i := by omega
          subst this
          rw [if_pos c2, nt_lw, if_neg (fun q => hno q.2)]
        · rw [if_neg c2]
    cases hE : nt_E N s r with
    | false => exact br_t rfl (same (by rw [hE]; simp))
    | true =>
      refine br_f nt_b1 ⟨nt_in' hs hr, ?_⟩
      rintro _ rfl
      refine ⟨nt_in' hr hi, ?_⟩
      rintro _ rfl
      refine ⟨nt_in' hs hi, ?_⟩
      rintro _ rfl
      have c0 : jx_up w 3 f 0 (7 * s + r) = nI (N.1 s r) := hM.2.1 s r hs hr
      rw [nt_at' hs hr, nt_at' hr hi, nt_at' hs hi, jx_at, e1, e2, c0, nI_add]
      refine br_c (fun hc => same ?_) (fun hc => ?_)
      · rw [nI_leI (by omega) (by omega)] at hc
        omega
      · rw [nI_leI (by omega) (by omega)] at hc
        refine ⟨nt_in' hs hr, ?_⟩
        rintro _ rfl
        refine ⟨nt_in' hr hi, ?_⟩
        rintro _ rfl
        refine ⟨nt_in' hs hi, ?_⟩
        rintro _ rfl
        rw [jx_uu]
        refine ih _ (fun x y hx hy => ?_)
        rw [nt_upd]
        by_cases c1 : x = s ∧ y = i
        · obtain ⟨rfl, rfl⟩ := c1
          rw [if_pos rfl, if_pos (by omega), nt_lw, if_pos ⟨rfl, hE, by omega⟩, nI_add]
        · rw [if_neg (by omega), hf x y hx hy]
          by_cases c2 : y < i
          · rw [if_pos c2, if_pos (by omega)]
          · rw [if_neg c2]
            by_cases c3 : y < i + 1
            · have : y = i := by omega
              subst this
              rw [if_pos c3, nt_lw, if_neg (fun q => c1 ⟨q.1, rfl⟩)]
            · rw [if_neg c3]
  · intro f hf
    refine bX1_lower_2 _ _ _ _ _ (br_t (nI_le (a := 7) (Nat.le_refl 7) (by decide)) ?_)
    refine ⟨f, rfl, fun x y hx hy => ?_⟩
    rw [hf x y hx hy, if_pos hy]
/-- lowering, plainly: after p passes the routers of rank at most p are right -/
def nt_bf (N : nt_N) (p c : Nat) (F : Nat → Nat → Nat) : Prop := (∀ s d, s < 7 → d < 7 → nt_D N s d ≤ F s d ∧ F s d ≤ 1000) ∧ (∀ s d, s < 7 → d < 7 → nt_rk N d s ≤ p → F s d = nt_D N s d) ∧ (∀ s d, s < 7 → d < 7 → s ≠ d → nt_D N s d < 1000 → nt_rk N d s ≤ p + 1 → 7 * s + nt_x N s d < c → F s d = nt_D N s d)
theorem nt_on {N : nt_N} (hN : nt_ok N) {s d : Nat} (hs : s < 7) (hd : d < 7) (hf : nt_D N s d < 1000) : N.2.2.testBit d = true := by
  cases hon : N.2.2.testBit d with
  | true => rfl
  | false =>
    have := (nt_Ds hN).2.2.1 s d hs hd hon
    omega
theorem nt_bf_0 {N : nt_N} (hN : nt_ok N) : nt_bf N 0 0 (fun s d => if s = d ∧ N.2.2.testBit d = true then 0 else 1000) := by
  obtain ⟨a1, a2, a3, a4, a5⟩ := nt_Ds hN
  refine ⟨fun s d hs hd => ?_, fun s d hs hd hr => ?_, fun s d hs hd hsd hf hr hc => absurd hc (by omega)⟩
  · dsimp only
    split
    · next q => obtain ⟨rfl, q2⟩ := q; rw [a2 s hs q2]; omega
    · exact ⟨a1 s d hs hd, Nat.le_refl _⟩
  · dsimp only
    split
    · next q => obtain ⟨rfl, q2⟩ := q; rw [a2 s hs q2]
    · next q =>
      have h1 := a1 s d hs hd
      rcases Nat.lt_or_ge (nt_D N s d) 1000 with hf | hf
      · exfalso
        have hon := nt_on hN hs hd hf
        have hsd : s ≠ d := fun e => q ⟨e, hon⟩
        have h0 := a2 d hd hon
        obtain ⟨r, hr7, hE, hsum⟩ := a5 s d hs hd hsd hf
        have hp := nt_E_pos hN hs hr7 hE
        have := nt_rk_lt N d (s := s) hd (by omega)
        omega
      · omega
theorem nt_bf_s {N : nt_N} (hN : nt_ok N) {p c : Nat} (hc : c < 49) {F : Nat → Nat → Nat} (h : nt_bf N p c F) : nt_bf N p (c + 1) (nt_lw N (c / 7) (c % 7) F) := by
  obtain ⟨h1, h2, h3⟩ := h
  have hs0 : c / 7 < 7 := by omega
  have hr0 : c % 7 < 7 := by omega
  have hle : ∀ x y, x < 7 → y < 7 → nt_D N x y ≤ nt_lw N (c / 7) (c % 7) F x y ∧ nt_lw N (c / 7) (c % 7) F x y ≤ F x y := by
    intro x y hx hy
    unfold nt_lw
    split
    · next q =>
      obtain ⟨rfl, q2, q3⟩ := q
      have := (nt_Ds hN).2.2.2.1 (c / 7) (c % 7) y hx hr0 hy q2
      have := (h1 (c % 7) y hr0 hy).1
      omega
    · exact ⟨(h1 x y hx hy).1, Nat.le_refl _⟩
  refine ⟨fun s d hs hd => ?_, fun s d hs hd hr => ?_, fun s d hs hd hsd hf hr hlt => ?_⟩
  · have a := hle s d hs hd
    have b := (h1 s d hs hd).2
    omega
  · have a := hle s d hs hd
    have b := h2 s d hs hd hr
    omega
  · have a := hle s d hs hd
    by_cases e : 7 * s + nt_x N s d < c
    · have b := h3 s d hs hd hsd hf hr e
      omega
    · obtain ⟨x1, x2, x3, -⟩ := nt_x_spec hN hs hd hsd hf
      have es : c / 7 = s := by omega
      have ex : c % 7 = nt_x N s d := by omega
      have hp := nt_E_pos hN hs x1 x2
      have hrk := nt_rk_lt N d (s := s) x1 (by omega)
      have hx := h2 (nt_x N s d) d x1 hd (by omega)
      have : nt_lw N (c / 7) (c % 7) F s d ≤ N.1 s (nt_x N s d) + F (nt_x N s d) d := by
        rw [es, ex]
        unfold nt_lw
        split
        · exact Nat.le_refl _
        · next q =>
          rcases Nat.lt_or_ge (N.1 s (nt_x N s d) + F (nt_x N s d) d) (F s d) with z | z
          · exact absurd ⟨rfl, x2, z⟩ q
          · exact z
      omega
theorem nt_bf_p {N : nt_N} (hN : nt_ok N) {p : Nat} {F : Nat → Nat → Nat} (h : nt_bf N p 49 F) : nt_bf N (p + 1) 0 F := by
  obtain ⟨h1, h2, h3⟩ := h
  refine ⟨h1, fun s d hs hd hr => ?_, fun s d hs hd hsd hf hr hc => absurd hc (by omega)⟩
  have b := h1 s d hs hd
  rcases Nat.lt_or_ge (nt_D N s d) 1000 with hf | hf
  · by_cases hsd : s = d
    · subst hsd
      have hon := nt_on hN hs hs hf
      have h0 := (nt_Ds hN).2.1 s hs hon
      refine h2 s s hs hs ?_
      have : nt_rk N s s = nt_sm (fun _ => 0) 7 := nt_sm_eq 7 (fun i _ => if_neg (by omega))
      have e : nt_sm (fun _ => 0) 7 = 0 := rfl
      omega
    · obtain ⟨x1, x2, x3, -⟩ := nt_x_spec hN hs hd hsd hf
      exact h3 s d hs hd hsd hf hr (by omega)
  · omega
theorem mX1_work {N : nt_N} {w : jx_Wd} (hM : nt_M N w) : jx_CV MX1_work [.inr 0] w (fun u => ∃ f, u = jx_up w 3 f ∧ nt_MD N u) := by
  refine eX1_work (bX1_work_0 _ _ ?_)
  -- the passes
  have inner : ∀ p, p < 6 → (∀ f F, nt_MF F f → nt_bf N (p + 1) 0 F → jx_J MX1_work (jx_qv (fun u => ∃ f, u = jx_up w 3 f ∧ nt_MD N u)) 52 [jx_t, jx_i (nI (p + 1)), none] [] (jx_up w 3 f)) → ∀ f F, nt_MF F f → nt_bf N p 0 F → jx_J MX1_work (jx_qv (fun u => ∃ f, u = jx_up w 3 f ∧ nt_MD N u)) 60 [jx_t, jx_i (nI p), jx_i 0] [] (jx_up w 3 f) := by
    intro p hp hnext f F hf hF
    refine nt_l0 49 (fun c (f : Nat → Int32) => jx_J MX1_work (jx_qv (fun u => ∃ f, u = jx_up w 3 f ∧ nt_MD N u)) 60 [jx_t, jx_i (nI p), jx_i (nI c)] [] (jx_up w 3 f)) (fun c f => ∃ F, nt_MF F f ∧ nt_bf N p c F) ?_ ?_ f ⟨F, hf, hF⟩
    · intro c f hc hI ih
      obtain ⟨F, hf, hF⟩ := hI
      refine bX1_work_60 _ _ _ _ (br_f (nI_ge (b := 49) hc (by decide)) ?_)
      rw [nt_md hc, nt_dv hc, nI_1]
      refine (mX1_lower (hM.dist f) (s := c / 7) (r := c % 7) (by omega) (by omega) (F := F) hf (fun x y hx hy => (hF.1 x y hx hy).2)).imp ?_
      rintro _ ⟨f', rfl, hf'⟩
      rw [jx_uu]
      exact ih f' ⟨_, hf', nt_bf_s hM.1 hc hF⟩
    · intro f hI
      obtain ⟨F, hf, hF⟩ := hI
      refine bX1_work_60 _ _ _ _ (br_t (nI_le (a := 49) (Nat.le_refl 49) (by decide)) ?_)
      rw [nI_1]
      exact hnext f F hf (nt_bf_p hM.1 hF)
  have passes : ∀ f F, nt_MF F f → nt_bf N 0 0 F → jx_J MX1_work (jx_qv (fun u => ∃ f, u = jx_up w 3 f ∧ nt_MD N u)) 52 [jx_t, jx_i 0, none] [] (jx_up w 3 f) := by
    intro f F hf hF
    refine nt_l0 6 (fun p (f : Nat → Int32) => jx_J MX1_work (jx_qv (fun u => ∃ f, u = jx_up w 3 f ∧ nt_MD N u)) 52 [jx_t, jx_i (nI p), none] [] (jx_up w 3 f)) (fun p f => ∃ F, nt_MF F f ∧ nt_bf N p 0 F) ?_ ?_ f ⟨F, hf, hF⟩
    · intro p f hp hI ih
      obtain ⟨F, hf, hF⟩ := hI
      exact bX1_work_52 _ _ _ (br_f (nI_ge (b := 6) hp (by decide)) (inner p hp (fun f F hf hF => ih f ⟨F, hf, hF⟩) f F hf hF))
    · intro f hI
      obtain ⟨F, hf, hF⟩ := hI
      refine bX1_work_52 _ _ _ (br_t (nI_le (a := 6) (Nat.le_refl 6) (by decide)) ⟨f, rfl, fun s d hs hd => ?_⟩)
      rw [jx_at, hf s d hs hd, hF.2.1 s d hs hd (nt_rk_le N d hs)]
  -- the first row
  have key := nt_l0 49 (fun c (f : Nat → Int32) => jx_J MX1_work (jx_qv (fun u => ∃ f, u = jx_up w 3 f ∧ nt_MD N u)) 2 [jx_t, jx_i (nI c), none] [] (jx_up w 3 f)) (fun c f => ∀ j, j < c → f j = nI (if j / 7 = j % 7 ∧ N.2.2.testBit (j % 7) = true then 0 else 1000)) ?_ ?_ (w 3) (fun j hj => absurd hj (by omega))
  · rw [jx_us] at key
    exact key
  · intro c f hc hf ih
    refine bX1_work_2 _ _ _ (br_f (nI_ge (b := 49) hc (by decide)) ?_)
    rw [nt_md hc, nt_dv hc, nI_1, nI_eq (by omega) (by omega)]
    have step : ∀ v : Nat, v = (if c / 7 = c % 7 ∧ N.2.2.testBit (c % 7) = true then 0 else 1000) → jx_J MX1_work (jx_qv (fun u => ∃ f, u = jx_up w 3 f ∧ nt_MD N u)) 2 [jx_t, jx_i (nI (c + 1)), none] [] (jx_up w 3 (upd f c (nI v))) := by
      intro v hv
      refine ih _ (fun j hj => ?_)
      rw [nt_upd]
      by_cases e : j = c
      · subst e
        rw [if_pos rfl, hv]
      · rw [if_neg e]
        exact hf j (by omega)
    have hcl : (nI c).toNatClampNeg = c := nI_clamp (by omega)
    refine br_c (fun h1 => ?_) (fun h1 => ?_)
    · refine ⟨vp_in_nI (by omega) (by decide), ?_⟩
      rintro _ rfl
      have c0 : jx_up w 3 f 2 (nI (c / 7)).toNatClampNeg = nt_bi (N.2.2.testBit (c / 7)) := by
        rw [nt_cl (by omega)]
        exact hM.2.2.2 (c / 7) (by omega)
      rw [c0]
      cases hon : N.2.2.testBit (c / 7) with
      | false =>
        refine br_t rfl ⟨vp_in_nI hc (by decide), ?_⟩
        rintro _ rfl
        rw [jx_uu, jx_at, hcl]
        exact step 1000 (by rw [if_neg]; rw [← h1, hon]; simp)
      | true =>
        refine br_f nt_b1 ⟨vp_in_nI hc (by decide), ?_⟩
        rintro _ rfl
        rw [jx_uu, jx_at, hcl]
        exact step 0 (by rw [if_pos ⟨h1, by rw [← h1]; exact hon⟩])
    · refine ⟨vp_in_nI hc (by decide), ?_⟩
      rintro _ rfl
      rw [jx_uu, jx_at, hcl]
      exact step 1000 (by rw [if_neg (fun q => h1 q.1)])
  · intro f hf
    refine bX1_work_2 _ _ _ (br_t (nI_le (a := 49) (Nat.le_refl 49) (by decide)) ?_)
    refine passes f _ (fun x y hx hy => ?_) (nt_bf_0 hM.1)
    rw [hf (7 * x + y) (by omega)]
    have e1 : (7 * x + y) / 7 = x := by omega
    have e2 : (7 * x + y) % 7 = y := by omega
    rw [e1, e2]
end
section
/-! THE REFERENCE'S CONTRACTS: its answers, each a value of the net -/
theorem nt_le_cl {x : Int32} {k : Nat} (hk : k < 2 ^ 31) (h : x ≤ nI k) : x.toNatClampNeg ≤ k := by
  have h1 := Int32.le_iff_toInt_le.mp h
  rw [nI_toInt hk] at h1
  show x.toInt.toNat ≤ k
  omega
theorem nt_gt_cl {x : Int32} {k : Nat} (hk : k < 2 ^ 31) (h : ¬ x ≤ nI k) : k + 1 ≤ x.toNatClampNeg := by
  have h1 : ¬ x.toInt ≤ (nI k).toInt := fun q => h (Int32.le_iff_toInt_le.mpr q)
  rw [nI_toInt hk] at h1
  show k + 1 ≤ x.toInt.toNat
  omega
theorem mX1_has {N : nt_N} {w : jx_Wd} (hM : nt_M N w) (hD : nt_MD N w) (x y : Int32) : jx_CI MX1_has [.inr 0, .inl x, .inl y] w (fun r u => r = nt_bi (nt_ft N x y) ∧ u = w) := by
  refine eX1_has (bX1_has_0 _ _ _ _ ?_)
  refine (mX1_router w x).imp ?_
  rintro _ _ ⟨rfl, rfl⟩
  cases h1 : nt_rt x with
  | false => exact br_t rfl ⟨by simp [nt_ft, h1, nt_bi], rfl⟩
  | true =>
    refine br_f nt_b1 ?_
    refine (mX1_router _ y).imp ?_
    rintro _ _ ⟨rfl, rfl⟩
    cases h2 : nt_rt y with
    | false => exact br_t rfl ⟨by simp [nt_ft, h2, nt_bi], rfl⟩
    | true =>
      refine br_f nt_b1 ?_
      obtain ⟨a, ha, rfl⟩ := nt_rt_of h1
      obtain ⟨b, hb, rfl⟩ := nt_rt_of h2
      refine ⟨nt_in' ha hb, ?_⟩
      rintro _ rfl
      have h9 := (nt_Ds hM.1).1 a b ha hb
      rw [nt_at' ha hb, hD a b ha hb, nt_ft_nI ha hb]
      refine br_c (fun h => ⟨?_, rfl⟩) (fun h => ⟨?_, rfl⟩)
      · have h : nI 1000 ≤ nI (nt_D N a b) := h
        rw [nI_leI (by omega) (by omega)] at h
        rw [decide_eq_false (by omega)]
        rfl
      · have h : ¬ nI 1000 ≤ nI (nt_D N a b) := h
        rw [nI_leI (by omega) (by omega)] at h
        rw [decide_eq_true (by omega)]
        rfl
theorem mX1_hop {N : nt_N} {w : jx_Wd} (hM : nt_M N w) (hD : nt_MD N w) {s d : Nat} (hs : s < 7) (hd : d < 7) : jx_CI MX1_hop [.inr 0, .inl (nI s), .inl (nI d)] w (fun r u => r = nI (nt_x N s d) ∧ u = w) := by
  refine eX1_hop (bX1_hop_0 _ _ _ _ ?_)
  refine nt_l0 7 (fun i (_ : Unit) => jx_J MX1_hop (jx_qi (fun r u => r = nI (nt_x N s d) ∧ u = w)) 2 [jx_t, jx_i (nI s), jx_i (nI d), jx_i (nI i)] [] w) (fun i _ => ∀ j, j < i → nt_P N s d j = false) ?_ ?_ () (fun j hj => absurd hj (by omega))
  · intro i _ hi hI ih
    refine bX1_hop_2 _ _ _ _ _ (br_f (nI_ge (b := 7) hi (by decide)) ?_)
    refine (mX1_counts hM _ _).imp ?_
    rintro _ _ ⟨rfl, rfl⟩
    rw [nt_ee_nI hs hi, nI_1]
    have no : nt_P N s d i = false → ∀ j, j < i + 1 → nt_P N s d j = false := by
      intro h j hj
      by_cases e : j = i
      · rw [e]; exact h
      · exact hI j (by omega)
    cases hE : nt_E N s i with
    | false => exact br_t rfl (ih () (no (by simp [nt_P, hE])))
    | true =>
      refine br_f nt_b1 ⟨nt_in' hs hi, ?_⟩
      rintro _ rfl
      refine ⟨nt_in' hi hd, ?_⟩
      rintro _ rfl
      refine ⟨nt_in' hs hd, ?_⟩
      rintro _ rfl
      have b1 := (nt_Ds hM.1).1 i d hi hd
      have b2 := (nt_Ds hM.1).1 s d hs hd
      have b3 := hM.1.1 s i hs hi
      rw [nt_at' hs hi, nt_at' hi hd, nt_at' hs hd, hM.2.1 s i hs hi, hD i d hi hd, hD s d hs hd, nI_add, nI_eq (by omega) (by omega)]
      refine br_c (fun h => ⟨?_, rfl⟩) (fun h => ih () (no (by simp [nt_P, h])))
      rw [nt_x, nt_fs_at (nt_P N s d) d i (by simp [nt_P, hE, h]) 7 0 (fun j _ hj => hI j hj) (by omega) (by omega)]
  · intro _ hI
    refine bX1_hop_2 _ _ _ _ _ (br_t (nI_le (a := 7) (Nat.le_refl 7) (by decide)) ⟨?_, rfl⟩)
    rw [nt_x, nt_fs_no (nt_P N s d) d 7 0 (fun j _ hj => hI j (by omega))]
theorem nt_h_at {N : nt_N} {s d n : Nat} (hn : n ≤ 6) (h1 : nt_r N s d n = d) (h2 : ∀ j, j < n → nt_r N s d j ≠ d) : nt_h N s d = n :=
  nt_fs_at (fun k => decide (nt_r N s d k = d)) 0 n (by simp [h1]) 7 0 (fun j _ hj => by simp [h2 j hj]) (by omega) (by omega)
theorem nt_r_s {N : nt_N} {s d k : Nat} (h : nt_r N s d k ≠ d) : nt_r N s d (k + 1) = nt_x N (nt_r N s d k) d := if_neg h
theorem mX1_count {N : nt_N} {w : jx_Wd} (hM : nt_M N w) (hD : nt_MD N w) {s d : Nat} (hs : s < 7) (hd : d < 7) (hf : nt_D N s d < 1000) : jx_CI MX1_count [.inr 0, .inl (nI s), .inl (nI d)] w (fun r u => r = nI (nt_h N s d) ∧ u = w) := by
  refine eX1_count (bX1_count_0 _ _ _ _ ?_)
  refine nt_l0 6 (fun i (_ : Unit) => jx_J MX1_count (jx_qi (fun r u => r = nI (nt_h N s d) ∧ u = w)) 5 [jx_t, none, jx_i (nI d), jx_i (nI i), jx_i (nI (nt_r N s d i))] [] w) (fun i _ => ∀ j, j < i → nt_r N s d j ≠ d) ?_ ?_ () (fun j hj => absurd hj (by omega))
  · intro i _ hi hI ih
    have hr := (nt_r_in hM.1 hs hd hf i).1
    refine bX1_count_5 _ _ _ _ _ (br_f (nI_ge (b := 6) hi (by decide)) ?_)
    rw [nI_eq (by omega) (by omega)]
    refine br_c (fun h => ⟨?_, rfl⟩) (fun h => ?_)
    · rw [nt_h_at (by omega) h hI]
    · refine (mX1_hop hM hD hr hd).imp ?_
      rintro _ _ ⟨rfl, rfl⟩
      rw [nI_1, ← nt_r_s h]
      refine ih () (fun j hj => ?_)
      by_cases e : j = i
      · rw [e]; exact h
      · exact hI j (by omega)
  · intro _ hI
    refine bX1_count_5 _ _ _ _ _ (br_t (nI_le (a := 6) (Nat.le_refl 6) (by decide)) ⟨?_, rfl⟩)
    rw [nt_h_at (Nat.le_refl 6) (nt_r_end hM.1 hs hd hf) hI]
/-- how many links a call for n of them goes -/
def nt_n (x : Int32) : Nat := min x.toNatClampNeg 6
theorem nt_r_d {N : nt_N} {s d k : Nat} (h : nt_r N s d k = d) {n : Nat} (hn : k ≤ n) : nt_r N s d n = d := by
  have := nt_r_stay N s d h (n - k)
  rwa [show k + (n - k) = n by omega] at this
theorem mX1_walk {N : nt_N} {w : jx_Wd} (hM : nt_M N w) (hD : nt_MD N w) {s d : Nat} (hs : s < 7) (hd : d < 7) (hf : nt_D N s d < 1000) (x : Int32) : jx_CI MX1_walk [.inr 0, .inl (nI s), .inl (nI d), .inl x] w (fun r u => r = nI (nt_r N s d (nt_n x)) ∧ u = w) := by
  refine eX1_walk (bX1_walk_0 _ _ _ _ _ ?_)
  refine nt_l0 6 (fun i (_ : Unit) => jx_J MX1_walk (jx_qi (fun r u => r = nI (nt_r N s d (nt_n x)) ∧ u = w)) 6 [jx_t, none, jx_i (nI d), jx_i x, jx_i (nI (nt_r N s d i)), jx_i (nI i)] [] w) (fun i _ => i ≤ x.toNatClampNeg) ?_ ?_ () (Nat.zero_le _)
  · intro i _ hi hI ih
    have hr := (nt_r_in hM.1 hs hd hf i).1
    refine bX1_walk_6 _ _ _ _ _ _ (br_c (fun h => ⟨?_, rfl⟩) (fun h => br_f (nI_ge (b := 6) hi (by decide)) ?_))
    · have := nt_le_cl (by omega) h
      rw [show nt_n x = i by unfold nt_n; omega]
    · have hx := nt_gt_cl (by omega) h
      rw [nI_eq (by omega) (by omega)]
      refine br_c (fun h => ⟨?_, rfl⟩) (fun h => ?_)
      · rw [h, nt_r_d h (show i ≤ nt_n x by unfold nt_n; omega)]
      · refine (mX1_hop hM hD hr hd).imp ?_
        rintro _ _ ⟨rfl, rfl⟩
        rw [nI_1, ← nt_r_s h]
        exact ih () hx
  · intro _ hI
    have : nt_n x = 6 := by unfold nt_n; omega
    refine bX1_walk_6 _ _ _ _ _ _ (br_c (fun h => ⟨by rw [this], rfl⟩) (fun h => br_t (nI_le (a := 6) (Nat.le_refl 6) (by decide)) ⟨by rw [this], rfl⟩))
theorem nt_n_nI {k : Nat} (h : k ≤ 6) : nt_n (nI k) = k := by
  unfold nt_n
  rw [nI_clamp (by omega)]
  omega
/-- some place below n -/
def nt_any (P : Nat → Bool) : Nat → Bool
  | 0 => false
  | n + 1 => nt_any P n || P n
theorem nt_any_eq {P Q : Nat → Bool} : ∀ n, (∀ k, k < n → P k = Q k) → nt_any P n = nt_any Q n
  | 0, _ => rfl
  | n + 1, h => by
    show (nt_any P n || P n) = (nt_any Q n || Q n)
    rw [nt_any_eq n (fun k hk => h k (by omega)), h n (by omega)]
theorem nt_any_or (P Q : Nat → Bool) : ∀ n, nt_any (fun k => P k || Q k) n = (nt_any P n || nt_any Q n)
  | 0 => rfl
  | n + 1 => by
    show (nt_any (fun k => P k || Q k) n || (P n || Q n)) = ((nt_any P n || P n) || (nt_any Q n || Q n))
    rw [nt_any_or P Q n]
    cases nt_any P n <;> cases nt_any Q n <;> cases P n <;> cases Q n <;> rfl
theorem nt_any_t {P : Nat → Bool} : ∀ n k, k < n → P k = true → nt_any P n = true
  | 0, k, hk, _ => absurd hk (by omega)
  | n + 1, k, hk, h => by
    show (nt_any P n || P n) = true
    by_cases e : k = n
    · rw [← e, h]; simp
    · rw [nt_any_t n k (by omega) h]; rfl
theorem nt_any_f {P : Nat → Bool} : ∀ n, (∀ k, k < n → P k = false) → nt_any P n = false
  | 0, _ => rfl
  | n + 1, h => by
    show (nt_any P n || P n) = false
    rw [nt_any_f n (fun k hk => h k (by omega)), h n (by omega)]
    rfl
theorem nt_any_of {P : Nat → Bool} : ∀ n, nt_any P n = true → ∃ k, k < n ∧ P k = true
  | 0, h => by cases h
  | n + 1, h => by
    have h : (nt_any P n || P n) = true := h
    rw [Bool.or_eq_true] at h
    rcases h with h | h
    · obtain ⟨k, hk, hP⟩ := nt_any_of n h
      exact ⟨k, by omega, hP⟩
    · exact ⟨n, by omega, h⟩
noncomputable def nt_pp (N : nt_N) (s d a : Nat) (x : Int32) (k : Nat) : Bool := decide (nt_r N s d k = a) && (decide (x < 0) || (decide (k < nt_h N s d) && decide (nI (nt_r N s d (k + 1)) = x)))
theorem mX1_passes {N : nt_N} {w : jx_Wd} (hM : nt_M N w) (hD : nt_MD N w) {s d a : Nat} (hs : s < 7) (hd : d < 7) (ha : a < 7) (hf : nt_D N s d < 1000) (x : Int32) : jx_CI MX1_passes [.inr 0, .inl (nI s), .inl (nI d), .inl (nI a), .inl x] w (fun r u => r = nt_bi (nt_any (nt_pp N s d a x) (nt_h N s d + 1)) ∧ u = w) := by
  refine eX1_passes (bX1_passes_0 _ _ _ _ _ _ ?_)
  refine (mX1_count hM hD hs hd hf).imp ?_
  rintro _ _ ⟨rfl, rfl⟩
  obtain ⟨hh, -, -⟩ := nt_h_spec hM.1 hs hd hf
  generalize hH : nt_h N s d = n at hh ⊢
  refine nt_l0 (n + 1) (fun i (_ : Unit) => jx_J MX1_passes (jx_qi (fun r u => r = nt_bi (nt_any (nt_pp N s d a x) (n + 1)) ∧ u = _)) 14 [jx_t, jx_i (nI s), jx_i (nI d), jx_i (nI a), jx_i x, jx_i (nt_bi (nt_any (nt_pp N s d a x) i)), jx_i (nI n), jx_i (nI i), none] [] _) (fun i _ => True) ?_ ?_ () trivial
  · intro i _ hi _ ih
    have hr := (nt_r_in hM.1 hs hd hf i).1
    refine bX1_passes_14 _ _ _ _ _ _ _ _ _ (br_f (nI_nlt (by omega) (by omega)) ?_)
    refine (mX1_walk hM hD hs hd hf (nI i)).imp ?_
    rintro _ _ ⟨rfl, rfl⟩
    rw [nt_n_nI (by omega), nI_1, nI_eq (by omega) (by omega)]
    have st : ∀ b : Bool, (nt_any (nt_pp N s d a x) i || nt_pp N s d a x i) = b → nt_any (nt_pp N s d a x) (i + 1) = b := fun b h => h
    have go := ih () trivial
    have tr : nt_any (nt_pp N s d a x) i = true → jx_J MX1_passes (jx_qi (fun r u => r = nt_bi (nt_any (nt_pp N s d a x) (n + 1)) ∧ u = _)) 14 [jx_t, jx_i (nI s), jx_i (nI d), jx_i (nI a), jx_i x, jx_i 1, jx_i (nI n), jx_i (nI (i + 1)), none] [] _ := fun h => by
      rw [st true (by rw [h]; rfl)] at go; exact go
    cases hA : nt_any (nt_pp N s d a x) i with
    | true =>
      exact br_c (fun h => br_f nt_b1 (tr hA)) (fun h => br_f nt_b1 (tr hA))
    | false =>
      have t1 : nt_pp N s d a x i = true → jx_J MX1_passes (jx_qi (fun r u => r = nt_bi (nt_any (nt_pp N s d a x) (n + 1)) ∧ u = _)) 14 [jx_t, jx_i (nI s), jx_i (nI d), jx_i (nI a), jx_i x, jx_i 1, jx_i (nI n), jx_i (nI (i + 1)), none] [] _ := fun h => by
        rw [st true (by rw [hA, h]; rfl)] at go; exact go
      have t0 : nt_pp N s d a x i = false → jx_J MX1_passes (jx_qi (fun r u => r = nt_bi (nt_any (nt_pp N s d a x) (n + 1)) ∧ u = _)) 14 [jx_t, jx_i (nI s), jx_i (nI d), jx_i (nI a), jx_i x, jx_i 0, jx_i (nI n), jx_i (nI (i + 1)), none] [] _ := fun h => by
        rw [st false (by rw [hA, h]; rfl)] at go; exact go
      refine br_c (fun h1 => br_t rfl ?_) (fun h1 => br_t rfl (t0 (by simp [nt_pp, h1])))
      refine br_c (fun h2 => t1 (by simp [nt_pp, h1, h2])) (fun h2 => ?_)
      rw [nI_leI (by omega) (by omega)]
      refine br_c (fun h3 => t0 (by simp [nt_pp, h2, hH]; omega)) (fun h3 => ?_)
      refine (mX1_walk hM hD hs hd hf (nI (i + 1))).imp ?_
      rintro _ _ ⟨rfl, rfl⟩
      rw [nt_n_nI (by omega)]
      exact br_c (fun h4 => t1 (by simp [nt_pp, h1, h4, hH]; omega)) (fun h4 => t0 (by simp [nt_pp, h2, h4]))
  · intro _ _
    refine bX1_passes_14 _ _ _ _ _ _ _ _ _ (br_t (nI_lt (by omega) (by omega)) ⟨?_, rfl, rfl⟩)
    cases nt_any (nt_pp N s d a x) (n + 1)
    · exact Or.inl rfl
    · exact Or.inr rfl
/-- a route as a number -/
noncomputable def nt_cd (N : nt_N) (s d : Nat) : Nat → Nat
  | 0 => 1
  | k + 1 => 8 * nt_cd N s d k + nt_r N s d k
noncomputable def nt_rc (N : nt_N) (s d : Nat) : Nat := if nt_D N s d < 1000 then nt_cd N s d (nt_h N s d + 1) else 0
theorem mX1_route {N : nt_N} {w : jx_Wd} (hM : nt_M N w) (hD : nt_MD N w) {s d : Nat} (hs : s < 7) (hd : d < 7) : jx_CI MX1_route [.inr 0, .inl (nI s), .inl (nI d)] w (fun r u => r = nI (nt_rc N s d) ∧ u = w) := by
  refine eX1_route (bX1_route_0 _ _ _ _ ?_)
  refine (mX1_has hM hD _ _).imp ?_
  rintro _ _ ⟨rfl, rfl⟩
  rw [nt_ft_nI hs hd]
  by_cases hf : nt_D N s d < 1000
  · rw [decide_eq_true hf]
    refine br_f nt_b1 ?_
    refine (mX1_count hM hD hs hd hf).imp ?_
    rintro _ _ ⟨rfl, rfl⟩
    obtain ⟨hh, -, -⟩ := nt_h_spec hM.1 hs hd hf
    have e : nt_rc N s d = nt_cd N s d (nt_h N s d + 1) := if_pos hf
    rw [e]
    generalize nt_h N s d = n at hh ⊢
    refine nt_l0 (n + 1) (fun i (_ : Unit) => jx_J MX1_route (jx_qi (fun r u => r = nI (nt_cd N s d (n + 1)) ∧ u = _)) 24 [jx_t, jx_i (nI s), jx_i (nI d), jx_i (nI n), jx_i (nI (nt_cd N s d i)), jx_i (nI i)] [] _) (fun i _ => True) ?_ ?_ () trivial
    · intro i _ hi _ ih
      refine bX1_route_24 _ _ _ _ _ _ _ (br_f (nI_nlt (by omega) (by omega)) ?_)
      refine (mX1_walk hM hD hs hd hf (nI i)).imp ?_
      rintro _ _ ⟨rfl, rfl⟩
      rw [nt_n_nI (by omega), nI_1, show (8 : Int32) = nI 8 from rfl, pk_mul, nI_add]
      exact ih () trivial
    · intro _ _
      exact bX1_route_24 _ _ _ _ _ _ _ (br_t (nI_lt (by omega) (by omega)) ⟨rfl, rfl⟩)
  · rw [decide_eq_false hf]
    refine br_t rfl ⟨?_, rfl⟩
    rw [nt_rc, if_neg hf]
    rfl
/-! the answers -/
noncomputable def nt_ad (N : nt_N) (x y : Int32) : Int32 := if nt_ft N x y = true then nI (nt_D N x.toNatClampNeg y.toNatClampNeg) else -1
noncomputable def nt_ax (N : nt_N) (x y : Int32) : Int32 := if nt_ft N x y = true ∧ ¬ x = y then nI (nt_x N x.toNatClampNeg y.toNatClampNeg) else -1
noncomputable def nt_ah (N : nt_N) (x y : Int32) : Int32 := if nt_ft N x y = true then nI (nt_h N x.toNatClampNeg y.toNatClampNeg) else -1
noncomputable def nt_at2 (N : nt_N) (x y z : Int32) : Int32 := if nt_ft N x y = true then nI (nt_r N x.toNatClampNeg y.toNatClampNeg (nt_n z)) else -1
noncomputable def nt_ra (N : nt_N) (x y z : Int32) : Int32 := if nt_ft N x y = true ∧ ¬ z < 0 ∧ ¬ nt_ah N x y < z then nt_at2 N x y z else -1
theorem mX1_distance {N : nt_N} {w : jx_Wd} (hM : nt_M N w) (x y : Int32) : jx_CI MX1_distance [.inr 0, .inl x, .inl y] w (fun r u => r = nt_ad N x y ∧ nt_M N u) := by
  refine eX1_distance (bX1_distance_0 _ _ _ _ ?_)
  refine (mX1_work hM).imp ?_
  rintro _ ⟨f, rfl, hD⟩
  refine (mX1_has (hM.dist f) hD x y).imp ?_
  rintro _ _ ⟨rfl, rfl⟩
  cases h : nt_ft N x y with
  | false => exact br_t rfl ⟨by rw [nt_ad, h]; rfl, hM.dist f⟩
  | true =>
    have h2 := h
    obtain ⟨a, b, ha, hb, rfl, rfl, hf⟩ := nt_ft_of h
    refine br_f nt_b1 ⟨nt_in' ha hb, ?_⟩
    rintro _ rfl
    refine ⟨?_, hM.dist f⟩
    rw [nt_at' ha hb, hD a b ha hb, nt_ad, h2, if_pos rfl, nt_cl ha, nt_cl hb]
theorem mX1_nextHop {N : nt_N} {w : jx_Wd} (hM : nt_M N w) (x y : Int32) : jx_CI MX1_nextHop [.inr 0, .inl x, .inl y] w (fun r u => r = nt_ax N x y ∧ nt_M N u) := by
  refine eX1_nextHop (bX1_nextHop_0 _ _ _ _ ?_)
  refine (mX1_work hM).imp ?_
  rintro _ ⟨f, rfl, hD⟩
  refine br_c (fun h => ⟨by rw [nt_ax, if_neg (fun q => q.2 h)], hM.dist f⟩) (fun hne => ?_)
  refine (mX1_has (hM.dist f) hD x y).imp ?_
  rintro _ _ ⟨rfl, rfl⟩
  cases h : nt_ft N x y with
  | false => exact br_t rfl ⟨by rw [nt_ax, if_neg (fun q => by rw [h] at q; cases q.1)], hM.dist f⟩
  | true =>
    have h2 := h
    obtain ⟨a, b, ha, hb, rfl, rfl, hf⟩ := nt_ft_of h
    refine br_f nt_b1 ?_
    refine (mX1_hop (hM.dist f) hD ha hb).imp ?_
    rintro _ _ ⟨rfl, rfl⟩
    refine ⟨?_, hM.dist f⟩
    rw [nt_ax, if_pos ⟨h2, hne⟩, nt_cl ha, nt_cl hb]
theorem mX1_hops {N : nt_N} {w : jx_Wd} (hM : nt_M N w) (x y : Int32) : jx_CI MX1_hops [.inr 0, .inl x, .inl y] w (fun r u => r = nt_ah N x y ∧ nt_M N u) := by
  refine eX1_hops (bX1_hops_0 _ _ _ _ ?_)
  refine (mX1_work hM).imp ?_
  rintro _ ⟨f, rfl, hD⟩
  refine (mX1_has (hM.dist f) hD x y).imp ?_
  rintro _ _ ⟨rfl, rfl⟩
  cases h : nt_ft N x y with
  | false => exact br_t rfl ⟨by rw [nt_ah, h]; rfl, hM.dist f⟩
  | true =>
    have h2 := h
    obtain ⟨a, b, ha, hb, rfl, rfl, hf⟩ := nt_ft_of h
    refine br_f nt_b1 ?_
    refine (mX1_count (hM.dist f) hD ha hb hf).imp ?_
    rintro _ _ ⟨rfl, rfl⟩
    refine ⟨?_, hM.dist f⟩
    rw [nt_ah, h2, if_pos rfl, nt_cl ha, nt_cl hb]
theorem mX1_after {N : nt_N} {w : jx_Wd} (hM : nt_M N w) (x y z : Int32) : jx_CI MX1_after [.inr 0, .inl x, .inl y, .inl z] w (fun r u => r = nt_at2 N x y z ∧ nt_M N u) := by
  refine eX1_after (bX1_after_0 _ _ _ _ _ ?_)
  refine (mX1_work hM).imp ?_
  rintro _ ⟨f, rfl, hD⟩
  refine (mX1_has (hM.dist f) hD x y).imp ?_
  rintro _ _ ⟨rfl, rfl⟩
  cases h : nt_ft N x y with
  | false => exact br_t rfl ⟨by rw [nt_at2, h]; rfl, hM.dist f⟩
  | true =>
    have h2 := h
    obtain ⟨a, b, ha, hb, rfl, rfl, hf⟩ := nt_ft_of h
    refine br_f nt_b1 ?_
    refine (mX1_walk (hM.dist f) hD ha hb hf z).imp ?_
    rintro _ _ ⟨rfl, rfl⟩
    refine ⟨?_, hM.dist f⟩
    rw [nt_at2, h2, if_pos rfl, nt_cl ha, nt_cl hb]
theorem mX1_routeAt {N : nt_N} {w : jx_Wd} (hM : nt_M N w) (x y z : Int32) : jx_CI MX1_routeAt [.inr 0, .inl x, .inl y, .inl z] w (fun r u => r = nt_ra N x y z ∧ nt_M N u) := by
  refine eX1_routeAt (bX1_routeAt_0 _ _ _ _ _ ?_)
  refine (mX1_work hM).imp ?_
  rintro _ ⟨f, rfl, hD⟩
  refine (mX1_has (hM.dist f) hD x y).imp ?_
  rintro _ _ ⟨rfl, rfl⟩
  cases h : nt_ft N x y with
  | false => exact br_t rfl ⟨by rw [nt_ra, if_neg (fun q => by rw [h] at q; cases q.1)], hM.dist f⟩
  | true =>
    have h2 := h
    obtain ⟨a, b, ha, hb, rfl, rfl, hf⟩ := nt_ft_of h
    refine br_f nt_b1 (br_c (fun h => ⟨by rw [nt_ra, if_neg (fun q => q.2.1 h)], hM.dist f⟩) (fun hz => ?_))
    refine (mX1_count (hM.dist f) hD ha hb hf).imp ?_
    rintro _ _ ⟨rfl, rfl⟩
    have e : nt_ah N (nI a) (nI b) = nI (nt_h N a b) := by rw [nt_ah, h2, if_pos rfl, nt_cl ha, nt_cl hb]
    rw [← e]
    refine br_c (fun h => ⟨by rw [nt_ra, if_neg (fun q => q.2.2 h)], hM.dist f⟩) (fun hk => ?_)
    refine (mX1_walk (hM.dist f) hD ha hb hf z).imp ?_
    rintro _ _ ⟨rfl, rfl⟩
    refine ⟨?_, hM.dist f⟩
    rw [nt_ra, if_pos ⟨h2, hz, hk⟩, nt_at2, h2, if_pos rfl, nt_cl ha, nt_cl hb]
end
section
/-! THE REFERENCE'S CONTRACTS: the answers that go over many routes -/
def nt_b2 (b : Bool) : Nat := if b = true then 1 else 0
theorem nt_a1 (n : Nat) (f : Nat → Nat) (i : Nat) (h : f i = 1) (hn : n = nt_sm f i) : nI n + 1 = nI (nt_sm f (i + 1)) := by
  rw [nI_1, hn]
  show nI (nt_sm f i + 1) = nI (nt_sm f i + f i)
  rw [h]
theorem nt_a0 (n : Nat) (f : Nat → Nat) (i : Nat) (h : f i = 0) (hn : n = nt_sm f i) : nI n + 0 = nI (nt_sm f (i + 1)) := by
  rw [hn]
  show nI (nt_sm f i) + nI 0 = nI (nt_sm f i + f i)
  rw [h, nI_add]
noncomputable def nt_lq (N : nt_N) (a s d : Nat) : Bool := decide (s ≠ d) && decide (s ≠ a) && decide (d ≠ a) && decide (nt_D N s d < 1000) && nt_any (fun k => decide (nt_r N s d k = a)) (nt_h N s d + 1)
noncomputable def nt_al (N : nt_N) (x : Int32) : Int32 := if nt_rt x = true then nI (nt_sm (fun c => nt_b2 (nt_lq N x.toNatClampNeg (c / 7) (c % 7))) 49) else 0
theorem mX1_load {N : nt_N} {w : jx_Wd} (hM : nt_M N w) (x : Int32) : jx_CI MX1_load [.inr 0, .inl x] w (fun r u => r = nt_al N x ∧ nt_M N u) := by
  refine eX1_load (bX1_load_0 _ _ _ ?_)
  refine (mX1_work hM).imp ?_
  rintro _ ⟨f, rfl, hD⟩
  have hM := hM.dist f
  cases hx : nt_rt x with
  | false =>
    refine nt_l0 49 (fun c (_ : Unit) => jx_J MX1_load (jx_qi (fun r u => r = nt_al N x ∧ nt_M N u)) 8 [jx_t, jx_i x, jx_i 0, jx_i (nI c), none, none] [] _) (fun c _ => True) ?_ ?_ () trivial
    · intro c _ hc _ ih
      refine bX1_load_8 _ _ _ _ _ (br_f (nI_ge (b := 49) hc (by decide)) ?_)
      refine (mX1_router _ x).imp ?_
      rintro _ _ ⟨rfl, rfl⟩
      rw [hx, nI_1]
      exact br_t rfl (ih () trivial)
    · intro _ _
      refine bX1_load_8 _ _ _ _ _ (br_t (nI_le (a := 49) (Nat.le_refl 49) (by decide)) ⟨?_, hM⟩)
      rw [nt_al, hx]
      rfl
  | true =>
    have hx2 := hx
    obtain ⟨a, ha, rfl⟩ := nt_rt_of hx
    have e0 : nt_al N (nI a) = nI (nt_sm (fun c => nt_b2 (nt_lq N a (c / 7) (c % 7))) 49) := by rw [nt_al, hx2, if_pos rfl, nt_cl ha]
    rw [e0]
    refine nt_l0 49 (fun c (_ : Unit) => jx_J MX1_load (jx_qi (fun r u => r = nI (nt_sm (fun c => nt_b2 (nt_lq N a (c / 7) (c % 7))) 49) ∧ nt_M N u)) 8 [jx_t, jx_i (nI a), jx_i (nI (nt_sm (fun c => nt_b2 (nt_lq N a (c / 7) (c % 7))) c)), jx_i (nI c), none, none] [] _) (fun c _ => True) ?_ ?_ () trivial
    · intro c _ hc _ ih
      have hs : c / 7 < 7 := by omega
      have hd : c % 7 < 7 := by omega
      have go := ih () trivial
      have t0 : nt_lq N a (c / 7) (c % 7) = false → nI (nt_sm (fun c => nt_b2 (nt_lq N a (c / 7) (c % 7))) c) + 0 = nI (nt_sm (fun c => nt_b2 (nt_lq N a (c / 7) (c % 7))) (c + 1)) := fun h => nt_a0 _ _ c (by rw [h]; rfl) rfl
      have t1 : nt_lq N a (c / 7) (c % 7) = true → nI (nt_sm (fun c => nt_b2 (nt_lq N a (c / 7) (c % 7))) c) + 1 = nI (nt_sm (fun c => nt_b2 (nt_lq N a (c / 7) (c % 7))) (c + 1)) := fun h => nt_a1 _ _ c (by rw [h]; rfl) rfl
      refine bX1_load_8 _ _ _ _ _ (br_f (nI_ge (b := 49) hc (by decide)) ?_)
      refine (mX1_router _ _).imp ?_
      rintro _ _ ⟨rfl, rfl⟩
      rw [nt_rt_nI ha, nt_md hc, nt_dv hc, nI_1 c, nI_eq (a := c / 7) (b := c % 7) (by omega) (by omega), nI_eq (a := c / 7) (b := a) (by omega) (by omega), nI_eq (a := c % 7) (b := a) (by omega) (by omega)]
      refine br_f nt_b1 ?_
      refine br_c (fun h => by rw [t0 (by simp [nt_lq, h])]; exact go) (fun h1 => ?_)
      refine br_c (fun h => by rw [t0 (by simp [nt_lq, h])]; exact go) (fun h2 => ?_)
      refine br_c (fun h => by rw [t0 (by simp [nt_lq, h])]; exact go) (fun h3 => ?_)
      refine (mX1_has hM hD _ _).imp ?_
      rintro _ _ ⟨rfl, rfl⟩
      rw [nt_ft_nI hs hd]
      by_cases hf : nt_D N (c / 7) (c % 7) < 1000
      · rw [decide_eq_true hf]
        refine br_f nt_b1 ?_
        refine (mX1_passes hM hD hs hd ha hf (-1)).imp ?_
        rintro _ _ ⟨rfl, rfl⟩
        have e : nt_any (nt_pp N (c / 7) (c % 7) a (-1)) (nt_h N (c / 7) (c % 7) + 1) = nt_lq N a (c / 7) (c % 7) := by
          simp only [nt_lq, h1, h2, h3, hf, ne_eq, not_false_eq_true, decide_true, Bool.true_and]
          refine nt_any_eq _ (fun k _ => ?_)
          have : ((-1 : Int32) < 0) := by decide
          simp [nt_pp, this]
        rw [e]
        cases hq : nt_lq N a (c / 7) (c % 7) with
        | false => exact br_t rfl (by rw [t0 hq]; exact go)
        | true => exact br_f nt_b1 (by rw [t1 hq]; exact go)
      · rw [decide_eq_false hf]
        exact br_t rfl (by rw [t0 (by simp [nt_lq, hf])]; exact go)
    · intro _ _
      exact bX1_load_8 _ _ _ _ _ (br_t (nI_le (a := 49) (Nat.le_refl 49) (by decide)) ⟨rfl, hM⟩)
noncomputable def nt_kp (N : nt_N) (a b s d k : Nat) : Bool := decide (nt_r N s d k = a) && decide (nt_r N s d (k + 1) = b)
noncomputable def nt_kq (N : nt_N) (a b s d : Nat) : Bool := decide (s ≠ d) && decide (nt_D N s d < 1000) && nt_any (fun k => nt_kp N a b s d k || nt_kp N b a s d k) (nt_h N s d)
noncomputable def nt_ak (N : nt_N) (x y : Int32) : Int32 := if nt_ee N x y = true then nI (nt_sm (fun c => nt_b2 (nt_kq N x.toNatClampNeg y.toNatClampNeg (c / 7) (c % 7))) 49) else 0
theorem nt_pp_kp {N : nt_N} {s d a b : Nat} (hN : nt_ok N) (hs : s < 7) (hd : d < 7) (hb : b < 7) (hf : nt_D N s d < 1000) : nt_any (nt_pp N s d a (nI b)) (nt_h N s d + 1) = nt_any (nt_kp N a b s d) (nt_h N s d) := by
  have hb0 : ¬ nI b < 0 := nI_pos (by omega)
  show (nt_any (nt_pp N s d a (nI b)) (nt_h N s d) || nt_pp N s d a (nI b) (nt_h N s d)) = _
  have e1 : nt_pp N s d a (nI b) (nt_h N s d) = false := by simp [nt_pp, hb0]
  rw [e1, Bool.or_false]
  refine nt_any_eq _ (fun k hk => ?_)
  have hr := (nt_r_in hN hs hd hf (k + 1)).1
  have e2 : (nI (nt_r N s d (k + 1)) = nI b) = (nt_r N s d (k + 1) = b) := propext (nI_eq (by omega) (by omega))
  simp only [nt_pp, nt_kp, hb0, hk, e2, decide_false, decide_true, Bool.false_or, Bool.true_and]
theorem mX1_linkLoad {N : nt_N} {w : jx_Wd} (hM : nt_M N w) (x y : Int32) : jx_CI MX1_linkLoad [.inr 0, .inl x, .inl y] w (fun r u => r = nt_ak N x y ∧ nt_M N u) := by
  refine eX1_linkLoad (bX1_linkLoad_0 _ _ _ _ ?_)
  refine (mX1_work hM).imp ?_
  rintro _ ⟨f, rfl, hD⟩
  have hM := hM.dist f
  cases hx : nt_ee N x y with
  | false =>
    refine bX1_linkLoad_9 _ _ _ _ _ _ (br_f (by decide) ?_)
    refine (mX1_counts hM _ _).imp ?_
    rintro _ _ ⟨rfl, rfl⟩
    rw [hx]
    refine br_t rfl ⟨?_, hM⟩
    rw [nt_ak, hx]
    rfl
  | true =>
    have hx2 := hx
    obtain ⟨a, b, ha, hb, rfl, rfl, hE⟩ := nt_ee_of hx
    have e0 : nt_ak N (nI a) (nI b) = nI (nt_sm (fun c => nt_b2 (nt_kq N a b (c / 7) (c % 7))) 49) := by rw [nt_ak, hx2, if_pos rfl, nt_cl ha, nt_cl hb]
    rw [e0]
    refine nt_l0 49 (fun c (_ : Unit) => jx_J MX1_linkLoad (jx_qi (fun r u => r = nI (nt_sm (fun c => nt_b2 (nt_kq N a b (c / 7) (c % 7))) 49) ∧ nt_M N u)) 9 [jx_t, jx_i (nI a), jx_i (nI b), jx_i (nI (nt_sm (fun c => nt_b2 (nt_kq N a b (c / 7) (c % 7))) c)), jx_i (nI c), none, none] [] _) (fun c _ => True) ?_ ?_ () trivial
    · intro c _ hc _ ih
      have hs : c / 7 < 7 := by omega
      have hd : c % 7 < 7 := by omega
      have go := ih () trivial
      have t0 : nt_kq N a b (c / 7) (c % 7) = false → nI (nt_sm (fun c => nt_b2 (nt_kq N a b (c / 7) (c % 7))) c) + 0 = nI (nt_sm (fun c => nt_b2 (nt_kq N a b (c / 7) (c % 7))) (c + 1)) := fun h => nt_a0 _ _ c (by rw [h]; rfl) rfl
      have t1 : nt_kq N a b (c / 7) (c % 7) = true → nI (nt_sm (fun c => nt_b2 (nt_kq N a b (c / 7) (c % 7))) c) + 1 = nI (nt_sm (fun c => nt_b2 (nt_kq N a b (c / 7) (c % 7))) (c + 1)) := fun h => nt_a1 _ _ c (by rw [h]; rfl) rfl
      refine bX1_linkLoad_9 _ _ _ _ _ _ (br_f (nI_ge (b := 49) hc (by decide)) ?_)
      refine (mX1_counts hM _ _).imp ?_
      rintro _ _ ⟨rfl, rfl⟩
      rw [hx2, nt_md hc, nt_dv hc, nI_1 c, nI_eq (a := c / 7) (b := c % 7) (by omega) (by omega)]
      refine br_f nt_b1 ?_
      refine br_c (fun h => by rw [t0 (by simp [nt_kq, h])]; exact go) (fun h1 => ?_)
      refine (mX1_has hM hD _ _).imp ?_
      rintro _ _ ⟨rfl, rfl⟩
      rw [nt_ft_nI hs hd]
      by_cases hf : nt_D N (c / 7) (c % 7) < 1000
      · rw [decide_eq_true hf]
        refine br_f nt_b1 ?_
        have e : nt_kq N a b (c / 7) (c % 7) = (nt_any (nt_kp N a b (c / 7) (c % 7)) (nt_h N (c / 7) (c % 7)) || nt_any (nt_kp N b a (c / 7) (c % 7)) (nt_h N (c / 7) (c % 7))) := by
          rw [← nt_any_or]
          simp only [nt_kq, h1, hf, ne_eq, not_false_eq_true, decide_true, Bool.true_and]
        refine (mX1_passes hM hD hs hd ha hf (nI b)).imp ?_
        rintro _ _ ⟨rfl, rfl⟩
        rw [nt_pp_kp hM.1 hs hd hb hf]
        cases hp : nt_any (nt_kp N a b (c / 7) (c % 7)) (nt_h N (c / 7) (c % 7)) with
        | true => exact br_f nt_b1 (by rw [t1 (by rw [e, hp]; rfl)]; exact go)
        | false =>
          refine br_t rfl ?_
          refine (mX1_passes hM hD hs hd hb hf (nI a)).imp ?_
          rintro _ _ ⟨rfl, rfl⟩
          rw [nt_pp_kp hM.1 hs hd ha hf]
          cases hp2 : nt_any (nt_kp N b a (c / 7) (c % 7)) (nt_h N (c / 7) (c % 7)) with
          | true => exact br_f nt_b1 (by rw [t1 (by rw [e, hp, hp2]; rfl)]; exact go)
          | false => exact br_t rfl (by rw [t0 (by rw [e, hp, hp2]; rfl)]; exact go)
      · rw [decide_eq_false hf]
        exact br_t rfl (by rw [t0 (by simp [nt_kq, hf])]; exact go)
    · intro _ _
      exact bX1_linkLoad_9 _ _ _ _ _ _ (br_t (nI_le (a := 49) (Nat.le_refl 49) (by decide)) ⟨rfl, hM⟩)
def nt_or (Q : Nat → Bool) : Nat → Int32
  | 0 => 0
  | n + 1 => if Q n = true then nt_or Q n ||| (1 <<< (nI n &&& 31)) else nt_or Q n
noncomputable def nt_rq (N : nt_N) (x : Int32) (d : Nat) : Bool := decide (¬ nI d = x) && nt_ft N x (nI d)
noncomputable def nt_ar (N : nt_N) (x : Int32) : Int32 := nt_or (nt_rq N x) 7
theorem nt_or0 (x : Int32) : x ||| 0 = x := by simp
theorem mX1_reachable {N : nt_N} {w : jx_Wd} (hM : nt_M N w) (x : Int32) : jx_CI MX1_reachable [.inr 0, .inl x] w (fun r u => r = nt_ar N x ∧ nt_M N u) := by
  refine eX1_reachable (bX1_reachable_0 _ _ _ ?_)
  refine (mX1_work hM).imp ?_
  rintro _ ⟨f, rfl, hD⟩
  have hM := hM.dist f
  refine nt_l0 7 (fun d (_ : Unit) => jx_J MX1_reachable (jx_qi (fun r u => r = nt_ar N x ∧ nt_M N u)) 8 [jx_t, jx_i x, jx_i (nt_or (nt_rq N x) d), jx_i (nI d)] [] _) (fun c _ => True) ?_ ?_ () trivial
  · intro d _ hd _ ih
    have go := ih () trivial
    have t0 : nt_rq N x d = false → nt_or (nt_rq N x) (d + 1) = nt_or (nt_rq N x) d := fun h => by show (if nt_rq N x d = true then _ else _) = _; rw [h]; rfl
    have t1 : nt_rq N x d = true → nt_or (nt_rq N x) (d + 1) = nt_or (nt_rq N x) d ||| (1 <<< (nI d &&& 31)) := fun h => by show (if nt_rq N x d = true then _ else _) = _; rw [h]; rfl
    refine bX1_reachable_8 _ _ _ _ _ (br_f (nI_ge (b := 7) hd (by decide)) ?_)
    rw [nI_1]
    refine br_c (fun h => by rw [nt_or0, ← t0 (by simp [nt_rq, h])]; exact go) (fun h1 => ?_)
    refine (mX1_has hM hD _ _).imp ?_
    rintro _ _ ⟨rfl, rfl⟩
    cases h2 : nt_ft N x (nI d) with
    | false => exact br_t rfl (by rw [nt_or0, ← t0 (by simp [nt_rq, h2])]; exact go)
    | true => exact br_f nt_b1 (by rw [← t1 (by simp [nt_rq, h1, h2])]; exact go)
  · intro _ _
    exact bX1_reachable_8 _ _ _ _ _ (br_t (nI_le (a := 7) (Nat.le_refl 7) (by decide)) ⟨rfl, hM⟩)
/-- the largest of the values where Q holds -/
def nt_mx (Q : Nat → Bool) (v : Nat → Nat) : Nat → Nat
  | 0 => 0
  | n + 1 => if Q n = true then max (nt_mx Q v n) (v n) else nt_mx Q v n
theorem nt_mx_0 {Q : Nat → Bool} {v : Nat → Nat} : ∀ n, nt_any Q n = false → nt_mx Q v n = 0
  | 0, _ => rfl
  | n + 1, h => by
    have h : (nt_any Q n || Q n) = false := h
    rw [Bool.or_eq_false_iff] at h
    show (if Q n = true then _ else nt_mx Q v n) = 0
    rw [h.2, nt_mx_0 n h.1]
    rfl
theorem nt_mx_le {Q : Nat → Bool} {v : Nat → Nat} {m : Nat} : ∀ n, (∀ k, k < n → v k ≤ m) → nt_mx Q v n ≤ m
  | 0, _ => Nat.zero_le _
  | n + 1, h => by
    have h1 := nt_mx_le (Q := Q) n (fun k hk => h k (by omega))
    have h2 := h n (by omega)
    show (if Q n = true then max (nt_mx Q v n) (v n) else nt_mx Q v n) ≤ m
    split
    · omega
    · exact h1
noncomputable def nt_fq (N : nt_N) (s d : Nat) : Bool := decide (nt_D N s d < 1000)
noncomputable def nt_af (N : nt_N) (x : Int32) : Int32 := if nt_ft N x x = true then nI (nt_mx (nt_fq N x.toNatClampNeg) (nt_D N x.toNatClampNeg) 7) else -1
theorem nt_self {N : nt_N} (hN : nt_ok N) {s d : Nat} (hs : s < 7) (hd : d < 7) (hf : nt_D N s d < 1000) : nt_D N s s = 0 := by
  by_cases e : s = d
  · subst e
    exact (nt_Ds hN).2.1 s hs (nt_on hN hs hs hf)
  · obtain ⟨x1, x2, -, -⟩ := nt_x_spec hN hs hd e hf
    exact (nt_Ds hN).2.1 s hs (nt_E_on x2).1
theorem mX1_farthest {N : nt_N} {w : jx_Wd} (hM : nt_M N w) (x : Int32) : jx_CI MX1_farthest [.inr 0, .inl x] w (fun r u => r = nt_af N x ∧ nt_M N u) := by
  refine eX1_farthest (bX1_farthest_0 _ _ _ ?_)
  refine (mX1_work hM).imp ?_
  rintro _ ⟨f, rfl, hD⟩
  have hM := hM.dist f
  cases hx : nt_rt x with
  | false =>
    have hno : ∀ y, nt_ft N x y = false := fun y => by simp [nt_ft, hx]
    refine nt_l0 7 (fun d (_ : Unit) => jx_J MX1_farthest (jx_qi (fun r u => r = nt_af N x ∧ nt_M N u)) 8 [jx_t, jx_i x, jx_i (-1), jx_i (nI d)] [] _) (fun c _ => True) ?_ ?_ () trivial
    · intro d _ hd _ ih
      refine bX1_farthest_8 _ _ _ _ _ (br_f (nI_ge (b := 7) hd (by decide)) ?_)
      refine (mX1_has hM hD _ _).imp ?_
      rintro _ _ ⟨rfl, rfl⟩
      rw [hno, nI_1]
      exact br_t rfl (ih () trivial)
    · intro _ _
      refine bX1_farthest_8 _ _ _ _ _ (br_t (nI_le (a := 7) (Nat.le_refl 7) (by decide)) ⟨?_, hM⟩)
      rw [nt_af, hno]
      rfl
  | true =>
    obtain ⟨a, ha, rfl⟩ := nt_rt_of hx
    have hb : ∀ d, d < 7 → nt_D N a d ≤ 1000 := fun d hd => (nt_Ds hM.1).1 a d ha hd
    refine nt_l0 7 (fun d (_ : Unit) => jx_J MX1_farthest (jx_qi (fun r u => r = nt_af N (nI a) ∧ nt_M N u)) 8 [jx_t, jx_i (nI a), jx_i (if nt_any (nt_fq N a) d = true then nI (nt_mx (nt_fq N a) (nt_D N a) d) else -1), jx_i (nI d)] [] _) (fun c _ => True) ?_ ?_ () trivial
    · intro d _ hd _ ih
      have go := ih () trivial
      have hm : nt_mx (nt_fq N a) (nt_D N a) d ≤ 1000 := nt_mx_le d (fun k hk => hb k (by omega))
      have hbd := hb d hd
      refine bX1_farthest_8 _ _ _ _ _ (br_f (nI_ge (b := 7) hd (by decide)) ?_)
      refine (mX1_has hM hD _ _).imp ?_
      rintro _ _ ⟨rfl, rfl⟩
      rw [nt_ft_nI ha hd, nI_1 d]
      have eA : nt_any (nt_fq N a) (d + 1) = (nt_any (nt_fq N a) d || nt_fq N a d) := rfl
      have eM : nt_mx (nt_fq N a) (nt_D N a) (d + 1) = if nt_fq N a d = true then max (nt_mx (nt_fq N a) (nt_D N a) d) (nt_D N a d) else nt_mx (nt_fq N a) (nt_D N a) d := rfl
      by_cases hf : nt_D N a d < 1000
      · have hq : nt_fq N a d = true := by simp [nt_fq, hf]
        rw [decide_eq_true hf]
        rw [eA, eM, hq, Bool.or_true, if_pos rfl, if_pos rfl] at go
        refine br_f nt_b1 ⟨nt_in' ha hd, ?_⟩
        rintro _ rfl
        rw [nt_at' ha hd, hD a d ha hd]
        cases hA : nt_any (nt_fq N a) d with
        | true =>
          rw [if_pos rfl, nI_leI (by omega) (by omega)]
          refine br_c (fun h => ?_) (fun h => ⟨nt_in' ha hd, ?_⟩)
          · rw [show max (nt_mx (nt_fq N a) (nt_D N a) d) (nt_D N a d) = nt_mx (nt_fq N a) (nt_D N a) d by omega] at go
            exact go
          · rintro _ rfl
            rw [show max (nt_mx (nt_fq N a) (nt_D N a) d) (nt_D N a d) = nt_D N a d by omega] at go
            exact go
        | false =>
          have h0 := nt_mx_0 (v := nt_D N a) d hA
          refine br_f (fun h => ?_) ⟨nt_in' ha hd, ?_⟩
          · have h1 := Int32.le_iff_toInt_le.mp h
            rw [nI_toInt (by omega)] at h1
            have h2 : (if false = true then nI (nt_mx (nt_fq N a) (nt_D N a) d) else (-1 : Int32)).toInt = -1 := by show (-1 : Int32).toInt = -1; decide
            omega
          · rintro _ rfl
            rw [show max (nt_mx (nt_fq N a) (nt_D N a) d) (nt_D N a d) = nt_D N a d by omega] at go
            exact go
      · have hq : nt_fq N a d = false := by simp [nt_fq, hf]
        rw [decide_eq_false hf]
        rw [eA, eM, hq, Bool.or_false, if_neg (c := (false = true)) (by decide)] at go
        exact br_t rfl go
    · intro _ _
      refine bX1_farthest_8 _ _ _ _ _ (br_t (nI_le (a := 7) (Nat.le_refl 7) (by decide)) ⟨?_, hM⟩)
      rw [nt_af, nt_ft_nI ha ha, nt_cl ha]
      by_cases hf : nt_D N a a < 1000
      · rw [nt_any_t 7 a ha (by simp [nt_fq, hf]), decide_eq_true hf]
      · have : nt_any (nt_fq N a) 7 = false := nt_any_f 7 (fun k hk => by
          rcases Nat.lt_or_ge (nt_D N a k) 1000 with q | q
          · have := nt_self hM.1 ha hk q
            omega
          · simp [nt_fq]; omega)
        rw [this, decide_eq_false hf]
/-! impact -/
def nt_up (N : nt_N) (x y : Int32) : Bool := (N.2.1 x.toNatClampNeg).testBit y.toNatClampNeg
noncomputable def nt_i1 (N : nt_N) (x y : Int32) : nt_N := nt_tn N x y (!nt_up N x y)
noncomputable def nt_i2 (N : nt_N) (x y : Int32) : nt_N := nt_tn (nt_i1 N x y) x y (nt_up N x y)
noncomputable def nt_iq (N N1 : nt_N) (c : Nat) : Nat := if nt_rc N1 (c / 7) (c % 7) = nt_rc N (c / 7) (c % 7) then 0 else 1
noncomputable def nt_ai (N : nt_N) (x y : Int32) : Int32 := if nt_lk N x y = true then nI (nt_sm (nt_iq N (nt_i1 N x y)) 49) else 0
theorem nt_tn_lk {N : nt_N} {x y : Int32} (u : Bool) (p q : Int32) : nt_lk (nt_tn N x y u) p q = nt_lk N p q := by
  unfold nt_tn
  split <;> rfl
theorem nt_cd_lt {N : nt_N} (hN : nt_ok N) {s d : Nat} (hs : s < 7) (hd : d < 7) (hf : nt_D N s d < 1000) : ∀ k, nt_cd N s d k < 2 * 8 ^ k := by
  intro k
  induction k with
  | zero => show 1 < 2 * 8 ^ 0; decide
  | succ k ih =>
    have hr := (nt_r_in hN hs hd hf k).1
    show 8 * nt_cd N s d k + nt_r N s d k < 2 * 8 ^ (k + 1)
    rw [Nat.pow_succ]
    omega
theorem nt_rc_lt {N : nt_N} (hN : nt_ok N) {s d : Nat} (hs : s < 7) (hd : d < 7) : nt_rc N s d < 2 ^ 31 := by
  unfold nt_rc
  split
  · next hf =>
    obtain ⟨hh, -, -⟩ := nt_h_spec hN hs hd hf
    have h1 := nt_cd_lt hN hs hd hf (nt_h N s d + 1)
    have h2 : 8 ^ (nt_h N s d + 1) ≤ 8 ^ 7 := Nat.pow_le_pow_right (by decide) (by omega)
    have h3 : 2 * 8 ^ 7 < 2 ^ 31 := by decide
    omega
  · decide
theorem mX1_impact {N : nt_N} {w : jx_Wd} (hM : nt_M N w) (x y : Int32) : jx_CI MX1_impact [.inr 0, .inl x, .inl y] w (fun r u => r = nt_ai N x y ∧ nt_M (nt_i2 N x y) u) := by
  refine eX1_impact (bX1_impact_0 _ _ _ _ ?_)
  refine (mX1_link hM x y).imp ?_
  rintro _ _ ⟨rfl, rfl⟩
  cases hx : nt_lk N x y with
  | false =>
    have e1 : nt_i1 N x y = N := by rw [nt_i1, nt_tn, hx]; rfl
    refine br_t rfl ⟨by rw [nt_ai, hx]; rfl, ?_⟩
    rw [nt_i2, e1, nt_tn, hx]
    exact hM
  | true =>
    refine br_f nt_b1 ?_
    refine (mX1_work hM).imp ?_
    rintro _ ⟨f, rfl, hD⟩
    have hM := hM.dist f
    have hx2 := hx
    obtain ⟨a, b, ha, hb, rfl, rfl, hc⟩ := nt_lk_of hx
    have hup : nt_up N (nI a) (nI b) = (N.2.1 a).testBit b := by rw [nt_up, nt_cl ha, nt_cl hb]
    generalize hw : jx_up _ 3 f = w0 at hM hD ⊢
    have last : ∀ w1, nt_M (nt_i1 N (nI a) (nI b)) w1 → nt_MD (nt_i1 N (nI a) (nI b)) w1 → (∀ c, c < 49 → w1 4 c = nI (nt_rc N (c / 7) (c % 7))) → jx_J MX1_impact (jx_qi (fun r u => r = nt_ai N (nI a) (nI b) ∧ nt_M (nt_i2 N (nI a) (nI b)) u)) 85 [jx_t, jx_i (nI a), jx_i (nI b), jx_i (nt_bi (nt_up N (nI a) (nI b))), jx_i 0, jx_i 0] [] w1 := by
      intro w1 hM1 hD1 h4
      have e0 : nt_ai N (nI a) (nI b) = nI (nt_sm (nt_iq N (nt_i1 N (nI a) (nI b))) 49) := by rw [nt_ai, hx2, if_pos rfl]
      rw [e0]
      refine nt_l0 49 (fun c (_ : Unit) => jx_J MX1_impact (jx_qi (fun r u => r = nI (nt_sm (nt_iq N (nt_i1 N (nI a) (nI b))) 49) ∧ nt_M (nt_i2 N (nI a) (nI b)) u)) 85 [jx_t, jx_i (nI a), jx_i (nI b), jx_i (nt_bi (nt_up N (nI a) (nI b))), jx_i (nI (nt_sm (nt_iq N (nt_i1 N (nI a) (nI b))) c)), jx_i (nI c)] [] w1) (fun c _ => True) ?_ ?_ () trivial
      · intro c _ hc _ ih
        have go := ih () trivial
        have hs : c / 7 < 7 := by omega
        have hd : c % 7 < 7 := by omega
        refine bX1_impact_85 _ _ _ _ _ _ _ (br_f (nI_ge (b := 49) hc (by decide)) ?_)
        rw [nt_md hc, nt_dv hc, nI_1 c]
        refine (mX1_route hM1 hD1 hs hd).imp ?_
        rintro _ _ ⟨rfl, rfl⟩
        refine ⟨vp_in_nI hc (by decide), ?_⟩
        rintro _ rfl
        have b1 := nt_rc_lt hM1.1 hs hd
        have b2 := nt_rc_lt hM.1 hs hd
        rw [nI_clamp (by omega), h4 c hc, nI_eq b1 b2]
        refine br_c (fun h => ?_) (fun h => ?_)
        · rw [nt_a0 _ (nt_iq N (nt_i1 N (nI a) (nI b))) c (by rw [nt_iq, if_pos h]) rfl]
          exact go
        · rw [nt_a1 _ (nt_iq N (nt_i1 N (nI a) (nI b))) c (by rw [nt_iq, if_neg h]) rfl]
          exact go
      · intro _ _
        refine bX1_impact_85 _ _ _ _ _ _ _ (br_t (nI_le (a := 49) (Nat.le_refl 49) (by decide)) ?_)
        refine (mX1_setLink hM1 (nI a) (nI b) (nt_up N (nI a) (nI b))).imp ?_
        rintro _ _ ⟨-, h, -⟩
        exact ⟨rfl, h⟩
    have key := nt_l0 49 (fun c (g : Nat → Int32) => jx_J MX1_impact (jx_qi (fun r u => r = nt_ai N (nI a) (nI b) ∧ nt_M (nt_i2 N (nI a) (nI b)) u)) 17 [jx_t, jx_i (nI a), jx_i (nI b), jx_i (nI c), none, none] [] (jx_up w0 4 g)) (fun c g => ∀ j, j < c → g j = nI (nt_rc N (j / 7) (j % 7))) ?_ ?_ (w0 4) (fun j hj => absurd hj (by omega))
    · rw [jx_us] at key
      exact key
    · intro c g hc hg ih
      have hs : c / 7 < 7 := by omega
      have hd : c % 7 < 7 := by omega
      refine bX1_impact_17 _ _ _ _ _ (br_f (nI_ge (b := 49) hc (by decide)) ?_)
      rw [nt_md hc, nt_dv hc, nI_1 c]
      refine (mX1_route (hM.bef g) hD hs hd).imp ?_
      rintro _ _ ⟨rfl, rfl⟩
      refine ⟨vp_in_nI hc (by decide), ?_⟩
      rintro _ rfl
      rw [jx_uu, jx_at, nI_clamp (by omega)]
      refine ih _ (fun j hj => ?_)
      rw [nt_upd]
      by_cases e : j = c
      · rw [if_pos e, e]
      · rw [if_neg e]
        exact hg j (by omega)
    · intro g hg
      refine bX1_impact_17 _ _ _ _ _ (br_t (nI_le (a := 49) (Nat.le_refl 49) (by decide)) ⟨nt_in' ha hb, ?_⟩)
      rintro _ rfl
      have e1 : jx_up w0 4 g 1 (7 * nI a + nI b).toNatClampNeg = nt_bi (nt_up N (nI a) (nI b)) := by
        rw [nt_at' ha hb, hup]
        exact hM.2.2.1 a b ha hb hc
      rw [e1]
      have fin : ∀ w1, nt_M (nt_tn N (nI a) (nI b) (!nt_up N (nI a) (nI b))) w1 → w1 4 = g → jx_CV MX1_work [.inr 0] w1 (fun w4 => jx_J MX1_impact (jx_qi (fun r u => r = nt_ai N (nI a) (nI b) ∧ nt_M (nt_i2 N (nI a) (nI b)) u)) 85 [jx_t, jx_i (nI a), jx_i (nI b), jx_i (nt_bi (nt_up N (nI a) (nI b))), jx_i 0, jx_i 0] [] w4) := by
        intro w1 hM1 h4
        refine (mX1_work hM1).imp ?_
        rintro _ ⟨f', rfl, hD1⟩
        refine last _ (hM1.dist f') hD1 (fun c hc => ?_)
        rw [show jx_up w1 3 f' 4 = w1 4 from rfl, h4]
        exact hg c hc
      cases hu : nt_up N (nI a) (nI b) with
      | false =>
        rw [hu] at fin
        refine br_t rfl ?_
        exact (mX1_setLink (hM.bef g) (nI a) (nI b) true).imp (fun r u h => fin u h.2.1 h.2.2)
      | true =>
        rw [hu] at fin
        refine br_f nt_b1 ?_
        exact (mX1_setLink (hM.bef g) (nI a) (nI b) false).imp (fun r u h => fin u h.2.1 h.2.2)
end
section
/-! THE CLASS'S CONTRACTS: links and routers -/
set_option maxRecDepth 100000
theorem bt_or : ∀ m, m < 128 → ∀ b, b < 7 → nI m ||| ((1 : Int32) <<< (nI b &&& 31)) = nI (nt_sb m b true) := by decide +kernel
theorem bt_and : ∀ m, m < 128 → ∀ b, b < 7 → nI m &&& (((1 : Int32) <<< (nI b &&& 31)) ^^^ (-1)) = nI (nt_sb m b false) := by decide +kernel
theorem bt_byte : ∀ m, m < 128 → (nI m).toInt8.toInt32 = nI m := by decide +kernel
theorem bt_bit : ∀ m, m < 128 → ∀ b, b < 7 → (nI m >>> (nI b &&& 31)) &&& 1 = nt_bi (m.testBit b) := by decide +kernel
theorem bt_bit2 : ∀ m, m < 128 → ∀ a, a < 7 → ∀ b, b < 7 → ((nI m >>> (nI a &&& 31)) &&& (nI m >>> (nI b &&& 31))) &&& 1 = nt_bi (m.testBit a && m.testBit b) := by decide +kernel
theorem bt_nb {m : Nat} (h : m < 128) : vp_nar .byte (nI m).toInt8.toInt32 = nI m := by rw [pk_vb, bt_byte m h]
def nt_lb (r d : Nat) : Nat := 16 * (r + 1) + (3 * d + r) % 7 + 1
/-- the class's own world, but for what is worked out -/
def nt_XB (N : nt_N) (w : jx_Wd) : Prop := nt_ok N ∧ (∀ a b, a < 7 → b < 7 → w 0 (a * 7 + b) = nI (N.1 a b)) ∧ (∀ a, a < 7 → w 1 a = nI (N.2.1 a)) ∧ w 2 0 = nI N.2.2 ∧ (∀ r d, r < 7 → d < 7 → w 6 (r * 7 + d) = nI (nt_lb r d))
def nt_xd (v : Nat) : Nat := if v < 1000 then v else 10000
noncomputable def nt_hp (N : nt_N) (s d : Nat) : Int32 := if s ≠ d ∧ nt_D N s d < 1000 then nI (nt_x N s d) else -1
noncomputable def nt_lab (N : nt_N) (s d : Nat) : Nat := if s ≠ d ∧ nt_D N s d < 1000 ∧ nt_x N s d ≠ d then nt_lb (nt_x N s d) d else 0
def nt_en (r d : Nat) : Nat := r * 16 + ((3 * d + r) % 7 + 1)
def nt_XD (N : nt_N) (w : jx_Wd) : Prop := ∀ s d, s < 7 → d < 7 → w 4 (s * 7 + d) = nI (nt_xd (nt_D N s d))
def nt_XH (N : nt_N) (w : jx_Wd) : Prop := ∀ s d, s < 7 → d < 7 → w 5 (s * 7 + d) = nt_hp N s d
def nt_XL (N : nt_N) (w : jx_Wd) : Prop := ∀ s d, s < 7 → d < 7 → w 9 (s * 7 + d) = nI (nt_lab N s d) ∧ w 7 (nt_en s d) = nI (nt_lab N s d) ∧ w 8 (nt_en s d) = nt_hp N s d
def nt_XT (N : nt_N) (w : jx_Wd) : Prop := nt_XD N w ∧ nt_XH N w ∧ nt_XL N w
def nt_X (N : nt_N) (w : jx_Wd) : Prop := nt_XB N w ∧ (w 3 0 = 0 ∨ (w 3 0 = 1 ∧ nt_XT N w))
theorem mX0_isRouter (w : jx_Wd) (x : Int32) : jx_CI MX0_isRouter [.inl x] w (fun r u => r = nt_bi (nt_rt x) ∧ u = w) := by
  refine eX0_isRouter (bX0_isRouter_0 _ _ _ ?_)
  refine ⟨fun h => ⟨?_, rfl⟩, fun h => ⟨fun h2 => ⟨?_, rfl⟩, fun h2 => ⟨?_, rfl⟩⟩⟩
  · simp [nt_rt, h, nt_bi]
  · simp [nt_rt, h2, nt_bi]
  · simp [nt_rt, h, h2, nt_bi]
theorem mX0_isPair (w : jx_Wd) (x y : Int32) : jx_CI MX0_isPair [.inl x, .inl y] w (fun r u => r = nt_bi (nt_rt x && nt_rt y && decide (¬ x = y)) ∧ u = w) := by
  refine eX0_isPair (bX0_isPair_0 _ _ _ _ ?_)
  refine (mX0_isRouter w x).imp ?_
  rintro _ _ ⟨rfl, rfl⟩
  cases h1 : nt_rt x with
  | false => exact br_t rfl ⟨rfl, rfl⟩
  | true =>
    refine br_f nt_b1 ?_
    refine (mX0_isRouter _ y).imp ?_
    rintro _ _ ⟨rfl, rfl⟩
    cases h2 : nt_rt y with
    | false => exact br_t rfl ⟨rfl, rfl⟩
    | true =>
      refine br_f nt_b1 (br_c (fun h => ⟨?_, rfl⟩) (fun h => ⟨?_, rfl⟩))
      · simp [h, nt_bi]
      · simp [h, nt_bi]
theorem mX0_linked {N : nt_N} {w : jx_Wd} (hX : nt_XB N w) (x y : Int32) : jx_CI MX0_linked [.inr 0, .inl x, .inl y] w (fun r u => r = nt_bi (nt_lk N x y) ∧ u = w) := by
  refine eX0_linked (bX0_linked_0 _ _ _ _ ?_)
  refine (mX0_isPair w x y).imp ?_
  rintro _ _ ⟨rfl, rfl⟩
  cases h1 : (nt_rt x && nt_rt y && decide (¬ x = y)) with
  | false =>
    refine br_t rfl ⟨?_, rfl⟩
    cases h2 : nt_lk N x y with
    | false => rfl
    | true =>
      obtain ⟨a, b, ha, hb, rfl, rfl, hc⟩ := nt_lk_of h2
      have hab : a ≠ b := by
        intro e
        subst e
        rw [hX.1.2.2.1 a ha] at hc
        omega
      rw [nt_rt_nI ha, nt_rt_nI hb] at h1
      have : ¬ nI a = nI b := by rw [nI_eq (by omega) (by omega)]; exact hab
      simp [this] at h1
  | true =>
    simp only [Bool.and_eq_true] at h1
    obtain ⟨a, ha, rfl⟩ := nt_rt_of h1.1.1
    obtain ⟨b, hb, rfl⟩ := nt_rt_of h1.1.2
    refine br_f nt_b1 ⟨nt_in ha hb, ?_⟩
    rintro _ rfl
    rw [nt_at ha hb, hX.2.1 a b ha hb, nt_lk_nI ha hb]
    have h9 := hX.1.1 a b ha hb
    refine br_c (fun h => ⟨?_, rfl⟩) (fun h => ⟨?_, rfl⟩)
    · have : ¬ 0 < N.1 a b := fun q => absurd h (nI_nle q (by omega))
      simp [this, nt_bi]
    · have : 0 < N.1 a b := by
        rcases Nat.eq_zero_or_pos (N.1 a b) with q | q
        · rw [q] at h; exact absurd (by decide) h
        · exact q
      simp [this, nt_bi]
theorem mX0_turn {N : nt_N} {w : jx_Wd} (hB : ∀ a, a < 7 → N.2.1 a < 128) (h1 : ∀ a, a < 7 → w 1 a = nI (N.2.1 a)) {a b : Nat} (ha : a < 7) (hb : b < 7) (hab : a ≠ b) (z : Bool) : jx_CV MX0_turn [.inr 0, .inl (nI a), .inl (nI b), .inl (nt_bi z)] w (fun u => ∃ f, u = jx_up (jx_up w 1 f) 3 (fun _ => 0) ∧ ∀ x, x < 7 → f x = nI ((nt_turn N a b z).2.1 x)) := by
  have fin : ∀ f : Nat → Int32, (∀ x, x < 7 → f x = upd (upd (w 1) a (nI (nt_sb (N.2.1 a) b z))) b (nI (nt_sb (N.2.1 b) a z)) x) → ∀ x, x < 7 → f x = nI ((nt_turn N a b z).2.1 x) := by
    intro f hf x hx
    rw [hf x hx, nt_upd, nt_upd]
    show _ = nI (if x = a then nt_sb (N.2.1 a) b z else if x = b then nt_sb (N.2.1 b) a z else N.2.1 x)
    by_cases e1 : x = a
    · rw [if_neg (by omega), if_pos e1, if_pos e1]
    · by_cases e2 : x = b
      · rw [if_pos e2, if_neg e1, if_pos e2]
      · rw [if_neg e2, if_neg e1, if_neg e1, if_neg e2]
        exact h1 x hx
  have la := hB a ha
  have lb := hB b hb
  refine eX0_turn (bX0_turn_0 _ _ _ _ _ ?_)
  cases z with
  | false =>
    refine br_t rfl ⟨nt_in7 ha, ?_⟩
    rintro _ rfl
    refine ⟨nt_in7 ha, ?_⟩
    rintro w2 e2
    refine br_t rfl ⟨nt_in7 hb, ?_⟩
    rintro v3 e3
    refine ⟨nt_in7 hb, ?_⟩
    rintro w4 e4
    rintro w5 e5
    rw [nt_cl ha, h1 a ha, bt_and _ la b hb, bt_nb (nt_sb_l false la hb)] at e2
    have e3' : v3 = nI (N.2.1 b) := by
      rw [e3, e2, nt_cl hb, jx_at, nt_upd, if_neg (fun q => hab q.symm), h1 b hb]
    rw [e3', nt_cl hb, bt_and _ lb a ha, bt_nb (nt_sb_l false lb ha)] at e4
    refine ⟨_, ?_, fin (upd (upd (w 1) a (nI (nt_sb (N.2.1 a) b false))) b (nI (nt_sb (N.2.1 b) a false))) (fun x _ => rfl)⟩
    rw [e5, e4, e2, jx_at, jx_uu]
  | true =>
    refine br_f (by decide) ⟨nt_in7 ha, ?_⟩
    rintro _ rfl
    refine ⟨nt_in7 ha, ?_⟩
    rintro w2 e2
    refine br_f (by decide) ⟨nt_in7 hb, ?_⟩
    rintro v3 e3
    refine ⟨nt_in7 hb, ?_⟩
    rintro w4 e4
    rintro w5 e5
    rw [nt_cl ha, h1 a ha, bt_or _ la b hb, bt_nb (nt_sb_l true la hb)] at e2
    have e3' : v3 = nI (N.2.1 b) := by
      rw [e3, e2, nt_cl hb, jx_at, nt_upd, if_neg (fun q => hab q.symm), h1 b hb]
    rw [e3', nt_cl hb, bt_or _ lb a ha, bt_nb (nt_sb_l true lb ha)] at e4
    refine ⟨_, ?_, fin (upd (upd (w 1) a (nI (nt_sb (N.2.1 a) b true))) b (nI (nt_sb (N.2.1 b) a true))) (fun x _ => rfl)⟩
    rw [e5, e4, e2, jx_at, jx_uu]
/-- behind a turn: nothing is worked out -/
theorem nt_X_turn {N : nt_N} {w : jx_Wd} (hX : nt_XB N w) {a b : Nat} (ha : a < 7) (hb : b < 7) (hc : 0 < N.1 a b) (z : Bool) {f : Nat → Int32} (hf : ∀ x, x < 7 → f x = nI ((nt_turn N a b z).2.1 x)) : nt_X (nt_turn N a b z) (jx_up (jx_up w 1 f) 3 (fun _ => 0)) :=
  ⟨⟨nt_turn_ok hX.1 ha hb hc z, hX.2.1, hf, hX.2.2.2.1, hX.2.2.2.2⟩, Or.inl rfl⟩
theorem nt_lk_ne {N : nt_N} (hN : nt_ok N) {a b : Nat} (ha : a < 7) (hc : 0 < N.1 a b) : a ≠ b := by
  intro e
  subst e
  rw [hN.2.2.1 a ha] at hc
  omega
theorem mX0_join {N : nt_N} {w : jx_Wd} (hX : nt_X N w) (x y z : Int32) : jx_CI MX0_join [.inr 0, .inl x, .inl y, .inl z] w (fun r u => r = nt_bi (nt_jv x y z) ∧ nt_X (nt_jn N x y z) u) := by
  have no : nt_jv x y z = false → (0 : Int32) = nt_bi (nt_jv x y z) ∧ nt_X (nt_jn N x y z) w := fun h => ⟨by rw [h]; rfl, by rw [nt_jn, h]; exact hX⟩
  refine eX0_join (bX0_join_0 _ _ _ _ _ ?_)
  refine (mX0_isPair w x y).imp ?_
  rintro _ _ ⟨rfl, rfl⟩
  cases h1 : (nt_rt x && nt_rt y && decide (¬ x = y)) with
  | false => exact br_t rfl (no (by simp only [nt_jv, h1, Bool.false_and]))
  | true =>
    refine br_f nt_b1 (br_c (fun h => no (by simp [nt_jv, h])) (fun h3 => br_c (fun h4 => ?_) (fun h => no (by simp [nt_jv, h]))))
    have hv : nt_jv x y z = true := by simp only [nt_jv, h1, h3, h4, Bool.true_and, not_false_eq_true, decide_true]
    obtain ⟨a, b, k, ha, hb, hab, hk, hk9, rfl, rfl, rfl⟩ := nt_jv_of hv
    refine ⟨nt_in ha hb, ?_⟩
    rintro w5 e5
    refine ⟨nt_in hb ha, ?_⟩
    rintro w6 e6
    rw [nt_at ha hb, bt_nb (by omega)] at e5
    rw [nt_at hb ha, bt_nb (by omega)] at e6
    refine (mX0_turn (N := nt_cost N a b k) (w := w6) hX.1.1.2.2.2.1 (fun x hx => by subst e6 e5; exact hX.1.2.2.1 x hx) ha hb hab true).imp ?_
    rintro _ ⟨f, rfl, hf⟩
    refine ⟨by rw [hv]; rfl, ?_⟩
    rw [nt_jn, hv, if_pos rfl, nt_cl ha, nt_cl hb, nI_clamp (n := k) (by omega)]
    refine ⟨⟨nt_join_ok hX.1.1 ha hb hab hk hk9, fun p q hp hq => ?_, hf, ?_, ?_⟩, Or.inl rfl⟩
    · show w6 0 _ = nI (if (p = a ∧ q = b) ∨ (p = b ∧ q = a) then k else N.1 p q)
      subst e6 e5
      show upd (upd _ (a * 7 + b) (nI k)) (b * 7 + a) (nI k) (p * 7 + q) = _
      rw [nt_up2x ha hb hq]
      split
      · rfl
      · exact hX.1.2.1 p q hp hq
    · subst e6 e5
      exact hX.1.2.2.2.1
    · subst e6 e5
      exact hX.1.2.2.2.2
theorem mX0_cut {N : nt_N} {w : jx_Wd} (hX : nt_X N w) (x y : Int32) : jx_CI MX0_cut [.inr 0, .inl x, .inl y] w (fun r u => r = nt_bi (nt_lk N x y) ∧ nt_X (nt_cn N x y) u) := by
  refine eX0_cut (bX0_cut_0 _ _ _ _ ?_)
  refine (mX0_linked hX.1 x y).imp ?_
  rintro _ _ ⟨rfl, rfl⟩
  cases h1 : nt_lk N x y with
  | false => exact br_t rfl ⟨rfl, by rw [nt_cn, h1]; exact hX⟩
  | true =>
    have h2 := h1
    obtain ⟨a, b, ha, hb, rfl, rfl, hc⟩ := nt_lk_of h1
    have hab := nt_lk_ne hX.1.1 ha hc
    refine br_f nt_b1 ⟨nt_in ha hb, ?_⟩
    rintro w5 e5
    refine ⟨nt_in hb ha, ?_⟩
    rintro w6 e6
    rw [nt_at ha hb] at e5
    rw [nt_at hb ha] at e6
    refine (mX0_turn (N := nt_cost N a b 0) (w := w6) hX.1.1.2.2.2.1 (fun x hx => by subst e6 e5; exact hX.1.2.2.1 x hx) ha hb hab false).imp ?_
    rintro _ ⟨f, rfl, hf⟩
    refine ⟨rfl, ?_⟩
    rw [nt_cn, h2, if_pos rfl, nt_cl ha, nt_cl hb]
    refine ⟨⟨nt_cut_ok hX.1.1 ha hb hab, fun p q hp hq => ?_, hf, ?_, ?_⟩, Or.inl rfl⟩
    · show w6 0 _ = nI (if (p = a ∧ q = b) ∨ (p = b ∧ q = a) then 0 else N.1 p q)
      subst e6 e5
      show upd (upd _ (a * 7 + b) 0) (b * 7 + a) 0 (p * 7 + q) = _
      rw [nt_up2x ha hb hq]
      split
      · rfl
      · exact hX.1.2.1 p q hp hq
    · subst e6 e5
      exact hX.1.2.2.2.1
    · subst e6 e5
      exact hX.1.2.2.2.2
theorem mX0_setLink {N : nt_N} {w : jx_Wd} (hX : nt_X N w) (x y : Int32) (z : Bool) : jx_CI MX0_setLink [.inr 0, .inl x, .inl y, .inl (nt_bi z)] w (fun r u => r = nt_bi (nt_lk N x y) ∧ nt_X (nt_tn N x y z) u) := by
  refine eX0_setLink (bX0_setLink_0 _ _ _ _ _ ?_)
  refine (mX0_linked hX.1 x y).imp ?_
  rintro _ _ ⟨rfl, rfl⟩
  cases h1 : nt_lk N x y with
  | false => exact br_t rfl ⟨rfl, by rw [nt_tn, h1]; exact hX⟩
  | true =>
    have h2 := h1
    obtain ⟨a, b, ha, hb, rfl, rfl, hc⟩ := nt_lk_of h1
    have hab := nt_lk_ne hX.1.1 ha hc
    refine br_f nt_b1 ?_
    refine (mX0_turn (N := N) hX.1.1.2.2.2.1 hX.1.2.2.1 ha hb hab z).imp ?_
    rintro _ ⟨f, rfl, hf⟩
    refine ⟨rfl, ?_⟩
    rw [nt_tn, h2, if_pos rfl, nt_cl ha, nt_cl hb]
    exact nt_X_turn hX.1 ha hb hc z hf
theorem mX0_setRouter {N : nt_N} {w : jx_Wd} (hX : nt_X N w) (x : Int32) (z : Bool) : jx_CI MX0_setRouter [.inr 0, .inl x, .inl (nt_bi z)] w (fun r u => r = nt_bi (nt_rt x) ∧ nt_X (nt_rn N x z) u) := by
  refine eX0_setRouter (bX0_setRouter_0 _ _ _ _ ?_)
  refine (mX0_isRouter w x).imp ?_
  rintro _ _ ⟨rfl, rfl⟩
  cases h1 : nt_rt x with
  | false => exact br_t rfl ⟨rfl, by rw [nt_rn, h1]; exact hX⟩
  | true =>
    have h2 := h1
    obtain ⟨a, ha, rfl⟩ := nt_rt_of h1
    refine br_f nt_b1 ?_
    have lR := hX.1.1.2.2.2.2.1
    have fin : ∀ v : Int32, v = nI (nt_sb N.2.2 a z) → ∀ u, nt_X N u → nt_X (nt_rn N (nI a) z) (jx_up (jx_up u 2 (fun _ => v)) 3 (fun _ => 0)) := by
      intro v hv u hu
      rw [nt_rn, h2, if_pos rfl, nt_cl ha]
      exact ⟨⟨nt_rou_ok hu.1.1 ha z, hu.1.2.1, hu.1.2.2.1, hv, hu.1.2.2.2.2⟩, Or.inl rfl⟩
    cases z with
    | false =>
      refine br_t rfl ?_
      rintro _ rfl _ rfl _ rfl
      refine ⟨rfl, fin _ ?_ _ hX⟩
      rw [hX.1.2.2.2.1, bt_and _ lR a ha]
    | true =>
      refine br_f (by decide) ?_
      rintro _ rfl _ rfl _ rfl
      refine ⟨rfl, fin _ ?_ _ hX⟩
      rw [hX.1.2.2.2.1, bt_or _ lR a ha]
theorem mX0_cost {N : nt_N} {w : jx_Wd} (hX : nt_X N w) (x y : Int32) : jx_CI MX0_cost [.inr 0, .inl x, .inl y] w (fun r u => r = nt_ac N x y ∧ u = w) := by
  refine eX0_cost (bX0_cost_0 _ _ _ _ ?_)
  refine (mX0_linked hX.1 x y).imp ?_
  rintro _ _ ⟨rfl, rfl⟩
  cases h1 : nt_lk N x y with
  | false => exact br_t rfl ⟨by rw [nt_ac, h1]; rfl, rfl⟩
  | true =>
    have h2 := h1
    obtain ⟨a, b, ha, hb, rfl, rfl, hc⟩ := nt_lk_of h1
    refine br_f nt_b1 ⟨nt_in ha hb, ?_⟩
    rintro _ rfl
    refine ⟨?_, rfl⟩
    rw [nt_at ha hb, nt_ac, h2, if_pos rfl, nt_cl ha, nt_cl hb, hX.1.2.1 a b ha hb]
theorem mX0_counts {N : nt_N} {w : jx_Wd} (hX : nt_XB N w) {a b : Nat} (ha : a < 7) (hb : b < 7) : jx_CI MX0_counts [.inr 0, .inl (nI a), .inl (nI b)] w (fun r u => r = nt_bi (nt_E N a b) ∧ u = w) := by
  refine eX0_counts (bX0_counts_0 _ _ _ _ ?_)
  rintro _ rfl _ rfl
  rw [hX.2.2.2.1, bt_bit2 _ hX.1.2.2.2.2.1 a ha b hb]
  cases h1 : (N.2.2.testBit a && N.2.2.testBit b) with
  | false => exact br_t rfl ⟨by simp only [nt_E, h1, Bool.false_and]; rfl, rfl⟩
  | true =>
    refine br_f nt_b1 ⟨nt_in7 ha, ?_⟩
    rintro _ rfl
    rw [nt_cl ha, hX.2.2.1 a ha, bt_bit _ (hX.1.2.2.2.1 a ha) b hb]
    cases h2 : (N.2.1 a).testBit b with
    | false => exact br_t rfl ⟨by simp only [nt_E, h2, Bool.and_false]; rfl, rfl⟩
    | true => exact br_f nt_b1 ⟨by simp only [nt_E, h1, h2, Bool.and_self]; rfl, rfl⟩
end
section
/-! THE CLASS'S CONTRACTS: its distances are the net's (measure) -/
/-- one column of a solution -/
def nt_sc (N : nt_N) (I d : Nat) (F : Nat → Nat) : Prop :=
  (∀ s, s < 7 → F s ≤ I) ∧ (N.2.2.testBit d = true → F d = 0) ∧ (N.2.2.testBit d = false → ∀ s, s < 7 → F s = I) ∧
  (∀ s r, s < 7 → r < 7 → nt_E N s r = true → F s ≤ N.1 s r + F r) ∧
  (∀ s, s < 7 → s ≠ d → F s < I → ∃ r, r < 7 ∧ nt_E N s r = true ∧ N.1 s r + F r = F s)
theorem nt_sc_uniq {N : nt_N} (hN : nt_ok N) {I1 I2 d : Nat} {F1 F2 : Nat → Nat} (h1 : nt_sc N I1 d F1) (h2 : nt_sc N I2 d F2) (hb : ∀ s, s < 7 → F1 s < I1 → F1 s < I2) :
    ∀ v, (∀ s, s < 7 → F1 s = v → v < I1 → F2 s = v) ∧ (∀ s, s < 7 → F2 s = v → v < I2 → v < I1 → F1 s = v) := by
  intro v
  induction v using Nat.strongRecOn with
  | _ v ih =>
    obtain ⟨a1, a2, a3, a4, a5⟩ := h1
    obtain ⟨b1, b2, b3, b4, b5⟩ := h2
    constructor
    · intro s hs e hv
      by_cases hsd : s = d
      · subst hsd
        cases hon : N.2.2.testBit s with
        | true =>
          rw [a2 hon] at e
          rw [b2 hon, e]
        | false =>
          have := a3 hon s hs
          omega
      · obtain ⟨r, hr, hE, hsum⟩ := a5 s hs hsd (by omega)
        have hc := nt_E_pos hN hs hr hE
        have e2 := (ih (F1 r) (by omega)).1 r hr rfl (by omega)
        have le := b4 s r hs hr hE
        have hvb := hb s hs (by omega)
        rcases Nat.lt_or_ge (F2 s) v with q | q
        · have := (ih (F2 s) q).2 s hs rfl (by omega) (by omega)
          omega
        · omega
    · intro s hs e hv hv2
      by_cases hsd : s = d
      · subst hsd
        cases hon : N.2.2.testBit s with
        | true =>
          rw [b2 hon] at e
          rw [a2 hon, e]
        | false =>
          have := b3 hon s hs
          omega
      · obtain ⟨r, hr, hE, hsum⟩ := b5 s hs hsd (by omega)
        have hc := nt_E_pos hN hs hr hE
        have e2 := (ih (F2 r) (by omega)).2 r hr rfl (by omega) (by omega)
        have le := a4 s r hs hr hE
        rcases Nat.lt_or_ge (F1 s) v with q | q
        · have := (ih (F1 s) q).1 s hs rfl (by omega)
          omega
        · omega
theorem nt_col {N : nt_N} (hN : nt_ok N) {d : Nat} (hd : d < 7) {F : Nat → Nat} (h : nt_sc N 10000 d F) (hb : ∀ s, s < 7 → F s < 10000 → F s < 1000) : ∀ s, s < 7 → F s = nt_xd (nt_D N s d) := by
  obtain ⟨a1, a2, a3, a4, a5⟩ := nt_Ds hN
  have h2 : nt_sc N 1000 d (fun s => nt_D N s d) := ⟨fun s hs => a1 s d hs hd, a2 d hd, fun q s hs => a3 s d hs hd q, fun s r hs hr hE => a4 s r d hs hr hd hE, fun s hs hsd hlt => a5 s d hs hd hsd hlt⟩
  intro s hs
  have hle := h.1 s hs
  unfold nt_xd
  split
  · next q => exact (nt_sc_uniq hN h h2 hb (nt_D N s d)).2 s hs rfl q (by omega)
  · next q =>
    rcases Nat.lt_or_ge (F s) 10000 with z | z
    · have := (nt_sc_uniq hN h h2 hb (F s)).1 s hs rfl z
      have := hb s hs z
      omega
    · omega
theorem nt_sm_up {f g : Nat → Nat} : ∀ n j, j < n → (∀ i, i < n → i ≠ j → g i = f i) → g j = f j + 1 → nt_sm g n = nt_sm f n + 1
  | 0, j, hj, _, _ => absurd hj (by omega)
  | n + 1, j, hj, h, e => by
    show nt_sm g n + g n = nt_sm f n + f n + 1
    by_cases q : j = n
    · subst q
      rw [nt_sm_eq j (fun i hi => h i (by omega) (by omega)), e]
      omega
    · rw [nt_sm_up n j (by omega) (fun i hi hne => h i (by omega) hne) e, h n (by omega) (fun z => q z.symm)]
      omega
/-- the state of the search from d: k routers of the set S are settled -/
def nt_dj (N : nt_N) (d k S : Nat) (F : Nat → Nat) : Prop :=
  S < 128 ∧ F d = 0 ∧ nt_sm (fun s => nt_b2 (S.testBit s)) 7 = k ∧
  (∀ s, s < 7 → F s ≤ 10000 ∧ (F s < 10000 → F s ≤ 9 * k)) ∧
  (∀ s, s < 7 → S.testBit s = true → F s < 10000) ∧
  (∀ s t, s < 7 → t < 7 → S.testBit s = true → S.testBit t = false → F s ≤ F t) ∧
  (∀ s r, s < 7 → r < 7 → S.testBit r = true → nt_E N s r = true → F s ≤ N.1 s r + F r) ∧
  (∀ s, s < 7 → s ≠ d → F s < 10000 → ∃ r, r < 7 ∧ S.testBit r = true ∧ nt_E N s r = true ∧ N.1 s r + F r = F s)
def nt_rx (N : nt_N) (n : Nat) (F : Nat → Nat) : Nat → Nat := fun s => if nt_E N s n = true ∧ N.1 s n + F n < F s then N.1 s n + F n else F s
theorem nt_rx_le (N : nt_N) (n : Nat) (F : Nat → Nat) (s : Nat) : nt_rx N n F s ≤ F s := by
  unfold nt_rx
  split
  · omega
  · exact Nat.le_refl _
theorem nt_rx_n {N : nt_N} (hN : nt_ok N) {n : Nat} (hn : n < 7) (F : Nat → Nat) : nt_rx N n F n = F n := by
  unfold nt_rx
  rw [if_neg]
  rintro ⟨h, -⟩
  exact nt_E_ne hN hn hn h rfl
theorem nt_dj_0 {N : nt_N} {d : Nat} : nt_dj N d 0 0 (fun s => if s = d then 0 else 10000) := by
  have hz : ∀ s, s < 7 → Nat.testBit 0 s = false := fun s _ => Nat.zero_testBit s
  refine ⟨by decide, if_pos rfl, ?_, fun s hs => ?_, fun s hs h => ?_, fun s t hs ht h => ?_, fun s r hs hr h => ?_, fun s hs hsd h => ?_⟩
  · rw [nt_sm_eq (f := fun _ => 0) 7 (fun i hi => by rw [hz i hi]; rfl)]
    rfl
  · dsimp only
    split
    · omega
    · omega
  · rw [hz s hs] at h; cases h
  · rw [hz s hs] at h; cases h
  · rw [hz r hr] at h; cases h
  · dsimp only at h
    rw [if_neg hsd] at h
    omega
theorem nt_dj_s {N : nt_N} (hN : nt_ok N) {d k S : Nat} (hd : d < 7) {F : Nat → Nat} (h : nt_dj N d k S F) {n : Nat} (hn : n < 7) (hSn : S.testBit n = false) (hFn : F n < 10000) (hmin : ∀ s, s < 7 → S.testBit s = false → F n ≤ F s) : nt_dj N d (k + 1) (nt_sb S n true) (nt_rx N n F) := by
  obtain ⟨h1, h2, h3, h4, h5, h6, h7, h8⟩ := h
  have hbit : ∀ s, s < 7 → (nt_sb S n true).testBit s = if s = n then true else S.testBit s := fun s hs => nt_sb_b true h1 hn hs
  have hnn := nt_rx_n hN hn F
  have hin : ∀ s, s < 7 → (nt_sb S n true).testBit s = true → nt_rx N n F s = F s ∧ F s ≤ F n := by
    intro s hs hb
    rw [hbit s hs] at hb
    by_cases e : s = n
    · rw [e]; exact ⟨hnn, Nat.le_refl _⟩
    · rw [if_neg e] at hb
      have hle := h6 s n hs hn hb hSn
      refine ⟨?_, hle⟩
      unfold nt_rx
      rw [if_neg]
      rintro ⟨-, q⟩
      omega
  have hge : ∀ s, s < 7 → F n ≤ F s → F n ≤ nt_rx N n F s := by
    intro s hs hle
    unfold nt_rx
    split
    · omega
    · exact hle
  refine ⟨nt_sb_l true h1 hn, ?_, ?_, fun s hs => ?_, fun s hs hb => ?_, fun s t hs ht hb hc => ?_, fun s r hs hr hb hE => ?_, fun s hs hsd hlt => ?_⟩
  · have := nt_rx_le N n F d
    omega
  · rw [← h3]
    refine nt_sm_up 7 n hn (fun i hi hne => ?_) ?_
    · rw [hbit i hi, if_neg hne]
    · rw [hbit n hn, if_pos rfl, hSn]
      rfl
  · have a := h4 s hs
    have b := h4 n hn
    have c := nt_rx_le N n F s
    refine ⟨by omega, fun q => ?_⟩
    unfold nt_rx at q ⊢
    split
    · next z =>
      have := hN.1 s n hs hn
      have := b.2 hFn
      omega
    · next z =>
      rw [if_neg z] at q
      have := a.2 q
      omega
  · have a := hin s hs hb
    rw [a.1]
    rw [hbit s hs] at hb
    by_cases e : s = n
    · rw [e]; exact hFn
    · rw [if_neg e] at hb
      exact h5 s hs hb
  · have a := hin s hs hb
    have hc2 : S.testBit t = false := by
      rw [hbit t ht] at hc
      by_cases e : t = n
      · rw [if_pos e] at hc; cases hc
      · rw [if_neg e] at hc; exact hc
    have b := hge t ht (hmin t ht hc2)
    omega
  · have a := hin r hr hb
    have c := nt_rx_le N n F s
    rw [a.1]
    rw [hbit r hr] at hb
    by_cases e : r = n
    · subst e
      unfold nt_rx
      split
      · exact Nat.le_refl _
      · next z =>
        rcases Nat.lt_or_ge (N.1 s r + F r) (F s) with q | q
        · exact absurd ⟨hE, q⟩ z
        · exact q
    · rw [if_neg e] at hb
      have := h7 s r hs hr hb hE
      omega
  · by_cases z : nt_E N s n = true ∧ N.1 s n + F n < F s
    · refine ⟨n, hn, by rw [hbit n hn, if_pos rfl], z.1, ?_⟩
      rw [hnn]
      show _ = nt_rx N n F s
      unfold nt_rx
      rw [if_pos z]
    · have e : nt_rx N n F s = F s := if_neg z
      rw [e] at hlt ⊢
      obtain ⟨r, hr, hSr, hE, hsum⟩ := h8 s hs hsd hlt
      have hb : (nt_sb S n true).testBit r = true := by
        rw [hbit r hr]
        split
        · rfl
        · exact hSr
      exact ⟨r, hr, hb, hE, by rw [(hin r hr hb).1]; exact hsum⟩
theorem nt_dj_end {N : nt_N} (hN : nt_ok N) {d k S : Nat} (hd : d < 7) (hon : N.2.2.testBit d = true) {F : Nat → Nat} (h : nt_dj N d k S F) (hall : ∀ s, s < 7 → F s < 10000 → S.testBit s = true) : ∀ s, s < 7 → F s = nt_xd (nt_D N s d) := by
  obtain ⟨h1, h2, h3, h4, h5, h6, h7, h8⟩ := h
  have hk : k ≤ 7 := by
    rw [← h3]
    have : nt_sm (fun s => nt_b2 (S.testBit s)) 7 ≤ nt_sm (fun _ => 1) 7 := nt_sm_le 7 (fun i _ => by unfold nt_b2; split <;> omega)
    exact this
  refine nt_col hN hd ⟨fun s hs => (h4 s hs).1, fun _ => h2, fun q => (by rw [hon] at q; cases q), fun s r hs hr hE => ?_, fun s hs hsd hlt => ?_⟩ (fun s hs q => ?_)
  · rcases Nat.lt_or_ge (F r) 10000 with q | q
    · exact h7 s r hs hr (hall r hr q) hE
    · have := (h4 s hs).1
      omega
  · obtain ⟨r, hr, -, hE, hsum⟩ := h8 s hs hsd hlt
    exact ⟨r, hr, hE, hsum⟩
  · have := (h4 s hs).2 q
    omega
theorem mX0_nearest {w : jx_Wd} {d S : Nat} (hd : d < 7) (hS : S < 128) {F : Nat → Nat} (hF : ∀ s, s < 7 → w 4 (s * 7 + d) = nI (F s)) (hb : ∀ s, s < 7 → F s ≤ 10000) : jx_CI MX0_nearest [.inr 0, .inl (nI d), .inl (nI S)] w (fun r u => u = w ∧ ((r = -1 ∧ ∀ s, s < 7 → S.testBit s = false → ¬ F s < 10000) ∨ ∃ n, n < 7 ∧ r = nI n ∧ S.testBit n = false ∧ F n < 10000 ∧ ∀ s, s < 7 → S.testBit s = false → F n ≤ F s)) := by
  refine eX0_nearest (bX0_nearest_0 _ _ _ _ ?_)
  generalize hΦ : (fun (r : Int32) (u : jx_Wd) => u = w ∧ ((r = -1 ∧ ∀ s, s < 7 → S.testBit s = false → ¬ F s < 10000) ∨ ∃ n, n < 7 ∧ r = nI n ∧ S.testBit n = false ∧ F n < 10000 ∧ ∀ s, s < 7 → S.testBit s = false → F n ≤ F s)) = Φ
  refine nt_l0 7 (fun i (b : Int32) => jx_J MX0_nearest (jx_qi Φ) 5 [jx_t, jx_i (nI d), jx_i (nI S), jx_i b, jx_i (nI i), none] [] w) (fun i b => (b = -1 ∧ ∀ s, s < i → S.testBit s = false → ¬ F s < 10000) ∨ ∃ n, n < i ∧ b = nI n ∧ S.testBit n = false ∧ F n < 10000 ∧ ∀ s, s < i → S.testBit s = false → F n ≤ F s) ?_ ?_ (-1) (Or.inl ⟨rfl, fun s hs => absurd hs (by omega)⟩)
  · intro i b hi hI ih
    have hbi := hb i hi
    refine bX0_nearest_5 _ _ _ _ _ _ (br_f (nI_ge (b := 7) hi (by decide)) ⟨nt_in hi hd, ?_⟩)
    rintro _ rfl
    rw [nt_at hi hd, hF i hi, bt_bit S hS i hi, nI_1]
    have skip : (S.testBit i = true ∨ ¬ F i < 10000) → jx_J MX0_nearest (jx_qi Φ) 5 [jx_t, jx_i (nI d), jx_i (nI S), jx_i b, jx_i (nI (i + 1)), none] [] w := by
      intro hsk
      refine ih b ?_
      rcases hI with ⟨e, h⟩ | ⟨n, h1, h2, h3, h4, h5⟩
      · refine Or.inl ⟨e, fun s hs hbit => ?_⟩
        by_cases q : s = i
        · subst q
          rcases hsk with z | z
          · rw [z] at hbit; cases hbit
          · exact z
        · exact h s (by omega) hbit
      · refine Or.inr ⟨n, by omega, h2, h3, h4, fun s hs hbit => ?_⟩
        by_cases q : s = i
        · subst q
          rcases hsk with z | z
          · rw [z] at hbit; cases hbit
          · omega
        · exact h5 s (by omega) hbit
    cases hbit : S.testBit i with
    | true => exact br_f nt_b1 (skip (Or.inl hbit))
    | false =>
      refine br_t rfl (br_c (fun h => skip (Or.inr ?_)) (fun h => ?_))
      · have h : nI 10000 ≤ nI (F i) := h
        rw [nI_leI (by omega) (by omega)] at h
        omega
      · have h : ¬ nI 10000 ≤ nI (F i) := h
        rw [nI_leI (by omega) (by omega)] at h
        have take : (∀ s, s < i → S.testBit s = false → F i ≤ F s) → jx_J MX0_nearest (jx_qi Φ) 5 [jx_t, jx_i (nI d), jx_i (nI S), jx_i (nI i), jx_i (nI (i + 1)), none] [] w := by
          intro hlt
          refine ih (nI i) (Or.inr ⟨i, by omega, rfl, hbit, by omega, fun s hs hb2 => ?_⟩)
          by_cases q : s = i
          · rw [q]; exact Nat.le_refl _
          · exact hlt s (by omega) hb2
        rcases hI with ⟨e, h9⟩ | ⟨n, h1, h2, h3, h4, h5⟩
        · subst e
          refine br_t (by decide) (take (fun s hs hb2 => ?_))
          have := h9 s hs hb2
          omega
        · subst h2
          have hn7 : n < 7 := by omega
          refine br_f (nI_pos (by omega)) ⟨nt_in hn7 hd, ?_⟩
          rintro _ rfl
          rw [nt_at hn7 hd, hF n hn7, nI_leI (by omega) (by omega)]
          refine br_c (fun hle => ?_) (fun hle => take (fun s hs hb2 => ?_))
          · refine ih (nI n) (Or.inr ⟨n, by omega, rfl, h3, h4, fun s hs hb2 => ?_⟩)
            by_cases q : s = i
            · rw [q]; exact hle
            · exact h5 s (by omega) hb2
          · have := h5 s hs hb2
            omega
  · intro b hI
    refine bX0_nearest_5 _ _ _ _ _ _ (br_t (nI_le (a := 7) (Nat.le_refl 7) (by decide)) ?_)
    rw [← hΦ]
    exact ⟨rfl, hI⟩
theorem mX0_measure {N : nt_N} {w : jx_Wd} (hX : nt_XB N w) {d : Nat} (hd : d < 7) : jx_CV MX0_measure [.inr 0, .inl (nI d)] w (fun u => ∃ g, u = jx_up w 4 g ∧ (∀ s, s < 7 → g (s * 7 + d) = nI (nt_xd (nt_D N s d))) ∧ ∀ s e, s < 7 → e < 7 → e ≠ d → g (s * 7 + e) = w 4 (s * 7 + e)) := by
  refine eX0_measure (bX0_measure_0 _ _ _ ?_)
  generalize hΦ : (fun (u : jx_Wd) => ∃ g, u = jx_up w 4 g ∧ (∀ s, s < 7 → g (s * 7 + d) = nI (nt_xd (nt_D N s d))) ∧ ∀ s e, s < 7 → e < 7 → e ≠ d → g (s * 7 + e) = w 4 (s * 7 + e)) = Φ
  have hX4 : ∀ g, nt_XB N (jx_up w 4 g) := fun g => hX
  -- the search
  have main : N.2.2.testBit d = true → ∀ g F, (∀ s, s < 7 → g (s * 7 + d) = nI (F s)) → (∀ s e, s < 7 → e < 7 → e ≠ d → g (s * 7 + e) = w 4 (s * 7 + e)) → nt_dj N d 0 0 F → jx_J MX0_measure (jx_qv Φ) 56 [jx_t, jx_i (nI d), jx_i 0, jx_i 0, none, none, none] [] (jx_up w 4 g) := by
    intro hon g F hg hk hdj
    refine nt_l0 7 (fun k (q : (Nat → Int32) × Nat) => jx_J MX0_measure (jx_qv Φ) 56 [jx_t, jx_i (nI d), jx_i (nI q.2), jx_i (nI k), none, none, none] [] (jx_up w 4 q.1)) (fun k q => (∀ s e, s < 7 → e < 7 → e ≠ d → q.1 (s * 7 + e) = w 4 (s * 7 + e)) ∧ ∃ F, (∀ s, s < 7 → q.1 (s * 7 + d) = nI (F s)) ∧ nt_dj N d k q.2 F) ?_ ?_ (g, 0) ⟨hk, F, hg, hdj⟩
    · intro k q hk7 hI ih
      obtain ⟨g, S⟩ := q
      obtain ⟨hk, F, hg, hdj⟩ := hI
      dsimp only at hk hg hdj ⊢
      refine bX0_measure_56 _ _ _ _ _ (br_f (nI_ge (b := 7) hk7 (by decide)) ?_)
      refine (mX0_nearest (w := jx_up w 4 g) hd hdj.1 (F := F) hg (fun s hs => (hdj.2.2.2.1 s hs).1)).imp ?_
      rintro r _ ⟨rfl, hr⟩
      rcases hr with ⟨rfl, hno⟩ | ⟨n, hn, rfl, hSn, hFn, hmin⟩
      · refine br_f (by decide) ?_
        rw [← hΦ]
        refine ⟨g, rfl, fun s hs => ?_, hk⟩
        rw [hg s hs, nt_dj_end hX.1 hd hon hdj (fun s hs hf => ?_) s hs]
        cases hb : S.testBit s with
        | true => rfl
        | false => exact absurd hf (hno s hs hb)
      · refine br_t (nI_pos' (by omega)) ?_
        rw [bt_or S hdj.1 n hn]
        have hdj2 := nt_dj_s hX.1 hd hdj hn hSn hFn hmin
        have key := nt_l0 7 (fun i (g : Nat → Int32) => jx_J MX0_measure (jx_qv Φ) 86 [jx_t, jx_i (nI d), jx_i (nI (nt_sb S n true)), jx_i (nI k), jx_i (nI n), jx_i (nI i), none] [] (jx_up w 4 g)) (fun i g => (∀ s e, s < 7 → e < 7 → e ≠ d → g (s * 7 + e) = w 4 (s * 7 + e)) ∧ ∀ s, s < 7 → g (s * 7 + d) = nI (if s < i then nt_rx N n F s else F s)) ?_ ?_ g ⟨hk, fun s hs => by rw [hg s hs, if_neg (by omega)]⟩
        · exact key
        · intro i g hi hI ih2
          obtain ⟨hk, hg⟩ := hI
          have en := hg n hn
          have en2 : g (n * 7 + d) = nI (F n) := by
            rw [en]
            split
            · rw [nt_rx_n hX.1 hn]
            · rfl
          have ei := hg i hi
          rw [if_neg (Nat.lt_irrefl i)] at ei
          have bi := (hdj.2.2.2.1 i hi).1
          have bc := hX.1.1 i n hi hn
          refine bX0_measure_86 _ _ _ _ _ _ _ (br_f (nI_ge (b := 7) hi (by decide)) ⟨nt_in hi hn, ?_⟩)
          rintro _ rfl
          refine ⟨nt_in hn hd, ?_⟩
          rintro _ rfl
          have ec : jx_up w 4 g 0 (nI i * 7 + nI n).toNatClampNeg = nI (N.1 i n) := by rw [nt_at hi hn]; exact hX.2.1 i n hi hn
          have ed : jx_up w 4 g 4 (nI n * 7 + nI d).toNatClampNeg = nI (F n) := by rw [nt_at hn hd, jx_at]; exact en2
          rw [ec, ed, nI_add, nI_1 i, nI_eq (a := i) (b := n) (by omega) (by omega)]
          have same : nt_rx N n F i = F i → jx_J MX0_measure (jx_qv Φ) 86 [jx_t, jx_i (nI d), jx_i (nI (nt_sb S n true)), jx_i (nI k), jx_i (nI n), jx_i (nI (i + 1)), none] [] (jx_up w 4 g) := by
            intro hrx
            refine ih2 g ⟨hk, fun s hs => ?_⟩
            rw [hg s hs]
            by_cases c1 : s < i
            · rw [if_pos c1, if_pos (by omega)]
            · rw [if_neg c1]
              by_cases c2 : s = i
              · rw [if_pos (by omega), c2, hrx]
              · rw [if_neg (by omega)]
          refine br_c (fun h => same (by rw [h]; exact nt_rx_n hX.1 hn F)) (fun hne => ?_)
          refine (mX0_counts (hX4 g) hi hn).imp ?_
          rintro _ _ ⟨rfl, rfl⟩
          cases hE : nt_E N i n with
          | false => exact br_t rfl (same (if_neg (fun q => by rw [hE] at q; cases q.1)))
          | true =>
            refine br_f nt_b1 ⟨nt_in hi hd, ?_⟩
            rintro _ rfl
            rw [nt_at hi hd, jx_at, ei, nI_leI (by omega) (by omega)]
            refine br_c (fun h => same (if_neg (fun q => by omega))) (fun h => ⟨nt_in hi hd, ?_⟩)
            rintro _ rfl
            rw [jx_uu]
            refine ih2 _ ⟨fun s e hs he hne2 => ?_, fun s hs => ?_⟩
            · rw [nt_upd, if_neg (by omega)]
              exact hk s e hs he hne2
            · rw [nt_upd]
              by_cases c1 : s = i
              · subst c1
                rw [if_pos rfl, if_pos (by omega)]
                show nI _ = nI (nt_rx N n F s)
                unfold nt_rx
                rw [if_pos ⟨hE, by omega⟩]
              · rw [if_neg (by omega), hg s hs]
                by_cases c2 : s < i
                · rw [if_pos c2, if_pos (by omega)]
                · rw [if_neg c2, if_neg (by omega)]
        · intro g hI
          obtain ⟨hk, hg⟩ := hI
          refine bX0_measure_86 _ _ _ _ _ _ _ (br_t (nI_le (a := 7) (Nat.le_refl 7) (by decide)) ?_)
          rw [nI_1]
          refine ih (g, nt_sb S n true) ⟨hk, nt_rx N n F, fun s hs => ?_, hdj2⟩
          show g (s * 7 + d) = _
          rw [hg s hs, if_pos hs]
    · intro q hI
      obtain ⟨g, S⟩ := q
      obtain ⟨hk, F, hg, hdj⟩ := hI
      dsimp only at hk hg hdj ⊢
      refine bX0_measure_56 _ _ _ _ _ (br_t (nI_le (a := 7) (Nat.le_refl 7) (by decide)) ?_)
      rw [← hΦ]
      refine ⟨g, rfl, fun s hs => ?_, hk⟩
      rw [hg s hs, nt_dj_end hX.1 hd hon hdj (fun s hs hf => ?_) s hs]
      cases hb : S.testBit s with
      | true => rfl
      | false =>
        exfalso
        have : nt_sm (fun s => nt_b2 (S.testBit s)) 7 < nt_sm (fun _ => 1) 7 := nt_sm_lt 7 (fun i _ => by unfold nt_b2; split <;> omega) s hs (by rw [hb]; decide)
        have e7 : nt_sm (fun _ => 1) 7 = 7 := rfl
        have := hdj.2.2.1
        omega
  -- all far
  have key := nt_l0 7 (fun i (g : Nat → Int32) => jx_J MX0_measure (jx_qv Φ) 2 [jx_t, jx_i (nI d), jx_i (nI i), none, none, none, none] [] (jx_up w 4 g)) (fun i g => (∀ s e, s < 7 → e < 7 → e ≠ d → g (s * 7 + e) = w 4 (s * 7 + e)) ∧ ∀ s, s < i → g (s * 7 + d) = nI 10000) ?_ ?_ (w 4) ⟨fun _ _ _ _ _ => rfl, fun s hs => absurd hs (by omega)⟩
  · rw [jx_us] at key
    exact key
  · intro i g hi hI ih
    obtain ⟨hk, hg⟩ := hI
    refine bX0_measure_2 _ _ _ _ (br_f (nI_ge (b := 7) hi (by decide)) ⟨nt_in hi hd, ?_⟩)
    rintro _ rfl
    rw [jx_uu, jx_at, nt_at hi hd, nI_1]
    refine ih _ ⟨fun s e hs he hne => ?_, fun s hs => ?_⟩
    · rw [nt_upd, if_neg (by omega)]
      exact hk s e hs he hne
    · rw [nt_upd]
      by_cases c1 : s = i
      · rw [if_pos (by omega)]
        rfl
      · rw [if_neg (by omega)]
        exact hg s (by omega)
  · intro g hI
    obtain ⟨hk, hg⟩ := hI
    refine bX0_measure_2 _ _ _ _ (br_t (nI_le (a := 7) (Nat.le_refl 7) (by decide)) ?_)
    rintro _ rfl
    have e2 : jx_up w 4 g 2 0 = nI N.2.2 := hX.2.2.2.1
    rw [e2, bt_bit _ hX.1.2.2.2.2.1 d hd]
    cases hon : N.2.2.testBit d with
    | false =>
      refine br_t rfl ?_
      rw [← hΦ]
      refine ⟨g, rfl, fun s hs => ?_, hk⟩
      rw [hg s hs, (nt_Ds hX.1).2.2.1 s d hs hd hon]
      rfl
    | true =>
      refine br_f nt_b1 ⟨nt_in hd hd, ?_⟩
      rintro _ rfl
      rw [jx_uu, jx_at, nt_at hd hd]
      refine main hon _ (fun s => if s = d then 0 else 10000) (fun s hs => ?_) (fun s e hs he hne => ?_) nt_dj_0
      · rw [nt_upd]
        by_cases c1 : s = d
        · rw [if_pos (by omega), if_pos c1]
          rfl
        · rw [if_neg (by omega), if_neg c1]
          exact hg s hs
      · rw [nt_upd, if_neg (by omega)]
        exact hk s e hs he hne
end
section
/-! THE CLASS'S CONTRACTS: next hops, labels, learn, connected -/
set_option maxRecDepth 100000
theorem nt_xd_lt {N : nt_N} (hN : nt_ok N) {s d : Nat} (hs : s < 7) (hd : d < 7) : nt_xd (nt_D N s d) ≤ 10000 ∧ (nt_xd (nt_D N s d) < 10000 ↔ nt_D N s d < 1000) ∧ (nt_D N s d < 1000 → nt_xd (nt_D N s d) = nt_D N s d) := by
  have := (nt_Ds hN).1 s d hs hd
  unfold nt_xd
  split
  · next h => exact ⟨by omega, ⟨fun _ => h, fun _ => by omega⟩, fun _ => rfl⟩
  · next h => exact ⟨by omega, ⟨fun q => by omega, fun q => absurd q h⟩, fun q => absurd q h⟩
theorem nt_hp_f {N : nt_N} {s d : Nat} (h : ¬ (s ≠ d ∧ nt_D N s d < 1000)) : nt_hp N s d = -1 := if_neg h
theorem nt_hp_t {N : nt_N} {s d : Nat} (h : s ≠ d ∧ nt_D N s d < 1000) : nt_hp N s d = nI (nt_x N s d) := if_pos h
theorem mX0_chooseHop {N : nt_N} {w : jx_Wd} (hX : nt_XB N w) (hD : nt_XD N w) {s d : Nat} (hs : s < 7) (hd : d < 7) : jx_CI MX0_chooseHop [.inr 0, .inl (nI s), .inl (nI d)] w (fun r u => r = nt_hp N s d ∧ u = w) := by
  refine eX0_chooseHop (bX0_chooseHop_0 _ _ _ _ ⟨nt_in hs hd, ?_⟩)
  rintro _ rfl
  rw [nt_at hs hd, hD s d hs hd]
  obtain ⟨x1, x2, x3⟩ := nt_xd_lt hX.1 hs hd
  refine nt_l0 7 (fun i (_ : Unit) => jx_J MX0_chooseHop (jx_qi (fun r u => r = nt_hp N s d ∧ u = w)) 15 [jx_t, jx_i (nI s), jx_i (nI d), jx_i (nI (nt_xd (nt_D N s d))), jx_i (nI i), none] [] w) (fun i _ => ∀ j, j < i → (s ≠ d ∧ nt_D N s d < 1000) → nt_P N s d j = false) ?_ ?_ () (fun j hj => absurd hj (by omega))
  · intro i _ hi hI ih
    refine bX0_chooseHop_15 _ _ _ _ _ _ (br_f (nI_ge (b := 7) hi (by decide)) ?_)
    rw [nI_1 i, nI_eq (a := s) (b := d) (by omega) (by omega), nI_eq (a := i) (b := s) (by omega) (by omega)]
    have no : ((s ≠ d ∧ nt_D N s d < 1000) → nt_P N s d i = false) → jx_J MX0_chooseHop (jx_qi (fun r u => r = nt_hp N s d ∧ u = w)) 15 [jx_t, jx_i (nI s), jx_i (nI d), jx_i (nI (nt_xd (nt_D N s d))), jx_i (nI (i + 1)), none] [] w := by
      intro h
      refine ih () (fun j hj q => ?_)
      by_cases e : j = i
      · rw [e]; exact h q
      · exact hI j (by omega) q
    refine br_c (fun h => no (fun q => absurd h q.1)) (fun hsd => ?_)
    refine br_c (fun h => no (fun q => ?_)) (fun hfar => ?_)
    · exfalso
      have h : nI 10000 ≤ nI (nt_xd (nt_D N s d)) := h
      rw [nI_leI (by omega) (by omega)] at h
      have := x2.mpr q.2
      omega
    · have hfar : ¬ nI 10000 ≤ nI (nt_xd (nt_D N s d)) := hfar
      rw [nI_leI (by omega) (by omega)] at hfar
      have hf : nt_D N s d < 1000 := x2.mp (by omega)
      refine br_c (fun h => no (fun _ => ?_)) (fun his => ?_)
      · cases hE : nt_E N s i with
        | false => simp [nt_P, hE]
        | true => exact absurd h.symm (nt_E_ne hX.1 hs hi hE)
      · refine (mX0_counts hX hs hi).imp ?_
        rintro _ _ ⟨rfl, rfl⟩
        cases hE : nt_E N s i with
        | false => exact br_t rfl (no (fun _ => by simp [nt_P, hE]))
        | true =>
          refine br_f nt_b1 ⟨nt_in hs hi, ?_⟩
          rintro _ rfl
          refine ⟨nt_in hi hd, ?_⟩
          rintro _ rfl
          obtain ⟨y1, y2, y3⟩ := nt_xd_lt hX.1 hi hd
          have b3 := hX.1.1 s i hs hi
          have b4 := (nt_Ds hX.1).1 i d hi hd
          rw [nt_at hs hi, nt_at hi hd, hX.2.1 s i hs hi, hD i d hi hd, nI_add, nI_eq (by omega) (by omega)]
          have key : (N.1 s i + nt_xd (nt_D N i d) = nt_xd (nt_D N s d)) ↔ (N.1 s i + nt_D N i d = nt_D N s d) := by
            rw [x3 hf]
            rcases Nat.lt_or_ge (nt_D N i d) 1000 with q | q
            · rw [y3 q]
            · constructor
              · intro z
                exfalso
                have : ¬ nt_xd (nt_D N i d) < 10000 := fun q2 => absurd (y2.mp q2) (by omega)
                omega
              · intro z; omega
          rw [key]
          refine br_c (fun h => ⟨?_, rfl⟩) (fun h => no (fun _ => by simp [nt_P, h]))
          rw [nt_hp_t ⟨hsd, hf⟩, nt_x, nt_fs_at (nt_P N s d) d i (by simp [nt_P, hE, h]) 7 0 (fun j _ hj => hI j hj ⟨hsd, hf⟩) (by omega) (by omega)]
  · intro _ hI
    refine bX0_chooseHop_15 _ _ _ _ _ _ (br_t (nI_le (a := 7) (Nat.le_refl 7) (by decide)) ⟨?_, rfl⟩)
    rw [nt_hp_f]
    intro q
    obtain ⟨z1, z2, z3, -⟩ := nt_x_spec hX.1 hs hd q.1 q.2
    have := hI (nt_x N s d) z1 q
    simp [nt_P, z2, z3] at this
/-! labels -/
theorem bt_15 {r d : Nat} (hr : r < 7) (hd : d < 7) : nI (nt_lb r d) &&& 15 = nI ((3 * d + r) % 7 + 1) := by
  unfold nt_lb
  rw [pk_andN (by omega) 4 (by decide)]
  congr 1
  omega
theorem nt_en_at {r d : Nat} (hr : r < 7) (hd : d < 7) : nI r * 16 + nI ((3 * d + r) % 7 + 1) = nI (nt_en r d) := by
  rw [show (16 : Int32) = nI 16 from rfl, pk_mul, nI_add]
  rfl
theorem nt_en_lt {r d : Nat} (hr : r < 7) : nt_en r d < 112 := by unfold nt_en; omega
theorem nt_en_inj {r d x y : Nat} (hr : r < 7) (hd : d < 7) (hx : x < 7) (hy : y < 7) (h : nt_en x y = nt_en r d) : x = r ∧ y = d := by
  unfold nt_en at h
  have : x = r := by omega
  subst this
  refine ⟨rfl, ?_⟩
  omega
theorem bt_short : ∀ m, m < 128 → vp_nar .short (nI m).toInt16.toInt32 = nI m := by
  intro m hm
  rw [pk_vs]
  revert m
  decide +kernel
theorem nt_lb_lt {r d : Nat} (hr : r < 7) : nt_lb r d < 128 := by unfold nt_lb; omega
theorem nt_lab_lt {N : nt_N} (hN : nt_ok N) {s d : Nat} (hs : s < 7) (hd : d < 7) : nt_lab N s d < 128 := by
  unfold nt_lab
  split
  · next h => exact nt_lb_lt (nt_x_spec hN hs hd h.1 h.2.1).1
  · decide
theorem nt_hp_b {N : nt_N} (hN : nt_ok N) {s d : Nat} (hs : s < 7) (hd : d < 7) : vp_nar .byte (nt_hp N s d).toInt8.toInt32 = nt_hp N s d := by
  unfold nt_hp
  split
  · next h =>
    have := (nt_x_spec hN hs hd h.1 h.2).1
    exact bt_nb (by omega)
  · rfl
theorem mX0_bindOne {N : nt_N} {w : jx_Wd} (hX : nt_XB N w) (hH : nt_XH N w) {r d : Nat} (hr : r < 7) (hd : d < 7) : jx_CV MX0_bindOne [.inr 0, .inl (nI r), .inl (nI d)] w (fun u => u = jx_up (jx_up (jx_up w 9 (upd (w 9) (r * 7 + d) (nI (nt_lab N r d)))) 7 (upd (w 7) (nt_en r d) (nI (nt_lab N r d)))) 8 (upd (w 8) (nt_en r d) (nt_hp N r d))) := by
  have hL := nt_lab_lt hX.1 hr hd
  have hin : vp_in (nI r * 16 + nI ((3 * d + r) % 7 + 1)) 112 := by rw [nt_en_at hr hd]; exact vp_in_nI (nt_en_lt hr) (by decide)
  have hcl : (nI r * 16 + nI ((3 * d + r) % 7 + 1)).toNatClampNeg = nt_en r d := by
    rw [nt_en_at hr hd]
    have := nt_en_lt (d := d) hr
    exact nI_clamp (by omega)
  refine eX0_bindOne (bX0_bindOne_0 _ _ _ _ ⟨nt_in hr hd, ?_⟩)
  rintro _ rfl
  rw [nt_at hr hd, hH r d hr hd]
  have e6 : ∀ f, jx_up w 9 f 6 (nI r * 7 + nI d).toNatClampNeg = nI (nt_lb r d) := fun f => by rw [nt_at hr hd]; exact hX.2.2.2.2 r d hr hd
  by_cases hq : r ≠ d ∧ nt_D N r d < 1000
  · obtain ⟨x1, x2, x3, -⟩ := nt_x_spec hX.1 hr hd hq.1 hq.2
    rw [nt_hp_t hq]
    refine br_f (nI_pos (by omega)) ?_
    rw [nI_eq (by omega) (by omega)]
    refine br_c (fun hxd => ⟨nt_in hr hd, ?_⟩) (fun hxd => ⟨nt_in x1 hd, ?_⟩)
    · have e0 : nt_lab N r d = 0 := if_neg (fun z => z.2.2 hxd)
      rintro _ rfl
      refine ⟨nt_in hr hd, ?_⟩
      rintro _ rfl
      rw [show jx_up w 9 (upd (w 9) (r * 7 + d) (vp_nar .short (0 : Int32).toInt16.toInt32)) 6 (r * 7 + d) = nI (nt_lb r d) from hX.2.2.2.2 r d hr hd, bt_15 hr hd]
      refine ⟨hin, ?_⟩
      rintro _ rfl
      refine ⟨hin, ?_⟩
      rintro _ rfl
      rw [hcl, e0, bt_nb (by omega)]
      rfl
    · have e0 : nt_lab N r d = nt_lb (nt_x N r d) d := if_pos ⟨hq.1, hq.2, hxd⟩
      rintro _ rfl
      refine ⟨nt_in hr hd, ?_⟩
      rintro _ rfl
      refine ⟨nt_in hr hd, ?_⟩
      rintro _ rfl
      rw [nt_at x1 hd, hX.2.2.2.2 _ d x1 hd, ← e0, bt_short _ hL]
      rw [show jx_up w 9 (upd (w 9) (r * 7 + d) (nI (nt_lab N r d))) 6 (r * 7 + d) = nI (nt_lb r d) from hX.2.2.2.2 r d hr hd, bt_15 hr hd]
      refine ⟨hin, ?_⟩
      rintro _ rfl
      refine ⟨hin, ?_⟩
      rintro _ rfl
      rw [hcl, bt_nb (by omega)]
      rfl
  · have e0 : nt_lab N r d = 0 := if_neg (fun z => hq ⟨z.1, z.2.1⟩)
    rw [nt_hp_f hq]
    refine br_t (by decide) ⟨nt_in hr hd, ?_⟩
    rintro _ rfl
    refine ⟨nt_in hr hd, ?_⟩
    rintro _ rfl
    rw [show jx_up w 9 (upd (w 9) (r * 7 + d) (vp_nar .short (0 : Int32).toInt16.toInt32)) 6 (r * 7 + d) = nI (nt_lb r d) from hX.2.2.2.2 r d hr hd, bt_15 hr hd]
    refine ⟨hin, ?_⟩
    rintro _ rfl
    refine ⟨hin, ?_⟩
    rintro _ rfl
    rw [hcl, e0]
    rfl
def jx_3 (w : jx_Wd) (p f g : Nat → Int32) : jx_Wd := jx_up (jx_up (jx_up w 9 p) 7 f) 8 g
theorem jx_33 (w : jx_Wd) (p f g p' f' g' : Nat → Int32) : jx_3 (jx_3 w p f g) p' f' g' = jx_3 w p' f' g' := by
  funext j
  unfold jx_3 jx_up
  by_cases h8 : j = 8
  · simp [h8]
  · by_cases h7 : j = 7
    · simp [h7]
    · by_cases h9 : j = 9
      · simp [h9]
      · simp [h8, h7, h9]
theorem mX0_bind {N : nt_N} {w : jx_Wd} (hX : nt_XB N w) (hH : nt_XH N w) : jx_CV MX0_bind [.inr 0] w (fun u => ∃ p f g, u = jx_3 w p f g ∧ nt_XL N u) := by
  refine eX0_bind (bX0_bind_0 _ _ ?_)
  generalize hΦ : (fun (u : jx_Wd) => ∃ p f g, u = jx_3 w p f g ∧ nt_XL N u) = Φ
  have done : ∀ n (q : (Nat → Int32) × (Nat → Int32) × (Nat → Int32)), (∀ r d, r < 7 → d < 7 → r * 7 + d < n → q.1 (r * 7 + d) = nI (nt_lab N r d) ∧ q.2.1 (nt_en r d) = nI (nt_lab N r d) ∧ q.2.2 (nt_en r d) = nt_hp N r d) → n = 49 → Φ (jx_3 w q.1 q.2.1 q.2.2) := by
    intro n q hq hn
    rw [← hΦ]
    exact ⟨q.1, q.2.1, q.2.2, rfl, fun s d hs hd => hq s d hs hd (by omega)⟩
  have rows : ∀ q : (Nat → Int32) × (Nat → Int32) × (Nat → Int32), jx_J MX0_bind (jx_qv Φ) 30 [jx_t, jx_i 0, none] [] (jx_3 w q.1 q.2.1 q.2.2) := by
    intro q
    refine nt_l0 7 (fun r (q : (Nat → Int32) × (Nat → Int32) × (Nat → Int32)) => jx_J MX0_bind (jx_qv Φ) 30 [jx_t, jx_i (nI r), none] [] (jx_3 w q.1 q.2.1 q.2.2)) (fun r q => ∀ x d, x < 7 → d < 7 → x * 7 + d < r * 7 → q.1 (x * 7 + d) = nI (nt_lab N x d) ∧ q.2.1 (nt_en x d) = nI (nt_lab N x d) ∧ q.2.2 (nt_en x d) = nt_hp N x d) ?_ ?_ q (fun x d _ _ h => absurd h (by omega))
    · intro r q hr hI ih
      refine bX0_bind_30 _ _ _ (br_f (nI_ge (b := 7) hr (by decide)) ?_)
      refine nt_l0 7 (fun d (q : (Nat → Int32) × (Nat → Int32) × (Nat → Int32)) => jx_J MX0_bind (jx_qv Φ) 38 [jx_t, jx_i (nI r), jx_i (nI d)] [] (jx_3 w q.1 q.2.1 q.2.2)) (fun e q => ∀ x d, x < 7 → d < 7 → x * 7 + d < r * 7 + e → q.1 (x * 7 + d) = nI (nt_lab N x d) ∧ q.2.1 (nt_en x d) = nI (nt_lab N x d) ∧ q.2.2 (nt_en x d) = nt_hp N x d) ?_ ?_ q hI
      · intro d q hd hI ih2
        refine bX0_bind_38 _ _ _ _ (br_f (nI_ge (b := 7) hd (by decide)) ?_)
        refine (mX0_bindOne (w := jx_3 w q.1 q.2.1 q.2.2) hX hH hr hd).imp ?_
        rintro _ rfl
        rw [nI_1]
        have e := jx_33 w q.1 q.2.1 q.2.2 (upd q.1 (r * 7 + d) (nI (nt_lab N r d))) (upd q.2.1 (nt_en r d) (nI (nt_lab N r d))) (upd q.2.2 (nt_en r d) (nt_hp N r d))
        have go := ih2 (upd q.1 (r * 7 + d) (nI (nt_lab N r d)), upd q.2.1 (nt_en r d) (nI (nt_lab N r d)), upd q.2.2 (nt_en r d) (nt_hp N r d)) (fun x y hx hy hlt => ?_)
        · dsimp only at go
          rw [← e] at go
          exact go
        · dsimp only
          rw [nt_upd, nt_upd, nt_upd]
          by_cases c : x = r ∧ y = d
          · obtain ⟨rfl, rfl⟩ := c
            rw [if_pos rfl, if_pos rfl, if_pos rfl]
            exact ⟨rfl, rfl, rfl⟩
          · have c2 : nt_en x y ≠ nt_en r d := fun z => c (nt_en_inj hr hd hx hy z)
            rw [if_neg (by omega), if_neg c2, if_neg c2]
            exact hI x y hx hy (by omega)
      · intro q hI
        refine bX0_bind_38 _ _ _ _ (br_t (nI_le (a := 7) (Nat.le_refl 7) (by decide)) ?_)
        rw [nI_1]
        exact ih q (fun x d hx hd hlt => hI x d hx hd (by omega))
    · intro q hI
      refine bX0_bind_30 _ _ _ (br_t (nI_le (a := 7) (Nat.le_refl 7) (by decide)) ?_)
      exact done 49 q hI rfl
  have key := nt_l0 112 (fun i (q : (Nat → Int32) × (Nat → Int32)) => jx_J MX0_bind (jx_qv Φ) 2 [jx_t, jx_i (nI i), none] [] (jx_3 w (w 9) q.1 q.2)) (fun i q => True) ?_ ?_ (w 7, w 8) trivial
  · have e : jx_3 w (w 9) (w 7) (w 8) = w := by
      unfold jx_3
      rw [jx_us, jx_us, jx_us]
    dsimp only at key
    rw [e] at key
    exact key
  · intro i q hi _ ih
    refine bX0_bind_2 _ _ _ (br_f (nI_ge (b := 112) hi (by decide)) ⟨vp_in_nI hi (by decide), ?_⟩)
    rintro _ rfl
    refine ⟨vp_in_nI hi (by decide), ?_⟩
    rintro _ rfl
    rw [nI_1, nI_clamp (by omega)]
    have go := ih (upd q.1 i (vp_nar .short 0), upd q.2 i (vp_nar .byte (-1))) trivial
    have e : jx_up (jx_up (jx_3 w (w 9) q.1 q.2) 7 (upd (jx_3 w (w 9) q.1 q.2 7) i (vp_nar .short 0))) 8 (upd (jx_up (jx_3 w (w 9) q.1 q.2) 7 (upd (jx_3 w (w 9) q.1 q.2 7) i (vp_nar .short 0)) 8) i (vp_nar .byte (-1))) = jx_3 w (w 9) (upd q.1 i (vp_nar .short 0)) (upd q.2 i (vp_nar .byte (-1))) := by
      have e7 : jx_3 w (w 9) q.1 q.2 7 = q.1 := rfl
      have e8 : jx_up (jx_3 w (w 9) q.1 q.2) 7 (upd (jx_3 w (w 9) q.1 q.2 7) i (vp_nar .short 0)) 8 = q.2 := rfl
      rw [e8, e7]
      funext j
      unfold jx_3 jx_up
      by_cases h8 : j = 8
      · simp [h8]
      · by_cases h7 : j = 7
        · simp [h7]
        · simp [h8, h7]
    rw [e]
    exact go
  · intro q _
    exact bX0_bind_2 _ _ _ (br_t (nI_le (a := 112) (Nat.le_refl 112) (by decide)) (rows (w 9, q.1, q.2)))
theorem mX0_learn {N : nt_N} {w : jx_Wd} (hX : nt_X N w) : jx_CV MX0_learn [.inr 0] w (fun u => nt_XB N u ∧ u 3 0 = 1 ∧ nt_XT N u ∧ u 12 = w 12) := by
  refine eX0_learn (bX0_learn_0 _ _ ?_)
  rintro _ rfl
  obtain ⟨hB, hk⟩ := hX
  rcases hk with hk | ⟨hk, hT⟩
  · refine br_t hk ?_
    rintro w0 e0
    have hB0 : nt_XB N w0 := by subst e0; exact hB
    have h30 : w0 3 0 = 1 := by subst e0; rfl
    have h12 : w0 12 = w 12 := by subst e0; rfl
    clear e0
    generalize hΦ : (fun (u : jx_Wd) => nt_XB N u ∧ u 3 0 = 1 ∧ nt_XT N u ∧ u 12 = w 12) = Φ
    -- the labels, and the end
    have hops : ∀ g, nt_XD N (jx_up w0 4 g) → jx_J MX0_learn (jx_qv Φ) 34 [jx_t, jx_i 0, none] [] (jx_up w0 4 g) := by
      intro g hD
      have key := nt_l0 7 (fun s (h : Nat → Int32) => jx_J MX0_learn (jx_qv Φ) 34 [jx_t, jx_i (nI s), none] [] (jx_up (jx_up w0 4 g) 5 h)) (fun s h => ∀ x y, x < 7 → y < 7 → x * 7 + y < s * 7 → h (x * 7 + y) = nt_hp N x y) ?_ ?_ (w0 5) (fun x y _ _ h => absurd h (by omega))
      · rw [show jx_up (jx_up w0 4 g) 5 (w0 5) = jx_up w0 4 g from jx_us (jx_up w0 4 g) 5] at key
        exact key
      · intro s h hs hI ih
        refine bX0_learn_34 _ _ _ (br_f (nI_ge (b := 7) hs (by decide)) ?_)
        refine nt_l0 7 (fun d (h : Nat → Int32) => jx_J MX0_learn (jx_qv Φ) 42 [jx_t, jx_i (nI s), jx_i (nI d)] [] (jx_up (jx_up w0 4 g) 5 h)) (fun d h => ∀ x y, x < 7 → y < 7 → x * 7 + y < s * 7 + d → h (x * 7 + y) = nt_hp N x y) ?_ ?_ h hI
        · intro d h hd hI ih2
          refine bX0_learn_42 _ _ _ _ (br_f (nI_ge (b := 7) hd (by decide)) ?_)
          refine (mX0_chooseHop (w := jx_up (jx_up w0 4 g) 5 h) hB0 hD hs hd).imp ?_
          rintro _ _ ⟨rfl, rfl⟩
          refine ⟨nt_in hs hd, ?_⟩
          rintro _ rfl
          rw [nt_at hs hd, nI_1, jx_uu, jx_at, nt_hp_b hB0.1 hs hd]
          refine ih2 _ (fun x y hx hy hlt => ?_)
          rw [nt_upd]
          by_cases c : x = s ∧ y = d
          · rw [if_pos (by omega), c.1, c.2]
          · rw [if_neg (by omega)]
            exact hI x y hx hy (by omega)
        · intro h hI
          refine bX0_learn_42 _ _ _ _ (br_t (nI_le (a := 7) (Nat.le_refl 7) (by decide)) ?_)
          rw [nI_1]
          exact ih h (fun x y hx hy hlt => hI x y hx hy (by omega))
      · intro h hI
        refine bX0_learn_34 _ _ _ (br_t (nI_le (a := 7) (Nat.le_refl 7) (by decide)) ?_)
        have hH : nt_XH N (jx_up (jx_up w0 4 g) 5 h) := fun x y hx hy => hI x y hx hy (by omega)
        refine (mX0_bind (w := jx_up (jx_up w0 4 g) 5 h) hB0 hH).imp ?_
        rintro _ ⟨p, f, k, rfl, hL⟩
        rw [← hΦ]
        exact ⟨hB0, h30, ⟨hD, hH, hL⟩, h12⟩
    have key := nt_l0 7 (fun d (g : Nat → Int32) => jx_J MX0_learn (jx_qv Φ) 15 [jx_t, jx_i (nI d), none] [] (jx_up w0 4 g)) (fun d g => ∀ x y, x < 7 → y < d → g (x * 7 + y) = nI (nt_xd (nt_D N x y))) ?_ ?_ (w0 4) (fun x y _ h => absurd h (by omega))
    · rw [jx_us] at key
      exact key
    · intro d g hd hI ih
      refine bX0_learn_15 _ _ _ (br_f (nI_ge (b := 7) hd (by decide)) ?_)
      refine (mX0_measure (w := jx_up w0 4 g) hB0 hd).imp ?_
      rintro _ ⟨g2, rfl, h1, h2⟩
      rw [nI_1, jx_uu]
      refine ih g2 (fun x y hx hy => ?_)
      by_cases c : y = d
      · rw [c]; exact h1 x hx
      · rw [h2 x y hx (by omega) c]
        exact hI x y hx (by omega)
    · intro g hI
      refine bX0_learn_15 _ _ _ (br_t (nI_le (a := 7) (Nat.le_refl 7) (by decide)) ?_)
      exact hops g (fun x y hx hy => hI x y hx hy)
  · exact br_f (by rw [hk]; decide) ⟨hB, hk, hT, rfl⟩
theorem mX0_connected {N : nt_N} {w : jx_Wd} (hX : nt_X N w) (x y : Int32) : jx_CI MX0_connected [.inr 0, .inl x, .inl y] w (fun r u => r = nt_bi (nt_ft N x y) ∧ nt_X N u ∧ (nt_ft N x y = true → nt_XT N u) ∧ u 12 = w 12) := by
  refine eX0_connected (bX0_connected_0 _ _ _ _ ?_)
  have no : nt_ft N x y = false → (0 : Int32) = nt_bi (nt_ft N x y) ∧ nt_X N w ∧ (nt_ft N x y = true → nt_XT N w) ∧ w 12 = w 12 := fun h => ⟨by rw [h]; rfl, hX, fun q => (by rw [h] at q; cases q), rfl⟩
  refine (mX0_isRouter w x).imp ?_
  rintro _ _ ⟨rfl, rfl⟩
  cases h1 : nt_rt x with
  | false => exact br_t rfl (no (by simp [nt_ft, h1]))
  | true =>
    refine br_f nt_b1 ?_
    refine (mX0_isRouter _ y).imp ?_
    rintro _ _ ⟨rfl, rfl⟩
    cases h2 : nt_rt y with
    | false => exact br_t rfl (no (by simp [nt_ft, h2]))
    | true =>
      refine br_f nt_b1 ?_
      obtain ⟨a, ha, rfl⟩ := nt_rt_of h1
      obtain ⟨b, hb, rfl⟩ := nt_rt_of h2
      refine (mX0_learn hX).imp ?_
      rintro u ⟨hB, h3, hT, h12⟩
      obtain ⟨x1, x2, x3⟩ := nt_xd_lt hB.1 ha hb
      refine ⟨nt_in ha hb, ?_⟩
      rintro _ rfl
      rw [nt_at ha hb, hT.1 a b ha hb, nt_ft_nI ha hb]
      refine br_c (fun h => ⟨?_, ⟨hB, Or.inr ⟨h3, hT⟩⟩, fun _ => hT, h12⟩) (fun h => ⟨?_, ⟨hB, Or.inr ⟨h3, hT⟩⟩, fun _ => hT, h12⟩)
      · have h : nI 10000 ≤ nI (nt_xd (nt_D N a b)) := h
        rw [nI_leI (by omega) (by omega)] at h
        rw [decide_eq_false (fun q => by have := x2.mpr q; omega)]
        rfl
      · have h : ¬ nI 10000 ≤ nI (nt_xd (nt_D N a b)) := h
        rw [nI_leI (by omega) (by omega)] at h
        rw [decide_eq_true (x2.mp (by omega))]
        rfl
end
section
/-! THE CLASS'S CONTRACTS: packets, and the answers along a route -/
set_option maxRecDepth 100000
noncomputable def nt_ll (N : nt_N) (s d k : Nat) : Int32 := if nt_r N s d k = d then 0 else if k = 0 then (-1) - nI d else nI (nt_lb (nt_r N s d k) d)
/-- the world with the packet after k links -/
noncomputable def nt_pk (N : nt_N) (s d : Nat) (w : jx_Wd) (k : Nat) : jx_Wd := jx_up (jx_up w 10 (fun _ => nI (nt_r N s d k))) 11 (fun _ => nt_ll N s d k)
theorem jx_pk (w : jx_Wd) (a b c e : Nat → Int32) : jx_up (jx_up (jx_up (jx_up w 10 a) 11 b) 11 c) 10 e = jx_up (jx_up w 10 e) 11 c := by
  funext j
  unfold jx_up
  by_cases h0 : j = 10
  · simp [h0]
  · by_cases h1 : j = 11
    · simp [h1]
    · simp [h0, h1]
theorem nt_pk_X {N : nt_N} {s d : Nat} {w : jx_Wd} (k : Nat) (h : nt_X N w) : nt_X N (nt_pk N s d w k) := h
theorem mX0_launch (N : nt_N) (w : jx_Wd) {s d : Nat} (hs : s < 7) (hd : d < 7) : jx_CV MX0_launch [.inr 0, .inl (nI s), .inl (nI d)] w (fun u => u = nt_pk N s d w 0) := by
  refine eX0_launch (bX0_launch_0 _ _ _ _ ?_)
  rintro _ rfl
  rw [nI_eq (a := s) (b := d) (by omega) (by omega)]
  refine br_c (fun h => ?_) (fun h => ?_)
  · rintro _ rfl
    have e : nt_ll N s d 0 = 0 := if_pos h
    unfold nt_pk
    rw [e]
    rfl
  · rintro _ rfl
    have e : nt_ll N s d 0 = (-1) - nI d := by
      unfold nt_ll
      rw [if_neg (show ¬ nt_r N s d 0 = d from h), if_pos rfl]
    unfold nt_pk
    rw [e]
    rfl
theorem bt_neg : ∀ d, d < 7 → ¬ ((-1) - nI d = 0) ∧ ¬ (0 ≤ (-1) - nI d) ∧ (-1) - ((-1) - nI d) = nI d := by decide +kernel
theorem nt_lab_x {N : nt_N} {p d : Nat} (hp : p ≠ d) (hf : nt_D N p d < 1000) : nI (nt_lab N p d) = if nt_x N p d = d then 0 else nI (nt_lb (nt_x N p d) d) := by
  unfold nt_lab
  by_cases h : nt_x N p d = d
  · rw [if_neg (fun q => q.2.2 h), if_pos h]
    rfl
  · rw [if_pos ⟨hp, hf, h⟩, if_neg h]
theorem mX0_forward {N : nt_N} (hN : nt_ok N) {w : jx_Wd} (hT : nt_XT N w) {s d : Nat} (hs : s < 7) (hd : d < 7) (hf : nt_D N s d < 1000) (k : Nat) : jx_CI MX0_forward [.inr 0] (nt_pk N s d w k) (fun r u => r = nt_bi (decide (¬ nt_r N s d k = d)) ∧ u = nt_pk N s d w (k + 1)) := by
  obtain ⟨hr, hrf, -⟩ := nt_r_in hN hs hd hf k
  have e11 : nt_pk N s d w k 11 0 = nt_ll N s d k := rfl
  have e10 : nt_pk N s d w k 10 0 = nI (nt_r N s d k) := rfl
  refine eX0_forward (bX0_forward_0 _ _ ?_)
  rintro _ rfl
  by_cases hr0 : nt_r N s d k = d
  · have el : nt_ll N s d k = 0 := if_pos hr0
    have er : nt_r N s d (k + 1) = d := if_pos hr0
    have el2 : nt_ll N s d (k + 1) = 0 := if_pos er
    rw [e11, el, decide_eq_false (fun q => q hr0)]
    refine br_t rfl ⟨rfl, ?_⟩
    unfold nt_pk
    rw [el, el2, er, hr0]
  · have er : nt_r N s d (k + 1) = nt_x N (nt_r N s d k) d := if_neg hr0
    have el2 : nt_ll N s d (k + 1) = nI (nt_lab N (nt_r N s d k) d) := by
      rw [nt_lab_x hr0 hrf]
      unfold nt_ll
      rw [er]
      split
      · rfl
      · rw [if_neg (by omega)]
    have ehp : nt_hp N (nt_r N s d k) d = nI (nt_x N (nt_r N s d k) d) := nt_hp_t ⟨hr0, hrf⟩
    have fin : ∀ a b : Int32, a = nI (nt_lab N (nt_r N s d k) d) → b = nt_hp N (nt_r N s d k) d → jx_up (jx_up (nt_pk N s d w k) 11 (fun _ => a)) 10 (fun _ => b) = nt_pk N s d w (k + 1) := by
      intro a b ha hb
      unfold nt_pk
      rw [jx_pk, ha, hb, ehp, el2, er]
    rw [decide_eq_true hr0, e11]
    by_cases hk : k = 0
    · subst hk
      have el : nt_ll N s d 0 = (-1) - nI d := by
        unfold nt_ll
        rw [if_neg hr0, if_pos rfl]
      rw [el]
      obtain ⟨n1, n2, n3⟩ := bt_neg d hd
      refine br_f n1 ?_
      rintro _ rfl
      refine br_f n2 ?_
      rintro _ rfl _ rfl
      rw [n3, e10]
      refine ⟨nt_in hr hd, ?_⟩
      rintro a ha _ rfl _ rfl
      have e10' : jx_up (nt_pk N s d w 0) 11 (fun _ => a) 10 0 = nI (nt_r N s d 0) := rfl
      rw [e10']
      refine ⟨nt_in hr hd, ?_⟩
      rintro b hb _ rfl
      refine ⟨rfl, fin a b ?_ ?_⟩
      · rw [ha, nt_at hr hd]
        exact (hT.2.2 _ d hr hd).1
      · rw [hb, nt_at hr hd]
        exact hT.2.1 _ d hr hd
    · have el : nt_ll N s d k = nI (nt_lb (nt_r N s d k) d) := by
        unfold nt_ll
        rw [if_neg hr0, if_neg hk]
      have hlb := nt_lb_lt (d := d) hr
      have hpos : 0 < nt_lb (nt_r N s d k) d := by unfold nt_lb; omega
      rw [el]
      refine br_f (nI_ne0 hpos (by omega)) ?_
      rintro _ rfl
      refine br_t (nI_pos' (by omega)) ?_
      rintro _ rfl _ rfl
      rw [e10, bt_15 hr hd, nt_en_at hr hd]
      have hen := nt_en_lt (d := d) hr
      refine ⟨vp_in_nI hen (by decide), ?_⟩
      rintro a ha _ rfl
      refine ⟨vp_in_nI hen (by decide), ?_⟩
      rintro b hb _ rfl
      rw [nI_clamp (by omega)] at ha hb
      refine ⟨rfl, fin a b ?_ ?_⟩
      · rw [ha]
        exact (hT.2.2 _ d hr hd).2.1
      · rw [hb]
        exact (hT.2.2 _ d hr hd).2.2
theorem mX0_distance {N : nt_N} {w : jx_Wd} (hX : nt_X N w) (x y : Int32) : jx_CI MX0_distance [.inr 0, .inl x, .inl y] w (fun r u => r = nt_ad N x y ∧ nt_X N u) := by
  refine eX0_distance (bX0_distance_0 _ _ _ _ ?_)
  refine (mX0_connected hX x y).imp ?_
  rintro _ u ⟨rfl, hX, hT0, -⟩
  cases h : nt_ft N x y with
  | false => exact br_t rfl ⟨by rw [nt_ad, h]; rfl, hX⟩
  | true =>
    have h2 := h
    have hT := hT0 h
    clear hT0
    obtain ⟨a, b, ha, hb, rfl, rfl, hf⟩ := nt_ft_of h
    refine br_f nt_b1 ⟨nt_in ha hb, ?_⟩
    rintro _ rfl
    refine ⟨?_, hX⟩
    rw [nt_at ha hb, hT.1 a b ha hb, (nt_xd_lt hX.1.1 ha hb).2.2 hf, nt_ad, h2, if_pos rfl, nt_cl ha, nt_cl hb]
theorem mX0_nextHop {N : nt_N} {w : jx_Wd} (hX : nt_X N w) (x y : Int32) : jx_CI MX0_nextHop [.inr 0, .inl x, .inl y] w (fun r u => r = nt_ax N x y ∧ nt_X N u) := by
  refine eX0_nextHop (bX0_nextHop_0 _ _ _ _ ?_)
  refine (mX0_connected hX x y).imp ?_
  rintro _ u ⟨rfl, hX, hT0, -⟩
  cases h : nt_ft N x y with
  | false => exact br_t rfl ⟨by rw [nt_ax, if_neg (fun q => by rw [h] at q; cases q.1)], hX⟩
  | true =>
    have h2 := h
    have hT := hT0 h
    clear hT0
    obtain ⟨a, b, ha, hb, rfl, rfl, hf⟩ := nt_ft_of h
    refine br_f nt_b1 ⟨nt_in ha hb, ?_⟩
    rintro _ rfl
    refine ⟨?_, hX⟩
    rw [nt_at ha hb, hT.2.1 a b ha hb]
    by_cases e : a = b
    · subst e
      rw [nt_hp_f (fun q => q.1 rfl), nt_ax, if_neg (fun q => q.2 rfl)]
    · rw [nt_hp_t ⟨e, hf⟩, nt_ax, if_pos ⟨h2, by rw [nI_eq (by omega) (by omega)]; exact e⟩, nt_cl ha, nt_cl hb]
theorem mX0_hops {N : nt_N} {w : jx_Wd} (hX : nt_X N w) (x y : Int32) : jx_CI MX0_hops [.inr 0, .inl x, .inl y] w (fun r u => r = nt_ah N x y ∧ nt_X N u) := by
  refine eX0_hops (bX0_hops_0 _ _ _ _ ?_)
  refine (mX0_connected hX x y).imp ?_
  rintro _ u ⟨rfl, hX, hT0, -⟩
  cases h : nt_ft N x y with
  | false => exact br_t rfl ⟨by rw [nt_ah, h]; rfl, hX⟩
  | true =>
    have h2 := h
    have hT := hT0 h
    clear hT0
    obtain ⟨s, d, hs, hd, rfl, rfl, hf⟩ := nt_ft_of h
    refine br_f nt_b1 ?_
    refine (mX0_launch N u hs hd).imp ?_
    rintro _ rfl
    have e : nt_ah N (nI s) (nI d) = nI (nt_h N s d) := by rw [nt_ah, h2, if_pos rfl, nt_cl hs, nt_cl hd]
    rw [e]
    refine nt_l0 7 (fun k (_ : Unit) => jx_J MX0_hops (jx_qi (fun r u => r = nI (nt_h N s d) ∧ nt_X N u)) 22 [jx_t, none, none, jx_i (nI k), jx_i (nI k)] [] (nt_pk N s d u k)) (fun k _ => ∀ j, j < k → nt_r N s d j ≠ d) ?_ ?_ () (fun j hj => absurd hj (by omega))
    · intro k _ hk hI ih
      refine bX0_hops_22 _ _ _ _ (br_f (nI_ge (b := 7) hk (by decide)) ?_)
      refine (mX0_forward hX.1.1 hT hs hd hf k).imp ?_
      rintro _ _ ⟨rfl, rfl⟩
      rw [nI_1]
      by_cases hr : nt_r N s d k = d
      · rw [decide_eq_false (fun q => q hr)]
        refine br_t rfl ⟨?_, nt_pk_X _ hX⟩
        rw [nt_h_at (by omega) hr hI]
      · rw [decide_eq_true hr]
        refine br_f nt_b1 (ih () (fun j hj => ?_))
        by_cases c : j = k
        · rw [c]; exact hr
        · exact hI j (by omega)
    · intro _ hI
      exact absurd (nt_r_end hX.1.1 hs hd hf) (hI 6 (by omega))
theorem mX0_after {N : nt_N} {w : jx_Wd} (hX : nt_X N w) (x y z : Int32) : jx_CI MX0_after [.inr 0, .inl x, .inl y, .inl z] w (fun r u => r = nt_at2 N x y z ∧ nt_X N u) := by
  refine eX0_after (bX0_after_0 _ _ _ _ _ ?_)
  refine (mX0_connected hX x y).imp ?_
  rintro _ u ⟨rfl, hX, hT0, -⟩
  cases h : nt_ft N x y with
  | false => exact br_t rfl ⟨by rw [nt_at2, h]; rfl, hX⟩
  | true =>
    have h2 := h
    have hT := hT0 h
    clear hT0
    obtain ⟨s, d, hs, hd, rfl, rfl, hf⟩ := nt_ft_of h
    refine br_f nt_b1 ?_
    refine (mX0_launch N u hs hd).imp ?_
    rintro _ rfl
    have e : nt_at2 N (nI s) (nI d) z = nI (nt_r N s d (nt_n z)) := by rw [nt_at2, h2, if_pos rfl, nt_cl hs, nt_cl hd]
    rw [e]
    have h6 := nt_r_end hX.1.1 hs hd hf
    have cut : ∀ k, k ≤ z.toNatClampNeg → (z.toNatClampNeg ≤ k ∨ 7 ≤ k) → k ≤ 7 → nt_r N s d k = nt_r N s d (nt_n z) := by
      intro k h1 h2 h3
      by_cases c : k ≤ 6
      · rw [show nt_n z = k by unfold nt_n; omega]
      · rw [nt_r_d h6 (show 6 ≤ k by omega), nt_r_d h6 (show 6 ≤ nt_n z by unfold nt_n; omega)]
    refine nt_l0 7 (fun k (_ : Unit) => jx_J MX0_after (jx_qi (fun r u => r = nI (nt_r N s d (nt_n z)) ∧ nt_X N u)) 20 [jx_t, none, none, jx_i z, jx_i (nI k)] [] (nt_pk N s d u k)) (fun k _ => k ≤ z.toNatClampNeg) ?_ ?_ () (Nat.zero_le _)
    · intro k _ hk hI ih
      refine bX0_after_20 _ _ _ _ (br_f (nI_ge (b := 7) hk (by decide)) (br_c (fun hz => ?_) (fun hz => ?_)))
      · rintro _ rfl
        have := nt_le_cl (by omega) hz
        refine ⟨?_, nt_pk_X _ hX⟩
        show nI (nt_r N s d k) = _
        rw [cut k hI (Or.inl this) (by omega)]
      · refine (mX0_forward hX.1.1 hT hs hd hf k).imp ?_
        rintro _ _ ⟨-, rfl⟩
        rw [nI_1]
        exact ih () (nt_gt_cl (by omega) hz)
    · intro _ hI
      refine bX0_after_20 _ _ _ _ (br_t (nI_le (a := 7) (Nat.le_refl 7) (by decide)) ?_)
      rintro _ rfl
      refine ⟨?_, nt_pk_X _ hX⟩
      show nI (nt_r N s d 7) = _
      rw [cut 7 hI (Or.inr (Nat.le_refl 7)) (Nat.le_refl 7)]
theorem nt_ah_neg {N : nt_N} (hN : nt_ok N) (x y : Int32) : nt_ah N x y < 0 ↔ ¬ nt_ft N x y = true := by
  unfold nt_ah
  cases h : nt_ft N x y with
  | false => exact ⟨fun _ => by decide, fun _ => (by show (-1 : Int32) < 0; decide)⟩
  | true =>
    obtain ⟨s, d, hs, hd, rfl, rfl, hf⟩ := nt_ft_of h
    rw [if_pos rfl, nt_cl hs, nt_cl hd]
    have := (nt_h_spec hN hs hd hf).1
    exact ⟨fun q => absurd q (nI_pos (by omega)), fun q => absurd rfl q⟩
theorem i32_nle {x y : Int32} (h : ¬ x ≤ y) : y < x := by
  rw [Int32.lt_iff_toInt_lt]
  rw [Int32.le_iff_toInt_le] at h
  omega
theorem i32_nlt {x y : Int32} (h : x ≤ y) : ¬ y < x := by
  rw [Int32.lt_iff_toInt_lt]
  rw [Int32.le_iff_toInt_le] at h
  omega
theorem mX0_routeAt {N : nt_N} {w : jx_Wd} (hX : nt_X N w) (x y z : Int32) : jx_CI MX0_routeAt [.inr 0, .inl x, .inl y, .inl z] w (fun r u => r = nt_ra N x y z ∧ nt_X N u) := by
  refine eX0_routeAt (bX0_routeAt_0 _ _ _ _ _ ?_)
  refine (mX0_hops hX x y).imp ?_
  rintro _ u ⟨rfl, hX⟩
  refine br_c (fun h => ⟨?_, hX⟩) (fun h => ?_)
  · rw [nt_ra, if_neg (fun q => (nt_ah_neg hX.1.1 x y).mp h q.1)]
  · have hft : nt_ft N x y = true := Classical.not_not.mp (fun q => h ((nt_ah_neg hX.1.1 x y).mpr q))
    refine br_c (fun hz => ⟨?_, hX⟩) (fun hz => br_c (fun hk => ?_) (fun hk => ⟨?_, hX⟩))
    · rw [nt_ra, if_neg (fun q => q.2.1 hz)]
    · refine (mX0_after hX x y z).imp ?_
      rintro _ v ⟨rfl, hX⟩
      refine ⟨?_, hX⟩
      rw [nt_ra, if_pos ⟨hft, hz, i32_nlt hk⟩]
    · rw [nt_ra, if_neg (fun q => q.2.2 (i32_nle hk))]
/-! over many routes -/
theorem nt_any_sh (P : Nat → Bool) : ∀ n, nt_any P (n + 1) = (P 0 || nt_any (fun k => P (k + 1)) n)
  | 0 => by
    show (false || P 0) = (P 0 || false)
    rw [Bool.or_false, Bool.false_or]
  | n + 1 => by
    show (nt_any P (n + 1) || P (n + 1)) = (P 0 || (nt_any (fun k => P (k + 1)) n || P (n + 1)))
    rw [nt_any_sh P n, Bool.or_assoc]
theorem mX0_comesThrough {N : nt_N} {w : jx_Wd} (hX : nt_X N w) (hT : nt_XT N w) {s d a : Nat} (hs : s < 7) (hd : d < 7) (ha : a < 7) (hf : nt_D N s d < 1000) : jx_CI MX0_comesThrough [.inr 0, .inl (nI s), .inl (nI d), .inl (nI a)] w (fun r u => r = nt_bi (nt_any (fun k => decide (nt_r N s d (k + 1) = a)) (nt_h N s d)) ∧ nt_X N u) := by
  refine eX0_comesThrough (bX0_comesThrough_0 _ _ _ _ _ ?_)
  refine (mX0_launch N w hs hd).imp ?_
  rintro _ rfl
  obtain ⟨h1, h2, h3⟩ := nt_h_spec hX.1.1 hs hd hf
  refine nt_l0 7 (fun k (_ : Unit) => jx_J MX0_comesThrough (jx_qi (fun r u => r = nt_bi (nt_any (fun k => decide (nt_r N s d (k + 1) = a)) (nt_h N s d)) ∧ nt_X N u)) 9 [jx_t, none, none, jx_i (nI a), jx_i (nI k)] [] (nt_pk N s d w k)) (fun k _ => k ≤ nt_h N s d ∧ ∀ j, j < k → nt_r N s d (j + 1) ≠ a) ?_ ?_ () ⟨Nat.zero_le _, fun j hj => absurd hj (by omega)⟩
  · intro k _ hk hI ih
    obtain ⟨hkh, hI⟩ := hI
    have hr1 := (nt_r_in hX.1.1 hs hd hf (k + 1)).1
    refine bX0_comesThrough_9 _ _ _ _ (br_f (nI_ge (b := 7) hk (by decide)) ?_)
    refine (mX0_forward hX.1.1 hT hs hd hf k).imp ?_
    rintro _ _ ⟨rfl, rfl⟩
    by_cases hr : nt_r N s d k = d
    · have hkeq : k = nt_h N s d := by
        rcases Nat.lt_or_ge k (nt_h N s d) with q | q
        · exact absurd hr (h3 k q)
        · omega
      rw [decide_eq_false (fun q => q hr)]
      refine br_t rfl ⟨?_, nt_pk_X _ hX⟩
      rw [nt_any_f _ (fun j hj => by simp [hI j (by omega)])]
      rfl
    · have hklt : k < nt_h N s d := by
        rcases Nat.lt_or_ge k (nt_h N s d) with q | q
        · exact q
        · exact absurd (nt_r_d h2 q) hr
      rw [decide_eq_true hr]
      refine br_f nt_b1 ?_
      rintro _ rfl
      rw [show nt_pk N s d w (k + 1) 10 0 = nI (nt_r N s d (k + 1)) from rfl, nI_1, nI_eq (by omega) (by omega)]
      refine br_c (fun h => ⟨?_, nt_pk_X _ hX⟩) (fun h => ih () ⟨by omega, fun j hj => ?_⟩)
      · rw [nt_any_t _ k hklt (by simp [h])]
        rfl
      · by_cases c : j = k
        · rw [c]; exact h
        · exact hI j (by omega)
  · intro _ hI
    exact absurd hI.1 (by omega)
theorem nt_s0 {n : Nat} {f : Nat → Nat} {i : Nat} (h : f i = 0) (hn : n = nt_sm f i) : nI n = nI (nt_sm f (i + 1)) := by
  rw [hn]
  show nI (nt_sm f i) = nI (nt_sm f i + f i)
  rw [h, Nat.add_zero]
theorem mX0_load {N : nt_N} {w : jx_Wd} (hX : nt_X N w) (x : Int32) : jx_CI MX0_load [.inr 0, .inl x] w (fun r u => r = nt_al N x ∧ nt_X N u) := by
  refine eX0_load (bX0_load_0 _ _ _ ?_)
  refine (mX0_isRouter w x).imp ?_
  rintro _ _ ⟨rfl, rfl⟩
  cases hx : nt_rt x with
  | false => exact br_t rfl ⟨by rw [nt_al, hx]; rfl, hX⟩
  | true =>
    have hx2 := hx
    obtain ⟨a, ha, rfl⟩ := nt_rt_of hx
    refine br_f nt_b1 ?_
    have e0 : nt_al N (nI a) = nI (nt_sm (fun c => nt_b2 (nt_lq N a (c / 7) (c % 7))) 49) := by rw [nt_al, hx2, if_pos rfl, nt_cl ha]
    rw [e0]
    refine nt_l0 49 (fun c (u : jx_Wd) => jx_J MX0_load (jx_qi (fun r u => r = nI (nt_sm (fun c => nt_b2 (nt_lq N a (c / 7) (c % 7))) 49) ∧ nt_X N u)) 13 [jx_t, jx_i (nI a), jx_i (nI (nt_sm (fun c => nt_b2 (nt_lq N a (c / 7) (c % 7))) c)), jx_i (nI c), none, none] [] u) (fun c u => nt_X N u) ?_ ?_ _ hX
    · intro c u hc hX ih
      have hs : c / 7 < 7 := by omega
      have hd : c % 7 < 7 := by omega
      have t0 : nt_lq N a (c / 7) (c % 7) = false → nI (nt_sm (fun c => nt_b2 (nt_lq N a (c / 7) (c % 7))) c) = nI (nt_sm (fun c => nt_b2 (nt_lq N a (c / 7) (c % 7))) (c + 1)) := fun h => nt_s0 (f := fun c => nt_b2 (nt_lq N a (c / 7) (c % 7))) (by rw [h]; rfl) rfl
      have t1 : nt_lq N a (c / 7) (c % 7) = true → nI (nt_sm (fun c => nt_b2 (nt_lq N a (c / 7) (c % 7))) c) + 1 = nI (nt_sm (fun c => nt_b2 (nt_lq N a (c / 7) (c % 7))) (c + 1)) := fun h => nt_a1 _ _ c (by rw [h]; rfl) rfl
      refine bX0_load_13 _ _ _ _ _ (br_f (nI_ge (b := 49) hc (by decide)) ?_)
      rw [nt_md hc, nt_dv hc, nI_1 c, nI_eq (a := c / 7) (b := c % 7) (by omega) (by omega), nI_eq (a := c / 7) (b := a) (by omega) (by omega), nI_eq (a := c % 7) (b := a) (by omega) (by omega)]
      refine br_c (fun h => by rw [t0 (by simp [nt_lq, h])]; exact ih u hX) (fun h1 => ?_)
      refine br_c (fun h => by rw [t0 (by simp [nt_lq, h])]; exact ih u hX) (fun h2 => ?_)
      refine br_c (fun h => by rw [t0 (by simp [nt_lq, h])]; exact ih u hX) (fun h3 => ?_)
      refine (mX0_connected hX _ _).imp ?_
      rintro _ u ⟨rfl, hX, hT, -⟩
      rw [nt_ft_nI hs hd] at hT ⊢
      by_cases hf : nt_D N (c / 7) (c % 7) < 1000
      · rw [decide_eq_true hf] at hT ⊢
        refine br_f nt_b1 ?_
        refine (mX0_comesThrough hX (hT rfl) hs hd ha hf).imp ?_
        rintro _ u ⟨rfl, hX⟩
        have e : nt_any (fun k => decide (nt_r N (c / 7) (c % 7) (k + 1) = a)) (nt_h N (c / 7) (c % 7)) = nt_lq N a (c / 7) (c % 7) := by
          simp only [nt_lq, h1, h2, h3, hf, ne_eq, not_false_eq_true, decide_true, Bool.true_and]
          rw [nt_any_sh]
          have : ¬ nt_r N (c / 7) (c % 7) 0 = a := h2
          rw [decide_eq_false this, Bool.false_or]
        rw [e]
        cases hq : nt_lq N a (c / 7) (c % 7) with
        | false => exact br_t rfl (by rw [t0 hq]; exact ih u hX)
        | true => exact br_f nt_b1 (by rw [t1 hq]; exact ih u hX)
      · rw [decide_eq_false hf]
        exact br_t rfl (by rw [t0 (by simp [nt_lq, hf])]; exact ih u hX)
    · intro u hX
      exact bX0_load_13 _ _ _ _ _ (br_t (nI_le (a := 49) (Nat.le_refl 49) (by decide)) ⟨rfl, hX⟩)
theorem bt_h {X : Prop} [Decidable X] {b c d : Bool} (h : (b || c || (decide X == d)) = true) (hb : b = false) (hc : c = false) : X ↔ d = true := by
  subst hb
  subst hc
  have h2 : decide X = d := by simpa using h
  rw [← h2, decide_eq_true_eq]
theorem bt_two0 : ∀ p, p < 7 → ∀ q, q < 7 → ∀ a, a < 7 → ∀ b, b < 7 → (decide (p = q) || decide (a = b) || (decide (((1 : Int32) <<< (nI p &&& 31)) ||| ((1 : Int32) <<< (nI q &&& 31)) = ((1 : Int32) <<< (nI a &&& 31)) ||| ((1 : Int32) <<< (nI b &&& 31))) == (decide (p = a) && decide (q = b) || decide (p = b) && decide (q = a)))) = true := by decide +kernel
theorem bt_two (p : Nat) (hp : p < 7) (q : Nat) (hq : q < 7) (a : Nat) (ha : a < 7) (b : Nat) (hb : b < 7) (hpq : p ≠ q) (hab : a ≠ b) : (((1 : Int32) <<< (nI p &&& 31)) ||| ((1 : Int32) <<< (nI q &&& 31)) = ((1 : Int32) <<< (nI a &&& 31)) ||| ((1 : Int32) <<< (nI b &&& 31))) ↔ (p = a ∧ q = b) ∨ (p = b ∧ q = a) := by
  rw [bt_h (bt_two0 p hp q hq a ha b hb) (decide_eq_false hpq) (decide_eq_false hab)]
  simp only [Bool.or_eq_true, Bool.and_eq_true, decide_eq_true_eq]
theorem mX0_goesAlong {N : nt_N} {w : jx_Wd} (hX : nt_X N w) (hT : nt_XT N w) {s d a b : Nat} (hs : s < 7) (hd : d < 7) (ha : a < 7) (hb : b < 7) (hab : a ≠ b) (hf : nt_D N s d < 1000) : jx_CI MX0_goesAlong [.inr 0, .inl (nI s), .inl (nI d), .inl (((1 : Int32) <<< (nI a &&& 31)) ||| ((1 : Int32) <<< (nI b &&& 31)))] w (fun r u => r = nt_bi (nt_any (fun k => nt_kp N a b s d k || nt_kp N b a s d k) (nt_h N s d)) ∧ nt_X N u) := by
  refine eX0_goesAlong (bX0_goesAlong_0 _ _ _ _ _ ?_)
  refine (mX0_launch N w hs hd).imp ?_
  rintro _ rfl
  obtain ⟨h1, h2, h3⟩ := nt_h_spec hX.1.1 hs hd hf
  refine nt_l0 7 (fun k (_ : Unit) => jx_J MX0_goesAlong (jx_qi (fun r u => r = nt_bi (nt_any (fun k => nt_kp N a b s d k || nt_kp N b a s d k) (nt_h N s d)) ∧ nt_X N u)) 12 [jx_t, none, none, jx_i (((1 : Int32) <<< (nI a &&& 31)) ||| ((1 : Int32) <<< (nI b &&& 31))), jx_i (nI (nt_r N s d k)), jx_i (nI k)] [] (nt_pk N s d w k)) (fun k _ => k ≤ nt_h N s d ∧ ∀ j, j < k → (nt_kp N a b s d j || nt_kp N b a s d j) = false) ?_ ?_ () ⟨Nat.zero_le _, fun j hj => absurd hj (by omega)⟩
  · intro k _ hk hI ih
    obtain ⟨hkh, hI⟩ := hI
    obtain ⟨hr0, hrf, -⟩ := nt_r_in hX.1.1 hs hd hf k
    have hr1 := (nt_r_in hX.1.1 hs hd hf (k + 1)).1
    refine bX0_goesAlong_12 _ _ _ _ _ (br_f (nI_ge (b := 7) hk (by decide)) ?_)
    refine (mX0_forward hX.1.1 hT hs hd hf k).imp ?_
    rintro _ _ ⟨rfl, rfl⟩
    by_cases hr : nt_r N s d k = d
    · have hkeq : k = nt_h N s d := by
        rcases Nat.lt_or_ge k (nt_h N s d) with q | q
        · exact absurd hr (h3 k q)
        · omega
      rw [decide_eq_false (fun q => q hr)]
      refine br_t rfl ⟨?_, nt_pk_X _ hX⟩
      rw [nt_any_f _ (fun j hj => hI j (by omega))]
      rfl
    · have hklt : k < nt_h N s d := by
        rcases Nat.lt_or_ge k (nt_h N s d) with q | q
        · exact q
        · exact absurd (nt_r_d h2 q) hr
      have hne : nt_r N s d k ≠ nt_r N s d (k + 1) := by
        rw [nt_r_s hr]
        obtain ⟨x1, x2, -, -⟩ := nt_x_spec hX.1.1 hr0 hd hr hrf
        exact nt_E_ne hX.1.1 hr0 x1 x2
      rw [decide_eq_true hr]
      refine br_f nt_b1 ?_
      rintro _ rfl
      rw [show nt_pk N s d w (k + 1) 10 0 = nI (nt_r N s d (k + 1)) from rfl, nI_1, bt_two _ hr0 _ hr1 a ha b hb hne hab]
      refine br_c (fun h => ⟨?_, nt_pk_X _ hX⟩) (fun h => ?_)
      · rw [nt_any_t _ k hklt]
        · rfl
        · rcases h with ⟨p, q⟩ | ⟨p, q⟩
          · simp [nt_kp, p, q]
          · simp [nt_kp, p, q]
      · rintro _ rfl
        refine ih () ⟨by omega, fun j hj => ?_⟩
        by_cases c : j = k
        · subst c
          simp only [nt_kp, Bool.or_eq_false_iff, Bool.and_eq_false_iff, decide_eq_false_iff_not]
          omega
        · exact hI j (by omega)
  · intro _ hI
    exact absurd hI.1 (by omega)
theorem mX0_linkLoad {N : nt_N} {w : jx_Wd} (hX : nt_X N w) (x y : Int32) : jx_CI MX0_linkLoad [.inr 0, .inl x, .inl y] w (fun r u => r = nt_ak N x y ∧ nt_X N u) := by
  refine eX0_linkLoad (bX0_linkLoad_0 _ _ _ _ ?_)
  refine (mX0_linked hX.1 x y).imp ?_
  rintro _ _ ⟨rfl, rfl⟩
  cases hx : nt_lk N x y with
  | false =>
    refine br_t rfl ⟨?_, hX⟩
    have : nt_ee N x y = false := by
      cases h2 : nt_ee N x y with
      | false => rfl
      | true =>
        obtain ⟨a, b, ha, hb, rfl, rfl, hE⟩ := nt_ee_of h2
        rw [nt_lk_nI ha hb] at hx
        have := nt_E_pos hX.1.1 ha hb hE
        simp [this] at hx
    rw [nt_ak, this]
    rfl
  | true =>
    obtain ⟨a, b, ha, hb, rfl, rfl, hc⟩ := nt_lk_of hx
    have hab := nt_lk_ne hX.1.1 ha hc
    refine br_f nt_b1 ?_
    refine (mX0_counts hX.1 ha hb).imp ?_
    rintro _ _ ⟨rfl, rfl⟩
    have hee := nt_ee_nI (N := N) ha hb
    cases hE : nt_E N a b with
    | false =>
      rw [hE] at hee
      exact br_t rfl ⟨by rw [nt_ak, hee]; rfl, hX⟩
    | true =>
      rw [hE] at hee
      refine br_f nt_b1 ?_
      have e0 : nt_ak N (nI a) (nI b) = nI (nt_sm (fun c => nt_b2 (nt_kq N a b (c / 7) (c % 7))) 49) := by rw [nt_ak, hee, if_pos rfl, nt_cl ha, nt_cl hb]
      rw [e0]
      refine nt_l0 49 (fun c (u : jx_Wd) => jx_J MX0_linkLoad (jx_qi (fun r u => r = nI (nt_sm (fun c => nt_b2 (nt_kq N a b (c / 7) (c % 7))) 49) ∧ nt_X N u)) 25 [jx_t, jx_i (nI a), jx_i (nI b), jx_i (nI (nt_sm (fun c => nt_b2 (nt_kq N a b (c / 7) (c % 7))) c)), jx_i (nI c), none, none] [] u) (fun c u => nt_X N u) ?_ ?_ _ hX
      · intro c u hc hX ih
        have hs : c / 7 < 7 := by omega
        have hd : c % 7 < 7 := by omega
        have t0 : nt_kq N a b (c / 7) (c % 7) = false → nI (nt_sm (fun c => nt_b2 (nt_kq N a b (c / 7) (c % 7))) c) = nI (nt_sm (fun c => nt_b2 (nt_kq N a b (c / 7) (c % 7))) (c + 1)) := fun h => nt_s0 (f := fun c => nt_b2 (nt_kq N a b (c / 7) (c % 7))) (by rw [h]; rfl) rfl
        have t1 : nt_kq N a b (c / 7) (c % 7) = true → nI (nt_sm (fun c => nt_b2 (nt_kq N a b (c / 7) (c % 7))) c) + 1 = nI (nt_sm (fun c => nt_b2 (nt_kq N a b (c / 7) (c % 7))) (c + 1)) := fun h => nt_a1 _ _ c (by rw [h]; rfl) rfl
        refine bX0_linkLoad_25 _ _ _ _ _ _ (br_f (nI_ge (b := 49) hc (by decide)) ?_)
        rw [nt_md hc, nt_dv hc, nI_1 c, nI_eq (a := c / 7) (b := c % 7) (by omega) (by omega)]
        refine br_c (fun h => by rw [t0 (by simp [nt_kq, h])]; exact ih u hX) (fun h1 => ?_)
        refine (mX0_connected hX _ _).imp ?_
        rintro _ u ⟨rfl, hX, hT, -⟩
        rw [nt_ft_nI hs hd] at hT ⊢
        by_cases hf : nt_D N (c / 7) (c % 7) < 1000
        · rw [decide_eq_true hf] at hT ⊢
          refine br_f nt_b1 ?_
          refine (mX0_goesAlong hX (hT rfl) hs hd ha hb hab hf).imp ?_
          rintro _ u ⟨rfl, hX⟩
          have e : nt_any (fun k => nt_kp N a b (c / 7) (c % 7) k || nt_kp N b a (c / 7) (c % 7) k) (nt_h N (c / 7) (c % 7)) = nt_kq N a b (c / 7) (c % 7) := by
            simp only [nt_kq, h1, hf, ne_eq, not_false_eq_true, decide_true, Bool.true_and]
          rw [e]
          cases hq : nt_kq N a b (c / 7) (c % 7) with
          | false => exact br_t rfl (by rw [t0 hq]; exact ih u hX)
          | true => exact br_f nt_b1 (by rw [t1 hq]; exact ih u hX)
        · rw [decide_eq_false hf]
          exact br_t rfl (by rw [t0 (by simp [nt_kq, hf])]; exact ih u hX)
      · intro u hX
        exact bX0_linkLoad_25 _ _ _ _ _ _ (br_t (nI_le (a := 49) (Nat.le_refl 49) (by decide)) ⟨rfl, hX⟩)
theorem mX0_reachable {N : nt_N} {w : jx_Wd} (hX : nt_X N w) (x : Int32) : jx_CI MX0_reachable [.inr 0, .inl x] w (fun r u => r = nt_ar N x ∧ nt_X N u) := by
  refine eX0_reachable (bX0_reachable_0 _ _ _ ?_)
  refine nt_l0 7 (fun d (u : jx_Wd) => jx_J MX0_reachable (jx_qi (fun r u => r = nt_ar N x ∧ nt_X N u)) 4 [jx_t, jx_i x, jx_i (nt_or (nt_rq N x) d), jx_i (nI d)] [] u) (fun c u => nt_X N u) ?_ ?_ _ hX
  · intro d u hd hX ih
    have t0 : nt_rq N x d = false → nt_or (nt_rq N x) (d + 1) = nt_or (nt_rq N x) d := fun h => by show (if nt_rq N x d = true then _ else _) = _; rw [h]; rfl
    have t1 : nt_rq N x d = true → nt_or (nt_rq N x) (d + 1) = nt_or (nt_rq N x) d ||| (1 <<< (nI d &&& 31)) := fun h => by show (if nt_rq N x d = true then _ else _) = _; rw [h]; rfl
    refine bX0_reachable_4 _ _ _ _ _ (br_f (nI_ge (b := 7) hd (by decide)) ?_)
    rw [nI_1]
    refine br_c (fun h => by rw [← t0 (by simp [nt_rq, h])]; exact ih u hX) (fun h1 => ?_)
    refine (mX0_connected hX _ _).imp ?_
    rintro _ u ⟨rfl, hX, -, -⟩
    cases h2 : nt_ft N x (nI d) with
    | false => exact br_t rfl (by rw [← t0 (by simp [nt_rq, h2])]; exact ih u hX)
    | true => exact br_f nt_b1 (by rw [← t1 (by simp [nt_rq, h1, h2])]; exact ih u hX)
  · intro u hX
    exact bX0_reachable_4 _ _ _ _ _ (br_t (nI_le (a := 7) (Nat.le_refl 7) (by decide)) ⟨rfl, hX⟩)
theorem mX0_farthest {N : nt_N} {w : jx_Wd} (hX : nt_X N w) (x : Int32) : jx_CI MX0_farthest [.inr 0, .inl x] w (fun r u => r = nt_af N x ∧ nt_X N u) := by
  refine eX0_farthest (bX0_farthest_0 _ _ _ ?_)
  refine (mX0_connected hX x x).imp ?_
  rintro _ u ⟨rfl, hX, hT0, -⟩
  cases h : nt_ft N x x with
  | false => exact br_t rfl ⟨by rw [nt_af, h]; rfl, hX⟩
  | true =>
    have h2 := h
    have hT := hT0 h
    clear hT0
    obtain ⟨a, b, ha, hb, rfl, -, -⟩ := nt_ft_of h
    refine br_f nt_b1 ?_
    have e0 : nt_af N (nI a) = nI (nt_mx (nt_fq N a) (nt_D N a) 7) := by rw [nt_af, h2, if_pos rfl, nt_cl ha]
    rw [e0]
    have hbd : ∀ d, d < 7 → nt_D N a d ≤ 1000 := fun d hd => (nt_Ds hX.1.1).1 a d ha hd
    refine nt_l0 7 (fun d (_ : Unit) => jx_J MX0_farthest (jx_qi (fun r u => r = nI (nt_mx (nt_fq N a) (nt_D N a) 7) ∧ nt_X N u)) 15 [jx_t, jx_i (nI a), jx_i (nI (nt_mx (nt_fq N a) (nt_D N a) d)), jx_i (nI d), none] [] u) (fun c _ => True) ?_ ?_ () trivial
    · intro d _ hd _ ih
      have go := ih () trivial
      have hm : nt_mx (nt_fq N a) (nt_D N a) d ≤ 1000 := nt_mx_le d (fun k hk => hbd k (by omega))
      have hb1 := hbd d hd
      obtain ⟨x1, x2, x3⟩ := nt_xd_lt hX.1.1 ha hd
      have eM : nt_mx (nt_fq N a) (nt_D N a) (d + 1) = if nt_fq N a d = true then max (nt_mx (nt_fq N a) (nt_D N a) d) (nt_D N a d) else nt_mx (nt_fq N a) (nt_D N a) d := rfl
      refine bX0_farthest_15 _ _ _ _ _ (br_f (nI_ge (b := 7) hd (by decide)) ⟨nt_in ha hd, ?_⟩)
      rintro _ rfl
      rw [nt_at ha hd, hT.1 a d ha hd, nI_1 d]
      refine br_c (fun h => ?_) (fun h => ?_)
      · have h : nI 10000 ≤ nI (nt_xd (nt_D N a d)) := h
        rw [nI_leI (by omega) (by omega)] at h
        have hf : ¬ nt_D N a d < 1000 := fun q => by have := x2.mpr q; omega
        have hq : nt_fq N a d = false := by simp [nt_fq, hf]
        rw [eM, hq, if_neg (by decide)] at go
        exact go
      · have h : ¬ nI 10000 ≤ nI (nt_xd (nt_D N a d)) := h
        rw [nI_leI (by omega) (by omega)] at h
        have hf : nt_D N a d < 1000 := x2.mp (by omega)
        have hq : nt_fq N a d = true := by simp [nt_fq, hf]
        rw [eM, hq, if_pos rfl] at go
        rw [x3 hf, nI_leI (by omega) (by omega)]
        refine br_c (fun h => ?_) (fun h => ?_)
        · rw [show max (nt_mx (nt_fq N a) (nt_D N a) d) (nt_D N a d) = nt_mx (nt_fq N a) (nt_D N a) d by omega] at go
          exact go
        · rw [show max (nt_mx (nt_fq N a) (nt_D N a) d) (nt_D N a d) = nt_D N a d by omega] at go
          exact go
    · intro _ _
      exact bX0_farthest_15 _ _ _ _ _ (br_t (nI_le (a := 7) (Nat.le_refl 7) (by decide)) ⟨rfl, hX⟩)
end
section
/-! THE CLASS'S CONTRACTS: impact -/
set_option maxRecDepth 100000
theorem nt_cd_ge (N : nt_N) (s d : Nat) : ∀ k, 8 ^ k ≤ nt_cd N s d k := by
  intro k
  induction k with
  | zero => exact Nat.le_refl 1
  | succ k ih =>
    show 8 ^ (k + 1) ≤ 8 * nt_cd N s d k + nt_r N s d k
    rw [Nat.pow_succ]
    omega
theorem nt_cd_len {N N1 : nt_N} (hN : nt_ok N) (hN1 : nt_ok N1) {s d : Nat} (hs : s < 7) (hd : d < 7) (hf : nt_D N s d < 1000) (hf1 : nt_D N1 s d < 1000) {m n : Nat} (h : nt_cd N s d m = nt_cd N1 s d n) : m = n := by
  have a1 := nt_cd_ge N s d m
  have a2 := nt_cd_lt hN hs hd hf m
  have b1 := nt_cd_ge N1 s d n
  have b2 := nt_cd_lt hN1 hs hd hf1 n
  rcases Nat.lt_trichotomy m n with q | q | q
  · have h1 : 8 ^ (m + 1) ≤ 8 ^ n := Nat.pow_le_pow_right (by decide) q
    rw [Nat.pow_succ] at h1
    omega
  · exact q
  · have h1 : 8 ^ (n + 1) ≤ 8 ^ m := Nat.pow_le_pow_right (by decide) q
    rw [Nat.pow_succ] at h1
    omega
theorem nt_cd_dig {N N1 : nt_N} (hN : nt_ok N) (hN1 : nt_ok N1) {s d : Nat} (hs : s < 7) (hd : d < 7) (hf : nt_D N s d < 1000) (hf1 : nt_D N1 s d < 1000) : ∀ n, nt_cd N s d n = nt_cd N1 s d n → ∀ j, j < n → nt_r N s d j = nt_r N1 s d j := by
  intro n
  induction n with
  | zero => intro _ j hj; omega
  | succ n ih =>
    intro h j hj
    have h : 8 * nt_cd N s d n + nt_r N s d n = 8 * nt_cd N1 s d n + nt_r N1 s d n := h
    have r1 := (nt_r_in hN hs hd hf n).1
    have r2 := (nt_r_in hN1 hs hd hf1 n).1
    by_cases e : j = n
    · rw [e]; omega
    · exact ih (by omega) j (by omega)
theorem nt_cd_eq {N N1 : nt_N} {s d : Nat} : ∀ n, (∀ j, j < n → nt_r N s d j = nt_r N1 s d j) → nt_cd N s d n = nt_cd N1 s d n := by
  intro n
  induction n with
  | zero => intro _; rfl
  | succ n ih =>
    intro h
    show 8 * nt_cd N s d n + nt_r N s d n = 8 * nt_cd N1 s d n + nt_r N1 s d n
    rw [ih (fun j hj => h j (by omega)), h n (by omega)]
/-- two routes that part at k + 1 -/
theorem nt_rc_ne {N N1 : nt_N} (hN : nt_ok N) (hN1 : nt_ok N1) {s d k : Nat} (hs : s < 7) (hd : d < 7) (hf : nt_D N s d < 1000) (hf1 : nt_D N1 s d < 1000) (hk : nt_r N s d k ≠ d) (hne : nt_r N s d (k + 1) ≠ nt_r N1 s d (k + 1)) : ¬ nt_rc N1 s d = nt_rc N s d := by
  intro h
  rw [nt_rc, nt_rc, if_pos hf, if_pos hf1] at h
  have hl := nt_cd_len hN hN1 hs hd hf hf1 h.symm
  rw [hl] at h
  have hh := (nt_h_spec hN hs hd hf).2.1
  have hlt : k < nt_h N s d := by
    rcases Nat.lt_or_ge k (nt_h N s d) with q | q
    · exact q
    · exact absurd (nt_r_d hh q) hk
  exact hne (nt_cd_dig hN hN1 hs hd hf hf1 _ h.symm (k + 1) (by omega))
theorem nt_rc_same {N N1 : nt_N} {s d k : Nat} (hf : nt_D N s d < 1000 ↔ nt_D N1 s d < 1000) (hk6 : k ≤ 6) (hk : nt_r N s d k = d) (hall : ∀ j, j ≤ k → nt_r N s d j = nt_r N1 s d j) (hno : ∀ j, j < k → nt_r N s d j ≠ d) : nt_rc N1 s d = nt_rc N s d := by
  have e1 : nt_h N s d = k := nt_h_at hk6 hk hno
  have e2 : nt_h N1 s d = k := nt_h_at hk6 (by rw [← hall k (Nat.le_refl k)]; exact hk) (fun j hj => by rw [← hall j (by omega)]; exact hno j hj)
  unfold nt_rc
  by_cases h : nt_D N s d < 1000
  · rw [if_pos h, if_pos (hf.mp h), e1, e2, nt_cd_eq (N := N) (N1 := N1) (k + 1) (fun j hj => hall j (by omega))]
  · rw [if_neg h, if_neg (fun q => h (hf.mpr q))]
theorem mX0_routeDiffers {N N1 : nt_N} (hN : nt_ok N) (hN1 : nt_ok N1) (hR : N1.2.2 = N.2.2) {w : jx_Wd} (h12 : ∀ x y, x < 7 → y < 7 → w 12 (x * 7 + y) = nt_hp N x y) (h5 : nt_XH N1 w) {s d : Nat} (hs : s < 7) (hd : d < 7) : jx_CI MX0_routeDiffers [.inr 0, .inl (nI s), .inl (nI d)] w (fun r u => r = nt_bi (decide (¬ nt_rc N1 s d = nt_rc N s d)) ∧ u = w) := by
  have same : nt_rc N1 s d = nt_rc N s d → (0 : Int32) = nt_bi (decide (¬ nt_rc N1 s d = nt_rc N s d)) := fun h => by rw [decide_eq_false (fun q => q h)]; rfl
  have diff : ¬ nt_rc N1 s d = nt_rc N s d → (1 : Int32) = nt_bi (decide (¬ nt_rc N1 s d = nt_rc N s d)) := fun h => by rw [decide_eq_true h]; rfl
  have hon : ∀ x, x < 7 → (nt_D N x x < 1000 ↔ nt_D N1 x x < 1000) := by
    intro x hx
    cases hb : N.2.2.testBit x with
    | true =>
      have e1 := (nt_Ds hN).2.1 x hx hb
      have e2 := (nt_Ds hN1).2.1 x hx (by rw [hR]; exact hb)
      omega
    | false =>
      have e1 := (nt_Ds hN).2.2.1 x x hx hx hb
      have e2 := (nt_Ds hN1).2.2.1 x x hx hx (by rw [hR]; exact hb)
      omega
  refine eX0_routeDiffers (bX0_routeDiffers_0 _ _ _ _ ?_)
  refine nt_l0 7 (fun k (_ : Unit) => jx_J MX0_routeDiffers (jx_qi (fun r u => r = nt_bi (decide (¬ nt_rc N1 s d = nt_rc N s d)) ∧ u = w)) 5 [jx_t, none, jx_i (nI d), jx_i (nI (nt_r N s d k)), jx_i (nI k), none] [] w) (fun k _ => (∀ j, j ≤ k → nt_r N s d j = nt_r N1 s d j) ∧ (∀ j, j < k → nt_r N s d j ≠ d) ∧ (k = 0 ∨ (nt_D N s d < 1000 ∧ nt_D N1 s d < 1000))) ?_ ?_ () ⟨fun j hj => ?_, fun j hj => absurd hj (by omega), Or.inl rfl⟩
  · intro k _ hk hI ih
    obtain ⟨hI1, hI2, hI3⟩ := hI
    have hp7 : nt_r N s d k < 7 := by
      rcases hI3 with e | ⟨e, -⟩
      · subst e; exact hs
      · exact (nt_r_in hN hs hd e k).1
    refine bX0_routeDiffers_5 _ _ _ _ _ (br_f (nI_ge (b := 7) hk (by decide)) ?_)
    rw [nI_eq (by omega) (by omega)]
    refine br_c (fun hr => ⟨same ?_, rfl⟩) (fun hr => ⟨nt_in hp7 hd, ?_⟩)
    · refine nt_rc_same (k := k) ?_ (by omega) hr hI1 hI2
      rcases hI3 with e | ⟨e, e'⟩
      · subst e
        have : s = d := hr
        subst this
        exact hon s hs
      · exact ⟨fun _ => e', fun _ => e⟩
    · rintro _ rfl
      refine ⟨nt_in hp7 hd, ?_⟩
      rintro _ rfl
      rw [nt_at hp7 hd, h12 _ d hp7 hd, h5 _ d hp7 hd]
      -- the way from here, before and now
      have hst : nt_r N s d k = nt_r N1 s d k := hI1 k (Nat.le_refl k)
      have f1 : nt_D N (nt_r N s d k) d < 1000 ↔ nt_D N s d < 1000 := by
        rcases hI3 with e | ⟨e, -⟩
        · subst e; exact Iff.rfl
        · exact ⟨fun _ => e, fun _ => (nt_r_in hN hs hd e k).2.1⟩
      have f2 : nt_D N1 (nt_r N s d k) d < 1000 ↔ nt_D N1 s d < 1000 := by
        rcases hI3 with e | ⟨-, e⟩
        · subst e; exact Iff.rfl
        · exact ⟨fun _ => e, fun _ => by rw [hst]; exact (nt_r_in hN1 hs hd e k).2.1⟩
      by_cases g1 : nt_D N s d < 1000
      · have x1 := (nt_x_spec hN hp7 hd hr (f1.mpr g1)).1
        have e1 : nt_r N s d (k + 1) = nt_x N (nt_r N s d k) d := nt_r_s hr
        rw [nt_hp_t ⟨hr, f1.mpr g1⟩]
        by_cases g2 : nt_D N1 s d < 1000
        · have y1 := (nt_x_spec hN1 hp7 hd hr (f2.mpr g2)).1
          have e2 : nt_r N1 s d (k + 1) = nt_x N1 (nt_r N s d k) d := by rw [nt_r_s (by rw [← hst]; exact hr), hst]
          rw [nt_hp_t ⟨hr, f2.mpr g2⟩, nI_eq (by omega) (by omega)]
          refine br_c (fun h => br_t (nI_pos' (by omega)) ?_) (fun h => ⟨diff ?_, rfl⟩)
          · rw [nI_1, ← e1]
            refine ih () ⟨fun j hj => ?_, fun j hj => ?_, Or.inr ⟨g1, g2⟩⟩
            · by_cases c : j = k + 1
              · rw [c, e1, e2, h]
              · exact hI1 j (by omega)
            · by_cases c : j = k
              · rw [c]; exact hr
              · exact hI2 j (by omega)
          · exact nt_rc_ne hN hN1 hs hd g1 g2 hr (by rw [e1, e2]; exact h)
        · rw [nt_hp_f (fun q => g2 (f2.mp q.2))]
          refine br_f (fun q => ?_) ⟨diff ?_, rfl⟩
          · have := congrArg Int32.toInt q
            rw [nI_toInt (by omega)] at this
            have e : (-1 : Int32).toInt = -1 := by decide
            omega
          · intro q
            rw [nt_rc, nt_rc, if_neg g2, if_pos g1] at q
            have := nt_cd_ge N s d (nt_h N s d + 1)
            have : 0 < 8 ^ (nt_h N s d + 1) := Nat.pow_pos (by decide)
            omega
      · rw [nt_hp_f (fun q => g1 (f1.mp q.2))]
        by_cases g2 : nt_D N1 s d < 1000
        · have y1 := (nt_x_spec hN1 hp7 hd hr (f2.mpr g2)).1
          rw [nt_hp_t ⟨hr, f2.mpr g2⟩]
          refine br_f (fun q => ?_) ⟨diff ?_, rfl⟩
          · have := congrArg Int32.toInt q
            rw [nI_toInt (by omega)] at this
            have e : (-1 : Int32).toInt = -1 := by decide
            omega
          · intro q
            rw [nt_rc, nt_rc, if_neg g1, if_pos g2] at q
            have := nt_cd_ge N1 s d (nt_h N1 s d + 1)
            have : 0 < 8 ^ (nt_h N1 s d + 1) := Nat.pow_pos (by decide)
            omega
        · rw [nt_hp_f (fun q => g2 (f2.mp q.2))]
          refine br_t rfl (br_f (by decide) ⟨same ?_, rfl⟩)
          rw [nt_rc, nt_rc, if_neg g1, if_neg g2]
  · intro _ hI
    obtain ⟨hI1, hI2, hI3⟩ := hI
    rcases hI3 with e | ⟨e, -⟩
    · omega
    · exact absurd (nt_r_end hN hs hd e) (hI2 6 (by omega))
  · have : j = 0 := by omega
    subst this
    rfl
theorem nt_hp_n {N : nt_N} (hN : nt_ok N) {s d : Nat} (hs : s < 7) (hd : d < 7) : vp_nar .byte (nt_hp N s d) = nt_hp N s d := by
  have h := nt_hp_b hN hs hd
  rw [pk_vb] at h
  rw [vp_nar_byte, h]
theorem mX0_impact {N : nt_N} {w : jx_Wd} (hX : nt_X N w) (x y : Int32) : jx_CI MX0_impact [.inr 0, .inl x, .inl y] w (fun r u => r = nt_ai N x y ∧ nt_X (nt_i2 N x y) u) := by
  refine eX0_impact (bX0_impact_0 _ _ _ _ ?_)
  refine (mX0_linked hX.1 x y).imp ?_
  rintro _ _ ⟨rfl, rfl⟩
  cases hx : nt_lk N x y with
  | false =>
    have e1 : nt_i1 N x y = N := by rw [nt_i1, nt_tn, hx]; rfl
    refine br_t rfl ⟨by rw [nt_ai, hx]; rfl, ?_⟩
    rw [nt_i2, e1, nt_tn, hx]
    exact hX
  | true =>
    refine br_f nt_b1 ?_
    refine (mX0_learn hX).imp ?_
    rintro w0 ⟨hB, h3, hT, -⟩
    have hx2 := hx
    obtain ⟨a, b, ha, hb, rfl, rfl, hc⟩ := nt_lk_of hx
    have hab := nt_lk_ne hB.1 ha hc
    have hup : nt_up N (nI a) (nI b) = (N.2.1 a).testBit b := by rw [nt_up, nt_cl ha, nt_cl hb]
    have ei1 : nt_i1 N (nI a) (nI b) = nt_turn N a b (!nt_up N (nI a) (nI b)) := by rw [nt_i1, nt_tn, hx2, if_pos rfl, nt_cl ha, nt_cl hb]
    have elk : nt_lk (nt_i1 N (nI a) (nI b)) (nI a) (nI b) = true := by rw [nt_i1, nt_tn_lk]; exact hx2
    have ei2 : nt_i2 N (nI a) (nI b) = nt_turn (nt_i1 N (nI a) (nI b)) a b (nt_up N (nI a) (nI b)) := by rw [nt_i2, nt_tn, elk, if_pos rfl, nt_cl ha, nt_cl hb]
    have ok1 : nt_ok (nt_i1 N (nI a) (nI b)) := by rw [ei1]; exact nt_turn_ok hB.1 ha hb hc _
    have hR1 : (nt_i1 N (nI a) (nI b)).2.2 = N.2.2 := by rw [ei1]; rfl
    have hc1 : 0 < (nt_i1 N (nI a) (nI b)).1 a b := by rw [ei1]; exact hc
    have e0 : nt_ai N (nI a) (nI b) = nI (nt_sm (nt_iq N (nt_i1 N (nI a) (nI b))) 49) := by rw [nt_ai, hx2, if_pos rfl]
    have last : ∀ w1, nt_XB (nt_i1 N (nI a) (nI b)) w1 → nt_XT (nt_i1 N (nI a) (nI b)) w1 → (∀ x y, x < 7 → y < 7 → w1 12 (x * 7 + y) = nt_hp N x y) → jx_J MX0_impact (jx_qi (fun r u => r = nt_ai N (nI a) (nI b) ∧ nt_X (nt_i2 N (nI a) (nI b)) u)) 85 [jx_t, jx_i (nI a), jx_i (nI b), jx_i (nt_bi (nt_up N (nI a) (nI b))), jx_i 0, jx_i 0] [] w1 := by
      intro w1 hB1 hT1 h12
      rw [e0]
      refine nt_l0 49 (fun c (_ : Unit) => jx_J MX0_impact (jx_qi (fun r u => r = nI (nt_sm (nt_iq N (nt_i1 N (nI a) (nI b))) 49) ∧ nt_X (nt_i2 N (nI a) (nI b)) u)) 85 [jx_t, jx_i (nI a), jx_i (nI b), jx_i (nt_bi (nt_up N (nI a) (nI b))), jx_i (nI (nt_sm (nt_iq N (nt_i1 N (nI a) (nI b))) c)), jx_i (nI c)] [] w1) (fun c _ => True) ?_ ?_ () trivial
      · intro c _ hc _ ih
        have go := ih () trivial
        have hs : c / 7 < 7 := by omega
        have hd : c % 7 < 7 := by omega
        refine bX0_impact_85 _ _ _ _ _ _ _ (br_f (nI_ge (b := 49) hc (by decide)) ?_)
        rw [nt_md hc, nt_dv hc, nI_1 c]
        refine (mX0_routeDiffers hB.1 ok1 hR1 h12 hT1.2.1 hs hd).imp ?_
        rintro _ _ ⟨rfl, rfl⟩
        by_cases h : nt_rc (nt_i1 N (nI a) (nI b)) (c / 7) (c % 7) = nt_rc N (c / 7) (c % 7)
        · rw [decide_eq_false (fun q => q h)]
          refine br_t rfl ?_
          rw [nt_a0 _ (nt_iq N (nt_i1 N (nI a) (nI b))) c (by rw [nt_iq, if_pos h]) rfl]
          exact go
        · rw [decide_eq_true h]
          refine br_f nt_b1 ?_
          rw [nt_a1 _ (nt_iq N (nt_i1 N (nI a) (nI b))) c (by rw [nt_iq, if_neg h]) rfl]
          exact go
      · intro _ _
        refine bX0_impact_85 _ _ _ _ _ _ _ (br_t (nI_le (a := 49) (Nat.le_refl 49) (by decide)) ?_)
        refine (mX0_turn (N := nt_i1 N (nI a) (nI b)) ok1.2.2.2.1 hB1.2.2.1 ha hb hab (nt_up N (nI a) (nI b))).imp ?_
        rintro _ ⟨f, rfl, hf⟩
        refine ⟨rfl, ?_⟩
        rw [ei2]
        exact nt_X_turn hB1 ha hb hc1 _ hf
    have key := nt_l0 49 (fun c (g : Nat → Int32) => jx_J MX0_impact (jx_qi (fun r u => r = nt_ai N (nI a) (nI b) ∧ nt_X (nt_i2 N (nI a) (nI b)) u)) 17 [jx_t, jx_i (nI a), jx_i (nI b), jx_i (nI c), none, none] [] (jx_up w0 12 g)) (fun c g => ∀ x y, x < 7 → y < 7 → x * 7 + y < c → g (x * 7 + y) = nt_hp N x y) ?_ ?_ (w0 12) (fun x y _ _ h => absurd h (by omega))
    · rw [jx_us] at key
      exact key
    · intro c g hc hg ih
      refine bX0_impact_17 _ _ _ _ _ (br_f (nI_ge (b := 49) hc (by decide)) ⟨vp_in_nI hc (by decide), ?_⟩)
      rintro _ rfl
      refine ⟨vp_in_nI hc (by decide), ?_⟩
      rintro _ rfl
      rw [jx_uu, jx_at, nI_clamp (by omega), nI_1]
      refine ih _ (fun x y hx hy hlt => ?_)
      rw [nt_upd]
      by_cases e : x * 7 + y = c
      · rw [if_pos e, ← e]
        show vp_nar .byte (w0 5 (x * 7 + y)) = _
        rw [hT.2.1 x y hx hy, nt_hp_n hB.1 hx hy]
      · rw [if_neg e]
        exact hg x y hx hy (by omega)
    · intro g hg
      have hg2 : ∀ x y, x < 7 → y < 7 → g (x * 7 + y) = nt_hp N x y := fun x y hx hy => hg x y hx hy (by omega)
      refine bX0_impact_17 _ _ _ _ _ (br_t (nI_le (a := 49) (Nat.le_refl 49) (by decide)) ⟨nt_in7 ha, ?_⟩)
      rintro _ rfl
      have e1 : jx_up w0 12 g 1 (nI a).toNatClampNeg = nI (N.2.1 a) := by rw [nt_cl ha]; exact hB.2.2.1 a ha
      rw [e1, bt_bit _ (hB.1.2.2.2.1 a ha) b hb, ← hup]
      have fin : ∀ z : Bool, z = (!nt_up N (nI a) (nI b)) → ∀ f : Nat → Int32, (∀ x, x < 7 → f x = nI ((nt_turn N a b z).2.1 x)) → jx_CV MX0_learn [.inr 0] (jx_up (jx_up (jx_up w0 12 g) 1 f) 3 (fun _ => 0)) (fun w4 => jx_J MX0_impact (jx_qi (fun r u => r = nt_ai N (nI a) (nI b) ∧ nt_X (nt_i2 N (nI a) (nI b)) u)) 85 [jx_t, jx_i (nI a), jx_i (nI b), jx_i (nt_bi (nt_up N (nI a) (nI b))), jx_i 0, jx_i 0] [] w4) := by
        intro z hz f hf
        have hX1 : nt_X (nt_i1 N (nI a) (nI b)) (jx_up (jx_up (jx_up w0 12 g) 1 f) 3 (fun _ => 0)) := by
          rw [ei1, ← hz]
          exact nt_X_turn (w := jx_up w0 12 g) hB ha hb hc z hf
        refine (mX0_learn hX1).imp ?_
        rintro w4 ⟨hB4, -, hT4, h4⟩
        refine last w4 hB4 hT4 (fun x y hx hy => ?_)
        rw [h4]
        exact hg2 x y hx hy
      cases hu : nt_up N (nI a) (nI b) with
      | false =>
        rw [hu] at fin
        refine br_t rfl ?_
        refine (mX0_turn (N := N) (w := jx_up w0 12 g) hB.1.2.2.2.1 hB.2.2.1 ha hb hab true).imp ?_
        rintro _ ⟨f, rfl, hf⟩
        exact fin true rfl f hf
      | true =>
        rw [hu] at fin
        refine br_f nt_b1 ?_
        refine (mX0_turn (N := N) (w := jx_up w0 12 g) hB.1.2.2.2.1 hB.2.2.1 ha hb hab false).imp ?_
        rintro _ ⟨f, rfl, hf⟩
        exact fin false rfl f hf
end
section
/-! THE CONSTRUCTORS -/
set_option maxRecDepth 100000
theorem W.mono {p : Program} {l : Launch} {e : Env} {R : Room} {s : State} {m : MethodId} {args : Array Value} {below : List Frame} {meth : Method} {c : Code} {H : Heap} {locs : List Loc} {cells slots : Nat} {Q Q' : State → Prop} {g : JFrame} (h : W p l e R s m args below meth c H locs cells slots Q g) (hi : ∀ t, Q t → Q' t) : W p l e R s m args below meth c H locs cells slots Q' g := by
  intro T hT X
  obtain ⟨t, a, b⟩ := h T hT X
  exact ⟨t, a, hi t b⟩
def MX0_init : jx_M := (SX0, yX0_init, cX0_init, 3, none, { frames := 1, cells := 9, slots := 525, locals := 12 })
theorem bX0_init_84 (Φ : jx_Wd → Prop) (x1 : Int32) (w : jx_Wd) (h :
    (7 ≤ x1 → (
      Φ w
    )) ∧ (¬ 7 ≤ x1 → (
      jx_J MX0_init (jx_qv Φ) 92 [jx_t, jx_i x1, jx_i 0] [] w
    ))
    ) : jx_J MX0_init (jx_qv Φ) 84 [jx_t, jx_i x1, none] [] w := by
  refine jx_iload_n dX0_init_84 rfl rfl ?_
  refine jx_bipush (v := 7) dX0_init_85 (by decide) ?_
  refine jx_icmp_ge (tgt := 139) dX0_init_87 (by decide) (fun hc => ?_) (fun hc => ?_)
  · have h := h.1 hc
    exact jx_vret dX0_init_139 rfl ⟨rfl, h⟩
  · have h := h.2 hc
    refine jx_iconst (v := 0) dX0_init_90 (by decide) ?_
    refine jx_istore_n dX0_init_91 rfl (Nat.le_of_ble_eq_true rfl) (lv' := [jx_t, jx_i x1, jx_i 0]) rfl ?_
    exact h
theorem bX0_init_92 (Φ : jx_Wd → Prop) (x1 x2 : Int32) (w : jx_Wd) (h :
    (7 ≤ x2 → (
      jx_J MX0_init (jx_qv Φ) 84 [jx_t, jx_i (x1 + 1), none] [] w
    )) ∧ (¬ 7 ≤ x2 → (
      vp_in ((x1 * 7) + x2) 49 ∧ ∀ w1 : jx_Wd, w1 = jx_up w 6 (upd (w 6) ((x1 * 7) + x2).toNatClampNeg (vp_nar .short (((16 * (x1 + 1)) + (((3 * x2) + x1) - ((3 * x2) + x1) / 7 * 7)) + 1).toInt16.toInt32)) → (
      jx_J MX0_init (jx_qv Φ) 92 [jx_t, jx_i x1, jx_i (x2 + 1)] [] w1
      )
    ))
    ) : jx_J MX0_init (jx_qv Φ) 92 [jx_t, jx_i x1, jx_i x2] [] w := by
  refine jx_iload_n dX0_init_92 rfl rfl ?_
  refine jx_bipush (v := 7) dX0_init_93 (by decide) ?_
  refine jx_icmp_ge (tgt := 133) dX0_init_95 (by decide) (fun hc => ?_) (fun hc => ?_)
  · have h := h.1 hc
    refine jx_iinc (v := x1 + 1) dX0_init_133 rfl rfl (Nat.le_of_ble_eq_true rfl) (lv' := [jx_t, jx_i (x1 + 1), jx_i x2]) rfl ?_
    refine jx_goto (tgt := 84) dX0_init_136 (by decide) ?_
    exact jx_weak (jx_Le.s (jx_Le.s (jx_Le.n jx_Le.z))) h
  · have h := h.2 hc
    refine jx_aload_n dX0_init_98 rfl rfl ?_
    refine jx_getX0 rfl rfl 6 (by decide) rfl q43 (v := .inr 7) (fun _ => rfl) dX0_init_99 ?_
    refine jx_iload_n dX0_init_102 rfl rfl ?_
    refine jx_bipush (v := 7) dX0_init_103 (by decide) ?_
    refine jx_imul dX0_init_105 ?_
    refine jx_iload_n dX0_init_106 rfl rfl ?_
    refine jx_iadd dX0_init_107 ?_
    refine jx_bipush (v := 16) dX0_init_108 (by decide) ?_
    refine jx_iload_n dX0_init_110 rfl rfl ?_
    refine jx_iconst (v := 1) dX0_init_111 (by decide) ?_
    refine jx_iadd dX0_init_112 ?_
    refine jx_imul dX0_init_113 ?_
    refine jx_iconst (v := 3) dX0_init_114 (by decide) ?_
    refine jx_iload_n dX0_init_115 rfl rfl ?_
    refine jx_imul dX0_init_116 ?_
    refine jx_iload_n dX0_init_117 rfl rfl ?_
    refine jx_iadd dX0_init_118 ?_
    refine jx_bipush (v := 7) dX0_init_119 (by decide) ?_
    refine jx_irem dX0_init_121 (by decide) ?_
    refine jx_iadd dX0_init_122 ?_
    refine jx_iconst (v := 1) dX0_init_123 (by decide) ?_
    refine jx_iadd dX0_init_124 ?_
    refine jx_i2s dX0_init_125 ?_
    refine jx_sast 4 6 49 rfl stX0_6 dX0_init_126 h.1 (fun w1 e_w1 => ?_)
    have h := h.2 w1 e_w1
    refine jx_iinc (v := x2 + 1) dX0_init_127 rfl rfl (Nat.le_of_ble_eq_true rfl) (lv' := [jx_t, jx_i x1, jx_i (x2 + 1)]) rfl ?_
    refine jx_goto (tgt := 92) dX0_init_130 (by decide) ?_
    exact h
abbrev f0X0 : List Value := [.null, .null, .int 0, .int 0, .null, .null, .null, .null, .null, .null, .int 0, .int 0, .null]
/-- the constructor's world, out of the places and numbers of its arrays -/
theorem iX0_init (Φ : jx_Wd → Prop) (w0 : jx_Wd) (hw0 : w0 = fun k _ => if k = 2 then 127 else 0) (hJ : jx_J MX0_init (jx_qv Φ) 84 [jx_t, jx_i 0, none] [] w0) (l : Launch) (D : va_G) (h0 sz : Nat) : Met l yX0_init (ws_ yX0_init cX0_init 3 none) ({ frames := 1, cells := 9, slots := 525, locals := 12 }) (va_Pc [.ref h0] (fun U => U.heap.size = sz ∧ va_P D vwCl [(h0, .inr (0, f0X0))] U.heap ∧ va_K D vwCl [] U ∧ va_D (fun _ => True) [(h0, .inr (0, f0X0))])) (va_Qv (fun (u : (Nat → Nat) × (Nat → ClassId) × jx_Wd) => u.1 0 = h0 ∧ Φ u.2.2) (fun u t => va_P D vwCl (jx_W SX0 u.1 u.2.1 u.2.2) t.heap ∧ va_K D vwCl (jx_ty SX0 u.2.1) t ∧ va_D (va_A [(h0, .inr (0, f0X0))] sz) (jx_W SX0 u.1 u.2.1 u.2.2)) (va_A [(h0, .inr (0, f0X0))] sz)) 9 525 (va_A [(h0, .inr (0, f0X0))] sz) := by
  refine Met.ofW (cc := cX0_init) (maxL := 3) (ret := none) (by decide) rfl ?_
  intro p e s m args below meth c s₁ B hml hv
  obtain ⟨rfl, hsz, hP, hK, hD0⟩ := hv
  have hx := B.exec
  have hb := B.bytes
  have hr := B.returns
  have hts := atoms_spec (ws := ws_ yX0_init cX0_init 3 none) B.pre
  have hts : ∀ w ∈ lw_all, w.before _ s = true := fun w h => hts w (List.mem_cons_of_mem _ h)
  have hown : s.vm.findClass RX0 = some m.cls := findClass_of_methodNamed B.named
  have hlocks := B.notSynchronized
  have hin : meth.name = "<init>" := (name_of_methodNamed B.named B.method).1
  subst hsz
  have hD := hD0.self (sz := s.heap.size)
  generalize hAe : va_A [(h0, .inr (0, f0X0))] s.heap.size = A at hD ⊢
  have hA : ∀ q : Nat, s.heap.size ≤ q → A q := fun q h => by rw [← hAe]; exact Or.inr h
  have hS : va_S A s.heap s.heap [] := va_S.rf
  have hl := lv_entry ([.ref h0]) (n := 3) (Nat.le_of_ble_eq_true rfl)
  rw [lg_entry_eq]
  generalize (lg_sl ([.ref h0]) ++ List.replicate (3 - (lg_sl ([.ref h0])).length) Slot.unset).toArray = ls at hl ⊢
  have hl : lv_has ls 3 [(0, .ref h0)] := hl
  refine lv_aload_n hx hb dX0_init_0 rfl (lv_at hl 0 rfl) ?_
  refine W.objInit hx hb hown (hts _ q34) (hts _ q35) (hts _ q36) rfl (by rw [hml]; exact hl.1) rfl dX0_init_1 (Nat.le_of_ble_eq_true rfl) (Nat.le_of_ble_eq_true rfl) ?_
  refine W.eq (g2 := F0 m 4 ls []) rfl ?_
  refine lv_aload_n hx hb dX0_init_4 rfl (lv_at hl 0 rfl) ?_
  refine lv_bipush (v := 49) hx hb dX0_init_5 (by decide) ?_
  refine va_newa (atype := .byte) (a0 := (49, .inl (fun _ => 0))) (ty := .byte) (N' := 49) hx hb (hts _ q77) rfl hK hP hD hS hA (fun _ => rfl) (by decide) (by decide) (by decide) (Nat.le_of_ble_eq_true rfl) (Nat.le_of_ble_eq_true rfl) dX0_init_7 (fun q0 c0 H hK hP hD hS => ?_)
  have hP : va_P D vwCl [(h0, .inr (0, [.null, .null, .int 0, .int 0, .null, .null, .null, .null, .null, .null, .int 0, .int 0, .null])), (q0, .inl (c0, 49, .inl (fun _ => 0)))] H := hP
  have hD : va_D A [(h0, .inr (0, [.null, .null, .int 0, .int 0, .null, .null, .null, .null, .null, .null, .int 0, .int 0, .null])), (q0, .inl (c0, 49, .inl (fun _ => 0)))] := hD
  refine W.widen (k := 1) (n := 49) (by omega) (by omega) ?_
  refine va_putF (D := D) (ci := 0) (v := .ref q0) (ty := (.array .byte)) (C := RX0) (T := TX0) (N := 13) hx hb hts in_X0 tyX0 tyX0_ok nmX0 hown hK hP hD hS 0 rfl rfl 0 (by decide) (hts _ q37) (fun _ h9 => h9) rfl hin rfl (by decide +kernel) rfl rfl (Nat.le_of_ble_eq_true rfl) dX0_init_9 (fun H locs hP hD hS => ?_)
  have hP : va_P D vwCl [(h0, .inr (0, [.ref q0, .null, .int 0, .int 0, .null, .null, .null, .null, .null, .null, .int 0, .int 0, .null])), (q0, .inl (c0, 49, .inl (fun _ => 0)))] H := hP
  have hD : va_D A [(h0, .inr (0, [.ref q0, .null, .int 0, .int 0, .null, .null, .null, .null, .null, .null, .int 0, .int 0, .null])), (q0, .inl (c0, 49, .inl (fun _ => 0)))] := hD
  refine lv_aload_n hx hb dX0_init_12 rfl (lv_at hl 0 rfl) ?_
  refine lv_bipush (v := 7) hx hb dX0_init_13 (by decide) ?_
  refine va_newa (atype := .byte) (a0 := (7, .inl (fun _ => 0))) (ty := .byte) (N' := 7) hx hb (hts _ q77) rfl hK hP hD hS hA (fun _ => rfl) (by decide) (by decide) (by decide) (Nat.le_of_ble_eq_true rfl) (Nat.le_of_ble_eq_true rfl) dX0_init_15 (fun q1 c1 H hK hP hD hS => ?_)
  have hP : va_P D vwCl [(h0, .inr (0, [.ref q0, .null, .int 0, .int 0, .null, .null, .null, .null, .null, .null, .int 0, .int 0, .null])), (q0, .inl (c0, 49, .inl (fun _ => 0))), (q1, .inl (c1, 7, .inl (fun _ => 0)))] H := hP
  have hD : va_D A [(h0, .inr (0, [.ref q0, .null, .int 0, .int 0, .null, .null, .null, .null, .null, .null, .int 0, .int 0, .null])), (q0, .inl (c0, 49, .inl (fun _ => 0))), (q1, .inl (c1, 7, .inl (fun _ => 0)))] := hD
  refine W.widen (k := 2) (n := 56) (by omega) (by omega) ?_
  refine va_putF (D := D) (ci := 0) (v := .ref q1) (ty := (.array .byte)) (C := RX0) (T := TX0) (N := 13) hx hb hts in_X0 tyX0 tyX0_ok nmX0 hown hK hP hD hS 0 rfl rfl 1 (by decide) (hts _ q38) (fun _ h9 => h9) rfl hin rfl (by decide +kernel) rfl rfl (Nat.le_of_ble_eq_true rfl) dX0_init_17 (fun H locs hP hD hS => ?_)
  have hP : va_P D vwCl [(h0, .inr (0, [.ref q0, .ref q1, .int 0, .int 0, .null, .null, .null, .null, .null, .null, .int 0, .int 0, .null])), (q0, .inl (c0, 49, .inl (fun _ => 0))), (q1, .inl (c1, 7, .inl (fun _ => 0)))] H := hP
  have hD : va_D A [(h0, .inr (0, [.ref q0, .ref q1, .int 0, .int 0, .null, .null, .null, .null, .null, .null, .int 0, .int 0, .null])), (q0, .inl (c0, 49, .inl (fun _ => 0))), (q1, .inl (c1, 7, .inl (fun _ => 0)))] := hD
  refine lv_aload_n hx hb dX0_init_20 rfl (lv_at hl 0 rfl) ?_
  refine lv_bipush (v := 127) hx hb dX0_init_21 (by decide) ?_
  refine va_put (D := D) (ci := 0) (v := .int 127) (ty := .int) (C := RX0) (T := TX0) (N := 13) hx hb hts in_X0 tyX0 tyX0_ok nmX0 hown hK hP hD hS 0 rfl rfl 2 (by decide) (hts _ q39) (fun _ h9 => h9) rfl (by decide +kernel) rfl rfl (Nat.le_of_ble_eq_true rfl) dX0_init_23 (fun H locs hP hD hS => ?_)
  have hP : va_P D vwCl [(h0, .inr (0, [.ref q0, .ref q1, .int 127, .int 0, .null, .null, .null, .null, .null, .null, .int 0, .int 0, .null])), (q0, .inl (c0, 49, .inl (fun _ => 0))), (q1, .inl (c1, 7, .inl (fun _ => 0)))] H := hP
  have hD : va_D A [(h0, .inr (0, [.ref q0, .ref q1, .int 127, .int 0, .null, .null, .null, .null, .null, .null, .int 0, .int 0, .null])), (q0, .inl (c0, 49, .inl (fun _ => 0))), (q1, .inl (c1, 7, .inl (fun _ => 0)))] := hD
  refine lv_aload_n hx hb dX0_init_26 rfl (lv_at hl 0 rfl) ?_
  refine lv_bipush (v := 49) hx hb dX0_init_27 (by decide) ?_
  refine va_newa (atype := .int) (a0 := (49, .inl (fun _ => 0))) (ty := .int) (N' := 49) hx hb (hts _ q78) rfl hK hP hD hS hA (fun _ => rfl) (by decide) (by decide) (by decide) (Nat.le_of_ble_eq_true rfl) (Nat.le_of_ble_eq_true rfl) dX0_init_29 (fun q4 c4 H hK hP hD hS => ?_)
  have hP : va_P D vwCl [(h0, .inr (0, [.ref q0, .ref q1, .int 127, .int 0, .null, .null, .null, .null, .null, .null, .int 0, .int 0, .null])), (q0, .inl (c0, 49, .inl (fun _ => 0))), (q1, .inl (c1, 7, .inl (fun _ => 0))), (q4, .inl (c4, 49, .inl (fun _ => 0)))] H := hP
  have hD : va_D A [(h0, .inr (0, [.ref q0, .ref q1, .int 127, .int 0, .null, .null, .null, .null, .null, .null, .int 0, .int 0, .null])), (q0, .inl (c0, 49, .inl (fun _ => 0))), (q1, .inl (c1, 7, .inl (fun _ => 0))), (q4, .inl (c4, 49, .inl (fun _ => 0)))] := hD
  refine W.widen (k := 3) (n := 105) (by omega) (by omega) ?_
  refine va_putF (D := D) (ci := 0) (v := .ref q4) (ty := (.array .int)) (C := RX0) (T := TX0) (N := 13) hx hb hts in_X0 tyX0 tyX0_ok nmX0 hown hK hP hD hS 0 rfl rfl 4 (by decide) (hts _ q41) (fun _ h9 => h9) rfl hin rfl (by decide +kernel) rfl rfl (Nat.le_of_ble_eq_true rfl) dX0_init_31 (fun H locs hP hD hS => ?_)
  have hP : va_P D vwCl [(h0, .inr (0, [.ref q0, .ref q1, .int 127, .int 0, .ref q4, .null, .null, .null, .null, .null, .int 0, .int 0, .null])), (q0, .inl (c0, 49, .inl (fun _ => 0))), (q1, .inl (c1, 7, .inl (fun _ => 0))), (q4, .inl (c4, 49, .inl (fun _ => 0)))] H := hP
  have hD : va_D A [(h0, .inr (0, [.ref q0, .ref q1, .int 127, .int 0, .ref q4, .null, .null, .null, .null, .null, .int 0, .int 0, .null])), (q0, .inl (c0, 49, .inl (fun _ => 0))), (q1, .inl (c1, 7, .inl (fun _ => 0))), (q4, .inl (c4, 49, .inl (fun _ => 0)))] := hD
  refine lv_aload_n hx hb dX0_init_34 rfl (lv_at hl 0 rfl) ?_
  refine lv_bipush (v := 49) hx hb dX0_init_35 (by decide) ?_
  refine va_newa (atype := .byte) (a0 := (49, .inl (fun _ => 0))) (ty := .byte) (N' := 49) hx hb (hts _ q77) rfl hK hP hD hS hA (fun _ => rfl) (by decide) (by decide) (by decide) (Nat.le_of_ble_eq_true rfl) (Nat.le_of_ble_eq_true rfl) dX0_init_37 (fun q5 c5 H hK hP hD hS => ?_)
  have hP : va_P D vwCl [(h0, .inr (0, [.ref q0, .ref q1, .int 127, .int 0, .ref q4, .null, .null, .null, .null, .null, .int 0, .int 0, .null])), (q0, .inl (c0, 49, .inl (fun _ => 0))), (q1, .inl (c1, 7, .inl (fun _ => 0))), (q4, .inl (c4, 49, .inl (fun _ => 0))), (q5, .inl (c5, 49, .inl (fun _ => 0)))] H := hP
  have hD : va_D A [(h0, .inr (0, [.ref q0, .ref q1, .int 127, .int 0, .ref q4, .null, .null, .null, .null, .null, .int 0, .int 0, .null])), (q0, .inl (c0, 49, .inl (fun _ => 0))), (q1, .inl (c1, 7, .inl (fun _ => 0))), (q4, .inl (c4, 49, .inl (fun _ => 0))), (q5, .inl (c5, 49, .inl (fun _ => 0)))] := hD
  refine W.widen (k := 4) (n := 154) (by omega) (by omega) ?_
  refine va_putF (D := D) (ci := 0) (v := .ref q5) (ty := (.array .byte)) (C := RX0) (T := TX0) (N := 13) hx hb hts in_X0 tyX0 tyX0_ok nmX0 hown hK hP hD hS 0 rfl rfl 5 (by decide) (hts _ q42) (fun _ h9 => h9) rfl hin rfl (by decide +kernel) rfl rfl (Nat.le_of_ble_eq_true rfl) dX0_init_39 (fun H locs hP hD hS => ?_)
  have hP : va_P D vwCl [(h0, .inr (0, [.ref q0, .ref q1, .int 127, .int 0, .ref q4, .ref q5, .null, .null, .null, .null, .int 0, .int 0, .null])), (q0, .inl (c0, 49, .inl (fun _ => 0))), (q1, .inl (c1, 7, .inl (fun _ => 0))), (q4, .inl (c4, 49, .inl (fun _ => 0))), (q5, .inl (c5, 49, .inl (fun _ => 0)))] H := hP
  have hD : va_D A [(h0, .inr (0, [.ref q0, .ref q1, .int 127, .int 0, .ref q4, .ref q5, .null, .null, .null, .null, .int 0, .int 0, .null])), (q0, .inl (c0, 49, .inl (fun _ => 0))), (q1, .inl (c1, 7, .inl (fun _ => 0))), (q4, .inl (c4, 49, .inl (fun _ => 0))), (q5, .inl (c5, 49, .inl (fun _ => 0)))] := hD
  refine lv_aload_n hx hb dX0_init_42 rfl (lv_at hl 0 rfl) ?_
  refine lv_bipush (v := 49) hx hb dX0_init_43 (by decide) ?_
  refine va_newa (atype := .short) (a0 := (49, .inl (fun _ => 0))) (ty := .short) (N' := 49) hx hb (hts _ q79) rfl hK hP hD hS hA (fun _ => rfl) (by decide) (by decide) (by decide) (Nat.le_of_ble_eq_true rfl) (Nat.le_of_ble_eq_true rfl) dX0_init_45 (fun q6 c6 H hK hP hD hS => ?_)
  have hP : va_P D vwCl [(h0, .inr (0, [.ref q0, .ref q1, .int 127, .int 0, .ref q4, .ref q5, .null, .null, .null, .null, .int 0, .int 0, .null])), (q0, .inl (c0, 49, .inl (fun _ => 0))), (q1, .inl (c1, 7, .inl (fun _ => 0))), (q4, .inl (c4, 49, .inl (fun _ => 0))), (q5, .inl (c5, 49, .inl (fun _ => 0))), (q6, .inl (c6, 49, .inl (fun _ => 0)))] H := hP
  have hD : va_D A [(h0, .inr (0, [.ref q0, .ref q1, .int 127, .int 0, .ref q4, .ref q5, .null, .null, .null, .null, .int 0, .int 0, .null])), (q0, .inl (c0, 49, .inl (fun _ => 0))), (q1, .inl (c1, 7, .inl (fun _ => 0))), (q4, .inl (c4, 49, .inl (fun _ => 0))), (q5, .inl (c5, 49, .inl (fun _ => 0))), (q6, .inl (c6, 49, .inl (fun _ => 0)))] := hD
  refine W.widen (k := 5) (n := 203) (by omega) (by omega) ?_
  refine va_putF (D := D) (ci := 0) (v := .ref q6) (ty := (.array .short)) (C := RX0) (T := TX0) (N := 13) hx hb hts in_X0 tyX0 tyX0_ok nmX0 hown hK hP hD hS 0 rfl rfl 6 (by decide) (hts _ q43) (fun _ h9 => h9) rfl hin rfl (by decide +kernel) rfl rfl (Nat.le_of_ble_eq_true rfl) dX0_init_47 (fun H locs hP hD hS => ?_)
  have hP : va_P D vwCl [(h0, .inr (0, [.ref q0, .ref q1, .int 127, .int 0, .ref q4, .ref q5, .ref q6, .null, .null, .null, .int 0, .int 0, .null])), (q0, .inl (c0, 49, .inl (fun _ => 0))), (q1, .inl (c1, 7, .inl (fun _ => 0))), (q4, .inl (c4, 49, .inl (fun _ => 0))), (q5, .inl (c5, 49, .inl (fun _ => 0))), (q6, .inl (c6, 49, .inl (fun _ => 0)))] H := hP
  have hD : va_D A [(h0, .inr (0, [.ref q0, .ref q1, .int 127, .int 0, .ref q4, .ref q5, .ref q6, .null, .null, .null, .int 0, .int 0, .null])), (q0, .inl (c0, 49, .inl (fun _ => 0))), (q1, .inl (c1, 7, .inl (fun _ => 0))), (q4, .inl (c4, 49, .inl (fun _ => 0))), (q5, .inl (c5, 49, .inl (fun _ => 0))), (q6, .inl (c6, 49, .inl (fun _ => 0)))] := hD
  refine lv_aload_n hx hb dX0_init_50 rfl (lv_at hl 0 rfl) ?_
  refine lv_bipush (v := 112) hx hb dX0_init_51 (by decide) ?_
  refine va_newa (atype := .short) (a0 := (112, .inl (fun _ => 0))) (ty := .short) (N' := 112) hx hb (hts _ q79) rfl hK hP hD hS hA (fun _ => rfl) (by decide) (by decide) (by decide) (Nat.le_of_ble_eq_true rfl) (Nat.le_of_ble_eq_true rfl) dX0_init_53 (fun q7 c7 H hK hP hD hS => ?_)
  have hP : va_P D vwCl [(h0, .inr (0, [.ref q0, .ref q1, .int 127, .int 0, .ref q4, .ref q5, .ref q6, .null, .null, .null, .int 0, .int 0, .null])), (q0, .inl (c0, 49, .inl (fun _ => 0))), (q1, .inl (c1, 7, .inl (fun _ => 0))), (q4, .inl (c4, 49, .inl (fun _ => 0))), (q5, .inl (c5, 49, .inl (fun _ => 0))), (q6, .inl (c6, 49, .inl (fun _ => 0))), (q7, .inl (c7, 112, .inl (fun _ => 0)))] H := hP
  have hD : va_D A [(h0, .inr (0, [.ref q0, .ref q1, .int 127, .int 0, .ref q4, .ref q5, .ref q6, .null, .null, .null, .int 0, .int 0, .null])), (q0, .inl (c0, 49, .inl (fun _ => 0))), (q1, .inl (c1, 7, .inl (fun _ => 0))), (q4, .inl (c4, 49, .inl (fun _ => 0))), (q5, .inl (c5, 49, .inl (fun _ => 0))), (q6, .inl (c6, 49, .inl (fun _ => 0))), (q7, .inl (c7, 112, .inl (fun _ => 0)))] := hD
  refine W.widen (k := 6) (n := 315) (by omega) (by omega) ?_
  refine va_putF (D := D) (ci := 0) (v := .ref q7) (ty := (.array .short)) (C := RX0) (T := TX0) (N := 13) hx hb hts in_X0 tyX0 tyX0_ok nmX0 hown hK hP hD hS 0 rfl rfl 7 (by decide) (hts _ q44) (fun _ h9 => h9) rfl hin rfl (by decide +kernel) rfl rfl (Nat.le_of_ble_eq_true rfl) dX0_init_55 (fun H locs hP hD hS => ?_)
  have hP : va_P D vwCl [(h0, .inr (0, [.ref q0, .ref q1, .int 127, .int 0, .ref q4, .ref q5, .ref q6, .ref q7, .null, .null, .int 0, .int 0, .null])), (q0, .inl (c0, 49, .inl (fun _ => 0))), (q1, .inl (c1, 7, .inl (fun _ => 0))), (q4, .inl (c4, 49, .inl (fun _ => 0))), (q5, .inl (c5, 49, .inl (fun _ => 0))), (q6, .inl (c6, 49, .inl (fun _ => 0))), (q7, .inl (c7, 112, .inl (fun _ => 0)))] H := hP
  have hD : va_D A [(h0, .inr (0, [.ref q0, .ref q1, .int 127, .int 0, .ref q4, .ref q5, .ref q6, .ref q7, .null, .null, .int 0, .int 0, .null])), (q0, .inl (c0, 49, .inl (fun _ => 0))), (q1, .inl (c1, 7, .inl (fun _ => 0))), (q4, .inl (c4, 49, .inl (fun _ => 0))), (q5, .inl (c5, 49, .inl (fun _ => 0))), (q6, .inl (c6, 49, .inl (fun _ => 0))), (q7, .inl (c7, 112, .inl (fun _ => 0)))] := hD
  refine lv_aload_n hx hb dX0_init_58 rfl (lv_at hl 0 rfl) ?_
  refine lv_bipush (v := 112) hx hb dX0_init_59 (by decide) ?_
  refine va_newa (atype := .byte) (a0 := (112, .inl (fun _ => 0))) (ty := .byte) (N' := 112) hx hb (hts _ q77) rfl hK hP hD hS hA (fun _ => rfl) (by decide) (by decide) (by decide) (Nat.le_of_ble_eq_true rfl) (Nat.le_of_ble_eq_true rfl) dX0_init_61 (fun q8 c8 H hK hP hD hS => ?_)
  have hP : va_P D vwCl [(h0, .inr (0, [.ref q0, .ref q1, .int 127, .int 0, .ref q4, .ref q5, .ref q6, .ref q7, .null, .null, .int 0, .int 0, .null])), (q0, .inl (c0, 49, .inl (fun _ => 0))), (q1, .inl (c1, 7, .inl (fun _ => 0))), (q4, .inl (c4, 49, .inl (fun _ => 0))), (q5, .inl (c5, 49, .inl (fun _ => 0))), (q6, .inl (c6, 49, .inl (fun _ => 0))), (q7, .inl (c7, 112, .inl (fun _ => 0))), (q8, .inl (c8, 112, .inl (fun _ => 0)))] H := hP
  have hD : va_D A [(h0, .inr (0, [.ref q0, .ref q1, .int 127, .int 0, .ref q4, .ref q5, .ref q6, .ref q7, .null, .null, .int 0, .int 0, .null])), (q0, .inl (c0, 49, .inl (fun _ => 0))), (q1, .inl (c1, 7, .inl (fun _ => 0))), (q4, .inl (c4, 49, .inl (fun _ => 0))), (q5, .inl (c5, 49, .inl (fun _ => 0))), (q6, .inl (c6, 49, .inl (fun _ => 0))), (q7, .inl (c7, 112, .inl (fun _ => 0))), (q8, .inl (c8, 112, .inl (fun _ => 0)))] := hD
  refine W.widen (k := 7) (n := 427) (by omega) (by omega) ?_
  refine va_putF (D := D) (ci := 0) (v := .ref q8) (ty := (.array .byte)) (C := RX0) (T := TX0) (N := 13) hx hb hts in_X0 tyX0 tyX0_ok nmX0 hown hK hP hD hS 0 rfl rfl 8 (by decide) (hts _ q45) (fun _ h9 => h9) rfl hin rfl (by decide +kernel) rfl rfl (Nat.le_of_ble_eq_true rfl) dX0_init_63 (fun H locs hP hD hS => ?_)
  have hP : va_P D vwCl [(h0, .inr (0, [.ref q0, .ref q1, .int 127, .int 0, .ref q4, .ref q5, .ref q6, .ref q7, .ref q8, .null, .int 0, .int 0, .null])), (q0, .inl (c0, 49, .inl (fun _ => 0))), (q1, .inl (c1, 7, .inl (fun _ => 0))), (q4, .inl (c4, 49, .inl (fun _ => 0))), (q5, .inl (c5, 49, .inl (fun _ => 0))), (q6, .inl (c6, 49, .inl (fun _ => 0))), (q7, .inl (c7, 112, .inl (fun _ => 0))), (q8, .inl (c8, 112, .inl (fun _ => 0)))] H := hP
  have hD : va_D A [(h0, .inr (0, [.ref q0, .ref q1, .int 127, .int 0, .ref q4, .ref q5, .ref q6, .ref q7, .ref q8, .null, .int 0, .int 0, .null])), (q0, .inl (c0, 49, .inl (fun _ => 0))), (q1, .inl (c1, 7, .inl (fun _ => 0))), (q4, .inl (c4, 49, .inl (fun _ => 0))), (q5, .inl (c5, 49, .inl (fun _ => 0))), (q6, .inl (c6, 49, .inl (fun _ => 0))), (q7, .inl (c7, 112, .inl (fun _ => 0))), (q8, .inl (c8, 112, .inl (fun _ => 0)))] := hD
  refine lv_aload_n hx hb dX0_init_66 rfl (lv_at hl 0 rfl) ?_
  refine lv_bipush (v := 49) hx hb dX0_init_67 (by decide) ?_
  refine va_newa (atype := .short) (a0 := (49, .inl (fun _ => 0))) (ty := .short) (N' := 49) hx hb (hts _ q79) rfl hK hP hD hS hA (fun _ => rfl) (by decide) (by decide) (by decide) (Nat.le_of_ble_eq_true rfl) (Nat.le_of_ble_eq_true rfl) dX0_init_69 (fun q9 c9 H hK hP hD hS => ?_)
  have hP : va_P D vwCl [(h0, .inr (0, [.ref q0, .ref q1, .int 127, .int 0, .ref q4, .ref q5, .ref q6, .ref q7, .ref q8, .null, .int 0, .int 0, .null])), (q0, .inl (c0, 49, .inl (fun _ => 0))), (q1, .inl (c1, 7, .inl (fun _ => 0))), (q4, .inl (c4, 49, .inl (fun _ => 0))), (q5, .inl (c5, 49, .inl (fun _ => 0))), (q6, .inl (c6, 49, .inl (fun _ => 0))), (q7, .inl (c7, 112, .inl (fun _ => 0))), (q8, .inl (c8, 112, .inl (fun _ => 0))), (q9, .inl (c9, 49, .inl (fun _ => 0)))] H := hP
  have hD : va_D A [(h0, .inr (0, [.ref q0, .ref q1, .int 127, .int 0, .ref q4, .ref q5, .ref q6, .ref q7, .ref q8, .null, .int 0, .int 0, .null])), (q0, .inl (c0, 49, .inl (fun _ => 0))), (q1, .inl (c1, 7, .inl (fun _ => 0))), (q4, .inl (c4, 49, .inl (fun _ => 0))), (q5, .inl (c5, 49, .inl (fun _ => 0))), (q6, .inl (c6, 49, .inl (fun _ => 0))), (q7, .inl (c7, 112, .inl (fun _ => 0))), (q8, .inl (c8, 112, .inl (fun _ => 0))), (q9, .inl (c9, 49, .inl (fun _ => 0)))] := hD
  refine W.widen (k := 8) (n := 476) (by omega) (by omega) ?_
  refine va_putF (D := D) (ci := 0) (v := .ref q9) (ty := (.array .short)) (C := RX0) (T := TX0) (N := 13) hx hb hts in_X0 tyX0 tyX0_ok nmX0 hown hK hP hD hS 0 rfl rfl 9 (by decide) (hts _ q46) (fun _ h9 => h9) rfl hin rfl (by decide +kernel) rfl rfl (Nat.le_of_ble_eq_true rfl) dX0_init_71 (fun H locs hP hD hS => ?_)
  have hP : va_P D vwCl [(h0, .inr (0, [.ref q0, .ref q1, .int 127, .int 0, .ref q4, .ref q5, .ref q6, .ref q7, .ref q8, .ref q9, .int 0, .int 0, .null])), (q0, .inl (c0, 49, .inl (fun _ => 0))), (q1, .inl (c1, 7, .inl (fun _ => 0))), (q4, .inl (c4, 49, .inl (fun _ => 0))), (q5, .inl (c5, 49, .inl (fun _ => 0))), (q6, .inl (c6, 49, .inl (fun _ => 0))), (q7, .inl (c7, 112, .inl (fun _ => 0))), (q8, .inl (c8, 112, .inl (fun _ => 0))), (q9, .inl (c9, 49, .inl (fun _ => 0)))] H := hP
  have hD : va_D A [(h0, .inr (0, [.ref q0, .ref q1, .int 127, .int 0, .ref q4, .ref q5, .ref q6, .ref q7, .ref q8, .ref q9, .int 0, .int 0, .null])), (q0, .inl (c0, 49, .inl (fun _ => 0))), (q1, .inl (c1, 7, .inl (fun _ => 0))), (q4, .inl (c4, 49, .inl (fun _ => 0))), (q5, .inl (c5, 49, .inl (fun _ => 0))), (q6, .inl (c6, 49, .inl (fun _ => 0))), (q7, .inl (c7, 112, .inl (fun _ => 0))), (q8, .inl (c8, 112, .inl (fun _ => 0))), (q9, .inl (c9, 49, .inl (fun _ => 0)))] := hD
  refine lv_aload_n hx hb dX0_init_74 rfl (lv_at hl 0 rfl) ?_
  refine lv_bipush (v := 49) hx hb dX0_init_75 (by decide) ?_
  refine va_newa (atype := .byte) (a0 := (49, .inl (fun _ => 0))) (ty := .byte) (N' := 49) hx hb (hts _ q77) rfl hK hP hD hS hA (fun _ => rfl) (by decide) (by decide) (by decide) (Nat.le_of_ble_eq_true rfl) (Nat.le_of_ble_eq_true rfl) dX0_init_77 (fun q12 c12 H hK hP hD hS => ?_)
  have hP : va_P D vwCl [(h0, .inr (0, [.ref q0, .ref q1, .int 127, .int 0, .ref q4, .ref q5, .ref q6, .ref q7, .ref q8, .ref q9, .int 0, .int 0, .null])), (q0, .inl (c0, 49, .inl (fun _ => 0))), (q1, .inl (c1, 7, .inl (fun _ => 0))), (q4, .inl (c4, 49, .inl (fun _ => 0))), (q5, .inl (c5, 49, .inl (fun _ => 0))), (q6, .inl (c6, 49, .inl (fun _ => 0))), (q7, .inl (c7, 112, .inl (fun _ => 0))), (q8, .inl (c8, 112, .inl (fun _ => 0))), (q9, .inl (c9, 49, .inl (fun _ => 0))), (q12, .inl (c12, 49, .inl (fun _ => 0)))] H := hP
  have hD : va_D A [(h0, .inr (0, [.ref q0, .ref q1, .int 127, .int 0, .ref q4, .ref q5, .ref q6, .ref q7, .ref q8, .ref q9, .int 0, .int 0, .null])), (q0, .inl (c0, 49, .inl (fun _ => 0))), (q1, .inl (c1, 7, .inl (fun _ => 0))), (q4, .inl (c4, 49, .inl (fun _ => 0))), (q5, .inl (c5, 49, .inl (fun _ => 0))), (q6, .inl (c6, 49, .inl (fun _ => 0))), (q7, .inl (c7, 112, .inl (fun _ => 0))), (q8, .inl (c8, 112, .inl (fun _ => 0))), (q9, .inl (c9, 49, .inl (fun _ => 0))), (q12, .inl (c12, 49, .inl (fun _ => 0)))] := hD
  refine W.widen (k := 9) (n := 525) (by omega) (by omega) ?_
  refine va_putF (D := D) (ci := 0) (v := .ref q12) (ty := (.array .byte)) (C := RX0) (T := TX0) (N := 13) hx hb hts in_X0 tyX0 tyX0_ok nmX0 hown hK hP hD hS 0 rfl rfl 12 (by decide) (hts _ q49) (fun _ h9 => h9) rfl hin rfl (by decide +kernel) rfl rfl (Nat.le_of_ble_eq_true rfl) dX0_init_79 (fun H locs hP hD hS => ?_)
  have hP : va_P D vwCl [(h0, .inr (0, [.ref q0, .ref q1, .int 127, .int 0, .ref q4, .ref q5, .ref q6, .ref q7, .ref q8, .ref q9, .int 0, .int 0, .ref q12])), (q0, .inl (c0, 49, .inl (fun _ => 0))), (q1, .inl (c1, 7, .inl (fun _ => 0))), (q4, .inl (c4, 49, .inl (fun _ => 0))), (q5, .inl (c5, 49, .inl (fun _ => 0))), (q6, .inl (c6, 49, .inl (fun _ => 0))), (q7, .inl (c7, 112, .inl (fun _ => 0))), (q8, .inl (c8, 112, .inl (fun _ => 0))), (q9, .inl (c9, 49, .inl (fun _ => 0))), (q12, .inl (c12, 49, .inl (fun _ => 0)))] H := hP
  have hD : va_D A [(h0, .inr (0, [.ref q0, .ref q1, .int 127, .int 0, .ref q4, .ref q5, .ref q6, .ref q7, .ref q8, .ref q9, .int 0, .int 0, .ref q12])), (q0, .inl (c0, 49, .inl (fun _ => 0))), (q1, .inl (c1, 7, .inl (fun _ => 0))), (q4, .inl (c4, 49, .inl (fun _ => 0))), (q5, .inl (c5, 49, .inl (fun _ => 0))), (q6, .inl (c6, 49, .inl (fun _ => 0))), (q7, .inl (c7, 112, .inl (fun _ => 0))), (q8, .inl (c8, 112, .inl (fun _ => 0))), (q9, .inl (c9, 49, .inl (fun _ => 0))), (q12, .inl (c12, 49, .inl (fun _ => 0)))] := hD
  refine lv_iconst (v := 0) hx hb dX0_init_82 (by decide) ?_
  refine lv_istore_n (lv' := [(1, .int 0), (0, .ref h0)]) hx hb dX0_init_83 rfl hl (by decide) rfl (fun ls hl => ?_)
  obtain ⟨g, hg⟩ : ∃ g : Nat → Nat, g = fun k => if k = 1 then q0 else if k = 2 then q1 else if k = 5 then q4 else if k = 6 then q5 else if k = 7 then q6 else if k = 8 then q7 else if k = 9 then q8 else if k = 10 then q9 else if k = 13 then q12 else h0 := ⟨_, rfl⟩
  obtain ⟨ct, hct⟩ : ∃ ct : Nat → ClassId, ct = fun k => if k = 0 then c0 else if k = 1 then c1 else if k = 4 then c4 else if k = 5 then c5 else if k = 6 then c6 else if k = 7 then c7 else if k = 8 then c8 else if k = 9 then c9 else c12 := ⟨_, rfl⟩
  have hPw : va_P D vwCl (jx_W SX0 g ct w0) H := by subst hg hct hw0; exact hP
  have hDw : va_D A (jx_W SX0 g ct w0) := by subst hg hct hw0; exact hD
  have hKw : va_K D vwCl (jx_ty SX0 ct) s := by subst hct; exact hK
  have hg0 : g 0 = h0 := by subst hg; rfl
  have hL : jx_L g 3 ls [jx_t, jx_i 0, none] := by
    refine ⟨hl.1, hl.2.1, fun i v hi => ?_⟩
    match i, hi with
    | 0, hi => cases hi; rw [show jx_c g (.inr 0) = .ref h0 by show Value.ref (g 0) = _; rw [hg0]]; exact lv_at hl 1 rfl
    | 1, hi => cases hi; exact lv_at hl 0 rfl
    | 2, hi => cases hi
    | k + 3, hi => simp at hi
  refine W.mono (hJ p l e s m _ below meth c D g ct A ⟨hx, hb, hr, hts, hown, hlocks, hml, hKw, hA⟩ H locs ls hPw hDw hS hL) ?_
  rintro t ⟨o, b1, b2, ⟨⟨r, u, c1, ⟨c2, c3⟩, c4⟩, c5⟩, b4⟩
  subst c2
  exact ⟨o, b1, b2, ⟨⟨(g, ct, u), c1, ⟨hg0, c3⟩, c4⟩, c5⟩, b4⟩
def MX1_init : jx_M := (SX1, yX1_init, cX1_init, 2, none, { frames := 1, cells := 5, slots := 203, locals := 12 })
theorem bX1_init_46 (Φ : jx_Wd → Prop) (x1 : Int32) (w : jx_Wd) (h :
    (7 ≤ x1 → (
      Φ w
    )) ∧ (¬ 7 ≤ x1 → (
      vp_in x1 7 ∧ ∀ w1 : jx_Wd, w1 = jx_up w 2 (upd (w 2) x1.toNatClampNeg (vp_nar .boolean 1)) → (
      jx_J MX1_init (jx_qv Φ) 46 [jx_t, jx_i (x1 + 1)] [] w1
      )
    ))
    ) : jx_J MX1_init (jx_qv Φ) 46 [jx_t, jx_i x1] [] w := by
  refine jx_iload_n dX1_init_46 rfl rfl ?_
  refine jx_bipush (v := 7) dX1_init_47 (by decide) ?_
  refine jx_icmp_ge (tgt := 65) dX1_init_49 (by decide) (fun hc => ?_) (fun hc => ?_)
  · have h := h.1 hc
    exact jx_vret dX1_init_65 rfl ⟨rfl, h⟩
  · have h := h.2 hc
    refine jx_aload_n dX1_init_52 rfl rfl ?_
    refine jx_getX1 rfl rfl 2 (by decide) rfl q216 (v := .inr 3) (fun _ => rfl) dX1_init_53 ?_
    refine jx_iload_n dX1_init_56 rfl rfl ?_
    refine jx_iconst (v := 1) dX1_init_57 (by decide) ?_
    refine jx_zast 2 2 7 rfl stX1_2 dX1_init_58 h.1 (fun w1 e_w1 => ?_)
    have h := h.2 w1 e_w1
    refine jx_iinc (v := x1 + 1) dX1_init_59 rfl rfl (Nat.le_of_ble_eq_true rfl) (lv' := [jx_t, jx_i (x1 + 1)]) rfl ?_
    refine jx_goto (tgt := 46) dX1_init_62 (by decide) ?_
    exact h
abbrev f0X1 : List Value := [.null, .null, .null, .null, .null]
/-- the constructor's world, out of the places and numbers of its arrays -/
theorem iX1_init (Φ : jx_Wd → Prop) (w0 : jx_Wd) (hw0 : w0 = fun k _ => 0) (hJ : jx_J MX1_init (jx_qv Φ) 46 [jx_t, jx_i 0] [] w0) (l : Launch) (D : va_G) (h0 sz : Nat) : Met l yX1_init (ws_ yX1_init cX1_init 2 none) ({ frames := 1, cells := 5, slots := 203, locals := 12 }) (va_Pc [.ref h0] (fun U => U.heap.size = sz ∧ va_P D vwCl [(h0, .inr (1, f0X1))] U.heap ∧ va_K D vwCl [] U ∧ va_D (fun _ => True) [(h0, .inr (1, f0X1))])) (va_Qv (fun (u : (Nat → Nat) × (Nat → ClassId) × jx_Wd) => u.1 0 = h0 ∧ Φ u.2.2) (fun u t => va_P D vwCl (jx_W SX1 u.1 u.2.1 u.2.2) t.heap ∧ va_K D vwCl (jx_ty SX1 u.2.1) t ∧ va_D (va_A [(h0, .inr (1, f0X1))] sz) (jx_W SX1 u.1 u.2.1 u.2.2)) (va_A [(h0, .inr (1, f0X1))] sz)) 5 203 (va_A [(h0, .inr (1, f0X1))] sz) := by
  refine Met.ofW (cc := cX1_init) (maxL := 2) (ret := none) (by decide) rfl ?_
  intro p e s m args below meth c s₁ B hml hv
  obtain ⟨rfl, hsz, hP, hK, hD0⟩ := hv
  have hx := B.exec
  have hb := B.bytes
  have hr := B.returns
  have hts := atoms_spec (ws := ws_ yX1_init cX1_init 2 none) B.pre
  have hts : ∀ w ∈ lw_all, w.before _ s = true := fun w h => hts w (List.mem_cons_of_mem _ h)
  have hown : s.vm.findClass RX1 = some m.cls := findClass_of_methodNamed B.named
  have hlocks := B.notSynchronized
  have hin : meth.name = "<init>" := (name_of_methodNamed B.named B.method).1
  subst hsz
  have hD := hD0.self (sz := s.heap.size)
  generalize hAe : va_A [(h0, .inr (1, f0X1))] s.heap.size = A at hD ⊢
  have hA : ∀ q : Nat, s.heap.size ≤ q → A q := fun q h => by rw [← hAe]; exact Or.inr h
  have hS : va_S A s.heap s.heap [] := va_S.rf
  have hl := lv_entry ([.ref h0]) (n := 2) (Nat.le_of_ble_eq_true rfl)
  rw [lg_entry_eq]
  generalize (lg_sl ([.ref h0]) ++ List.replicate (2 - (lg_sl ([.ref h0])).length) Slot.unset).toArray = ls at hl ⊢
  have hl : lv_has ls 2 [(0, .ref h0)] := hl
  refine lv_aload_n hx hb dX1_init_0 rfl (lv_at hl 0 rfl) ?_
  refine W.objInit hx hb hown (hts _ q213) (hts _ q35) (hts _ q36) rfl (by rw [hml]; exact hl.1) rfl dX1_init_1 (Nat.le_of_ble_eq_true rfl) (Nat.le_of_ble_eq_true rfl) ?_
  refine W.eq (g2 := F0 m 4 ls []) rfl ?_
  refine lv_aload_n hx hb dX1_init_4 rfl (lv_at hl 0 rfl) ?_
  refine lv_bipush (v := 49) hx hb dX1_init_5 (by decide) ?_
  refine va_newa (atype := .int) (a0 := (49, .inl (fun _ => 0))) (ty := .int) (N' := 49) hx hb (hts _ q78) rfl hK hP hD hS hA (fun _ => rfl) (by decide) (by decide) (by decide) (Nat.le_of_ble_eq_true rfl) (Nat.le_of_ble_eq_true rfl) dX1_init_7 (fun q0 c0 H hK hP hD hS => ?_)
  have hP : va_P D vwCl [(h0, .inr (1, [.null, .null, .null, .null, .null])), (q0, .inl (c0, 49, .inl (fun _ => 0)))] H := hP
  have hD : va_D A [(h0, .inr (1, [.null, .null, .null, .null, .null])), (q0, .inl (c0, 49, .inl (fun _ => 0)))] := hD
  refine W.widen (k := 1) (n := 49) (by omega) (by omega) ?_
  refine va_put (D := D) (ci := 1) (v := .ref q0) (ty := (.array .int)) (C := RX1) (T := TX1) (N := 5) hx hb hts in_X1 tyX1 tyX1_ok nmX1 hown hK hP hD hS 0 rfl rfl 0 (by decide) (hts _ q214) (fun _ h9 => h9) rfl (by decide +kernel) rfl rfl (Nat.le_of_ble_eq_true rfl) dX1_init_9 (fun H locs hP hD hS => ?_)
  have hP : va_P D vwCl [(h0, .inr (1, [.ref q0, .null, .null, .null, .null])), (q0, .inl (c0, 49, .inl (fun _ => 0)))] H := hP
  have hD : va_D A [(h0, .inr (1, [.ref q0, .null, .null, .null, .null])), (q0, .inl (c0, 49, .inl (fun _ => 0)))] := hD
  refine lv_aload_n hx hb dX1_init_12 rfl (lv_at hl 0 rfl) ?_
  refine lv_bipush (v := 49) hx hb dX1_init_13 (by decide) ?_
  refine va_newa (atype := .boolean) (a0 := (49, .inl (fun _ => 0))) (ty := .boolean) (N' := 49) hx hb (hts _ q230) rfl hK hP hD hS hA (fun _ => rfl) (by decide) (by decide) (by decide) (Nat.le_of_ble_eq_true rfl) (Nat.le_of_ble_eq_true rfl) dX1_init_15 (fun q1 c1 H hK hP hD hS => ?_)
  have hP : va_P D vwCl [(h0, .inr (1, [.ref q0, .null, .null, .null, .null])), (q0, .inl (c0, 49, .inl (fun _ => 0))), (q1, .inl (c1, 49, .inl (fun _ => 0)))] H := hP
  have hD : va_D A [(h0, .inr (1, [.ref q0, .null, .null, .null, .null])), (q0, .inl (c0, 49, .inl (fun _ => 0))), (q1, .inl (c1, 49, .inl (fun _ => 0)))] := hD
  refine W.widen (k := 2) (n := 98) (by omega) (by omega) ?_
  refine va_put (D := D) (ci := 1) (v := .ref q1) (ty := (.array .boolean)) (C := RX1) (T := TX1) (N := 5) hx hb hts in_X1 tyX1 tyX1_ok nmX1 hown hK hP hD hS 0 rfl rfl 1 (by decide) (hts _ q215) (fun _ h9 => h9) rfl (by decide +kernel) rfl rfl (Nat.le_of_ble_eq_true rfl) dX1_init_17 (fun H locs hP hD hS => ?_)
  have hP : va_P D vwCl [(h0, .inr (1, [.ref q0, .ref q1, .null, .null, .null])), (q0, .inl (c0, 49, .inl (fun _ => 0))), (q1, .inl (c1, 49, .inl (fun _ => 0)))] H := hP
  have hD : va_D A [(h0, .inr (1, [.ref q0, .ref q1, .null, .null, .null])), (q0, .inl (c0, 49, .inl (fun _ => 0))), (q1, .inl (c1, 49, .inl (fun _ => 0)))] := hD
  refine lv_aload_n hx hb dX1_init_20 rfl (lv_at hl 0 rfl) ?_
  refine lv_bipush (v := 7) hx hb dX1_init_21 (by decide) ?_
  refine va_newa (atype := .boolean) (a0 := (7, .inl (fun _ => 0))) (ty := .boolean) (N' := 7) hx hb (hts _ q230) rfl hK hP hD hS hA (fun _ => rfl) (by decide) (by decide) (by decide) (Nat.le_of_ble_eq_true rfl) (Nat.le_of_ble_eq_true rfl) dX1_init_23 (fun q2 c2 H hK hP hD hS => ?_)
  have hP : va_P D vwCl [(h0, .inr (1, [.ref q0, .ref q1, .null, .null, .null])), (q0, .inl (c0, 49, .inl (fun _ => 0))), (q1, .inl (c1, 49, .inl (fun _ => 0))), (q2, .inl (c2, 7, .inl (fun _ => 0)))] H := hP
  have hD : va_D A [(h0, .inr (1, [.ref q0, .ref q1, .null, .null, .null])), (q0, .inl (c0, 49, .inl (fun _ => 0))), (q1, .inl (c1, 49, .inl (fun _ => 0))), (q2, .inl (c2, 7, .inl (fun _ => 0)))] := hD
  refine W.widen (k := 3) (n := 105) (by omega) (by omega) ?_
  refine va_put (D := D) (ci := 1) (v := .ref q2) (ty := (.array .boolean)) (C := RX1) (T := TX1) (N := 5) hx hb hts in_X1 tyX1 tyX1_ok nmX1 hown hK hP hD hS 0 rfl rfl 2 (by decide) (hts _ q216) (fun _ h9 => h9) rfl (by decide +kernel) rfl rfl (Nat.le_of_ble_eq_true rfl) dX1_init_25 (fun H locs hP hD hS => ?_)
  have hP : va_P D vwCl [(h0, .inr (1, [.ref q0, .ref q1, .ref q2, .null, .null])), (q0, .inl (c0, 49, .inl (fun _ => 0))), (q1, .inl (c1, 49, .inl (fun _ => 0))), (q2, .inl (c2, 7, .inl (fun _ => 0)))] H := hP
  have hD : va_D A [(h0, .inr (1, [.ref q0, .ref q1, .ref q2, .null, .null])), (q0, .inl (c0, 49, .inl (fun _ => 0))), (q1, .inl (c1, 49, .inl (fun _ => 0))), (q2, .inl (c2, 7, .inl (fun _ => 0)))] := hD
  refine lv_aload_n hx hb dX1_init_28 rfl (lv_at hl 0 rfl) ?_
  refine lv_bipush (v := 49) hx hb dX1_init_29 (by decide) ?_
  refine va_newa (atype := .int) (a0 := (49, .inl (fun _ => 0))) (ty := .int) (N' := 49) hx hb (hts _ q78) rfl hK hP hD hS hA (fun _ => rfl) (by decide) (by decide) (by decide) (Nat.le_of_ble_eq_true rfl) (Nat.le_of_ble_eq_true rfl) dX1_init_31 (fun q3 c3 H hK hP hD hS => ?_)
  have hP : va_P D vwCl [(h0, .inr (1, [.ref q0, .ref q1, .ref q2, .null, .null])), (q0, .inl (c0, 49, .inl (fun _ => 0))), (q1, .inl (c1, 49, .inl (fun _ => 0))), (q2, .inl (c2, 7, .inl (fun _ => 0))), (q3, .inl (c3, 49, .inl (fun _ => 0)))] H := hP
  have hD : va_D A [(h0, .inr (1, [.ref q0, .ref q1, .ref q2, .null, .null])), (q0, .inl (c0, 49, .inl (fun _ => 0))), (q1, .inl (c1, 49, .inl (fun _ => 0))), (q2, .inl (c2, 7, .inl (fun _ => 0))), (q3, .inl (c3, 49, .inl (fun _ => 0)))] := hD
  refine W.widen (k := 4) (n := 154) (by omega) (by omega) ?_
  refine va_put (D := D) (ci := 1) (v := .ref q3) (ty := (.array .int)) (C := RX1) (T := TX1) (N := 5) hx hb hts in_X1 tyX1 tyX1_ok nmX1 hown hK hP hD hS 0 rfl rfl 3 (by decide) (hts _ q217) (fun _ h9 => h9) rfl (by decide +kernel) rfl rfl (Nat.le_of_ble_eq_true rfl) dX1_init_33 (fun H locs hP hD hS => ?_)
  have hP : va_P D vwCl [(h0, .inr (1, [.ref q0, .ref q1, .ref q2, .ref q3, .null])), (q0, .inl (c0, 49, .inl (fun _ => 0))), (q1, .inl (c1, 49, .inl (fun _ => 0))), (q2, .inl (c2, 7, .inl (fun _ => 0))), (q3, .inl (c3, 49, .inl (fun _ => 0)))] H := hP
  have hD : va_D A [(h0, .inr (1, [.ref q0, .ref q1, .ref q2, .ref q3, .null])), (q0, .inl (c0, 49, .inl (fun _ => 0))), (q1, .inl (c1, 49, .inl (fun _ => 0))), (q2, .inl (c2, 7, .inl (fun _ => 0))), (q3, .inl (c3, 49, .inl (fun _ => 0)))] := hD
  refine lv_aload_n hx hb dX1_init_36 rfl (lv_at hl 0 rfl) ?_
  refine lv_bipush (v := 49) hx hb dX1_init_37 (by decide) ?_
  refine va_newa (atype := .int) (a0 := (49, .inl (fun _ => 0))) (ty := .int) (N' := 49) hx hb (hts _ q78) rfl hK hP hD hS hA (fun _ => rfl) (by decide) (by decide) (by decide) (Nat.le_of_ble_eq_true rfl) (Nat.le_of_ble_eq_true rfl) dX1_init_39 (fun q4 c4 H hK hP hD hS => ?_)
  have hP : va_P D vwCl [(h0, .inr (1, [.ref q0, .ref q1, .ref q2, .ref q3, .null])), (q0, .inl (c0, 49, .inl (fun _ => 0))), (q1, .inl (c1, 49, .inl (fun _ => 0))), (q2, .inl (c2, 7, .inl (fun _ => 0))), (q3, .inl (c3, 49, .inl (fun _ => 0))), (q4, .inl (c4, 49, .inl (fun _ => 0)))] H := hP
  have hD : va_D A [(h0, .inr (1, [.ref q0, .ref q1, .ref q2, .ref q3, .null])), (q0, .inl (c0, 49, .inl (fun _ => 0))), (q1, .inl (c1, 49, .inl (fun _ => 0))), (q2, .inl (c2, 7, .inl (fun _ => 0))), (q3, .inl (c3, 49, .inl (fun _ => 0))), (q4, .inl (c4, 49, .inl (fun _ => 0)))] := hD
  refine W.widen (k := 5) (n := 203) (by omega) (by omega) ?_
  refine va_put (D := D) (ci := 1) (v := .ref q4) (ty := (.array .int)) (C := RX1) (T := TX1) (N := 5) hx hb hts in_X1 tyX1 tyX1_ok nmX1 hown hK hP hD hS 0 rfl rfl 4 (by decide) (hts _ q218) (fun _ h9 => h9) rfl (by decide +kernel) rfl rfl (Nat.le_of_ble_eq_true rfl) dX1_init_41 (fun H locs hP hD hS => ?_)
  have hP : va_P D vwCl [(h0, .inr (1, [.ref q0, .ref q1, .ref q2, .ref q3, .ref q4])), (q0, .inl (c0, 49, .inl (fun _ => 0))), (q1, .inl (c1, 49, .inl (fun _ => 0))), (q2, .inl (c2, 7, .inl (fun _ => 0))), (q3, .inl (c3, 49, .inl (fun _ => 0))), (q4, .inl (c4, 49, .inl (fun _ => 0)))] H := hP
  have hD : va_D A [(h0, .inr (1, [.ref q0, .ref q1, .ref q2, .ref q3, .ref q4])), (q0, .inl (c0, 49, .inl (fun _ => 0))), (q1, .inl (c1, 49, .inl (fun _ => 0))), (q2, .inl (c2, 7, .inl (fun _ => 0))), (q3, .inl (c3, 49, .inl (fun _ => 0))), (q4, .inl (c4, 49, .inl (fun _ => 0)))] := hD
  refine lv_iconst (v := 0) hx hb dX1_init_44 (by decide) ?_
  refine lv_istore_n (lv' := [(1, .int 0), (0, .ref h0)]) hx hb dX1_init_45 rfl hl (by decide) rfl (fun ls hl => ?_)
  obtain ⟨g, hg⟩ : ∃ g : Nat → Nat, g = fun k => if k = 1 then q0 else if k = 2 then q1 else if k = 3 then q2 else if k = 4 then q3 else if k = 5 then q4 else h0 := ⟨_, rfl⟩
  obtain ⟨ct, hct⟩ : ∃ ct : Nat → ClassId, ct = fun k => if k = 0 then c0 else if k = 1 then c1 else if k = 2 then c2 else if k = 3 then c3 else c4 := ⟨_, rfl⟩
  have hPw : va_P D vwCl (jx_W SX1 g ct w0) H := by subst hg hct hw0; exact hP
  have hDw : va_D A (jx_W SX1 g ct w0) := by subst hg hct hw0; exact hD
  have hKw : va_K D vwCl (jx_ty SX1 ct) s := by subst hct; exact hK
  have hg0 : g 0 = h0 := by subst hg; rfl
  have hL : jx_L g 2 ls [jx_t, jx_i 0] := by
    refine ⟨hl.1, hl.2.1, fun i v hi => ?_⟩
    match i, hi with
    | 0, hi => cases hi; rw [show jx_c g (.inr 0) = .ref h0 by show Value.ref (g 0) = _; rw [hg0]]; exact lv_at hl 1 rfl
    | 1, hi => cases hi; exact lv_at hl 0 rfl
    | k + 2, hi => simp at hi
  refine W.mono (hJ p l e s m _ below meth c D g ct A ⟨hx, hb, hr, hts, hown, hlocks, hml, hKw, hA⟩ H locs ls hPw hDw hS hL) ?_
  rintro t ⟨o, b1, b2, ⟨⟨r, u, c1, ⟨c2, c3⟩, c4⟩, c5⟩, b4⟩
  subst c2
  exact ⟨o, b1, b2, ⟨⟨(g, ct, u), c1, ⟨hg0, c3⟩, c4⟩, c5⟩, b4⟩
end
section
/-! THE CONSTRUCTORS' CONTRACTS: a net without links, all routers up -/
set_option maxRecDepth 100000
def nt_N0 : nt_N := (fun _ _ => 0, fun _ => 0, 127)
theorem nt_N0_ok : nt_ok nt_N0 := by
  refine ⟨fun _ _ _ _ => Nat.zero_le 9, fun _ _ _ _ => rfl, fun _ _ => rfl, fun _ _ => (by decide : 0 < 128), by decide, fun a b _ _ h => ?_⟩
  have : Nat.testBit 0 b = false := Nat.zero_testBit b
  rw [show nt_N0.2.1 a = 0 from rfl, this] at h
  cases h
theorem bt_sh : ∀ m, m < 128 → vp_nar .short (nI m).toInt16.toInt32 = nI m := bt_short
theorem nt_lb_at {r d : Nat} (hr : r < 7) (hd : d < 7) : vp_nar .short (((16 * (nI r + 1)) + (((3 * nI d) + nI r) - ((3 * nI d) + nI r) / 7 * 7)) + 1).toInt16.toInt32 = nI (nt_lb r d) := by
  have e1 : (3 : Int32) * nI d + nI r = nI (3 * d + r) := by rw [show (3 : Int32) = nI 3 from rfl, pk_mul, nI_add]
  have e2 : nI (3 * d + r) - nI (3 * d + r) / 7 * 7 = nI ((3 * d + r) % 7) := pk_rem (d := 7) (by omega) (by decide) (by decide)
  have e3 : (16 : Int32) * (nI r + 1) = nI (16 * (r + 1)) := by rw [nI_1, show (16 : Int32) = nI 16 from rfl, pk_mul]
  rw [e1, e2, e3, nI_add, nI_1]
  exact bt_short _ (nt_lb_lt hr)
theorem mX0_init (l : Launch) (D : va_G) (h0 sz : Nat) : Met l yX0_init (ws_ yX0_init cX0_init 3 none) ({ frames := 1, cells := 9, slots := 525, locals := 12 }) (va_Pc [.ref h0] (fun U => U.heap.size = sz ∧ va_P D vwCl [(h0, .inr (0, f0X0))] U.heap ∧ va_K D vwCl [] U ∧ va_D (fun _ => True) [(h0, .inr (0, f0X0))])) (va_Qv (fun (u : (Nat → Nat) × (Nat → ClassId) × jx_Wd) => u.1 0 = h0 ∧ nt_X nt_N0 u.2.2) (fun u t => va_P D vwCl (jx_W SX0 u.1 u.2.1 u.2.2) t.heap ∧ va_K D vwCl (jx_ty SX0 u.2.1) t ∧ va_D (va_A [(h0, .inr (0, f0X0))] sz) (jx_W SX0 u.1 u.2.1 u.2.2)) (va_A [(h0, .inr (0, f0X0))] sz)) 9 525 (va_A [(h0, .inr (0, f0X0))] sz) := by
  refine iX0_init (nt_X nt_N0) _ rfl ?_ l D h0 sz
  generalize hw0 : (fun (k _ : Nat) => if k = 2 then (127 : Int32) else 0) = w0
  have hB : ∀ f : Nat → Int32, (∀ r d, r < 7 → d < 7 → f (r * 7 + d) = nI (nt_lb r d)) → nt_X nt_N0 (jx_up w0 6 f) := by
    intro f hf
    subst hw0
    exact ⟨⟨nt_N0_ok, fun _ _ _ _ => rfl, fun _ _ => rfl, rfl, hf⟩, Or.inl rfl⟩
  have key := nt_l0 7 (fun r (f : Nat → Int32) => jx_J MX0_init (jx_qv (nt_X nt_N0)) 84 [jx_t, jx_i (nI r), none] [] (jx_up w0 6 f)) (fun r f => ∀ x y, x < 7 → y < 7 → x * 7 + y < r * 7 → f (x * 7 + y) = nI (nt_lb x y)) ?_ ?_ (w0 6) (fun x y _ _ h => absurd h (by omega))
  · rw [jx_us] at key
    exact key
  · intro r f hr hI ih
    refine bX0_init_84 _ _ _ (br_f (nI_ge (b := 7) hr (by decide)) ?_)
    refine nt_l0 7 (fun d (f : Nat → Int32) => jx_J MX0_init (jx_qv (nt_X nt_N0)) 92 [jx_t, jx_i (nI r), jx_i (nI d)] [] (jx_up w0 6 f)) (fun d f => ∀ x y, x < 7 → y < 7 → x * 7 + y < r * 7 + d → f (x * 7 + y) = nI (nt_lb x y)) ?_ ?_ f hI
    · intro d f hd hI ih2
      refine bX0_init_92 _ _ _ _ (br_f (nI_ge (b := 7) hd (by decide)) ⟨nt_in hr hd, ?_⟩)
      rintro _ rfl
      rw [nt_lb_at hr hd, nt_at hr hd, jx_uu, jx_at, nI_1 d]
      refine ih2 _ (fun x y hx hy hlt => ?_)
      rw [nt_upd]
      by_cases c : x = r ∧ y = d
      · rw [if_pos (by omega), c.1, c.2]
      · rw [if_neg (by omega)]
        exact hI x y hx hy (by omega)
    · intro f hI
      refine bX0_init_92 _ _ _ _ (br_t (nI_le (a := 7) (Nat.le_refl 7) (by decide)) ?_)
      rw [nI_1]
      exact ih f (fun x y hx hy hlt => hI x y hx hy (by omega))
  · intro f hI
    refine bX0_init_84 _ _ _ (br_t (nI_le (a := 7) (Nat.le_refl 7) (by decide)) ?_)
    exact hB f (fun r d hr hd => hI r d hr hd (by omega))
theorem bt_127 : ∀ r, r < 7 → (1 : Int32) = nt_bi (Nat.testBit 127 r) := by decide +kernel
theorem mX1_init (l : Launch) (D : va_G) (h0 sz : Nat) : Met l yX1_init (ws_ yX1_init cX1_init 2 none) ({ frames := 1, cells := 5, slots := 203, locals := 12 }) (va_Pc [.ref h0] (fun U => U.heap.size = sz ∧ va_P D vwCl [(h0, .inr (1, f0X1))] U.heap ∧ va_K D vwCl [] U ∧ va_D (fun _ => True) [(h0, .inr (1, f0X1))])) (va_Qv (fun (u : (Nat → Nat) × (Nat → ClassId) × jx_Wd) => u.1 0 = h0 ∧ nt_M nt_N0 u.2.2) (fun u t => va_P D vwCl (jx_W SX1 u.1 u.2.1 u.2.2) t.heap ∧ va_K D vwCl (jx_ty SX1 u.2.1) t ∧ va_D (va_A [(h0, .inr (1, f0X1))] sz) (jx_W SX1 u.1 u.2.1 u.2.2)) (va_A [(h0, .inr (1, f0X1))] sz)) 5 203 (va_A [(h0, .inr (1, f0X1))] sz) := by
  refine iX1_init (nt_M nt_N0) _ rfl ?_ l D h0 sz
  generalize hw0 : (fun (_ _ : Nat) => (0 : Int32)) = w0
  have key := nt_l0 7 (fun r (f : Nat → Int32) => jx_J MX1_init (jx_qv (nt_M nt_N0)) 46 [jx_t, jx_i (nI r)] [] (jx_up w0 2 f)) (fun r f => ∀ x, x < r → f x = 1) ?_ ?_ (w0 2) (fun x h => absurd h (by omega))
  · rw [jx_us] at key
    exact key
  · intro r f hr hI ih
    refine bX1_init_46 _ _ _ (br_f (nI_ge (b := 7) hr (by decide)) ⟨nt_in7 hr, ?_⟩)
    rintro _ rfl
    rw [nt_cl hr, jx_uu, jx_at, nI_1]
    refine ih _ (fun x hx => ?_)
    rw [nt_upd]
    by_cases c : x = r
    · rw [if_pos c]
      rfl
    · rw [if_neg c]
      exact hI x (by omega)
  · intro f hI
    refine bX1_init_46 _ _ _ (br_t (nI_le (a := 7) (Nat.le_refl 7) (by decide)) ?_)
    subst hw0
    refine ⟨nt_N0_ok, fun _ _ _ _ => rfl, fun a b _ _ h => absurd h (Nat.lt_irrefl 0), fun r hr => ?_⟩
    show f r = nt_bi (Nat.testBit 127 r)
    rw [hI r hr]
    exact bt_127 r hr
end
section
set_option maxRecDepth 100000
/-! THE CLAIM OUT OF ONE WALK OF THE LAW'S BODY. Your part is whole_start (and what it stands on); all else here is the same for every law, but numbers. -/
def R_law : String := "LabelNetLaw"
def lw_P (b : Addr) (xs : List Int32) (args : Array Value) (s : State) : Prop := args = #[.ref b] ∧ s.IntsAt b xs ∧ xs.length ≤ 256 ∧ (Jvm.Cond.and given_1 narrow_1).before args s = true
def lw_Q (_ : Array Value) (s : State) (o : Outcome) (t : State) : Prop := o = .returned (some (.int 1)) ∧ Framed s o t [] 600000 7290000
def lw_Z (below : List Frame) (a : Array Value) (s : State) : State → Prop := fun t => ∃ o, t.status = .running ∧ Ended t below o ∧ lw_Q a s o t
/-- the law's own end, with 1 on the stack, nothing written that was there before, its room as the claim has it -/
theorem lw_ret {p : Program} {l : Launch} {e : Env} {s : State} {m : MethodId} {below : List Frame} {meth : Method} {c : Code} {b : Nat} (hx : p.tables.exec = Jvm.exec) (hb : c.code = code) (hr : meth.sig.returnType = ret) (hlocks : meth.locks = false) {pc : Nat} {H : Heap} {ls : Array Slot} (hdg : decode code pc = .ok (.ireturn, 1)) : W p l e room_1 s m #[Value.ref b] below meth c H [] 600000 7290000 (lw_Z below #[Value.ref b] s) (F0 m pc ls [.int 1]) := by
  intro T hT X
  obtain ⟨fs, hret, hrun, hended, hW, hframe⟩ := X.leave (v := some (.int 1)) (hlocks := hlocks) (fun h => by rw [hr] at h; cases h)
  have hmeth' : T.vm.method? m = some meth := X.method'
  refine ⟨T.setFrames fs, ?_, .returned (some (.int 1)), hrun, hended, rfl, ⟨_, rfl⟩, hW, hframe⟩
  jvm_step X.here [X.here.top, hx, hb, hdg, hmeth', hr, ret, narrow_b1]
  (try refine ⟨rfl, ?_⟩); (try refine ⟨rfl, ?_⟩)
  first | (intro acts; rw [hret _ acts rfl rfl rfl]) | rw [hret _ _ rfl rfl rfl]
  exact Steps.refl _
/-- what holds at the law's entry: the machine, the code, the tables' words (any of lw_tbl by 'hts w (by decide +kernel)'), the script of L ints xs at the cell b, what the Statement gives of the start (any of its parts by flat_of_before) -/
def lw_At (p : Program) (s : State) (m : MethodId) (meth : Method) (c : Code) (b L : Nat) (xs : Nat → Int32) : Prop :=
  p.tables.exec = Jvm.exec ∧ c.code = code ∧ meth.sig.returnType = ret ∧ c.maxLocals = 4 ∧ s.vm.findClass R_law = some m.cls ∧ (∀ w ∈ lw_tbl, w.before #[Value.ref b] s = true) ∧ va_X b L xs s s.heap ∧ b < s.heap.size ∧ meth.locks = false ∧ (Jvm.Cond.and given_1 narrow_1).before #[Value.ref b] s = true
/-! THE LAW'S OWN FRAME: its world is the class's and the reference's, side by side. A value: an int, or 0: the script, 1: the class's object, 2: the reference's. -/
def lc_ (b : Nat) (g0 g1 : Nat → Nat) : jx_V → Value
  | .inl x => .int x
  | .inr 0 => .ref b
  | .inr 1 => .ref (g0 0)
  | .inr _ => .ref (g1 0)
theorem lc_cat (b : Nat) (g0 g1 : Nat → Nat) (v : jx_V) : (lc_ b g0 g1 v).category = 1 := by
  match v with
  | .inl _ => rfl
  | .inr 0 => rfl
  | .inr 1 => rfl
  | .inr (_ + 2) => rfl
theorem lc_sum (b : Nat) (g0 g1 : Nat → Nat) (st : List jx_V) : ((st.map (lc_ b g0 g1)).map fun v => v.category).sum = st.length := by
  induction st with
  | nil => rfl
  | cons a t ih =>
    simp only [List.map_cons, List.sum_cons, List.length_cons, ih, lc_cat]
    omega
/-- two worlds lie apart, whatever they hold -/
def lw_dj (S : jx_S) (g : Nat → Nat) (ct : Nat → ClassId) (S' : jx_S) (g' : Nat → Nat) (ct' : Nat → ClassId) : Prop := ∀ (w w' : jx_Wd) (i j : Nat) (p q : Nat × va_E), (jx_W S g ct w)[i]? = some p → (jx_W S' g' ct' w')[j]? = some q → p.1 ≠ q.1
theorem jx_addr {S : jx_S} {g : Nat → Nat} {ct : Nat → ClassId} {w : jx_Wd} (w0 : jx_Wd) {i : Nat} {p : Nat × va_E} (h : (jx_W S g ct w)[i]? = some p) : ∃ p0, (jx_W S g ct w0)[i]? = some p0 ∧ p0.1 = p.1 := by
  cases i with
  | zero =>
    cases h
    exact ⟨_, rfl, rfl⟩
  | succ i =>
    have h : (S.2.2.2.map (fun a => ((g (a.1 + 1), .inl (ct a.1, a.2.2, .inl (w a.1))) : Nat × va_E)))[i]? = some p := h
    rw [List.getElem?_map] at h
    cases ha : S.2.2.2[i]? with
    | none => rw [ha] at h; cases h
    | some a =>
      rw [ha] at h
      cases h
      refine ⟨_, jx_Wat (S := S) (g := g) (ct := ct) (w := w0) (k := a.1) (ty := a.2.1) (n := a.2.2) ha, rfl⟩
theorem lw_dj.of {S S' : jx_S} {g g' : Nat → Nat} {ct ct' : Nat → ClassId} (w0 w0' : jx_Wd) (h : ∀ (i j : Nat) (p q : Nat × va_E), (jx_W S g ct w0)[i]? = some p → (jx_W S' g' ct' w0')[j]? = some q → p.1 ≠ q.1) : lw_dj S g ct S' g' ct' := by
  intro w w' i j p q hp hq
  obtain ⟨p0, h1, h2⟩ := jx_addr w0 hp
  obtain ⟨q0, h3, h4⟩ := jx_addr w0' hq
  rw [← h2, ← h4]
  exact h i j p0 q0 h1 h3
theorem lw_dj.sy {S S' : jx_S} {g g' : Nat → Nat} {ct ct' : Nat → ClassId} (h : lw_dj S g ct S' g' ct') : lw_dj S' g' ct' S g ct := fun w w' i j p q hp hq e => h w' w j i q p hq hp e.symm
/-- behind a call: the callee's world, and the other one as it was -/
theorem lw_back {p : Program} {l : Launch} {e : Env} {R : Room} {s : State} {m : MethodId} {args : Array Value} {below : List Frame} {meth : Method} {c : Code} {H : Heap} {locs : List Loc} {cells slots : Nat} {Q : State → Prop} {ls : Array Slot} {rest st0 : List Value} {a : Array Value} {S S' : jx_S} {D : va_G} {g g' : Nat → Nat} {ct ct' : Nat → ClassId} {A : Nat → Prop} {w w' : jx_Wd} {pc : Nat} {Φ : Option Int32 → jx_Wd → Prop} (hP' : va_P D vwCl (jx_W S' g' ct' w') H) (hdj : lw_dj S g ct S' g' ct') (hD : va_D A (jx_W S g ct w)) (hA : ∀ q, s.heap.size ≤ q → A q) (hS : va_S A s.heap H locs)
    (hr : va_Run p l e R s m args below meth c H locs cells slots 0 0 (F0 m pc ls st0) rest (jx_Qc S D g ct (va_A (jx_W S g ct w) H.size) Φ a) (va_A (jx_W S g ct w) H.size))
    (kk : ∀ (o : Option Int32) (u : jx_Wd) (H1 : Heap) (locs1 : List Loc), Φ o u → va_P D vwCl (jx_W S g ct u) H1 → va_D A (jx_W S g ct u) → va_P D vwCl (jx_W S' g' ct' w') H1 → va_S A s.heap H1 locs1 → W p l e R s m args below meth c H1 locs1 cells slots Q (F0 m (pc + 3) ls ((o.map Value.int).toList ++ rest))) : W p l e R s m args below meth c H locs cells slots Q (F0 m pc ls st0) := by
  have hF : ∀ q, va_A (jx_W S g ct w) H.size q → A q := by
    intro q h
    rcases h with ⟨k, e, h⟩ | h
    · exact hD.2 k (q, e) h
    · exact hA q (Nat.le_trans hS.1 h)
  intro T hT X
  obtain ⟨v, st₀, t, T', L, h0, X', hL, e1, e2, ⟨⟨r, u, hv, hp, hb⟩, hz, hk⟩, stp⟩ := hr T hT X
  cases hv
  rw [h0] at hz hk
  have hP1 : va_P D vwCl (jx_W S' g' ct' w') T'.heap := by
    refine hP'.kept (fun k q hq => ?_)
    rw [e1]
    refine hk q.1 (hP' k q hq).lt (fun z => ?_)
    rcases z with ⟨k2, e3, h⟩ | h
    · exact hdj w w' k2 k (q.1, e3) q h hq rfl
    · have := (hP' k q hq).lt
      omega
  obtain ⟨t2, a1, b1⟩ := kk r u T'.heap (locs ++ L) hp (by rw [e1]; exact hb.1) (hb.2.2.weaken (fun k q _ h => hF q.1 h)) hP1
    ⟨Nat.le_trans hS.1 (by rw [e1]; exact hz), fun q h1 h2 => by rw [e1, hk q (Nat.lt_of_lt_of_le h1 hS.1) (fun z => h2 (hF q z))]; exact hS.2.1 q h1 h2, fun q hq => by
      rcases List.mem_append.mp hq with h | h
      · exact hS.2.2 q h
      · exact hF _ (hL q h)⟩ T' rfl X'
  exact ⟨t2, stp t2 a1, b1⟩
def lj_ (b L : Nat) (xs : Nat → Int32) (i : Nat) (wx wm : jx_Wd) (pc : Nat) (st : List jx_V) : Prop :=
  ∀ (p : Program) (l : Launch) (e : Env) (s : State) (m : MethodId) (below : List Frame) (meth : Method) (c : Code) (D : va_G) (g0 g1 : Nat → Nat) (ct0 ct1 : Nat → ClassId), lw_At p s m meth c b L xs → va_K D vwCl (jx_ty SX0 ct0) s → va_K D vwCl (jx_ty SX1 ct1) s → lw_dj SX0 g0 ct0 SX1 g1 ct1 →
  ∀ (H : Heap) (locs : List Loc) (ls : Array Slot), va_P D vwCl (jx_W SX0 g0 ct0 wx) H → va_P D vwCl (jx_W SX1 g1 ct1 wm) H → va_D (fun q : Nat => s.heap.size ≤ q) (jx_W SX0 g0 ct0 wx) → va_D (fun q : Nat => s.heap.size ≤ q) (jx_W SX1 g1 ct1 wm) → va_S (fun q : Nat => s.heap.size ≤ q) s.heap H locs → lv_has ls 4 [(0, .ref b), (1, .ref (g0 0)), (2, .ref (g1 0)), (3, .int (nI i))] →
  W p l e room_1 s m #[Value.ref b] below meth c H locs 16 746 (lw_Z below #[Value.ref b] s) (F0 m pc ls (st.map (lc_ b g0 g1)))
section LJ
variable {b L : Nat} {xs : Nat → Int32} {i : Nat} {wx wm : jx_Wd} {pc : Nat} {st : List jx_V}
theorem lj_al1 (hd : decode code pc = .ok (.aload_n 1, 1)) (k : lj_ b L xs i wx wm (pc + 1) (.inr 1 :: st)) : lj_ b L xs i wx wm pc st := by
  intro p l e s m below meth c D g0 g1 ct0 ct1 C0 hK0 hK1 hdj H locs ls hP0 hP1 hD0 hD1 hS hl
  exact lv_aload_n C0.1 C0.2.1 hd rfl (lv_at hl 1 rfl) (k p l e s m below meth c D g0 g1 ct0 ct1 C0 hK0 hK1 hdj H locs ls hP0 hP1 hD0 hD1 hS hl)
theorem lj_al2 (hd : decode code pc = .ok (.aload_n 2, 1)) (k : lj_ b L xs i wx wm (pc + 1) (.inr 2 :: st)) : lj_ b L xs i wx wm pc st := by
  intro p l e s m below meth c D g0 g1 ct0 ct1 C0 hK0 hK1 hdj H locs ls hP0 hP1 hD0 hD1 hS hl
  exact lv_aload_n C0.1 C0.2.1 hd rfl (lv_at hl 2 rfl) (k p l e s m below meth c D g0 g1 ct0 ct1 C0 hK0 hK1 hdj H locs ls hP0 hP1 hD0 hD1 hS hl)
theorem lj_ld (j : Nat) {n : Int} (hn : Int32.ofInt n = nI j) (hL : L ≤ 256) (hlt : i + j < L) (h0 : decode code pc = .ok (.aload_n 0, 1)) (h1 : decode code (pc + 1) = .ok (.iload_n 3, 1)) (h2 : decode code (pc + 2) = .ok (.iconst n, 1)) (h3 : decode code (pc + 3) = .ok (.iadd, 1)) (h4 : decode code (pc + 4) = .ok (.iaload, 1)) (k : lj_ b L xs i wx wm (pc + 5) (.inl (xs (i + j)) :: st)) : lj_ b L xs i wx wm pc st := by
  intro p l e s m below meth c D g0 g1 ct0 ct1 C0 hK0 hK1 hdj H locs ls hP0 hP1 hD0 hD1 hS hl
  have hbA : ¬ (fun q : Nat => s.heap.size ≤ q) b := Nat.not_le.mpr C0.2.2.2.2.2.2.2.1
  refine lv_aload_n C0.1 C0.2.1 h0 rfl (lv_at hl 0 rfl) ?_
  refine lv_iload_n C0.1 C0.2.1 h1 rfl (lv_at hl 3 rfl) ?_
  refine lv_iconst (v := nI j) C0.1 C0.2.1 h2 hn ?_
  refine lv_iadd C0.1 C0.2.1 h3 ?_
  rw [nI_add]
  refine va_sld C0.1 C0.2.1 C0.2.2.2.2.2.2.1 C0.2.2.2.2.2.2.2.1 hbA hS (vp_in_nI hlt (by omega)) h4 ?_
  rw [nI_clamp (by omega)]
  exact k p l e s m below meth c D g0 g1 ct0 ct1 C0 hK0 hK1 hdj H locs ls hP0 hP1 hD0 hD1 hS hl
theorem lj_ld0 (hL : L ≤ 256) (hlt : i < L) (h0 : decode code pc = .ok (.aload_n 0, 1)) (h1 : decode code (pc + 1) = .ok (.iload_n 3, 1)) (h4 : decode code (pc + 2) = .ok (.iaload, 1)) (k : lj_ b L xs i wx wm (pc + 3) (.inl (xs i) :: st)) : lj_ b L xs i wx wm pc st := by
  intro p l e s m below meth c D g0 g1 ct0 ct1 C0 hK0 hK1 hdj H locs ls hP0 hP1 hD0 hD1 hS hl
  have hbA : ¬ (fun q : Nat => s.heap.size ≤ q) b := Nat.not_le.mpr C0.2.2.2.2.2.2.2.1
  refine lv_aload_n C0.1 C0.2.1 h0 rfl (lv_at hl 0 rfl) ?_
  refine lv_iload_n C0.1 C0.2.1 h1 rfl (lv_at hl 3 rfl) ?_
  refine va_sld C0.1 C0.2.1 C0.2.2.2.2.2.2.1 C0.2.2.2.2.2.2.2.1 hbA hS (vp_in_nI hlt (by omega)) h4 ?_
  rw [nI_clamp (by omega)]
  exact k p l e s m below meth c D g0 g1 ct0 ct1 C0 hK0 hK1 hdj H locs ls hP0 hP1 hD0 hD1 hS hl
theorem lj_nz {x : Int32} (h0 : decode code pc = .ok (.ifCond .eq 7, 3)) (h1 : decode code (pc + 3) = .ok (.iconst 1, 1)) (h2 : decode code (pc + 4) = .ok (.goto 4, 3)) (h3 : decode code (pc + 7) = .ok (.iconst 0, 1)) (k : lj_ b L xs i wx wm (pc + 8) (.inl (nt_bi (decide (¬ x = 0))) :: st)) : lj_ b L xs i wx wm pc (.inl x :: st) := by
  intro p l e s m below meth c D g0 g1 ct0 ct1 C0 hK0 hK1 hdj H locs ls hP0 hP1 hD0 hD1 hS hl
  have kk := k p l e s m below meth c D g0 g1 ct0 ct1 C0 hK0 hK1 hdj H locs ls hP0 hP1 hD0 hD1 hS hl
  refine lv_if_eq (tgt := pc + 7) C0.1 C0.2.1 h0 (by omega) (fun h => ?_) (fun h => ?_)
  · rw [decide_eq_false (fun q => q h)] at kk
    exact lv_iconst (v := 0) C0.1 C0.2.1 h3 (by decide) kk
  · rw [decide_eq_true h] at kk
    refine lv_iconst (v := 1) C0.1 C0.2.1 h1 (by decide) ?_
    exact lv_goto (tgt := pc + 8) C0.1 C0.2.1 h2 (by omega) kk
theorem lj_eq {r : Int32} {off : Int} {tgt : Nat} (hd : decode code pc = .ok (.if_icmp .eq off, 3)) (ht : (pc : Int) + off = (tgt : Int)) (k : lj_ b L xs i wx wm tgt st) : lj_ b L xs i wx wm pc (.inl r :: .inl r :: st) := by
  intro p l e s m below meth c D g0 g1 ct0 ct1 C0 hK0 hK1 hdj H locs ls hP0 hP1 hD0 hD1 hS hl
  exact lv_icmp_eq C0.1 C0.2.1 hd ht (fun _ => k p l e s m below meth c D g0 g1 ct0 ct1 C0 hK0 hK1 hdj H locs ls hP0 hP1 hD0 hD1 hS hl) (fun h => absurd rfl h)
/-- what a call of N through an object of the class C asks of the tables, in the law -/
def lw_ok (N : jx_M) (C : String) (idx n : Nat) : Prop := (GoodIn lw_all (wsV R_law idx C (mY N) (ws_ (mY N) (mC N) (mL N) (mR N))) ∧ ((mY N).cls = C ∧ (mY N).cls ≠ "java/lang/invoke/MethodHandle" ∧ (mY N).cls ≠ "java/lang/invoke/VarHandle" ∧ (parseMethodDescriptor (mY N).desc).map (fun d => d.parameters.length) = some n) ∧ (mRm N).cells = 0 ∧ (mRm N).slots = 0) ∧ (mRm N).frames + 1 ≤ room_1.frames ∧ 8 + (mL N + 11) + (mRm N).locals ≤ room_1.locals
theorem lj_callX {N : jx_M} {idx : Nat} {F : Int32 → jx_Wd → Prop} {stk : List jx_V} (av : List Int32) (hS0 : mS N = SX0) (hok : lw_ok N RX0 idx av.length) (hst : stk = (av.map Sum.inl).reverse ++ .inr 1 :: st) (hlen : st.length ≤ 8) (hd : decode code pc = .ok (.invokevirtual idx, 3)) (h : jx_CI N (.inr 0 :: av.map Sum.inl) wx F) (k : ∀ r u, F r u → lj_ b L xs i u wm (pc + 3) (.inl r :: st)) : lj_ b L xs i wx wm pc stk := by
  intro p l e s m below meth c D g0 g1 ct0 ct1 C0 hK0 hK1 hdj H locs ls hP0 hP1 hD0 hD1 hS hl
  obtain ⟨hx, hb, hr, hml, hown, hts0, hX, hbl, hlk, hgv⟩ := id C0
  have hts : ∀ w ∈ lw_all, w.before #[Value.ref b] s = true := fun w h => hts0 w (lw_all_tbl h)
  obtain ⟨⟨hg, hn, hz1, hz2⟩, hR⟩ := hok
  have hM := h l D g0 ct0 H.size
  rw [hS0] at hM
  subst hst
  have hA : ∀ q : Nat, s.heap.size ≤ q → (fun q : Nat => s.heap.size ≤ q) q := fun _ h => h
  have hrec := va_recv hK0 hP0 (ci := 0) (q0 := 0) rfl rfl
  have eav : (av.map (Sum.inl : Int32 → jx_V)).map (jx_c g0) = av.map Value.int := by
    rw [List.map_map]
    rfl
  have eav2 : (av.map (Sum.inl : Int32 → jx_V)).map (lc_ b g0 g1) = av.map Value.int := by
    rw [List.map_map]
    rfl
  refine lw_back (S := SX0) (g := g0) (ct := ct0) hP1 hdj hD0 hA hS (va_runV (g := F0 m pc ls (((av.map (Sum.inl : Int32 → jx_V)).reverse ++ .inr 1 :: st).map (lc_ b g0 g1))) (b := g0 0) (As := av.map Value.int) (rest := st.map (lc_ b g0 g1)) ⟨hx, hb, hml, hown, hts⟩ hM (cwV av.length hts hg rfl hz1 hz2 hn hR) ⟨jx_blind, hrec, fun U hU hW => ⟨by rw [← eav]; rfl, by rw [hU], by rw [hU]; exact hP0, va_K.moved hW.alike hK0, (hD0).weaken (fun _ _ _ _ => trivial)⟩⟩ rfl (by rw [List.length_map]) hl.1 (by show List.map (lc_ b g0 g1) _ = _; rw [List.map_append, List.map_reverse, eav2]; rfl) (lv_room (by rw [lc_sum]; exact hlen)) hd ⟨Nat.le_of_ble_eq_true rfl, Nat.le_of_ble_eq_true rfl⟩) ?_
  rintro o u H1 locs1 ⟨r, rfl, hF⟩ hPn hDn hPo hSn
  exact k r u hF p l e s m below meth c D g0 g1 ct0 ct1 C0 hK0 hK1 hdj H1 locs1 ls hPn hPo hDn hD1 hSn hl
theorem lj_callM {N : jx_M} {idx : Nat} {F : Int32 → jx_Wd → Prop} {stk : List jx_V} (av : List Int32) (hS0 : mS N = SX1) (hok : lw_ok N RX1 idx av.length) (hst : stk = (av.map Sum.inl).reverse ++ .inr 2 :: st) (hlen : st.length ≤ 8) (hd : decode code pc = .ok (.invokevirtual idx, 3)) (h : jx_CI N (.inr 0 :: av.map Sum.inl) wm F) (k : ∀ r u, F r u → lj_ b L xs i wx u (pc + 3) (.inl r :: st)) : lj_ b L xs i wx wm pc stk := by
  intro p l e s m below meth c D g0 g1 ct0 ct1 C0 hK0 hK1 hdj H locs ls hP0 hP1 hD0 hD1 hS hl
  obtain ⟨hx, hb, hr, hml, hown, hts0, hX, hbl, hlk, hgv⟩ := id C0
  have hts : ∀ w ∈ lw_all, w.before #[Value.ref b] s = true := fun w h => hts0 w (lw_all_tbl h)
  obtain ⟨⟨hg, hn, hz1, hz2⟩, hR⟩ := hok
  have hM := h l D g1 ct1 H.size
  rw [hS0] at hM
  subst hst
  have hA : ∀ q : Nat, s.heap.size ≤ q → (fun q : Nat => s.heap.size ≤ q) q := fun _ h => h
  have hrec := va_recv hK1 hP1 (ci := 1) (q0 := 0) rfl rfl
  have eav : (av.map (Sum.inl : Int32 → jx_V)).map (jx_c g1) = av.map Value.int := by
    rw [List.map_map]
    rfl
  have eav2 : (av.map (Sum.inl : Int32 → jx_V)).map (lc_ b g0 g1) = av.map Value.int := by
    rw [List.map_map]
    rfl
  refine lw_back (S := SX1) (g := g1) (ct := ct1) hP0 hdj.sy hD1 hA hS (va_runV (g := F0 m pc ls (((av.map (Sum.inl : Int32 → jx_V)).reverse ++ .inr 2 :: st).map (lc_ b g0 g1))) (b := g1 0) (As := av.map Value.int) (rest := st.map (lc_ b g0 g1)) ⟨hx, hb, hml, hown, hts⟩ hM (cwV av.length hts hg rfl hz1 hz2 hn hR) ⟨jx_blind, hrec, fun U hU hW => ⟨by rw [← eav]; rfl, by rw [hU], by rw [hU]; exact hP1, va_K.moved hW.alike hK1, (hD1).weaken (fun _ _ _ _ => trivial)⟩⟩ rfl (by rw [List.length_map]) hl.1 (by show List.map (lc_ b g0 g1) _ = _; rw [List.map_append, List.map_reverse, eav2]; rfl) (lv_room (by rw [lc_sum]; exact hlen)) hd ⟨Nat.le_of_ble_eq_true rfl, Nat.le_of_ble_eq_true rfl⟩) ?_
  rintro o u H1 locs1 ⟨r, rfl, hF⟩ hPn hDn hPo hSn
  exact k r u hF p l e s m below meth c D g0 g1 ct0 ct1 C0 hK0 hK1 hdj H1 locs1 ls hPo hPn hD0 hDn hSn hl
end LJ
theorem okL0_join : lw_ok MX0_join RX0 13 3 := ⟨⟨lw_V q80 q81 q82 q27 q83, by decide +kernel, rfl, rfl⟩, by decide, by decide⟩
theorem okL0_cut : lw_ok MX0_cut RX0 18 2 := ⟨⟨lw_V q94 q95 q96 q27 q97, by decide +kernel, rfl, rfl⟩, by decide, by decide⟩
theorem okL0_setLink : lw_ok MX0_setLink RX0 23 3 := ⟨⟨lw_V q102 q103 q104 q27 q105, by decide +kernel, rfl, rfl⟩, by decide, by decide⟩
theorem okL0_setRouter : lw_ok MX0_setRouter RX0 28 2 := ⟨⟨lw_V q106 q107 q108 q27 q109, by decide +kernel, rfl, rfl⟩, by decide, by decide⟩
theorem okL0_cost : lw_ok MX0_cost RX0 33 2 := ⟨⟨lw_V q110 q111 q112 q27 q113, by decide +kernel, rfl, rfl⟩, by decide, by decide⟩
theorem okL0_distance : lw_ok MX0_distance RX0 38 2 := ⟨⟨lw_V q114 q115 q116 q27 q117, by decide +kernel, rfl, rfl⟩, by decide, by decide⟩
theorem okL0_nextHop : lw_ok MX0_nextHop RX0 42 2 := ⟨⟨lw_V q150 q151 q152 q27 q153, by decide +kernel, rfl, rfl⟩, by decide, by decide⟩
theorem okL0_hops : lw_ok MX0_hops RX0 46 2 := ⟨⟨lw_V q154 q155 q156 q27 q157, by decide +kernel, rfl, rfl⟩, by decide, by decide⟩
theorem okL0_routeAt : lw_ok MX0_routeAt RX0 50 3 := ⟨⟨lw_V q166 q167 q168 q27 q169, by decide +kernel, rfl, rfl⟩, by decide, by decide⟩
theorem okL0_after : lw_ok MX0_after RX0 55 3 := ⟨⟨lw_V q175 q172 q173 q27 q174, by decide +kernel, rfl, rfl⟩, by decide, by decide⟩
theorem okL0_load : lw_ok MX0_load RX0 59 1 := ⟨⟨lw_V q176 q177 q178 q27 q179, by decide +kernel, rfl, rfl⟩, by decide, by decide⟩
theorem okL0_linkLoad : lw_ok MX0_linkLoad RX0 64 2 := ⟨⟨lw_V q184 q185 q186 q27 q187, by decide +kernel, rfl, rfl⟩, by decide, by decide⟩
theorem okL0_reachable : lw_ok MX0_reachable RX0 68 1 := ⟨⟨lw_V q192 q193 q194 q27 q195, by decide +kernel, rfl, rfl⟩, by decide, by decide⟩
theorem okL0_farthest : lw_ok MX0_farthest RX0 72 1 := ⟨⟨lw_V q196 q197 q198 q27 q199, by decide +kernel, rfl, rfl⟩, by decide, by decide⟩
theorem okL0_impact : lw_ok MX0_impact RX0 76 2 := ⟨⟨lw_V q200 q201 q202 q27 q203, by decide +kernel, rfl, rfl⟩, by decide, by decide⟩
theorem okL1_join : lw_ok MX1_join RX1 17 3 := ⟨⟨lw_V q231 q232 q233 q28 q234, by decide +kernel, rfl, rfl⟩, by decide, by decide⟩
theorem okL1_cut : lw_ok MX1_cut RX1 22 2 := ⟨⟨lw_V q239 q240 q241 q28 q242, by decide +kernel, rfl, rfl⟩, by decide, by decide⟩
theorem okL1_setLink : lw_ok MX1_setLink RX1 27 3 := ⟨⟨lw_V q247 q248 q249 q28 q250, by decide +kernel, rfl, rfl⟩, by decide, by decide⟩
theorem okL1_setRouter : lw_ok MX1_setRouter RX1 32 2 := ⟨⟨lw_V q251 q252 q253 q28 q254, by decide +kernel, rfl, rfl⟩, by decide, by decide⟩
theorem okL1_cost : lw_ok MX1_cost RX1 37 2 := ⟨⟨lw_V q255 q256 q257 q28 q258, by decide +kernel, rfl, rfl⟩, by decide, by decide⟩
theorem okL1_distance : lw_ok MX1_distance RX1 41 2 := ⟨⟨lw_V q259 q260 q261 q28 q262, by decide +kernel, rfl, rfl⟩, by decide, by decide⟩
theorem okL1_nextHop : lw_ok MX1_nextHop RX1 45 2 := ⟨⟨lw_V q279 q280 q281 q28 q282, by decide +kernel, rfl, rfl⟩, by decide, by decide⟩
theorem okL1_hops : lw_ok MX1_hops RX1 49 2 := ⟨⟨lw_V q287 q288 q289 q28 q290, by decide +kernel, rfl, rfl⟩, by decide, by decide⟩
theorem okL1_routeAt : lw_ok MX1_routeAt RX1 54 3 := ⟨⟨lw_V q295 q296 q297 q28 q298, by decide +kernel, rfl, rfl⟩, by decide, by decide⟩
theorem okL1_after : lw_ok MX1_after RX1 58 3 := ⟨⟨lw_V q303 q304 q305 q28 q306, by decide +kernel, rfl, rfl⟩, by decide, by decide⟩
theorem okL1_load : lw_ok MX1_load RX1 63 1 := ⟨⟨lw_V q307 q308 q309 q28 q310, by decide +kernel, rfl, rfl⟩, by decide, by decide⟩
theorem okL1_linkLoad : lw_ok MX1_linkLoad RX1 67 2 := ⟨⟨lw_V q315 q316 q317 q28 q318, by decide +kernel, rfl, rfl⟩, by decide, by decide⟩
theorem okL1_reachable : lw_ok MX1_reachable RX1 71 1 := ⟨⟨lw_V q319 q320 q321 q28 q322, by decide +kernel, rfl, rfl⟩, by decide, by decide⟩
theorem okL1_farthest : lw_ok MX1_farthest RX1 75 1 := ⟨⟨lw_V q323 q324 q325 q28 q326, by decide +kernel, rfl, rfl⟩, by decide, by decide⟩
theorem okL1_impact : lw_ok MX1_impact RX1 79 2 := ⟨⟨lw_V q327 q328 q329 q28 q330, by decide +kernel, rfl, rfl⟩, by decide, by decide⟩
theorem lw_case0 {b L : Nat} {xs : Nat → Int32} {i : Nat} {wx wm : jx_Wd} {N : nt_N} (hL : L ≤ 256) (hi : i + 4 ≤ L) (hX : nt_X N wx) (hM : nt_M N wm) (K : ∀ N u v, nt_X N u → nt_M N v → lj_ b L xs i u v 645 []) : lj_ b L xs i wx wm 108 [] := by
  refine lj_al1 dL_law_108 ?_
  refine lj_ld 1 (by decide) hL (by omega) dL_law_109 dL_law_110 dL_law_111 dL_law_112 dL_law_113 ?_
  refine lj_ld 2 (by decide) hL (by omega) dL_law_114 dL_law_115 dL_law_116 dL_law_117 dL_law_118 ?_
  refine lj_ld 3 (by decide) hL (by omega) dL_law_119 dL_law_120 dL_law_121 dL_law_122 dL_law_123 ?_
  refine lj_callX (N := MX0_join) [xs (i + 1), xs (i + 2), xs (i + 3)] rfl okL0_join rfl (Nat.le_of_ble_eq_true rfl) dL_law_124 (mX0_join hX _ _ _) ?_
  rintro _ u ⟨rfl, hX⟩
  refine lj_al2 dL_law_127 ?_
  refine lj_ld 1 (by decide) hL (by omega) dL_law_128 dL_law_129 dL_law_130 dL_law_131 dL_law_132 ?_
  refine lj_ld 2 (by decide) hL (by omega) dL_law_133 dL_law_134 dL_law_135 dL_law_136 dL_law_137 ?_
  refine lj_ld 3 (by decide) hL (by omega) dL_law_138 dL_law_139 dL_law_140 dL_law_141 dL_law_142 ?_
  refine lj_callM (N := MX1_join) [xs (i + 1), xs (i + 2), xs (i + 3)] rfl okL1_join rfl (Nat.le_of_ble_eq_true rfl) dL_law_143 (mX1_join hM _ _ _) ?_
  rintro _ v ⟨rfl, hM⟩
  exact lj_eq dL_law_146 (tgt := 645) (by decide) (K _ _ _ hX hM)
theorem lw_case1 {b L : Nat} {xs : Nat → Int32} {i : Nat} {wx wm : jx_Wd} {N : nt_N} (hL : L ≤ 256) (hi : i + 4 ≤ L) (hX : nt_X N wx) (hM : nt_M N wm) (K : ∀ N u v, nt_X N u → nt_M N v → lj_ b L xs i u v 645 []) : lj_ b L xs i wx wm 151 [] := by
  refine lj_al1 dL_law_151 ?_
  refine lj_ld 1 (by decide) hL (by omega) dL_law_152 dL_law_153 dL_law_154 dL_law_155 dL_law_156 ?_
  refine lj_ld 2 (by decide) hL (by omega) dL_law_157 dL_law_158 dL_law_159 dL_law_160 dL_law_161 ?_
  refine lj_callX (N := MX0_cut) [xs (i + 1), xs (i + 2)] rfl okL0_cut rfl (Nat.le_of_ble_eq_true rfl) dL_law_162 (mX0_cut hX _ _) ?_
  rintro _ u ⟨rfl, hX⟩
  refine lj_al2 dL_law_165 ?_
  refine lj_ld 1 (by decide) hL (by omega) dL_law_166 dL_law_167 dL_law_168 dL_law_169 dL_law_170 ?_
  refine lj_ld 2 (by decide) hL (by omega) dL_law_171 dL_law_172 dL_law_173 dL_law_174 dL_law_175 ?_
  refine lj_callM (N := MX1_cut) [xs (i + 1), xs (i + 2)] rfl okL1_cut rfl (Nat.le_of_ble_eq_true rfl) dL_law_176 (mX1_cut hM _ _) ?_
  rintro _ v ⟨rfl, hM⟩
  exact lj_eq dL_law_179 (tgt := 645) (by decide) (K _ _ _ hX hM)
theorem lw_case2 {b L : Nat} {xs : Nat → Int32} {i : Nat} {wx wm : jx_Wd} {N : nt_N} (hL : L ≤ 256) (hi : i + 4 ≤ L) (hX : nt_X N wx) (hM : nt_M N wm) (K : ∀ N u v, nt_X N u → nt_M N v → lj_ b L xs i u v 645 []) : lj_ b L xs i wx wm 184 [] := by
  refine lj_al1 dL_law_184 ?_
  refine lj_ld 1 (by decide) hL (by omega) dL_law_185 dL_law_186 dL_law_187 dL_law_188 dL_law_189 ?_
  refine lj_ld 2 (by decide) hL (by omega) dL_law_190 dL_law_191 dL_law_192 dL_law_193 dL_law_194 ?_
  refine lj_ld 3 (by decide) hL (by omega) dL_law_195 dL_law_196 dL_law_197 dL_law_198 dL_law_199 ?_
  refine lj_nz dL_law_200 dL_law_203 dL_law_204 dL_law_207 ?_
  refine lj_callX (N := MX0_setLink) [xs (i + 1), xs (i + 2), nt_bi (decide (¬ xs (i + 3) = 0))] rfl okL0_setLink rfl (Nat.le_of_ble_eq_true rfl) dL_law_208 (mX0_setLink hX _ _ (decide (¬ xs (i + 3) = 0))) ?_
  rintro _ u ⟨rfl, hX⟩
  refine lj_al2 dL_law_211 ?_
  refine lj_ld 1 (by decide) hL (by omega) dL_law_212 dL_law_213 dL_law_214 dL_law_215 dL_law_216 ?_
  refine lj_ld 2 (by decide) hL (by omega) dL_law_217 dL_law_218 dL_law_219 dL_law_220 dL_law_221 ?_
  refine lj_ld 3 (by decide) hL (by omega) dL_law_222 dL_law_223 dL_law_224 dL_law_225 dL_law_226 ?_
  refine lj_nz dL_law_227 dL_law_230 dL_law_231 dL_law_234 ?_
  refine lj_callM (N := MX1_setLink) [xs (i + 1), xs (i + 2), nt_bi (decide (¬ xs (i + 3) = 0))] rfl okL1_setLink rfl (Nat.le_of_ble_eq_true rfl) dL_law_235 (mX1_setLink hM _ _ (decide (¬ xs (i + 3) = 0))) ?_
  rintro _ v ⟨rfl, hM, -⟩
  exact lj_eq dL_law_238 (tgt := 645) (by decide) (K _ _ _ hX hM)
theorem lw_case3 {b L : Nat} {xs : Nat → Int32} {i : Nat} {wx wm : jx_Wd} {N : nt_N} (hL : L ≤ 256) (hi : i + 4 ≤ L) (hX : nt_X N wx) (hM : nt_M N wm) (K : ∀ N u v, nt_X N u → nt_M N v → lj_ b L xs i u v 645 []) : lj_ b L xs i wx wm 243 [] := by
  refine lj_al1 dL_law_243 ?_
  refine lj_ld 1 (by decide) hL (by omega) dL_law_244 dL_law_245 dL_law_246 dL_law_247 dL_law_248 ?_
  refine lj_ld 2 (by decide) hL (by omega) dL_law_249 dL_law_250 dL_law_251 dL_law_252 dL_law_253 ?_
  refine lj_nz dL_law_254 dL_law_257 dL_law_258 dL_law_261 ?_
  refine lj_callX (N := MX0_setRouter) [xs (i + 1), nt_bi (decide (¬ xs (i + 2) = 0))] rfl okL0_setRouter rfl (Nat.le_of_ble_eq_true rfl) dL_law_262 (mX0_setRouter hX _ (decide (¬ xs (i + 2) = 0))) ?_
  rintro _ u ⟨rfl, hX⟩
  refine lj_al2 dL_law_265 ?_
  refine lj_ld 1 (by decide) hL (by omega) dL_law_266 dL_law_267 dL_law_268 dL_law_269 dL_law_270 ?_
  refine lj_ld 2 (by decide) hL (by omega) dL_law_271 dL_law_272 dL_law_273 dL_law_274 dL_law_275 ?_
  refine lj_nz dL_law_276 dL_law_279 dL_law_280 dL_law_283 ?_
  refine lj_callM (N := MX1_setRouter) [xs (i + 1), nt_bi (decide (¬ xs (i + 2) = 0))] rfl okL1_setRouter rfl (Nat.le_of_ble_eq_true rfl) dL_law_284 (mX1_setRouter hM _ (decide (¬ xs (i + 2) = 0))) ?_
  rintro _ v ⟨rfl, hM⟩
  exact lj_eq dL_law_287 (tgt := 645) (by decide) (K _ _ _ hX hM)
theorem lw_case4 {b L : Nat} {xs : Nat → Int32} {i : Nat} {wx wm : jx_Wd} {N : nt_N} (hL : L ≤ 256) (hi : i + 4 ≤ L) (hX : nt_X N wx) (hM : nt_M N wm) (K : ∀ N u v, nt_X N u → nt_M N v → lj_ b L xs i u v 645 []) : lj_ b L xs i wx wm 292 [] := by
  refine lj_al1 dL_law_292 ?_
  refine lj_ld 1 (by decide) hL (by omega) dL_law_293 dL_law_294 dL_law_295 dL_law_296 dL_law_297 ?_
  refine lj_ld 2 (by decide) hL (by omega) dL_law_298 dL_law_299 dL_law_300 dL_law_301 dL_law_302 ?_
  refine lj_callX (N := MX0_cost) [xs (i + 1), xs (i + 2)] rfl okL0_cost rfl (Nat.le_of_ble_eq_true rfl) dL_law_303 (mX0_cost hX _ _) ?_
  rintro _ _ ⟨rfl, rfl⟩
  refine lj_al2 dL_law_306 ?_
  refine lj_ld 1 (by decide) hL (by omega) dL_law_307 dL_law_308 dL_law_309 dL_law_310 dL_law_311 ?_
  refine lj_ld 2 (by decide) hL (by omega) dL_law_312 dL_law_313 dL_law_314 dL_law_315 dL_law_316 ?_
  refine lj_callM (N := MX1_cost) [xs (i + 1), xs (i + 2)] rfl okL1_cost rfl (Nat.le_of_ble_eq_true rfl) dL_law_317 (mX1_cost hM _ _) ?_
  rintro _ _ ⟨rfl, rfl⟩
  exact lj_eq dL_law_320 (tgt := 645) (by decide) (K _ _ _ hX hM)
theorem lw_case5 {b L : Nat} {xs : Nat → Int32} {i : Nat} {wx wm : jx_Wd} {N : nt_N} (hL : L ≤ 256) (hi : i + 4 ≤ L) (hX : nt_X N wx) (hM : nt_M N wm) (K : ∀ N u v, nt_X N u → nt_M N v → lj_ b L xs i u v 645 []) : lj_ b L xs i wx wm 325 [] := by
  refine lj_al1 dL_law_325 ?_
  refine lj_ld 1 (by decide) hL (by omega) dL_law_326 dL_law_327 dL_law_328 dL_law_329 dL_law_330 ?_
  refine lj_ld 2 (by decide) hL (by omega) dL_law_331 dL_law_332 dL_law_333 dL_law_334 dL_law_335 ?_
  refine lj_callX (N := MX0_distance) [xs (i + 1), xs (i + 2)] rfl okL0_distance rfl (Nat.le_of_ble_eq_true rfl) dL_law_336 (mX0_distance hX _ _) ?_
  rintro _ u ⟨rfl, hX⟩
  refine lj_al2 dL_law_339 ?_
  refine lj_ld 1 (by decide) hL (by omega) dL_law_340 dL_law_341 dL_law_342 dL_law_343 dL_law_344 ?_
  refine lj_ld 2 (by decide) hL (by omega) dL_law_345 dL_law_346 dL_law_347 dL_law_348 dL_law_349 ?_
  refine lj_callM (N := MX1_distance) [xs (i + 1), xs (i + 2)] rfl okL1_distance rfl (Nat.le_of_ble_eq_true rfl) dL_law_350 (mX1_distance hM _ _) ?_
  rintro _ v ⟨rfl, hM⟩
  exact lj_eq dL_law_353 (tgt := 645) (by decide) (K _ _ _ hX hM)
theorem lw_case6 {b L : Nat} {xs : Nat → Int32} {i : Nat} {wx wm : jx_Wd} {N : nt_N} (hL : L ≤ 256) (hi : i + 4 ≤ L) (hX : nt_X N wx) (hM : nt_M N wm) (K : ∀ N u v, nt_X N u → nt_M N v → lj_ b L xs i u v 645 []) : lj_ b L xs i wx wm 358 [] := by
  refine lj_al1 dL_law_358 ?_
  refine lj_ld 1 (by decide) hL (by omega) dL_law_359 dL_law_360 dL_law_361 dL_law_362 dL_law_363 ?_
  refine lj_ld 2 (by decide) hL (by omega) dL_law_364 dL_law_365 dL_law_366 dL_law_367 dL_law_368 ?_
  refine lj_callX (N := MX0_nextHop) [xs (i + 1), xs (i + 2)] rfl okL0_nextHop rfl (Nat.le_of_ble_eq_true rfl) dL_law_369 (mX0_nextHop hX _ _) ?_
  rintro _ u ⟨rfl, hX⟩
  refine lj_al2 dL_law_372 ?_
  refine lj_ld 1 (by decide) hL (by omega) dL_law_373 dL_law_374 dL_law_375 dL_law_376 dL_law_377 ?_
  refine lj_ld 2 (by decide) hL (by omega) dL_law_378 dL_law_379 dL_law_380 dL_law_381 dL_law_382 ?_
  refine lj_callM (N := MX1_nextHop) [xs (i + 1), xs (i + 2)] rfl okL1_nextHop rfl (Nat.le_of_ble_eq_true rfl) dL_law_383 (mX1_nextHop hM _ _) ?_
  rintro _ v ⟨rfl, hM⟩
  exact lj_eq dL_law_386 (tgt := 645) (by decide) (K _ _ _ hX hM)
theorem lw_case7 {b L : Nat} {xs : Nat → Int32} {i : Nat} {wx wm : jx_Wd} {N : nt_N} (hL : L ≤ 256) (hi : i + 4 ≤ L) (hX : nt_X N wx) (hM : nt_M N wm) (K : ∀ N u v, nt_X N u → nt_M N v → lj_ b L xs i u v 645 []) : lj_ b L xs i wx wm 391 [] := by
  refine lj_al1 dL_law_391 ?_
  refine lj_ld 1 (by decide) hL (by omega) dL_law_392 dL_law_393 dL_law_394 dL_law_395 dL_law_396 ?_
  refine lj_ld 2 (by decide) hL (by omega) dL_law_397 dL_law_398 dL_law_399 dL_law_400 dL_law_401 ?_
  refine lj_callX (N := MX0_hops) [xs (i + 1), xs (i + 2)] rfl okL0_hops rfl (Nat.le_of_ble_eq_true rfl) dL_law_402 (mX0_hops hX _ _) ?_
  rintro _ u ⟨rfl, hX⟩
  refine lj_al2 dL_law_405 ?_
  refine lj_ld 1 (by decide) hL (by omega) dL_law_406 dL_law_407 dL_law_408 dL_law_409 dL_law_410 ?_
  refine lj_ld 2 (by decide) hL (by omega) dL_law_411 dL_law_412 dL_law_413 dL_law_414 dL_law_415 ?_
  refine lj_callM (N := MX1_hops) [xs (i + 1), xs (i + 2)] rfl okL1_hops rfl (Nat.le_of_ble_eq_true rfl) dL_law_416 (mX1_hops hM _ _) ?_
  rintro _ v ⟨rfl, hM⟩
  exact lj_eq dL_law_419 (tgt := 645) (by decide) (K _ _ _ hX hM)
theorem lw_case8 {b L : Nat} {xs : Nat → Int32} {i : Nat} {wx wm : jx_Wd} {N : nt_N} (hL : L ≤ 256) (hi : i + 4 ≤ L) (hX : nt_X N wx) (hM : nt_M N wm) (K : ∀ N u v, nt_X N u → nt_M N v → lj_ b L xs i u v 645 []) : lj_ b L xs i wx wm 424 [] := by
  refine lj_al1 dL_law_424 ?_
  refine lj_ld 1 (by decide) hL (by omega) dL_law_425 dL_law_426 dL_law_427 dL_law_428 dL_law_429 ?_
  refine lj_ld 2 (by decide) hL (by omega) dL_law_430 dL_law_431 dL_law_432 dL_law_433 dL_law_434 ?_
  refine lj_ld 3 (by decide) hL (by omega) dL_law_435 dL_law_436 dL_law_437 dL_law_438 dL_law_439 ?_
  refine lj_callX (N := MX0_routeAt) [xs (i + 1), xs (i + 2), xs (i + 3)] rfl okL0_routeAt rfl (Nat.le_of_ble_eq_true rfl) dL_law_440 (mX0_routeAt hX _ _ _) ?_
  rintro _ u ⟨rfl, hX⟩
  refine lj_al2 dL_law_443 ?_
  refine lj_ld 1 (by decide) hL (by omega) dL_law_444 dL_law_445 dL_law_446 dL_law_447 dL_law_448 ?_
  refine lj_ld 2 (by decide) hL (by omega) dL_law_449 dL_law_450 dL_law_451 dL_law_452 dL_law_453 ?_
  refine lj_ld 3 (by decide) hL (by omega) dL_law_454 dL_law_455 dL_law_456 dL_law_457 dL_law_458 ?_
  refine lj_callM (N := MX1_routeAt) [xs (i + 1), xs (i + 2), xs (i + 3)] rfl okL1_routeAt rfl (Nat.le_of_ble_eq_true rfl) dL_law_459 (mX1_routeAt hM _ _ _) ?_
  rintro _ v ⟨rfl, hM⟩
  exact lj_eq dL_law_462 (tgt := 645) (by decide) (K _ _ _ hX hM)
theorem lw_case9 {b L : Nat} {xs : Nat → Int32} {i : Nat} {wx wm : jx_Wd} {N : nt_N} (hL : L ≤ 256) (hi : i + 4 ≤ L) (hX : nt_X N wx) (hM : nt_M N wm) (K : ∀ N u v, nt_X N u → nt_M N v → lj_ b L xs i u v 645 []) : lj_ b L xs i wx wm 467 [] := by
  refine lj_al1 dL_law_467 ?_
  refine lj_ld 1 (by decide) hL (by omega) dL_law_468 dL_law_469 dL_law_470 dL_law_471 dL_law_472 ?_
  refine lj_ld 2 (by decide) hL (by omega) dL_law_473 dL_law_474 dL_law_475 dL_law_476 dL_law_477 ?_
  refine lj_ld 3 (by decide) hL (by omega) dL_law_478 dL_law_479 dL_law_480 dL_law_481 dL_law_482 ?_
  refine lj_callX (N := MX0_after) [xs (i + 1), xs (i + 2), xs (i + 3)] rfl okL0_after rfl (Nat.le_of_ble_eq_true rfl) dL_law_483 (mX0_after hX _ _ _) ?_
  rintro _ u ⟨rfl, hX⟩
  refine lj_al2 dL_law_486 ?_
  refine lj_ld 1 (by decide) hL (by omega) dL_law_487 dL_law_488 dL_law_489 dL_law_490 dL_law_491 ?_
  refine lj_ld 2 (by decide) hL (by omega) dL_law_492 dL_law_493 dL_law_494 dL_law_495 dL_law_496 ?_
  refine lj_ld 3 (by decide) hL (by omega) dL_law_497 dL_law_498 dL_law_499 dL_law_500 dL_law_501 ?_
  refine lj_callM (N := MX1_after) [xs (i + 1), xs (i + 2), xs (i + 3)] rfl okL1_after rfl (Nat.le_of_ble_eq_true rfl) dL_law_502 (mX1_after hM _ _ _) ?_
  rintro _ v ⟨rfl, hM⟩
  exact lj_eq dL_law_505 (tgt := 645) (by decide) (K _ _ _ hX hM)
theorem lw_case10 {b L : Nat} {xs : Nat → Int32} {i : Nat} {wx wm : jx_Wd} {N : nt_N} (hL : L ≤ 256) (hi : i + 4 ≤ L) (hX : nt_X N wx) (hM : nt_M N wm) (K : ∀ N u v, nt_X N u → nt_M N v → lj_ b L xs i u v 645 []) : lj_ b L xs i wx wm 510 [] := by
  refine lj_al1 dL_law_510 ?_
  refine lj_ld 1 (by decide) hL (by omega) dL_law_511 dL_law_512 dL_law_513 dL_law_514 dL_law_515 ?_
  refine lj_callX (N := MX0_load) [xs (i + 1)] rfl okL0_load rfl (Nat.le_of_ble_eq_true rfl) dL_law_516 (mX0_load hX _) ?_
  rintro _ u ⟨rfl, hX⟩
  refine lj_al2 dL_law_519 ?_
  refine lj_ld 1 (by decide) hL (by omega) dL_law_520 dL_law_521 dL_law_522 dL_law_523 dL_law_524 ?_
  refine lj_callM (N := MX1_load) [xs (i + 1)] rfl okL1_load rfl (Nat.le_of_ble_eq_true rfl) dL_law_525 (mX1_load hM _) ?_
  rintro _ v ⟨rfl, hM⟩
  exact lj_eq dL_law_528 (tgt := 645) (by decide) (K _ _ _ hX hM)
theorem lw_case11 {b L : Nat} {xs : Nat → Int32} {i : Nat} {wx wm : jx_Wd} {N : nt_N} (hL : L ≤ 256) (hi : i + 4 ≤ L) (hX : nt_X N wx) (hM : nt_M N wm) (K : ∀ N u v, nt_X N u → nt_M N v → lj_ b L xs i u v 645 []) : lj_ b L xs i wx wm 533 [] := by
  refine lj_al1 dL_law_533 ?_
  refine lj_ld 1 (by decide) hL (by omega) dL_law_534 dL_law_535 dL_law_536 dL_law_537 dL_law_538 ?_
  refine lj_ld 2 (by decide) hL (by omega) dL_law_539 dL_law_540 dL_law_541 dL_law_542 dL_law_543 ?_
  refine lj_callX (N := MX0_linkLoad) [xs (i + 1), xs (i + 2)] rfl okL0_linkLoad rfl (Nat.le_of_ble_eq_true rfl) dL_law_544 (mX0_linkLoad hX _ _) ?_
  rintro _ u ⟨rfl, hX⟩
  refine lj_al2 dL_law_547 ?_
  refine lj_ld 1 (by decide) hL (by omega) dL_law_548 dL_law_549 dL_law_550 dL_law_551 dL_law_552 ?_
  refine lj_ld 2 (by decide) hL (by omega) dL_law_553 dL_law_554 dL_law_555 dL_law_556 dL_law_557 ?_
  refine lj_callM (N := MX1_linkLoad) [xs (i + 1), xs (i + 2)] rfl okL1_linkLoad rfl (Nat.le_of_ble_eq_true rfl) dL_law_558 (mX1_linkLoad hM _ _) ?_
  rintro _ v ⟨rfl, hM⟩
  exact lj_eq dL_law_561 (tgt := 645) (by decide) (K _ _ _ hX hM)
theorem lw_case12 {b L : Nat} {xs : Nat → Int32} {i : Nat} {wx wm : jx_Wd} {N : nt_N} (hL : L ≤ 256) (hi : i + 4 ≤ L) (hX : nt_X N wx) (hM : nt_M N wm) (K : ∀ N u v, nt_X N u → nt_M N v → lj_ b L xs i u v 645 []) : lj_ b L xs i wx wm 566 [] := by
  refine lj_al1 dL_law_566 ?_
  refine lj_ld 1 (by decide) hL (by omega) dL_law_567 dL_law_568 dL_law_569 dL_law_570 dL_law_571 ?_
  refine lj_callX (N := MX0_reachable) [xs (i + 1)] rfl okL0_reachable rfl (Nat.le_of_ble_eq_true rfl) dL_law_572 (mX0_reachable hX _) ?_
  rintro _ u ⟨rfl, hX⟩
  refine lj_al2 dL_law_575 ?_
  refine lj_ld 1 (by decide) hL (by omega) dL_law_576 dL_law_577 dL_law_578 dL_law_579 dL_law_580 ?_
  refine lj_callM (N := MX1_reachable) [xs (i + 1)] rfl okL1_reachable rfl (Nat.le_of_ble_eq_true rfl) dL_law_581 (mX1_reachable hM _) ?_
  rintro _ v ⟨rfl, hM⟩
  exact lj_eq dL_law_584 (tgt := 645) (by decide) (K _ _ _ hX hM)
theorem lw_case13 {b L : Nat} {xs : Nat → Int32} {i : Nat} {wx wm : jx_Wd} {N : nt_N} (hL : L ≤ 256) (hi : i + 4 ≤ L) (hX : nt_X N wx) (hM : nt_M N wm) (K : ∀ N u v, nt_X N u → nt_M N v → lj_ b L xs i u v 645 []) : lj_ b L xs i wx wm 589 [] := by
  refine lj_al1 dL_law_589 ?_
  refine lj_ld 1 (by decide) hL (by omega) dL_law_590 dL_law_591 dL_law_592 dL_law_593 dL_law_594 ?_
  refine lj_callX (N := MX0_farthest) [xs (i + 1)] rfl okL0_farthest rfl (Nat.le_of_ble_eq_true rfl) dL_law_595 (mX0_farthest hX _) ?_
  rintro _ u ⟨rfl, hX⟩
  refine lj_al2 dL_law_598 ?_
  refine lj_ld 1 (by decide) hL (by omega) dL_law_599 dL_law_600 dL_law_601 dL_law_602 dL_law_603 ?_
  refine lj_callM (N := MX1_farthest) [xs (i + 1)] rfl okL1_farthest rfl (Nat.le_of_ble_eq_true rfl) dL_law_604 (mX1_farthest hM _) ?_
  rintro _ v ⟨rfl, hM⟩
  exact lj_eq dL_law_607 (tgt := 645) (by decide) (K _ _ _ hX hM)
theorem lw_case14 {b L : Nat} {xs : Nat → Int32} {i : Nat} {wx wm : jx_Wd} {N : nt_N} (hL : L ≤ 256) (hi : i + 4 ≤ L) (hX : nt_X N wx) (hM : nt_M N wm) (K : ∀ N u v, nt_X N u → nt_M N v → lj_ b L xs i u v 645 []) : lj_ b L xs i wx wm 612 [] := by
  refine lj_al1 dL_law_612 ?_
  refine lj_ld 1 (by decide) hL (by omega) dL_law_613 dL_law_614 dL_law_615 dL_law_616 dL_law_617 ?_
  refine lj_ld 2 (by decide) hL (by omega) dL_law_618 dL_law_619 dL_law_620 dL_law_621 dL_law_622 ?_
  refine lj_callX (N := MX0_impact) [xs (i + 1), xs (i + 2)] rfl okL0_impact rfl (Nat.le_of_ble_eq_true rfl) dL_law_623 (mX0_impact hX _ _) ?_
  rintro _ u ⟨rfl, hX⟩
  refine lj_al2 dL_law_626 ?_
  refine lj_ld 1 (by decide) hL (by omega) dL_law_627 dL_law_628 dL_law_629 dL_law_630 dL_law_631 ?_
  refine lj_ld 2 (by decide) hL (by omega) dL_law_632 dL_law_633 dL_law_634 dL_law_635 dL_law_636 ?_
  refine lj_callM (N := MX1_impact) [xs (i + 1), xs (i + 2)] rfl okL1_impact rfl (Nat.le_of_ble_eq_true rfl) dL_law_637 (mX1_impact hM _ _) ?_
  rintro _ v ⟨rfl, hM⟩
  exact lj_eq dL_law_640 (tgt := 645) (by decide) (K _ _ _ hX hM)
theorem lw_switch {b L : Nat} {xs : Nat → Int32} {i : Nat} {wx wm : jx_Wd} {N : nt_N} (hL : L ≤ 256) (hi : i + 4 ≤ L) (hX : nt_X N wx) (hM : nt_M N wm) (K : ∀ N u v, nt_X N u → nt_M N v → lj_ b L xs i u v 645 []) : lj_ b L xs i wx wm 26 [] := by
  refine lj_ld0 hL (by omega) dL_law_26 dL_law_27 dL_law_28 ?_
  intro p l e s m below meth c D g0 g1 ct0 ct1 C0 hK0 hK1 hdj H locs ls hP0 hP1 hD0 hD1 hS hl
  refine lv_bipush (v := 15) C0.1 C0.2.1 dL_law_29 (by decide) ?_
  refine lv_iand C0.1 C0.2.1 dL_law_31 ?_
  obtain ⟨j, hj, ej⟩ := pk_andE (xs i) (m := 15) 4 (by decide)
  rw [ej]
  match j, hj with
  | 0, _ => exact lv_tableIn (off := 76) (tgt := 108) C0.1 C0.2.1 dL_law_32 (by decide) (by decide) (by decide) (by decide) (lw_case0 hL hi hX hM K p l e s m below meth c D g0 g1 ct0 ct1 C0 hK0 hK1 hdj H locs ls hP0 hP1 hD0 hD1 hS hl)
  | 1, _ => exact lv_tableIn (off := 119) (tgt := 151) C0.1 C0.2.1 dL_law_32 (by decide) (by decide) (by decide) (by decide) (lw_case1 hL hi hX hM K p l e s m below meth c D g0 g1 ct0 ct1 C0 hK0 hK1 hdj H locs ls hP0 hP1 hD0 hD1 hS hl)
  | 2, _ => exact lv_tableIn (off := 152) (tgt := 184) C0.1 C0.2.1 dL_law_32 (by decide) (by decide) (by decide) (by decide) (lw_case2 hL hi hX hM K p l e s m below meth c D g0 g1 ct0 ct1 C0 hK0 hK1 hdj H locs ls hP0 hP1 hD0 hD1 hS hl)
  | 3, _ => exact lv_tableIn (off := 211) (tgt := 243) C0.1 C0.2.1 dL_law_32 (by decide) (by decide) (by decide) (by decide) (lw_case3 hL hi hX hM K p l e s m below meth c D g0 g1 ct0 ct1 C0 hK0 hK1 hdj H locs ls hP0 hP1 hD0 hD1 hS hl)
  | 4, _ => exact lv_tableIn (off := 260) (tgt := 292) C0.1 C0.2.1 dL_law_32 (by decide) (by decide) (by decide) (by decide) (lw_case4 hL hi hX hM K p l e s m below meth c D g0 g1 ct0 ct1 C0 hK0 hK1 hdj H locs ls hP0 hP1 hD0 hD1 hS hl)
  | 5, _ => exact lv_tableIn (off := 293) (tgt := 325) C0.1 C0.2.1 dL_law_32 (by decide) (by decide) (by decide) (by decide) (lw_case5 hL hi hX hM K p l e s m below meth c D g0 g1 ct0 ct1 C0 hK0 hK1 hdj H locs ls hP0 hP1 hD0 hD1 hS hl)
  | 6, _ => exact lv_tableIn (off := 326) (tgt := 358) C0.1 C0.2.1 dL_law_32 (by decide) (by decide) (by decide) (by decide) (lw_case6 hL hi hX hM K p l e s m below meth c D g0 g1 ct0 ct1 C0 hK0 hK1 hdj H locs ls hP0 hP1 hD0 hD1 hS hl)
  | 7, _ => exact lv_tableIn (off := 359) (tgt := 391) C0.1 C0.2.1 dL_law_32 (by decide) (by decide) (by decide) (by decide) (lw_case7 hL hi hX hM K p l e s m below meth c D g0 g1 ct0 ct1 C0 hK0 hK1 hdj H locs ls hP0 hP1 hD0 hD1 hS hl)
  | 8, _ => exact lv_tableIn (off := 392) (tgt := 424) C0.1 C0.2.1 dL_law_32 (by decide) (by decide) (by decide) (by decide) (lw_case8 hL hi hX hM K p l e s m below meth c D g0 g1 ct0 ct1 C0 hK0 hK1 hdj H locs ls hP0 hP1 hD0 hD1 hS hl)
  | 9, _ => exact lv_tableIn (off := 435) (tgt := 467) C0.1 C0.2.1 dL_law_32 (by decide) (by decide) (by decide) (by decide) (lw_case9 hL hi hX hM K p l e s m below meth c D g0 g1 ct0 ct1 C0 hK0 hK1 hdj H locs ls hP0 hP1 hD0 hD1 hS hl)
  | 10, _ => exact lv_tableIn (off := 478) (tgt := 510) C0.1 C0.2.1 dL_law_32 (by decide) (by decide) (by decide) (by decide) (lw_case10 hL hi hX hM K p l e s m below meth c D g0 g1 ct0 ct1 C0 hK0 hK1 hdj H locs ls hP0 hP1 hD0 hD1 hS hl)
  | 11, _ => exact lv_tableIn (off := 501) (tgt := 533) C0.1 C0.2.1 dL_law_32 (by decide) (by decide) (by decide) (by decide) (lw_case11 hL hi hX hM K p l e s m below meth c D g0 g1 ct0 ct1 C0 hK0 hK1 hdj H locs ls hP0 hP1 hD0 hD1 hS hl)
  | 12, _ => exact lv_tableIn (off := 534) (tgt := 566) C0.1 C0.2.1 dL_law_32 (by decide) (by decide) (by decide) (by decide) (lw_case12 hL hi hX hM K p l e s m below meth c D g0 g1 ct0 ct1 C0 hK0 hK1 hdj H locs ls hP0 hP1 hD0 hD1 hS hl)
  | 13, _ => exact lv_tableIn (off := 557) (tgt := 589) C0.1 C0.2.1 dL_law_32 (by decide) (by decide) (by decide) (by decide) (lw_case13 hL hi hX hM K p l e s m below meth c D g0 g1 ct0 ct1 C0 hK0 hK1 hdj H locs ls hP0 hP1 hD0 hD1 hS hl)
  | 14, _ => exact lv_tableIn (off := 580) (tgt := 612) C0.1 C0.2.1 dL_law_32 (by decide) (by decide) (by decide) (by decide) (lw_case14 hL hi hX hM K p l e s m below meth c D g0 g1 ct0 ct1 C0 hK0 hK1 hdj H locs ls hP0 hP1 hD0 hD1 hS hl)
  | 15, _ => exact lv_tableOut (tgt := 645) C0.1 C0.2.1 dL_law_32 (by decide) (by decide) (K N wx wm hX hM p l e s m below meth c D g0 g1 ct0 ct1 C0 hK0 hK1 hdj H locs ls hP0 hP1 hD0 hD1 hS hl)
  | j + 16, hj => exact absurd hj (by omega)
theorem lw_loop {b L : Nat} {xs : Nat → Int32} (hL : L ≤ 256) : ∀ (n i : Nat) (N : nt_N) (wx wm : jx_Wd), i ≤ L + 4 → L + 4 < i + n → nt_X N wx → nt_M N wm → lj_ b L xs i wx wm 18 [] := by
  intro n
  induction n with
  | zero => intro i N wx wm h1 h2; omega
  | succ n ih =>
    intro i N wx wm h1 h2 hX hM
    intro p l e s m below meth c D g0 g1 ct0 ct1 C0 hK0 hK1 hdj H locs ls hP0 hP1 hD0 hD1 hS hl
    have hbA : ¬ (fun q : Nat => s.heap.size ≤ q) b := Nat.not_le.mpr C0.2.2.2.2.2.2.2.1
    refine lv_iload_n C0.1 C0.2.1 dL_law_18 rfl (lv_at hl 3 rfl) ?_
    refine lv_aload_n C0.1 C0.2.1 dL_law_19 rfl (lv_at hl 0 rfl) ?_
    refine va_slen C0.1 C0.2.1 C0.2.2.2.2.2.2.1 C0.2.2.2.2.2.2.2.1 hbA hS dL_law_20 ?_
    refine lv_iconst (v := 4) C0.1 C0.2.1 dL_law_21 (by decide) ?_
    refine lv_isub C0.1 C0.2.1 dL_law_22 ?_
    have ec : (Int32.ofNat L - 4 < nI i) ↔ L < i + 4 := by
      rw [Int32.lt_iff_toInt_lt, nI_toInt (by omega)]
      have := pk_sub_toInt (a := L) (b := 4) (by omega) (by decide)
      have : (Int32.ofNat L - 4).toInt = (L : Int) - 4 := this
      omega
    refine lv_icmp_gt (tgt := 651) C0.1 C0.2.1 dL_law_23 (by decide) (fun h => ?_) (fun h => ?_)
    · refine lv_iconst (v := 1) C0.1 C0.2.1 dL_law_651 (by decide) ?_
      refine va_forget (fun q hq => hS.2.2 q hq) ?_
      refine W.widen (k := 600000) (n := 7290000) (by decide) (by decide) ?_
      exact lw_ret C0.1 C0.2.1 C0.2.2.1 C0.2.2.2.2.2.2.2.2.1 dL_law_652
    · rw [ec] at h
      have hi4 : i + 4 ≤ L := by omega
      refine lw_switch hL hi4 hX hM ?_ p l e s m below meth c D g0 g1 ct0 ct1 C0 hK0 hK1 hdj H locs ls hP0 hP1 hD0 hD1 hS hl
      intro N' u v hX' hM'
      intro p l e s m below meth c D g0 g1 ct0 ct1 C0 hK0 hK1 hdj H locs ls hP0 hP1 hD0 hD1 hS hl
      refine lv_iinc (v := nI (i + 4)) (lv' := [(3, .int (nI (i + 4))), (0, .ref b), (1, .ref (g0 0)), (2, .ref (g1 0))]) C0.1 C0.2.1 dL_law_645 hl (k := 3) rfl (by rw [← nI_add]; rfl) (by decide) rfl (fun ls hl => ?_)
      refine lv_goto (tgt := 18) C0.1 C0.2.1 dL_law_648 (by decide) ?_
      exact ih (i + 4) N' u v (by omega) (by omega) hX' hM' p l e s m below meth c D g0 g1 ct0 ct1 C0 hK0 hK1 hdj H locs ls hP0 hP1 hD0 hD1 hS (lv_sub hl [1, 2, 3, 0] rfl)
end
section
/-! THE LAW FROM ITS ENTRY, AND THE CLAIM -/
set_option maxRecDepth 100000
theorem whole_start {p : Program} {e : Env} {s : State} {m : MethodId} {below : List Frame} {meth : Method} {c : Code} (l : Launch) {b L : Nat} {xs : Nat → Int32} (hL : L ≤ 256) (C0 : lw_At p s m meth c b L xs) : W p l e room_1 s m #[Value.ref b] below meth c s.heap [] 0 0 (lw_Z below #[Value.ref b] s) (entryFrame m ([Value.ref b] : List Value).toArray 4) := by
  obtain ⟨hx, hb, hr, hml, hown, hts0, hX, hbl, hlocks, hgv⟩ := id C0
  have hts : ∀ w ∈ lw_all, w.before #[Value.ref b] s = true := fun w h => hts0 w (lw_all_tbl h)
  have hA : ∀ q : Nat, s.heap.size ≤ q → (fun q : Nat => s.heap.size ≤ q) q := fun _ h => h
  obtain ⟨c0, iS0, hKn0⟩ := u_known (C := RX0) (T := TX0) (N := 13) (n := 13) hts0 (fun w h => lw_all_tbl (in_X0 w h)) (hts _ q30)
  obtain ⟨c1, iS1, hKn1⟩ := u_known (C := RX1) (T := TX1) (N := 5) (n := 5) hts0 (fun w h => lw_all_tbl (in_X1 w h)) (hts _ q209)
  obtain ⟨D, hKc⟩ : ∃ D : va_G, ∀ (k : Nat) (q : vw_C), vwCl[k]? = some q → u_Kn s q.1 q.2.1 q.2.2 (D.1 k) (D.2 k) := by
    refine ⟨(fun k => if k = 0 then c0 else c1, fun k => if k = 0 then iS0 else iS1), ?_⟩
    intro k q hq
    match k, hq with
    | 0, hq => cases hq; exact hKn0
    | 1, hq => cases hq; exact hKn1
    | k + 2, hq => simp [vwCl] at hq
  have hS : va_S (fun q : Nat => s.heap.size ≤ q) s.heap s.heap [] := va_S.rf
  have hK : va_K D vwCl [] s := ⟨hKc, fun k q h => by simp at h⟩
  have hP : va_P D vwCl [] s.heap := fun k q h => by simp at h
  have hD : va_D (fun q : Nat => s.heap.size ≤ q) [] := ⟨fun i j p q h => by simp at h, fun k q h => by simp at h⟩
  have hl := lv_entry ([.ref b]) (n := 4) (Nat.le_of_ble_eq_true rfl)
  rw [lg_entry_eq]
  generalize (lg_sl ([.ref b]) ++ List.replicate (4 - (lg_sl ([.ref b])).length) Slot.unset).toArray = ls at hl ⊢
  have hl : lv_has ls 4 [(0, .ref b)] := hl
  refine va_new (ci := 0) (fs := f0X0) (C := RX0) (T := TX0) (N := 13) hx hb hts in_X0 tyX0 tyX0_ok hown (hts _ q29) (hts _ q30) (hts _ q27) hK hP hD hS hA rfl (fun j hj => by rcases (show j = 0 ∨ j = 1 ∨ j = 2 ∨ j = 3 ∨ j = 4 ∨ j = 5 ∨ j = 6 ∨ j = 7 ∨ j = 8 ∨ j = 9 ∨ j = 10 ∨ j = 11 ∨ j = 12 by omega) with rfl | rfl | rfl | rfl | rfl | rfl | rfl | rfl | rfl | rfl | rfl | rfl | rfl <;> rfl) (Nat.le_of_ble_eq_true rfl) (Nat.le_of_ble_eq_true rfl) dL_law_0 (fun q0 H hP hD hS => ?_)
  have hP : va_P D vwCl [(q0, .inr (0, f0X0))] H := hP
  have hD : va_D (fun q : Nat => s.heap.size ≤ q) [(q0, .inr (0, f0X0))] := hD
  refine W.widen (k := 1) (n := 13) (by omega) (by omega) ?_
  refine lv_dup hx hb dL_law_3 rfl ?_
  have hPc := hP
  have hDc := hD
  have hKc := hK
  have hFc := va_free (wc := [(q0, .inr (0, f0X0))]) hD hS hA [0] rfl
  refine va_callv (va_runI (As := []) (rest := [.ref q0]) ⟨hx, hb, hml, hown, hts⟩ (mX0_init l D q0 H.size) (cwI 0 hts (lw_meth q33) rfl rfl rfl (hts _ q27) (hts _ q31) (hts _ q32) rfl (by decide +kernel) ⟨Nat.le_of_ble_eq_true rfl, Nat.le_of_ble_eq_true rfl⟩) ⟨fun a U g mk q => by obtain ⟨q0, q1, qP, qK, qD⟩ := q; exact ⟨q0, q1, qP, va_K.moved (u := U) (U := U.calling g mk a) (Vm.Alike.refl U.vm) qK, qD⟩, fun U hU hW => ⟨rfl, by rw [hU], by rw [hU]; exact hPc, va_K.moved hW.alike hKc, hDc.weaken (fun _ _ _ _ => trivial)⟩⟩ rfl rfl hl.1 rfl (lv_room (Nat.le_of_ble_eq_true rfl)) dL_law_4 ⟨Nat.le_of_ble_eq_true rfl, Nat.le_of_ble_eq_true rfl⟩) hS (fun q _ h => hFc q h) hFc (fun u t H1 locs ht hvm hw hB hz1 hk1 hS => ?_)
  obtain ⟨g0, ct0, wx⟩ := u
  obtain ⟨hg0, hX0⟩ := hw
  obtain ⟨hP1, hK1, hD1⟩ := hB
  dsimp only at hg0 hX0 hP1 hK1 hD1
  rw [ht] at hP1
  have hK0 := va_K.moved hvm.symm hK1
  obtain ⟨hP, hD⟩ := va_join (wr := []) (w1 := jx_W SX0 g0 ct0 wx) hP hD [0] [] rfl rfl (by decide) (by decide) hk1 hFc hP1 hD1
  generalize H1 = H at hP hS ⊢
  have hP : va_P D vwCl (jx_W SX0 g0 ct0 wx) H := hP
  have hD : va_D (fun q : Nat => s.heap.size ≤ q) (jx_W SX0 g0 ct0 wx) := hD
  refine W.widen (k := 10) (n := 538) (by omega) (by omega) ?_
  refine lv_astore_n (lv' := [(1, .ref q0), (0, .ref b)]) hx hb dL_law_7 rfl hl (by decide) rfl (fun ls hl => ?_)
  refine va_new (ci := 1) (fs := f0X1) (C := RX1) (T := TX1) (N := 5) hx hb hts in_X1 tyX1 tyX1_ok hown (hts _ q208) (hts _ q209) (hts _ q28) hK hP hD hS hA rfl (fun j hj => by rcases (show j = 0 ∨ j = 1 ∨ j = 2 ∨ j = 3 ∨ j = 4 by omega) with rfl | rfl | rfl | rfl | rfl <;> rfl) (Nat.le_of_ble_eq_true rfl) (Nat.le_of_ble_eq_true rfl) dL_law_8 (fun q1 H hP hD hS => ?_)
  refine W.widen (k := 11) (n := 543) (by omega) (by omega) ?_
  refine lv_dup hx hb dL_law_11 rfl ?_
  have hPc := hP.sub (ws' := [(q1, .inr (1, f0X1))]) [10] rfl
  have hDc := hD.sub (ws' := [(q1, .inr (1, f0X1))]) [10] (by decide) rfl
  have hKc := hK
  have hFc := va_free (wc := [(q1, .inr (1, f0X1))]) hD hS hA [10] rfl
  refine va_callv (va_runI (As := []) (rest := [.ref q1]) ⟨hx, hb, hml, hown, hts⟩ (mX1_init l D q1 H.size) (cwI 0 hts (lw_meth q212) rfl rfl rfl (hts _ q28) (hts _ q210) (hts _ q211) rfl (by decide +kernel) ⟨Nat.le_of_ble_eq_true rfl, Nat.le_of_ble_eq_true rfl⟩) ⟨fun a U g mk q => by obtain ⟨q0, q1, qP, qK, qD⟩ := q; exact ⟨q0, q1, qP, va_K.moved (u := U) (U := U.calling g mk a) (Vm.Alike.refl U.vm) qK, qD⟩, fun U hU hW => ⟨rfl, by rw [hU], by rw [hU]; exact hPc, va_K.moved hW.alike hKc, hDc.weaken (fun _ _ _ _ => trivial)⟩⟩ rfl rfl hl.1 rfl (lv_room (Nat.le_of_ble_eq_true rfl)) dL_law_12 ⟨Nat.le_of_ble_eq_true rfl, Nat.le_of_ble_eq_true rfl⟩) hS (fun q _ h => hFc q h) hFc (fun u t H1 locs ht hvm hw hB hz1 hk1 hS => ?_)
  obtain ⟨g1, ct1, wm⟩ := u
  obtain ⟨hg1, hM0⟩ := hw
  obtain ⟨hP1, hK1, hD1⟩ := hB
  dsimp only at hg1 hM0 hP1 hK1 hD1
  rw [ht] at hP1
  have hK1 := va_K.moved hvm.symm hK1
  obtain ⟨hP, hD⟩ := va_join (wr := jx_W SX0 g0 ct0 wx) (w1 := jx_W SX1 g1 ct1 wm) hP hD [10] [0, 1, 2, 3, 4, 5, 6, 7, 8, 9] rfl rfl (by decide) (by decide) hk1 hFc hP1 hD1
  generalize H1 = H at hP hS ⊢
  refine W.widen (k := 16) (n := 746) (by omega) (by omega) ?_
  have hPx := hP.sub (ws' := jx_W SX0 g0 ct0 wx) [0, 1, 2, 3, 4, 5, 6, 7, 8, 9] rfl
  have hPm := hP.sub (ws' := jx_W SX1 g1 ct1 wm) [10, 11, 12, 13, 14, 15] rfl
  have hDx := hD.sub (ws' := jx_W SX0 g0 ct0 wx) [0, 1, 2, 3, 4, 5, 6, 7, 8, 9] (by decide) rfl
  have hDm := hD.sub (ws' := jx_W SX1 g1 ct1 wm) [10, 11, 12, 13, 14, 15] (by decide) rfl
  have hdj : lw_dj SX0 g0 ct0 SX1 g1 ct1 := by
    refine lw_dj.of wx wm (fun i j p q hp hq e => ?_)
    have hi : i < (jx_W SX0 g0 ct0 wx).length := (List.getElem?_eq_some_iff.mp hp).1
    have e1 : (jx_W SX0 g0 ct0 wx ++ jx_W SX1 g1 ct1 wm)[i]? = some p := by rw [List.getElem?_append_left hi]; exact hp
    have e2 : (jx_W SX0 g0 ct0 wx ++ jx_W SX1 g1 ct1 wm)[(jx_W SX0 g0 ct0 wx).length + j]? = some q := by rw [List.getElem?_append_right (Nat.le_add_right _ _), Nat.add_sub_cancel_left]; exact hq
    have := hD.1 i _ p q e1 e2 e
    omega
  refine lv_astore_n (lv' := [(2, .ref q1), (1, .ref q0), (0, .ref b)]) hx hb dL_law_15 rfl hl (by decide) rfl (fun ls hl => ?_)
  refine lv_iconst (v := 0) hx hb dL_law_16 (by decide) ?_
  refine lv_istore_n (lv' := [(3, .int 0), (2, .ref q1), (1, .ref q0), (0, .ref b)]) hx hb dL_law_17 rfl hl (by decide) rfl (fun ls hl => ?_)
  have hl := lv_sub hl [3, 2, 1, 0] rfl
  have hl : lv_has ls 4 [(0, .ref b), (1, .ref (g0 0)), (2, .ref (g1 0)), (3, .int (nI 0))] := by
    rw [hg0, hg1]
    exact hl
  exact lw_loop hL (L + 5) 0 nt_N0 wx wm (by omega) (by omega) hX0 hM0 p l e s m below meth c D g0 g1 ct0 ct1 C0 hK0 hK1 hdj H locs ls hPx hPm hDx hDm hS hl
set_option maxHeartbeats 4000000 in
theorem lw_walk (l : Launch) (b : Addr) (xs : List Int32) : MetFree l x (headSpec (Jvm.Cond.code x code maxLocals ret :: tables_1) room_1) (lw_P b xs) (fun _ _ _ _ _ => True) lw_Q := by
  refine MetFree.of_bodyS (code := code) (maxLocals := maxLocals) (ret := ret) (by decide) ?_ ?_
  · intro args s m h hn
    obtain ⟨meth, c, h1, h2, h3, h4, h5, h6, -, -⟩ := Cond.code_spec hn (atoms_spec (ws := Jvm.Cond.code x code maxLocals ret :: tables_1) h _ List.mem_cons_self)
    exact ⟨meth, c, h1, h2, h3, h4, h5, h6⟩
  · intro p e s m args below meth c s₁ B hml0 hP _
    obtain ⟨rfl, hx, hbd, hgv⟩ := hP
    obtain ⟨scr, harrAt, hlist, hof, hsmall⟩ := hx
    obtain ⟨hcb, hkn, -, -⟩ := State.arrayAt?_spec harrAt
    have hown : s.vm.findClass R_law = some m.cls := findClass_of_methodNamed B.named
    have hts0 : ∀ c ∈ (Jvm.Cond.code x code maxLocals ret :: tables_1), c.before #[Value.ref b] s = true := atoms_spec (ws := Jvm.Cond.code x code maxLocals ret :: tables_1) B.pre
    have hts : ∀ w ∈ lw_tbl, w.before #[Value.ref b] s = true := k2_hts_sels lw_privs (fun w hw => hts0 w (List.mem_cons_of_mem _ hw)) lw_privs_ok
    have hml : c.maxLocals = 4 := B.maxLocals_eq (hts0 _ List.mem_cons_self)
    have X₀ : Stand p l e room_1 s m #[Value.ref b] below meth c s₁ [] 0 0 := Stand.of_body B
    have hh0 : s₁.heap = s.heap := by rw [B.state]; rfl
    have hsz : scr.slots.size = xs.length := by rw [← Array.length_toList, hlist, List.length_map]
    have hval : ∀ j : Nat, j < xs.length → scr.slots[j]? = some (.int (xs.getD j 0)) := fun j hj => by
      rw [← Array.getElem?_toList, hlist]
      simp [hj]
    have hbl : b < s.heap.size := (Array.getElem?_eq_some_iff.mp hcb).1
    have hX : va_X b xs.length (fun j => xs.getD j 0) s s.heap := ⟨scr, hcb, hof, hkn, hsz, hval⟩
    have K : W p l e room_1 s m #[Value.ref b] below meth c s₁.heap [] 0 0 (lw_Z below #[Value.ref b] s) (entryFrame m ([Value.ref b] : List Value).toArray 4) := by
      rw [hh0]
      exact whole_start l hbd ⟨B.exec, B.bytes, B.returns, hml, hown, hts, hX, hbl, B.notSynchronized, hgv⟩
    obtain ⟨t, a1, o, b1, b2, b3⟩ := K s₁ rfl X₀
    exact ⟨t, o, a1, b1, b2, b3⟩
theorem lw_pre_spec {args : Array Value} {s : State} (h : (Jvm.Cond.and given_1 narrow_1).before args s = true) (hr : rest_1_c.before args s = true) : ∃ (b : Addr) (xs : List Int32), lw_P b xs args s := by
  have hs := flat_of_before _ h
  have hq := flat_of_before _ hr
  have hc : (Cond.count 1).before args s = true := hs _ (by decide +kernel)
  have harr : (Cond.arrayOf (.arg 0) .int).before args s = true := hs _ (by decide +kernel)
  have hle : (Cond.le (.length (.arg 0)) (.int 256)).before args s = true := hs _ (by decide +kernel)
  have hlen : (Cond.isInt (.length (.arg 0))).before args s = true := hq _ (by decide +kernel)
  have hall : (Cond.all (.arg 0) (.isInt (.elem (.arg 0) (.index 0)))).before args s = true := hq _ (by decide +kernel)
  obtain ⟨b, xs, hb, hx⟩ := State.ints_of_pre rfl harr hlen hall
  have hsm : xs.length < 2 ^ 31 := hx.choose_spec.2.2.2
  have hev : (Term.length (.arg 0)).eval args s none [] s = some (.int xs.length.toInt32) := hx.length_eval hb
  have hv := Cond.le_ints hev (show (Term.int 256).eval args s none [] s = some (.int 256) from rfl)
  have hd : xs.length.toInt32 ≤ 256 := by
    simpa [Cond.before, Cond.holds, hv] using hle
  have hN : xs.length ≤ 256 := (Int32.ofNat_le_ofNat hsm (by decide)).mp (show Int32.ofNat xs.length ≤ Int32.ofNat 256 from hd)
  exact ⟨b, xs, Cond.one_arg hc (show args[0]? = some (.ref b) from hb), hx, hN, h⟩
theorem lw_comes (l : Launch) : Comes l x (Jvm.Cond.code x code maxLocals ret :: tables_1) room_1 (fun tb e args s => Calls_1 tb e args s ∧ rest_1 tb e args s ∧ Pre_1 tb e args s)
    (fun _ _ args s o t => lw_Q args s o t) := by
  intro p e ha hc hk s m args below hf hfit hheap happ hpre
  obtain ⟨b, xs, hP⟩ := lw_pre_spec hpre.2.2 hpre.2.1
  obtain ⟨k, o, h1, h2, h3, hQ⟩ := lw_walk l b xs p e ha hc hk s m args below hf ((Spec.applies_iff_loose hf).mp happ).1 hP trivial
  exact ⟨k, o, h1, h2, h3, hQ⟩
theorem lw_frame {s t : State} {o : Outcome} {args : Array Value} (h : Framed s o t [] 600000 7290000) :
    Framed s o t (fieldLocs frame_1_writes args s ++ arrayLocs frame_1_arrays args s ++ staticLocs frame_1_statics s) 600000 7290000 := h
theorem lw_limb (L : Cond) (hL : ∀ (args : Array Value) (s t : State), L.after args s (.returned (some (.int 1))) t = true) :
    ArmFor flags0 classFile x code maxLocals ret World_1 tables_1 room_1 Calls_1 rest_1 Pre_1
      (fun tb e a s o t => postC L tb e a s o t ∧ Framed s o t (fieldLocs frame_1_writes a s ++ arrayLocs frame_1_arrays a s ++ staticLocs frame_1_statics s) 600000 7290000) := by
  intro l _ _ _ p e ha hc hk s m args below hf hfit hheap happ hpre
  obtain ⟨k, o, h1, h2, h3, rfl, hF⟩ := lw_comes l p e ha hc hk s m args below hf hfit hheap happ hpre
  exact ⟨k, _, h1, h2, h3, hL args s _, lw_frame hF⟩
theorem i_vc : Claimed_1_1 ∧ Claimed_1_2 := ⟨lw_limb limb_1_1 (fun args s t => by simp [limb_1_1, Cond.after, Cond.holds, Cond.value]), lw_limb limb_1_2 (fun args s t => Cond.after_iff.mpr (by
  first | (rw [show limb_1_2 = Cond.eq .result (.int 1) from rfl, Cond.eq_ints (x := 1) (y := 1) rfl rfl]; simp; done) | (simp [limb_1_2, Cond.value, Term.eval]; done)))⟩
end
