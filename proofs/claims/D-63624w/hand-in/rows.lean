section
-- ===== PART A: goes FIRST, ahead of the names: the tables' words, and 'selects' of the private methods out of them =====
/-- a private method of a class that the tables say can be made, by its rows of tables_1 -/
def lw_okq (q : MethodName × Nat) : Prop := (q.1.cls ≠ "java/lang/invoke/MethodHandle" ∧ q.1.cls ≠ "java/lang/invoke/VarHandle") ∧ Cond.instantiable q.1.cls q.2 ∈ tables_1 ∧ Cond.privateMethod q.1 ∈ tables_1 ∧ Cond.instanceMethod q.1 ∈ tables_1
set_option maxRecDepth 100000
theorem lw_t1 {w : Cond} (h : w ∈ tables_1_1) : w ∈ tables_1 := List.mem_append_left _ h
theorem lw_t2 {w : Cond} (h : w ∈ tables_1_2) : w ∈ tables_1 := List.mem_append_right _ h
theorem lw_p0 : lw_okq (⟨"JoinOrderer", "badTable", "(I)Z"⟩, 14) := ⟨⟨by decide +kernel, by decide +kernel⟩, lw_t1 (List.mem_of_getElem? (i := 4) rfl), lw_t1 (List.mem_of_getElem? (i := 61) rfl), lw_t1 (List.mem_of_getElem? (i := 62) rfl)⟩
theorem lw_p1 : lw_okq (⟨"JoinOrderer", "badPair", "(II)Z"⟩, 14) := ⟨⟨by decide +kernel, by decide +kernel⟩, lw_t1 (List.mem_of_getElem? (i := 4) rfl), lw_t1 (List.mem_of_getElem? (i := 69) rfl), lw_t1 (List.mem_of_getElem? (i := 70) rfl)⟩
theorem lw_p2 : lw_okq (⟨"JoinOrderer", "put", "(IIZI)V"⟩, 14) := ⟨⟨by decide +kernel, by decide +kernel⟩, lw_t1 (List.mem_of_getElem? (i := 4) rfl), lw_t1 (List.mem_of_getElem? (i := 73) rfl), lw_t1 (List.mem_of_getElem? (i := 74) rfl)⟩
theorem lw_p3 : lw_okq (⟨"JoinOrderer", "badSet", "(I)Z"⟩, 14) := ⟨⟨by decide +kernel, by decide +kernel⟩, lw_t1 (List.mem_of_getElem? (i := 4) rfl), lw_t1 (List.mem_of_getElem? (i := 85) rfl), lw_t1 (List.mem_of_getElem? (i := 86) rfl)⟩
theorem lw_p4 : lw_okq (⟨"JoinOrderer", "sizeOf", "(I)I"⟩, 14) := ⟨⟨by decide +kernel, by decide +kernel⟩, lw_t1 (List.mem_of_getElem? (i := 4) rfl), lw_t1 (List.mem_of_getElem? (i := 89) rfl), lw_t1 (List.mem_of_getElem? (i := 90) rfl)⟩
theorem lw_p5 : lw_okq (⟨"JoinOrderer", "linkedWith", "(I)I"⟩, 14) := ⟨⟨by decide +kernel, by decide +kernel⟩, lw_t1 (List.mem_of_getElem? (i := 4) rfl), lw_t1 (List.mem_of_getElem? (i := 97) rfl), lw_t1 (List.mem_of_getElem? (i := 98) rfl)⟩
theorem lw_p6 : lw_okq (⟨"JoinOrderer", "fill", "()V"⟩, 14) := ⟨⟨by decide +kernel, by decide +kernel⟩, lw_t1 (List.mem_of_getElem? (i := 4) rfl), lw_t1 (List.mem_of_getElem? (i := 105) rfl), lw_t1 (List.mem_of_getElem? (i := 106) rfl)⟩
theorem lw_p7 : lw_okq (⟨"JoinOrderer", "single", "(I)V"⟩, 14) := ⟨⟨by decide +kernel, by decide +kernel⟩, lw_t1 (List.mem_of_getElem? (i := 4) rfl), lw_t1 (List.mem_of_getElem? (i := 109) rfl), lw_t1 (List.mem_of_getElem? (i := 110) rfl)⟩
theorem lw_p8 : lw_okq (⟨"JoinOrderer", "several", "(I)V"⟩, 14) := ⟨⟨by decide +kernel, by decide +kernel⟩, lw_t1 (List.mem_of_getElem? (i := 4) rfl), lw_t1 (List.mem_of_getElem? (i := 113) rfl), lw_t1 (List.mem_of_getElem? (i := 114) rfl)⟩
theorem lw_p9 : lw_okq (⟨"JoinOrderer", "part", "(III)V"⟩, 14) := ⟨⟨by decide +kernel, by decide +kernel⟩, lw_t1 (List.mem_of_getElem? (i := 4) rfl), lw_t1 (List.mem_of_getElem? (i := 118) rfl), lw_t1 (List.mem_of_getElem? (i := 119) rfl)⟩
theorem lw_p10 : lw_okq (⟨"JoinOrderer", "partLinked", "(III)V"⟩, 14) := ⟨⟨by decide +kernel, by decide +kernel⟩, lw_t1 (List.mem_of_getElem? (i := 4) rfl), lw_t1 (List.mem_of_getElem? (i := 122) rfl), lw_t1 (List.mem_of_getElem? (i := 123) rfl)⟩
theorem lw_p11 : lw_okq (⟨"JoinOrderer", "fillAhead", "(I)V"⟩, 14) := ⟨⟨by decide +kernel, by decide +kernel⟩, lw_t1 (List.mem_of_getElem? (i := 4) rfl), lw_t1 (List.mem_of_getElem? (i := 146) rfl), lw_t1 (List.mem_of_getElem? (i := 147) rfl)⟩
theorem lw_p12 : lw_okq (⟨"JoinOrdererModel", "isTable", "(I)Z"⟩, 11) := ⟨⟨by decide +kernel, by decide +kernel⟩, lw_t1 (List.mem_of_getElem? (i := 166) rfl), lw_t1 (List.mem_of_getElem? (i := 210) rfl), lw_t1 (List.mem_of_getElem? (i := 211) rfl)⟩
theorem lw_p13 : lw_okq (⟨"JoinOrdererModel", "isPair", "(II)Z"⟩, 11) := ⟨⟨by decide +kernel, by decide +kernel⟩, lw_t1 (List.mem_of_getElem? (i := 166) rfl), lw_t1 (List.mem_of_getElem? (i := 218) rfl), lw_t1 (List.mem_of_getElem? (i := 219) rfl)⟩
theorem lw_p14 : lw_okq (⟨"JoinOrdererModel", "setFilter", "(III)V"⟩, 11) := ⟨⟨by decide +kernel, by decide +kernel⟩, lw_t1 (List.mem_of_getElem? (i := 166) rfl), lw_t1 (List.mem_of_getElem? (i := 222) rfl), lw_t1 (List.mem_of_getElem? (i := 223) rfl)⟩
theorem lw_p15 : lw_okq (⟨"JoinOrdererModel", "isSet", "(I)Z"⟩, 11) := ⟨⟨by decide +kernel, by decide +kernel⟩, lw_t1 (List.mem_of_getElem? (i := 166) rfl), lw_t1 (List.mem_of_getElem? (i := 234) rfl), lw_t1 (List.mem_of_getElem? (i := 235) rfl)⟩
def lw_privs_1 : List (MethodName × Nat) := [(⟨"JoinOrderer", "badTable", "(I)Z"⟩, 14), (⟨"JoinOrderer", "badPair", "(II)Z"⟩, 14), (⟨"JoinOrderer", "put", "(IIZI)V"⟩, 14), (⟨"JoinOrderer", "badSet", "(I)Z"⟩, 14), (⟨"JoinOrderer", "sizeOf", "(I)I"⟩, 14), (⟨"JoinOrderer", "linkedWith", "(I)I"⟩, 14), (⟨"JoinOrderer", "fill", "()V"⟩, 14), (⟨"JoinOrderer", "single", "(I)V"⟩, 14), (⟨"JoinOrderer", "several", "(I)V"⟩, 14), (⟨"JoinOrderer", "part", "(III)V"⟩, 14), (⟨"JoinOrderer", "partLinked", "(III)V"⟩, 14), (⟨"JoinOrderer", "fillAhead", "(I)V"⟩, 14), (⟨"JoinOrdererModel", "isTable", "(I)Z"⟩, 11), (⟨"JoinOrdererModel", "isPair", "(II)Z"⟩, 11), (⟨"JoinOrdererModel", "setFilter", "(III)V"⟩, 11), (⟨"JoinOrdererModel", "isSet", "(I)Z"⟩, 11)]
theorem lw_r1 : ∀ q ∈ lw_privs_1, lw_okq q := List.forall_mem_cons.mpr ⟨lw_p0, List.forall_mem_cons.mpr ⟨lw_p1, List.forall_mem_cons.mpr ⟨lw_p2, List.forall_mem_cons.mpr ⟨lw_p3, List.forall_mem_cons.mpr ⟨lw_p4, List.forall_mem_cons.mpr ⟨lw_p5, List.forall_mem_cons.mpr ⟨lw_p6, List.forall_mem_cons.mpr ⟨lw_p7, List.forall_mem_cons.mpr ⟨lw_p8, List.forall_mem_cons.mpr ⟨lw_p9, List.forall_mem_cons.mpr ⟨lw_p10, List.forall_mem_cons.mpr ⟨lw_p11, List.forall_mem_cons.mpr ⟨lw_p12, List.forall_mem_cons.mpr ⟨lw_p13, List.forall_mem_cons.mpr ⟨lw_p14, List.forall_mem_cons.mpr ⟨lw_p15, fun _ h => absurd h List.not_mem_nil⟩⟩⟩⟩⟩⟩⟩⟩⟩⟩⟩⟩⟩⟩⟩⟩
theorem lw_p16 : lw_okq (⟨"JoinOrdererModel", "sizeOf", "(I)I"⟩, 11) := ⟨⟨by decide +kernel, by decide +kernel⟩, lw_t1 (List.mem_of_getElem? (i := 166) rfl), lw_t1 (List.mem_of_getElem? (i := 238) rfl), lw_t1 (List.mem_of_getElem? (i := 239) rfl)⟩
theorem lw_p17 : lw_okq (⟨"JoinOrdererModel", "has", "(II)Z"⟩, 11) := ⟨⟨by decide +kernel, by decide +kernel⟩, lw_t1 (List.mem_of_getElem? (i := 166) rfl), lw_t2 (List.mem_of_getElem? (i := 2) rfl), lw_t2 (List.mem_of_getElem? (i := 3) rfl)⟩
theorem lw_p18 : lw_okq (⟨"JoinOrdererModel", "isLinked", "(II)Z"⟩, 11) := ⟨⟨by decide +kernel, by decide +kernel⟩, lw_t1 (List.mem_of_getElem? (i := 166) rfl), lw_t2 (List.mem_of_getElem? (i := 10) rfl), lw_t2 (List.mem_of_getElem? (i := 11) rfl)⟩
theorem lw_p19 : lw_okq (⟨"JoinOrdererModel", "extreme", "(IIZ)I"⟩, 11) := ⟨⟨by decide +kernel, by decide +kernel⟩, lw_t1 (List.mem_of_getElem? (i := 166) rfl), lw_t2 (List.mem_of_getElem? (i := 18) rfl), lw_t2 (List.mem_of_getElem? (i := 19) rfl)⟩
theorem lw_p20 : lw_okq (⟨"JoinOrdererModel", "prepare", "(I)I"⟩, 11) := ⟨⟨by decide +kernel, by decide +kernel⟩, lw_t1 (List.mem_of_getElem? (i := 166) rfl), lw_t2 (List.mem_of_getElem? (i := 22) rfl), lw_t2 (List.mem_of_getElem? (i := 23) rfl)⟩
theorem lw_p21 : lw_okq (⟨"JoinOrdererModel", "count", "(I)I"⟩, 11) := ⟨⟨by decide +kernel, by decide +kernel⟩, lw_t1 (List.mem_of_getElem? (i := 166) rfl), lw_t2 (List.mem_of_getElem? (i := 26) rfl), lw_t2 (List.mem_of_getElem? (i := 27) rfl)⟩
theorem lw_p22 : lw_okq (⟨"JoinOrdererModel", "isForm", "(II)Z"⟩, 11) := ⟨⟨by decide +kernel, by decide +kernel⟩, lw_t1 (List.mem_of_getElem? (i := 166) rfl), lw_t2 (List.mem_of_getElem? (i := 30) rfl), lw_t2 (List.mem_of_getElem? (i := 31) rfl)⟩
theorem lw_p23 : lw_okq (⟨"JoinOrdererModel", "order", "(III)V"⟩, 11) := ⟨⟨by decide +kernel, by decide +kernel⟩, lw_t1 (List.mem_of_getElem? (i := 166) rfl), lw_t2 (List.mem_of_getElem? (i := 34) rfl), lw_t2 (List.mem_of_getElem? (i := 35) rfl)⟩
theorem lw_p24 : lw_okq (⟨"JoinOrdererModel", "follow", "(II)V"⟩, 11) := ⟨⟨by decide +kernel, by decide +kernel⟩, lw_t1 (List.mem_of_getElem? (i := 166) rfl), lw_t2 (List.mem_of_getElem? (i := 38) rfl), lw_t2 (List.mem_of_getElem? (i := 39) rfl)⟩
theorem lw_p25 : lw_okq (⟨"JoinOrdererModel", "isKind", "(I)Z"⟩, 11) := ⟨⟨by decide +kernel, by decide +kernel⟩, lw_t1 (List.mem_of_getElem? (i := 166) rfl), lw_t2 (List.mem_of_getElem? (i := 42) rfl), lw_t2 (List.mem_of_getElem? (i := 43) rfl)⟩
theorem lw_p26 : lw_okq (⟨"JoinOrdererModel", "countPlans", "(III)I"⟩, 11) := ⟨⟨by decide +kernel, by decide +kernel⟩, lw_t1 (List.mem_of_getElem? (i := 166) rfl), lw_t2 (List.mem_of_getElem? (i := 70) rfl), lw_t2 (List.mem_of_getElem? (i := 71) rfl)⟩
def lw_privs_2 : List (MethodName × Nat) := [(⟨"JoinOrdererModel", "sizeOf", "(I)I"⟩, 11), (⟨"JoinOrdererModel", "has", "(II)Z"⟩, 11), (⟨"JoinOrdererModel", "isLinked", "(II)Z"⟩, 11), (⟨"JoinOrdererModel", "extreme", "(IIZ)I"⟩, 11), (⟨"JoinOrdererModel", "prepare", "(I)I"⟩, 11), (⟨"JoinOrdererModel", "count", "(I)I"⟩, 11), (⟨"JoinOrdererModel", "isForm", "(II)Z"⟩, 11), (⟨"JoinOrdererModel", "order", "(III)V"⟩, 11), (⟨"JoinOrdererModel", "follow", "(II)V"⟩, 11), (⟨"JoinOrdererModel", "isKind", "(I)Z"⟩, 11), (⟨"JoinOrdererModel", "countPlans", "(III)I"⟩, 11)]
theorem lw_r2 : ∀ q ∈ lw_privs_2, lw_okq q := List.forall_mem_cons.mpr ⟨lw_p16, List.forall_mem_cons.mpr ⟨lw_p17, List.forall_mem_cons.mpr ⟨lw_p18, List.forall_mem_cons.mpr ⟨lw_p19, List.forall_mem_cons.mpr ⟨lw_p20, List.forall_mem_cons.mpr ⟨lw_p21, List.forall_mem_cons.mpr ⟨lw_p22, List.forall_mem_cons.mpr ⟨lw_p23, List.forall_mem_cons.mpr ⟨lw_p24, List.forall_mem_cons.mpr ⟨lw_p25, List.forall_mem_cons.mpr ⟨lw_p26, fun _ h => absurd h List.not_mem_nil⟩⟩⟩⟩⟩⟩⟩⟩⟩⟩⟩
def lw_privs : List (MethodName × Nat) := lw_privs_1 ++ (lw_privs_2)
def lw_tbl : List Cond := k2_sels lw_privs ++ tables_1
theorem lw_privs_ok : ∀ q ∈ lw_privs, lw_okq q := by
  show ∀ q ∈ lw_privs_1 ++ (lw_privs_2), lw_okq q
  exact List.forall_mem_append.mpr ⟨lw_r1, lw_r2⟩
-- ===== ONE list of words for every method: the tables' words that hold all through a run =====
def lw_all : List Cond := lw_tbl.filter goodWord
/-- a word of the tables by its place: claim/WORDS.tsv -/
theorem lw_w {w : Cond} (i : Nat) (h : lw_tbl[i]? = some w) (g : goodWord w = true) : w ∈ lw_all := List.mem_filter.mpr ⟨List.mem_of_getElem? h, g⟩
theorem lw_all_tbl {w : Cond} (h : w ∈ lw_all) : w ∈ lw_tbl := (List.mem_filter.mp h).1
theorem lw_self : GoodIn lw_all lw_all := fun w h => ⟨h, good_of_word (List.mem_filter.mp h).2⟩
/-- a class's field words, by their places -/
theorem lw_in (ws : List Cond) (ps : List Nat) (hp : ws = ps.filterMap (fun i => lw_tbl[i]?)) (hg : ws.all goodWord = true) : ∀ w ∈ ws, w ∈ lw_all := by
  intro w h
  have h1 := List.all_eq_true.mp hg w h
  rw [hp] at h
  obtain ⟨i, -, hi⟩ := List.mem_filterMap.mp h
  exact lw_w i hi h1
/-- the words of a contract for the method y with code b, L locals, answer r -/
abbrev ws_ (y : MethodName) (b : ByteArray) (L : Nat) (r : Option FieldType) : List Cond := Cond.code y b L r :: lw_all
theorem lw_meth {y : MethodName} {b : ByteArray} {L : Nat} {r : Option FieldType} (h : Cond.code y b L r ∈ lw_all) : GoodIn lw_all (ws_ y b L r) := by
  intro w hw
  rcases List.mem_cons.mp hw with e | e
  · rw [e]
    exact lw_self _ h
  · exact lw_self _ e
theorem lw_app {a c : List Cond} (ha : ∀ w ∈ a, w ∈ lw_all) (hc : GoodIn lw_all c) : GoodIn lw_all (a ++ c) := by
  intro w hw
  rcases List.mem_append.mp hw with e | e
  · exact lw_self w (ha w e)
  · exact hc w e
/-- what a call through an object asks: cwV n hts (lw_V ..) -/
theorem lw_V {own : String} {idx : Nat} {C : String} {y : MethodName} {b : ByteArray} {L : Nat} {r : Option FieldType} (h1 : Cond.methodLink own idx y ∈ lw_all) (h2 : Cond.instanceMethod y ∈ lw_all) (h3 : Cond.selects C y y ∈ lw_all) (h4 : Cond.initialized C ∈ lw_all) (h5 : Cond.code y b L r ∈ lw_all) : GoodIn lw_all (wsV own idx C y (ws_ y b L r)) := by
  refine lw_app ?_ (lw_meth h5)
  intro w hw
  simp only [List.mem_cons, List.not_mem_nil, or_false] at hw
  rcases hw with e | e | e | e
  · rw [e]; exact h1
  · rw [e]; exact h2
  · rw [e]; exact h3
  · rw [e]; exact h4
/-- what a static call asks: va_cwS n hts (lw_S ..) -/
theorem lw_S {own : String} {idx : Nat} {y : MethodName} {b : ByteArray} {L : Nat} {r : Option FieldType} (h1 : Cond.methodLink own idx y ∈ lw_all) (h2 : Cond.static y ∈ lw_all) (h3 : Cond.initialized y.cls ∈ lw_all) (h4 : Cond.code y b L r ∈ lw_all) : GoodIn lw_all (va_wsS own idx y (ws_ y b L r)) := by
  refine lw_app ?_ (lw_meth h4)
  intro w hw
  simp only [List.mem_cons, List.not_mem_nil, or_false] at hw
  rcases hw with e | e | e
  · rw [e]; exact h1
  · rw [e]; exact h2
  · rw [e]; exact h3
/-- the words of a contract for a method WITH HANDLERS (hh: its table) -/
abbrev wsW_ (y : MethodName) (b : ByteArray) (L : Nat) (r : Option FieldType) (hh : List (Nat × Nat × Nat × Nat)) : List Cond := Cond.codeWith y b L r hh :: lw_all
theorem lw_methW {y : MethodName} {b : ByteArray} {L : Nat} {r : Option FieldType} {hh : List (Nat × Nat × Nat × Nat)} (h : Cond.codeWith y b L r hh ∈ lw_all) : GoodIn lw_all (wsW_ y b L r hh) := by
  intro w hw
  rcases List.mem_cons.mp hw with e | e
  · rw [e]
    exact lw_self _ h
  · exact lw_self _ e
/-- any list of words by their places (lw_in), good -/
theorem lw_good {ws : List Cond} (h : ∀ w ∈ ws, w ∈ lw_all) : GoodIn lw_all ws := fun w hw => lw_self w (h w hw)
/-- what a call of a method with handlers asks: vx_cwVW n hts (lw_VW ..), vx_cwSW n hts (lw_SW ..) -/
theorem lw_VW {own : String} {idx : Nat} {C : String} {y : MethodName} {b : ByteArray} {L : Nat} {r : Option FieldType} {hh : List (Nat × Nat × Nat × Nat)} (h1 : Cond.methodLink own idx y ∈ lw_all) (h2 : Cond.instanceMethod y ∈ lw_all) (h3 : Cond.selects C y y ∈ lw_all) (h4 : Cond.initialized C ∈ lw_all) (h5 : Cond.codeWith y b L r hh ∈ lw_all) : GoodIn lw_all (wsV own idx C y (wsW_ y b L r hh)) := by
  refine lw_app ?_ (lw_methW h5)
  intro w hw
  simp only [List.mem_cons, List.not_mem_nil, or_false] at hw
  rcases hw with e | e | e | e
  · rw [e]; exact h1
  · rw [e]; exact h2
  · rw [e]; exact h3
  · rw [e]; exact h4
theorem lw_SW {own : String} {idx : Nat} {y : MethodName} {b : ByteArray} {L : Nat} {r : Option FieldType} {hh : List (Nat × Nat × Nat × Nat)} (h1 : Cond.methodLink own idx y ∈ lw_all) (h2 : Cond.static y ∈ lw_all) (h3 : Cond.initialized y.cls ∈ lw_all) (h4 : Cond.codeWith y b L r hh ∈ lw_all) : GoodIn lw_all (va_wsS own idx y (wsW_ y b L r hh)) := by
  refine lw_app ?_ (lw_methW h4)
  intro w hw
  simp only [List.mem_cons, List.not_mem_nil, or_false] at hw
  rcases hw with e | e | e
  · rw [e]; exact h1
  · rw [e]; exact h2
  · rw [e]; exact h3
/-- a word by its place in its run of the tables -/
theorem lw_at {r : List Cond} (hr : ∀ w ∈ r, w ∈ lw_tbl) {w : Cond} (i : Nat) (h : r[i]? = some w) : w ∈ lw_tbl := hr w (List.mem_of_getElem? h)
theorem lw_g {w : Cond} (h : w ∈ lw_tbl) (g : goodWord w = true) : w ∈ lw_all := List.mem_filter.mpr ⟨h, g⟩
theorem lw_ms : ∀ w ∈ k2_sels lw_privs, w ∈ lw_tbl := fun w h => show w ∈ k2_sels lw_privs ++ tables_1 from List.mem_append_left _ h
theorem lw_m1 : ∀ w ∈ tables_1_1, w ∈ lw_tbl := fun w h => show w ∈ k2_sels lw_privs ++ tables_1 from List.mem_append_right (k2_sels lw_privs) (show w ∈ tables_1 from List.mem_append_left _ h)
theorem lw_m2 : ∀ w ∈ tables_1_2, w ∈ lw_tbl := fun w h => show w ∈ k2_sels lw_privs ++ tables_1 from List.mem_append_right (k2_sels lw_privs) (show w ∈ tables_1 from List.mem_append_right _ h)
theorem qs0 : (Cond.selects "JoinOrderer" ⟨"JoinOrderer", "badTable", "(I)Z"⟩ ⟨"JoinOrderer", "badTable", "(I)Z"⟩) ∈ lw_all := lw_g (lw_at lw_ms 0 rfl) rfl
theorem qs1 : (Cond.selects "JoinOrderer" ⟨"JoinOrderer", "badPair", "(II)Z"⟩ ⟨"JoinOrderer", "badPair", "(II)Z"⟩) ∈ lw_all := lw_g (lw_at lw_ms 1 rfl) rfl
theorem qs2 : (Cond.selects "JoinOrderer" ⟨"JoinOrderer", "put", "(IIZI)V"⟩ ⟨"JoinOrderer", "put", "(IIZI)V"⟩) ∈ lw_all := lw_g (lw_at lw_ms 2 rfl) rfl
theorem qs3 : (Cond.selects "JoinOrderer" ⟨"JoinOrderer", "badSet", "(I)Z"⟩ ⟨"JoinOrderer", "badSet", "(I)Z"⟩) ∈ lw_all := lw_g (lw_at lw_ms 3 rfl) rfl
theorem qs4 : (Cond.selects "JoinOrderer" ⟨"JoinOrderer", "sizeOf", "(I)I"⟩ ⟨"JoinOrderer", "sizeOf", "(I)I"⟩) ∈ lw_all := lw_g (lw_at lw_ms 4 rfl) rfl
theorem qs5 : (Cond.selects "JoinOrderer" ⟨"JoinOrderer", "linkedWith", "(I)I"⟩ ⟨"JoinOrderer", "linkedWith", "(I)I"⟩) ∈ lw_all := lw_g (lw_at lw_ms 5 rfl) rfl
theorem qs6 : (Cond.selects "JoinOrderer" ⟨"JoinOrderer", "fill", "()V"⟩ ⟨"JoinOrderer", "fill", "()V"⟩) ∈ lw_all := lw_g (lw_at lw_ms 6 rfl) rfl
theorem qs7 : (Cond.selects "JoinOrderer" ⟨"JoinOrderer", "single", "(I)V"⟩ ⟨"JoinOrderer", "single", "(I)V"⟩) ∈ lw_all := lw_g (lw_at lw_ms 7 rfl) rfl
theorem qs8 : (Cond.selects "JoinOrderer" ⟨"JoinOrderer", "several", "(I)V"⟩ ⟨"JoinOrderer", "several", "(I)V"⟩) ∈ lw_all := lw_g (lw_at lw_ms 8 rfl) rfl
theorem qs9 : (Cond.selects "JoinOrderer" ⟨"JoinOrderer", "part", "(III)V"⟩ ⟨"JoinOrderer", "part", "(III)V"⟩) ∈ lw_all := lw_g (lw_at lw_ms 9 rfl) rfl
theorem qs10 : (Cond.selects "JoinOrderer" ⟨"JoinOrderer", "partLinked", "(III)V"⟩ ⟨"JoinOrderer", "partLinked", "(III)V"⟩) ∈ lw_all := lw_g (lw_at lw_ms 10 rfl) rfl
theorem qs11 : (Cond.selects "JoinOrderer" ⟨"JoinOrderer", "fillAhead", "(I)V"⟩ ⟨"JoinOrderer", "fillAhead", "(I)V"⟩) ∈ lw_all := lw_g (lw_at lw_ms 11 rfl) rfl
theorem qs12 : (Cond.selects "JoinOrdererModel" ⟨"JoinOrdererModel", "isTable", "(I)Z"⟩ ⟨"JoinOrdererModel", "isTable", "(I)Z"⟩) ∈ lw_all := lw_g (lw_at lw_ms 12 rfl) rfl
theorem qs13 : (Cond.selects "JoinOrdererModel" ⟨"JoinOrdererModel", "isPair", "(II)Z"⟩ ⟨"JoinOrdererModel", "isPair", "(II)Z"⟩) ∈ lw_all := lw_g (lw_at lw_ms 13 rfl) rfl
theorem qs14 : (Cond.selects "JoinOrdererModel" ⟨"JoinOrdererModel", "setFilter", "(III)V"⟩ ⟨"JoinOrdererModel", "setFilter", "(III)V"⟩) ∈ lw_all := lw_g (lw_at lw_ms 14 rfl) rfl
theorem qs15 : (Cond.selects "JoinOrdererModel" ⟨"JoinOrdererModel", "isSet", "(I)Z"⟩ ⟨"JoinOrdererModel", "isSet", "(I)Z"⟩) ∈ lw_all := lw_g (lw_at lw_ms 15 rfl) rfl
theorem qs16 : (Cond.selects "JoinOrdererModel" ⟨"JoinOrdererModel", "sizeOf", "(I)I"⟩ ⟨"JoinOrdererModel", "sizeOf", "(I)I"⟩) ∈ lw_all := lw_g (lw_at lw_ms 16 rfl) rfl
theorem qs17 : (Cond.selects "JoinOrdererModel" ⟨"JoinOrdererModel", "has", "(II)Z"⟩ ⟨"JoinOrdererModel", "has", "(II)Z"⟩) ∈ lw_all := lw_g (lw_at lw_ms 17 rfl) rfl
theorem qs18 : (Cond.selects "JoinOrdererModel" ⟨"JoinOrdererModel", "isLinked", "(II)Z"⟩ ⟨"JoinOrdererModel", "isLinked", "(II)Z"⟩) ∈ lw_all := lw_g (lw_at lw_ms 18 rfl) rfl
theorem qs19 : (Cond.selects "JoinOrdererModel" ⟨"JoinOrdererModel", "extreme", "(IIZ)I"⟩ ⟨"JoinOrdererModel", "extreme", "(IIZ)I"⟩) ∈ lw_all := lw_g (lw_at lw_ms 19 rfl) rfl
theorem qs20 : (Cond.selects "JoinOrdererModel" ⟨"JoinOrdererModel", "prepare", "(I)I"⟩ ⟨"JoinOrdererModel", "prepare", "(I)I"⟩) ∈ lw_all := lw_g (lw_at lw_ms 20 rfl) rfl
theorem qs21 : (Cond.selects "JoinOrdererModel" ⟨"JoinOrdererModel", "count", "(I)I"⟩ ⟨"JoinOrdererModel", "count", "(I)I"⟩) ∈ lw_all := lw_g (lw_at lw_ms 21 rfl) rfl
theorem qs22 : (Cond.selects "JoinOrdererModel" ⟨"JoinOrdererModel", "isForm", "(II)Z"⟩ ⟨"JoinOrdererModel", "isForm", "(II)Z"⟩) ∈ lw_all := lw_g (lw_at lw_ms 22 rfl) rfl
theorem qs23 : (Cond.selects "JoinOrdererModel" ⟨"JoinOrdererModel", "order", "(III)V"⟩ ⟨"JoinOrdererModel", "order", "(III)V"⟩) ∈ lw_all := lw_g (lw_at lw_ms 23 rfl) rfl
theorem qs24 : (Cond.selects "JoinOrdererModel" ⟨"JoinOrdererModel", "follow", "(II)V"⟩ ⟨"JoinOrdererModel", "follow", "(II)V"⟩) ∈ lw_all := lw_g (lw_at lw_ms 24 rfl) rfl
theorem qs25 : (Cond.selects "JoinOrdererModel" ⟨"JoinOrdererModel", "isKind", "(I)Z"⟩ ⟨"JoinOrdererModel", "isKind", "(I)Z"⟩) ∈ lw_all := lw_g (lw_at lw_ms 25 rfl) rfl
theorem qs26 : (Cond.selects "JoinOrdererModel" ⟨"JoinOrdererModel", "countPlans", "(III)I"⟩ ⟨"JoinOrdererModel", "countPlans", "(III)I"⟩) ∈ lw_all := lw_g (lw_at lw_ms 26 rfl) rfl
end
section
/-! java/lang/Object -/
set_option maxRecDepth 100000
def RJ0 : String := "java/lang/Object"
abbrev cJ0_init : ByteArray := object_method_1_code
def yJ0_init : MethodName := ⟨RJ0, "<init>", "()V"⟩
theorem dJ0_init_0 : decode cJ0_init 0 = .ok (.return_, 1) := by decide +kernel
theorem q36 : (Jvm.Cond.instanceMethod ({ cls := "java/lang/Object", name := "<init>", desc := "()V" } : Jvm.MethodName)) ∈ lw_all := lw_g (lw_at lw_m1 9 rfl) rfl
theorem q37 : (Jvm.Cond.code ({ cls := "java/lang/Object", name := "<init>", desc := "()V" } : Jvm.MethodName) object_method_1_code (1 : Nat) (Option.none : Option Jvm.ClassFile.FieldType)) ∈ lw_all := lw_g (lw_at lw_m1 10 rfl) rfl
theorem q81 : (Jvm.Cond.arrayClass Jvm.ClassFile.FieldType.int) ∈ lw_all := lw_g (lw_at lw_m1 54 rfl) rfl
set_option maxRecDepth 100000
theorem q82 : (Jvm.Cond.arrayClass Jvm.ClassFile.FieldType.boolean) ∈ lw_all := lw_g (lw_at lw_m1 55 rfl) rfl
theorem q27 : (Jvm.Cond.initialized "JoinOrdererLaw") ∈ lw_all := lw_g (lw_at lw_m1 0 rfl) rfl
set_option maxRecDepth 100000
theorem q30 : (Jvm.Cond.classLink "JoinOrdererLaw" (7 : Nat) "JoinOrderer") ∈ lw_all := lw_g (lw_at lw_m1 3 rfl) rfl
theorem q32 : (Jvm.Cond.methodLink "JoinOrdererLaw" (9 : Nat) ({ cls := "JoinOrderer", name := "<init>", desc := "()V" } : Jvm.MethodName)) ∈ lw_all := lw_g (lw_at lw_m1 5 rfl) rfl
theorem q83 : (Jvm.Cond.methodLink "JoinOrdererLaw" (13 : Nat) ({ cls := "JoinOrderer", name := "table", desc := "(II)I" } : Jvm.MethodName)) ∈ lw_all := lw_g (lw_at lw_m1 56 rfl) rfl
theorem q91 : (Jvm.Cond.methodLink "JoinOrdererLaw" (18 : Nat) ({ cls := "JoinOrderer", name := "filter", desc := "(III)I" } : Jvm.MethodName)) ∈ lw_all := lw_g (lw_at lw_m1 64 rfl) rfl
theorem q103 : (Jvm.Cond.methodLink "JoinOrdererLaw" (23 : Nat) ({ cls := "JoinOrderer", name := "unfilter", desc := "(II)I" } : Jvm.MethodName)) ∈ lw_all := lw_g (lw_at lw_m1 76 rfl) rfl
theorem q107 : (Jvm.Cond.methodLink "JoinOrdererLaw" (27 : Nat) ({ cls := "JoinOrderer", name := "size", desc := "(I)I" } : Jvm.MethodName)) ∈ lw_all := lw_g (lw_at lw_m1 80 rfl) rfl
theorem q119 : (Jvm.Cond.methodLink "JoinOrdererLaw" (32 : Nat) ({ cls := "JoinOrderer", name := "connected", desc := "(I)Z" } : Jvm.MethodName)) ∈ lw_all := lw_g (lw_at lw_m1 92 rfl) rfl
theorem q127 : (Jvm.Cond.methodLink "JoinOrdererLaw" (37 : Nat) ({ cls := "JoinOrderer", name := "cost", desc := "(I)I" } : Jvm.MethodName)) ∈ lw_all := lw_g (lw_at lw_m1 100 rfl) rfl
theorem q152 : (Jvm.Cond.methodLink "JoinOrdererLaw" (41 : Nat) ({ cls := "JoinOrderer", name := "linearCost", desc := "(I)I" } : Jvm.MethodName)) ∈ lw_all := lw_g (lw_at lw_m1 125 rfl) rfl
theorem q156 : (Jvm.Cond.methodLink "JoinOrdererLaw" (45 : Nat) ({ cls := "JoinOrderer", name := "linkedCost", desc := "(I)I" } : Jvm.MethodName)) ∈ lw_all := lw_g (lw_at lw_m1 129 rfl) rfl
theorem q160 : (Jvm.Cond.methodLink "JoinOrdererLaw" (49 : Nat) ({ cls := "JoinOrderer", name := "worst", desc := "(I)I" } : Jvm.MethodName)) ∈ lw_all := lw_g (lw_at lw_m1 133 rfl) rfl
theorem q164 : (Jvm.Cond.methodLink "JoinOrdererLaw" (53 : Nat) ({ cls := "JoinOrderer", name := "left", desc := "(I)I" } : Jvm.MethodName)) ∈ lw_all := lw_g (lw_at lw_m1 137 rfl) rfl
theorem q168 : (Jvm.Cond.methodLink "JoinOrdererLaw" (57 : Nat) ({ cls := "JoinOrderer", name := "linearTable", desc := "(II)I" } : Jvm.MethodName)) ∈ lw_all := lw_g (lw_at lw_m1 141 rfl) rfl
theorem q176 : (Jvm.Cond.methodLink "JoinOrdererLaw" (61 : Nat) ({ cls := "JoinOrderer", name := "plans", desc := "(I)I" } : Jvm.MethodName)) ∈ lw_all := lw_g (lw_at lw_m1 149 rfl) rfl
theorem q180 : (Jvm.Cond.methodLink "JoinOrdererLaw" (65 : Nat) ({ cls := "JoinOrderer", name := "linkedPlans", desc := "(I)I" } : Jvm.MethodName)) ∈ lw_all := lw_g (lw_at lw_m1 153 rfl) rfl
theorem q184 : (Jvm.Cond.methodLink "JoinOrdererLaw" (69 : Nat) ({ cls := "JoinOrderer", name := "cheapest", desc := "(I)I" } : Jvm.MethodName)) ∈ lw_all := lw_g (lw_at lw_m1 157 rfl) rfl
theorem q188 : (Jvm.Cond.methodLink "JoinOrdererLaw" (73 : Nat) ({ cls := "JoinOrderer", name := "gain", desc := "(II)I" } : Jvm.MethodName)) ∈ lw_all := lw_g (lw_at lw_m1 161 rfl) rfl
theorem q192 : (Jvm.Cond.classLink "JoinOrdererLaw" (10 : Nat) "JoinOrdererModel") ∈ lw_all := lw_g (lw_at lw_m1 165 rfl) rfl
theorem q194 : (Jvm.Cond.methodLink "JoinOrdererLaw" (12 : Nat) ({ cls := "JoinOrdererModel", name := "<init>", desc := "()V" } : Jvm.MethodName)) ∈ lw_all := lw_g (lw_at lw_m1 167 rfl) rfl
theorem q232 : (Jvm.Cond.methodLink "JoinOrdererLaw" (17 : Nat) ({ cls := "JoinOrdererModel", name := "table", desc := "(II)I" } : Jvm.MethodName)) ∈ lw_all := lw_g (lw_at lw_m1 205 rfl) rfl
theorem q240 : (Jvm.Cond.methodLink "JoinOrdererLaw" (22 : Nat) ({ cls := "JoinOrdererModel", name := "filter", desc := "(III)I" } : Jvm.MethodName)) ∈ lw_all := lw_g (lw_at lw_m1 213 rfl) rfl
theorem q252 : (Jvm.Cond.methodLink "JoinOrdererLaw" (26 : Nat) ({ cls := "JoinOrdererModel", name := "unfilter", desc := "(II)I" } : Jvm.MethodName)) ∈ lw_all := lw_g (lw_at lw_m1 225 rfl) rfl
theorem q256 : (Jvm.Cond.methodLink "JoinOrdererLaw" (31 : Nat) ({ cls := "JoinOrdererModel", name := "size", desc := "(I)I" } : Jvm.MethodName)) ∈ lw_all := lw_g (lw_at lw_m1 229 rfl) rfl
theorem q272 : (Jvm.Cond.methodLink "JoinOrdererLaw" (36 : Nat) ({ cls := "JoinOrdererModel", name := "connected", desc := "(I)Z" } : Jvm.MethodName)) ∈ lw_all := lw_g (lw_at lw_m2 5 rfl) rfl
theorem q280 : (Jvm.Cond.methodLink "JoinOrdererLaw" (40 : Nat) ({ cls := "JoinOrdererModel", name := "cost", desc := "(I)I" } : Jvm.MethodName)) ∈ lw_all := lw_g (lw_at lw_m2 13 rfl) rfl
theorem q312 : (Jvm.Cond.methodLink "JoinOrdererLaw" (44 : Nat) ({ cls := "JoinOrdererModel", name := "linearCost", desc := "(I)I" } : Jvm.MethodName)) ∈ lw_all := lw_g (lw_at lw_m2 45 rfl) rfl
theorem q316 : (Jvm.Cond.methodLink "JoinOrdererLaw" (48 : Nat) ({ cls := "JoinOrdererModel", name := "linkedCost", desc := "(I)I" } : Jvm.MethodName)) ∈ lw_all := lw_g (lw_at lw_m2 49 rfl) rfl
theorem q320 : (Jvm.Cond.methodLink "JoinOrdererLaw" (52 : Nat) ({ cls := "JoinOrdererModel", name := "worst", desc := "(I)I" } : Jvm.MethodName)) ∈ lw_all := lw_g (lw_at lw_m2 53 rfl) rfl
theorem q324 : (Jvm.Cond.methodLink "JoinOrdererLaw" (56 : Nat) ({ cls := "JoinOrdererModel", name := "left", desc := "(I)I" } : Jvm.MethodName)) ∈ lw_all := lw_g (lw_at lw_m2 57 rfl) rfl
theorem q328 : (Jvm.Cond.methodLink "JoinOrdererLaw" (60 : Nat) ({ cls := "JoinOrdererModel", name := "linearTable", desc := "(II)I" } : Jvm.MethodName)) ∈ lw_all := lw_g (lw_at lw_m2 61 rfl) rfl
theorem q332 : (Jvm.Cond.methodLink "JoinOrdererLaw" (64 : Nat) ({ cls := "JoinOrdererModel", name := "plans", desc := "(I)I" } : Jvm.MethodName)) ∈ lw_all := lw_g (lw_at lw_m2 65 rfl) rfl
theorem q340 : (Jvm.Cond.methodLink "JoinOrdererLaw" (68 : Nat) ({ cls := "JoinOrdererModel", name := "linkedPlans", desc := "(I)I" } : Jvm.MethodName)) ∈ lw_all := lw_g (lw_at lw_m2 73 rfl) rfl
theorem q344 : (Jvm.Cond.methodLink "JoinOrdererLaw" (72 : Nat) ({ cls := "JoinOrdererModel", name := "cheapest", desc := "(I)I" } : Jvm.MethodName)) ∈ lw_all := lw_g (lw_at lw_m2 77 rfl) rfl
theorem q348 : (Jvm.Cond.methodLink "JoinOrdererLaw" (76 : Nat) ({ cls := "JoinOrdererModel", name := "gain", desc := "(II)I" } : Jvm.MethodName)) ∈ lw_all := lw_g (lw_at lw_m2 81 rfl) rfl
/-! JoinOrderer -/
set_option maxRecDepth 100000
def RX0 : String := "JoinOrderer"
def TX0 : u_T := fun k => match k with
  | 0 => ("JoinOrderer", "power", "[I", true)
  | 1 => ("JoinOrderer", "strength", "[I", true)
  | 2 => ("JoinOrderer", "hasFilter", "[Z", true)
  | 3 => ("JoinOrderer", "filled", "Z", false)
  | 4 => ("JoinOrderer", "sizes", "[I", true)
  | 5 => ("JoinOrderer", "best", "[I", true)
  | 6 => ("JoinOrderer", "leftOf", "[I", true)
  | 7 => ("JoinOrderer", "ties", "[I", true)
  | 8 => ("JoinOrderer", "line", "[I", true)
  | 9 => ("JoinOrderer", "joined", "[I", true)
  | 10 => ("JoinOrderer", "dear", "[I", true)
  | 11 => ("JoinOrderer", "many", "[I", true)
  | 12 => ("JoinOrderer", "manyLinked", "[I", true)
  | _ => ("JoinOrderer", "ahead", "[I", true)
def tyX0 : Nat → FieldType := fun k => match k with
  | 0 => .array .int
  | 1 => .array .int
  | 2 => .array .boolean
  | 3 => .boolean
  | 4 => .array .int
  | 5 => .array .int
  | 6 => .array .int
  | 7 => .array .int
  | 8 => .array .int
  | 9 => .array .int
  | 10 => .array .int
  | 11 => .array .int
  | 12 => .array .int
  | _ => .array .int
abbrev wsX00 : List Cond := u_ws RX0 TX0 14
set_option maxRecDepth 100000 in
theorem nmX0 : ∀ a, a < 14 → ∀ b, b < 14 → a ≠ b → (TX0 a).2.1 ≠ (TX0 b).2.1 := by decide +kernel
set_option maxRecDepth 100000 in
theorem tyX0_ok : ∀ k, k < 14 → parseFieldDescriptor (TX0 k).2.2.1 = some (tyX0 k) := by decide +kernel
abbrev cX0_init : ByteArray := prog_1_method_1_code
def yX0_init : MethodName := ⟨RX0, "<init>", "()V"⟩
abbrev cX0_table : ByteArray := prog_1_method_5_code
def yX0_table : MethodName := ⟨RX0, "table", "(II)I"⟩
abbrev cX0_badTable : ByteArray := prog_1_method_2_code
def yX0_badTable : MethodName := ⟨RX0, "badTable", "(I)Z"⟩
abbrev cX0_filter : ByteArray := prog_1_method_7_code
def yX0_filter : MethodName := ⟨RX0, "filter", "(III)I"⟩
abbrev cX0_badPair : ByteArray := prog_1_method_3_code
def yX0_badPair : MethodName := ⟨RX0, "badPair", "(II)Z"⟩
abbrev cX0_put : ByteArray := prog_1_method_6_code
def yX0_put : MethodName := ⟨RX0, "put", "(IIZI)V"⟩
abbrev cX0_unfilter : ByteArray := prog_1_method_8_code
def yX0_unfilter : MethodName := ⟨RX0, "unfilter", "(II)I"⟩
abbrev cX0_size : ByteArray := prog_1_method_16_code
def yX0_size : MethodName := ⟨RX0, "size", "(I)I"⟩
abbrev cX0_badSet : ByteArray := prog_1_method_4_code
def yX0_badSet : MethodName := ⟨RX0, "badSet", "(I)Z"⟩
abbrev cX0_sizeOf : ByteArray := prog_1_method_9_code
def yX0_sizeOf : MethodName := ⟨RX0, "sizeOf", "(I)I"⟩
abbrev cX0_connected : ByteArray := prog_1_method_17_code
def yX0_connected : MethodName := ⟨RX0, "connected", "(I)Z"⟩
abbrev cX0_linkedWith : ByteArray := prog_1_method_10_code
def yX0_linkedWith : MethodName := ⟨RX0, "linkedWith", "(I)I"⟩
abbrev cX0_cost : ByteArray := prog_1_method_18_code
def yX0_cost : MethodName := ⟨RX0, "cost", "(I)I"⟩
abbrev cX0_fill : ByteArray := prog_1_method_15_code
def yX0_fill : MethodName := ⟨RX0, "fill", "()V"⟩
abbrev cX0_single : ByteArray := prog_1_method_11_code
def yX0_single : MethodName := ⟨RX0, "single", "(I)V"⟩
abbrev cX0_several : ByteArray := prog_1_method_14_code
def yX0_several : MethodName := ⟨RX0, "several", "(I)V"⟩
abbrev cX0_part : ByteArray := prog_1_method_12_code
def yX0_part : MethodName := ⟨RX0, "part", "(III)V"⟩
abbrev cX0_partLinked : ByteArray := prog_1_method_13_code
def yX0_partLinked : MethodName := ⟨RX0, "partLinked", "(III)V"⟩
abbrev cX0_linearCost : ByteArray := prog_1_method_19_code
def yX0_linearCost : MethodName := ⟨RX0, "linearCost", "(I)I"⟩
abbrev cX0_linkedCost : ByteArray := prog_1_method_20_code
def yX0_linkedCost : MethodName := ⟨RX0, "linkedCost", "(I)I"⟩
abbrev cX0_worst : ByteArray := prog_1_method_21_code
def yX0_worst : MethodName := ⟨RX0, "worst", "(I)I"⟩
abbrev cX0_left : ByteArray := prog_1_method_22_code
def yX0_left : MethodName := ⟨RX0, "left", "(I)I"⟩
abbrev cX0_linearTable : ByteArray := prog_1_method_24_code
def yX0_linearTable : MethodName := ⟨RX0, "linearTable", "(II)I"⟩
abbrev cX0_fillAhead : ByteArray := prog_1_method_23_code
def yX0_fillAhead : MethodName := ⟨RX0, "fillAhead", "(I)V"⟩
abbrev cX0_plans : ByteArray := prog_1_method_25_code
def yX0_plans : MethodName := ⟨RX0, "plans", "(I)I"⟩
abbrev cX0_linkedPlans : ByteArray := prog_1_method_26_code
def yX0_linkedPlans : MethodName := ⟨RX0, "linkedPlans", "(I)I"⟩
abbrev cX0_cheapest : ByteArray := prog_1_method_27_code
def yX0_cheapest : MethodName := ⟨RX0, "cheapest", "(I)I"⟩
abbrev cX0_gain : ByteArray := prog_1_method_28_code
def yX0_gain : MethodName := ⟨RX0, "gain", "(II)I"⟩
theorem q28 : (Jvm.Cond.initialized "JoinOrderer") ∈ lw_all := lw_g (lw_at lw_m1 1 rfl) rfl
theorem q31 : (Jvm.Cond.instantiable "JoinOrderer" (14 : Nat)) ∈ lw_all := lw_g (lw_at lw_m1 4 rfl) rfl
theorem q33 : (Jvm.Cond.instanceMethod ({ cls := "JoinOrderer", name := "<init>", desc := "()V" } : Jvm.MethodName)) ∈ lw_all := lw_g (lw_at lw_m1 6 rfl) rfl
theorem q34 : (Jvm.Cond.code ({ cls := "JoinOrderer", name := "<init>", desc := "()V" } : Jvm.MethodName) prog_1_method_1_code (2 : Nat) (Option.none : Option Jvm.ClassFile.FieldType)) ∈ lw_all := lw_g (lw_at lw_m1 7 rfl) rfl
theorem q35 : (Jvm.Cond.methodLink "JoinOrderer" (1 : Nat) ({ cls := "java/lang/Object", name := "<init>", desc := "()V" } : Jvm.MethodName)) ∈ lw_all := lw_g (lw_at lw_m1 8 rfl) rfl
theorem q38 : (Jvm.Cond.fieldLink "JoinOrderer" (7 : Nat) "JoinOrderer" "power" "[I") ∈ lw_all := lw_g (lw_at lw_m1 11 rfl) rfl
theorem q39 : (Jvm.Cond.fieldLink "JoinOrderer" (13 : Nat) "JoinOrderer" "strength" "[I") ∈ lw_all := lw_g (lw_at lw_m1 12 rfl) rfl
theorem q40 : (Jvm.Cond.fieldLink "JoinOrderer" (16 : Nat) "JoinOrderer" "hasFilter" "[Z") ∈ lw_all := lw_g (lw_at lw_m1 13 rfl) rfl
theorem q41 : (Jvm.Cond.fieldLink "JoinOrderer" (54 : Nat) "JoinOrderer" "filled" "Z") ∈ lw_all := lw_g (lw_at lw_m1 14 rfl) rfl
theorem q42 : (Jvm.Cond.fieldLink "JoinOrderer" (20 : Nat) "JoinOrderer" "sizes" "[I") ∈ lw_all := lw_g (lw_at lw_m1 15 rfl) rfl
theorem q43 : (Jvm.Cond.fieldLink "JoinOrderer" (23 : Nat) "JoinOrderer" "best" "[I") ∈ lw_all := lw_g (lw_at lw_m1 16 rfl) rfl
theorem q44 : (Jvm.Cond.fieldLink "JoinOrderer" (26 : Nat) "JoinOrderer" "leftOf" "[I") ∈ lw_all := lw_g (lw_at lw_m1 17 rfl) rfl
theorem q45 : (Jvm.Cond.fieldLink "JoinOrderer" (29 : Nat) "JoinOrderer" "ties" "[I") ∈ lw_all := lw_g (lw_at lw_m1 18 rfl) rfl
theorem q46 : (Jvm.Cond.fieldLink "JoinOrderer" (32 : Nat) "JoinOrderer" "line" "[I") ∈ lw_all := lw_g (lw_at lw_m1 19 rfl) rfl
theorem q47 : (Jvm.Cond.fieldLink "JoinOrderer" (35 : Nat) "JoinOrderer" "joined" "[I") ∈ lw_all := lw_g (lw_at lw_m1 20 rfl) rfl
theorem q48 : (Jvm.Cond.fieldLink "JoinOrderer" (38 : Nat) "JoinOrderer" "dear" "[I") ∈ lw_all := lw_g (lw_at lw_m1 21 rfl) rfl
theorem q49 : (Jvm.Cond.fieldLink "JoinOrderer" (41 : Nat) "JoinOrderer" "many" "[I") ∈ lw_all := lw_g (lw_at lw_m1 22 rfl) rfl
theorem q50 : (Jvm.Cond.fieldLink "JoinOrderer" (44 : Nat) "JoinOrderer" "manyLinked" "[I") ∈ lw_all := lw_g (lw_at lw_m1 23 rfl) rfl
theorem q51 : (Jvm.Cond.fieldLink "JoinOrderer" (47 : Nat) "JoinOrderer" "ahead" "[I") ∈ lw_all := lw_g (lw_at lw_m1 24 rfl) rfl
theorem q52 : (Jvm.Cond.laysFinal "JoinOrderer" "JoinOrderer" "power" "[I") ∈ lw_all := lw_g (lw_at lw_m1 25 rfl) rfl
theorem q53 : (Jvm.Cond.soleField "JoinOrderer" "power") ∈ lw_all := lw_g (lw_at lw_m1 26 rfl) rfl
theorem q54 : (Jvm.Cond.laysFinal "JoinOrderer" "JoinOrderer" "strength" "[I") ∈ lw_all := lw_g (lw_at lw_m1 27 rfl) rfl
theorem q55 : (Jvm.Cond.soleField "JoinOrderer" "strength") ∈ lw_all := lw_g (lw_at lw_m1 28 rfl) rfl
theorem q56 : (Jvm.Cond.laysFinal "JoinOrderer" "JoinOrderer" "hasFilter" "[Z") ∈ lw_all := lw_g (lw_at lw_m1 29 rfl) rfl
theorem q57 : (Jvm.Cond.soleField "JoinOrderer" "hasFilter") ∈ lw_all := lw_g (lw_at lw_m1 30 rfl) rfl
theorem q58 : (Jvm.Cond.lays "JoinOrderer" "JoinOrderer" "filled" "Z") ∈ lw_all := lw_g (lw_at lw_m1 31 rfl) rfl
theorem q59 : (Jvm.Cond.soleField "JoinOrderer" "filled") ∈ lw_all := lw_g (lw_at lw_m1 32 rfl) rfl
theorem q60 : (Jvm.Cond.laysFinal "JoinOrderer" "JoinOrderer" "sizes" "[I") ∈ lw_all := lw_g (lw_at lw_m1 33 rfl) rfl
theorem q61 : (Jvm.Cond.soleField "JoinOrderer" "sizes") ∈ lw_all := lw_g (lw_at lw_m1 34 rfl) rfl
theorem q62 : (Jvm.Cond.laysFinal "JoinOrderer" "JoinOrderer" "best" "[I") ∈ lw_all := lw_g (lw_at lw_m1 35 rfl) rfl
theorem q63 : (Jvm.Cond.soleField "JoinOrderer" "best") ∈ lw_all := lw_g (lw_at lw_m1 36 rfl) rfl
theorem q64 : (Jvm.Cond.laysFinal "JoinOrderer" "JoinOrderer" "leftOf" "[I") ∈ lw_all := lw_g (lw_at lw_m1 37 rfl) rfl
theorem q65 : (Jvm.Cond.soleField "JoinOrderer" "leftOf") ∈ lw_all := lw_g (lw_at lw_m1 38 rfl) rfl
theorem q66 : (Jvm.Cond.laysFinal "JoinOrderer" "JoinOrderer" "ties" "[I") ∈ lw_all := lw_g (lw_at lw_m1 39 rfl) rfl
theorem q67 : (Jvm.Cond.soleField "JoinOrderer" "ties") ∈ lw_all := lw_g (lw_at lw_m1 40 rfl) rfl
theorem q68 : (Jvm.Cond.laysFinal "JoinOrderer" "JoinOrderer" "line" "[I") ∈ lw_all := lw_g (lw_at lw_m1 41 rfl) rfl
theorem q69 : (Jvm.Cond.soleField "JoinOrderer" "line") ∈ lw_all := lw_g (lw_at lw_m1 42 rfl) rfl
theorem q70 : (Jvm.Cond.laysFinal "JoinOrderer" "JoinOrderer" "joined" "[I") ∈ lw_all := lw_g (lw_at lw_m1 43 rfl) rfl
theorem q71 : (Jvm.Cond.soleField "JoinOrderer" "joined") ∈ lw_all := lw_g (lw_at lw_m1 44 rfl) rfl
theorem q72 : (Jvm.Cond.laysFinal "JoinOrderer" "JoinOrderer" "dear" "[I") ∈ lw_all := lw_g (lw_at lw_m1 45 rfl) rfl
theorem q73 : (Jvm.Cond.soleField "JoinOrderer" "dear") ∈ lw_all := lw_g (lw_at lw_m1 46 rfl) rfl
theorem q74 : (Jvm.Cond.laysFinal "JoinOrderer" "JoinOrderer" "many" "[I") ∈ lw_all := lw_g (lw_at lw_m1 47 rfl) rfl
theorem q75 : (Jvm.Cond.soleField "JoinOrderer" "many") ∈ lw_all := lw_g (lw_at lw_m1 48 rfl) rfl
theorem q76 : (Jvm.Cond.laysFinal "JoinOrderer" "JoinOrderer" "manyLinked" "[I") ∈ lw_all := lw_g (lw_at lw_m1 49 rfl) rfl
theorem q77 : (Jvm.Cond.soleField "JoinOrderer" "manyLinked") ∈ lw_all := lw_g (lw_at lw_m1 50 rfl) rfl
theorem q78 : (Jvm.Cond.laysFinal "JoinOrderer" "JoinOrderer" "ahead" "[I") ∈ lw_all := lw_g (lw_at lw_m1 51 rfl) rfl
theorem q79 : (Jvm.Cond.soleField "JoinOrderer" "ahead") ∈ lw_all := lw_g (lw_at lw_m1 52 rfl) rfl
theorem q80 : (Jvm.Cond.superclass "JoinOrderer" "java/lang/Object") ∈ lw_all := lw_g (lw_at lw_m1 53 rfl) rfl
theorem q84 : (Jvm.Cond.instanceMethod ({ cls := "JoinOrderer", name := "table", desc := "(II)I" } : Jvm.MethodName)) ∈ lw_all := lw_g (lw_at lw_m1 57 rfl) rfl
theorem q85 : (Jvm.Cond.selects "JoinOrderer" ({ cls := "JoinOrderer", name := "table", desc := "(II)I" } : Jvm.MethodName) ({ cls := "JoinOrderer", name := "table", desc := "(II)I" } : Jvm.MethodName)) ∈ lw_all := lw_g (lw_at lw_m1 58 rfl) rfl
theorem q86 : (Jvm.Cond.code ({ cls := "JoinOrderer", name := "table", desc := "(II)I" } : Jvm.MethodName) prog_1_method_5_code (4 : Nat) (Option.some Jvm.ClassFile.FieldType.int)) ∈ lw_all := lw_g (lw_at lw_m1 59 rfl) rfl
theorem q87 : (Jvm.Cond.methodLink "JoinOrderer" (50 : Nat) ({ cls := "JoinOrderer", name := "badTable", desc := "(I)Z" } : Jvm.MethodName)) ∈ lw_all := lw_g (lw_at lw_m1 60 rfl) rfl
theorem q88 : (Jvm.Cond.privateMethod ({ cls := "JoinOrderer", name := "badTable", desc := "(I)Z" } : Jvm.MethodName)) ∈ lw_tbl := lw_at lw_m1 61 rfl
theorem q89 : (Jvm.Cond.instanceMethod ({ cls := "JoinOrderer", name := "badTable", desc := "(I)Z" } : Jvm.MethodName)) ∈ lw_all := lw_g (lw_at lw_m1 62 rfl) rfl
theorem q90 : (Jvm.Cond.code ({ cls := "JoinOrderer", name := "badTable", desc := "(I)Z" } : Jvm.MethodName) prog_1_method_2_code (2 : Nat) (Option.some Jvm.ClassFile.FieldType.boolean)) ∈ lw_all := lw_g (lw_at lw_m1 63 rfl) rfl
theorem q92 : (Jvm.Cond.instanceMethod ({ cls := "JoinOrderer", name := "filter", desc := "(III)I" } : Jvm.MethodName)) ∈ lw_all := lw_g (lw_at lw_m1 65 rfl) rfl
theorem q93 : (Jvm.Cond.selects "JoinOrderer" ({ cls := "JoinOrderer", name := "filter", desc := "(III)I" } : Jvm.MethodName) ({ cls := "JoinOrderer", name := "filter", desc := "(III)I" } : Jvm.MethodName)) ∈ lw_all := lw_g (lw_at lw_m1 66 rfl) rfl
theorem q94 : (Jvm.Cond.code ({ cls := "JoinOrderer", name := "filter", desc := "(III)I" } : Jvm.MethodName) prog_1_method_7_code (5 : Nat) (Option.some Jvm.ClassFile.FieldType.int)) ∈ lw_all := lw_g (lw_at lw_m1 67 rfl) rfl
theorem q95 : (Jvm.Cond.methodLink "JoinOrderer" (58 : Nat) ({ cls := "JoinOrderer", name := "badPair", desc := "(II)Z" } : Jvm.MethodName)) ∈ lw_all := lw_g (lw_at lw_m1 68 rfl) rfl
theorem q96 : (Jvm.Cond.privateMethod ({ cls := "JoinOrderer", name := "badPair", desc := "(II)Z" } : Jvm.MethodName)) ∈ lw_tbl := lw_at lw_m1 69 rfl
theorem q97 : (Jvm.Cond.instanceMethod ({ cls := "JoinOrderer", name := "badPair", desc := "(II)Z" } : Jvm.MethodName)) ∈ lw_all := lw_g (lw_at lw_m1 70 rfl) rfl
theorem q98 : (Jvm.Cond.code ({ cls := "JoinOrderer", name := "badPair", desc := "(II)Z" } : Jvm.MethodName) prog_1_method_3_code (3 : Nat) (Option.some Jvm.ClassFile.FieldType.boolean)) ∈ lw_all := lw_g (lw_at lw_m1 71 rfl) rfl
theorem q99 : (Jvm.Cond.methodLink "JoinOrderer" (62 : Nat) ({ cls := "JoinOrderer", name := "put", desc := "(IIZI)V" } : Jvm.MethodName)) ∈ lw_all := lw_g (lw_at lw_m1 72 rfl) rfl
theorem q100 : (Jvm.Cond.privateMethod ({ cls := "JoinOrderer", name := "put", desc := "(IIZI)V" } : Jvm.MethodName)) ∈ lw_tbl := lw_at lw_m1 73 rfl
theorem q101 : (Jvm.Cond.instanceMethod ({ cls := "JoinOrderer", name := "put", desc := "(IIZI)V" } : Jvm.MethodName)) ∈ lw_all := lw_g (lw_at lw_m1 74 rfl) rfl
theorem q102 : (Jvm.Cond.code ({ cls := "JoinOrderer", name := "put", desc := "(IIZI)V" } : Jvm.MethodName) prog_1_method_6_code (5 : Nat) (Option.none : Option Jvm.ClassFile.FieldType)) ∈ lw_all := lw_g (lw_at lw_m1 75 rfl) rfl
theorem q104 : (Jvm.Cond.instanceMethod ({ cls := "JoinOrderer", name := "unfilter", desc := "(II)I" } : Jvm.MethodName)) ∈ lw_all := lw_g (lw_at lw_m1 77 rfl) rfl
theorem q105 : (Jvm.Cond.selects "JoinOrderer" ({ cls := "JoinOrderer", name := "unfilter", desc := "(II)I" } : Jvm.MethodName) ({ cls := "JoinOrderer", name := "unfilter", desc := "(II)I" } : Jvm.MethodName)) ∈ lw_all := lw_g (lw_at lw_m1 78 rfl) rfl
theorem q106 : (Jvm.Cond.code ({ cls := "JoinOrderer", name := "unfilter", desc := "(II)I" } : Jvm.MethodName) prog_1_method_8_code (4 : Nat) (Option.some Jvm.ClassFile.FieldType.int)) ∈ lw_all := lw_g (lw_at lw_m1 79 rfl) rfl
theorem q108 : (Jvm.Cond.instanceMethod ({ cls := "JoinOrderer", name := "size", desc := "(I)I" } : Jvm.MethodName)) ∈ lw_all := lw_g (lw_at lw_m1 81 rfl) rfl
theorem q109 : (Jvm.Cond.selects "JoinOrderer" ({ cls := "JoinOrderer", name := "size", desc := "(I)I" } : Jvm.MethodName) ({ cls := "JoinOrderer", name := "size", desc := "(I)I" } : Jvm.MethodName)) ∈ lw_all := lw_g (lw_at lw_m1 82 rfl) rfl
theorem q110 : (Jvm.Cond.code ({ cls := "JoinOrderer", name := "size", desc := "(I)I" } : Jvm.MethodName) prog_1_method_16_code (2 : Nat) (Option.some Jvm.ClassFile.FieldType.int)) ∈ lw_all := lw_g (lw_at lw_m1 83 rfl) rfl
theorem q111 : (Jvm.Cond.methodLink "JoinOrderer" (88 : Nat) ({ cls := "JoinOrderer", name := "badSet", desc := "(I)Z" } : Jvm.MethodName)) ∈ lw_all := lw_g (lw_at lw_m1 84 rfl) rfl
theorem q112 : (Jvm.Cond.privateMethod ({ cls := "JoinOrderer", name := "badSet", desc := "(I)Z" } : Jvm.MethodName)) ∈ lw_tbl := lw_at lw_m1 85 rfl
theorem q113 : (Jvm.Cond.instanceMethod ({ cls := "JoinOrderer", name := "badSet", desc := "(I)Z" } : Jvm.MethodName)) ∈ lw_all := lw_g (lw_at lw_m1 86 rfl) rfl
theorem q114 : (Jvm.Cond.code ({ cls := "JoinOrderer", name := "badSet", desc := "(I)Z" } : Jvm.MethodName) prog_1_method_4_code (2 : Nat) (Option.some Jvm.ClassFile.FieldType.boolean)) ∈ lw_all := lw_g (lw_at lw_m1 87 rfl) rfl
theorem q115 : (Jvm.Cond.methodLink "JoinOrderer" (78 : Nat) ({ cls := "JoinOrderer", name := "sizeOf", desc := "(I)I" } : Jvm.MethodName)) ∈ lw_all := lw_g (lw_at lw_m1 88 rfl) rfl
theorem q116 : (Jvm.Cond.privateMethod ({ cls := "JoinOrderer", name := "sizeOf", desc := "(I)I" } : Jvm.MethodName)) ∈ lw_tbl := lw_at lw_m1 89 rfl
theorem q117 : (Jvm.Cond.instanceMethod ({ cls := "JoinOrderer", name := "sizeOf", desc := "(I)I" } : Jvm.MethodName)) ∈ lw_all := lw_g (lw_at lw_m1 90 rfl) rfl
theorem q118 : (Jvm.Cond.code ({ cls := "JoinOrderer", name := "sizeOf", desc := "(I)I" } : Jvm.MethodName) prog_1_method_9_code (5 : Nat) (Option.some Jvm.ClassFile.FieldType.int)) ∈ lw_all := lw_g (lw_at lw_m1 91 rfl) rfl
theorem q120 : (Jvm.Cond.instanceMethod ({ cls := "JoinOrderer", name := "connected", desc := "(I)Z" } : Jvm.MethodName)) ∈ lw_all := lw_g (lw_at lw_m1 93 rfl) rfl
theorem q121 : (Jvm.Cond.selects "JoinOrderer" ({ cls := "JoinOrderer", name := "connected", desc := "(I)Z" } : Jvm.MethodName) ({ cls := "JoinOrderer", name := "connected", desc := "(I)Z" } : Jvm.MethodName)) ∈ lw_all := lw_g (lw_at lw_m1 94 rfl) rfl
theorem q122 : (Jvm.Cond.code ({ cls := "JoinOrderer", name := "connected", desc := "(I)Z" } : Jvm.MethodName) prog_1_method_17_code (4 : Nat) (Option.some Jvm.ClassFile.FieldType.boolean)) ∈ lw_all := lw_g (lw_at lw_m1 95 rfl) rfl
theorem q123 : (Jvm.Cond.methodLink "JoinOrderer" (66 : Nat) ({ cls := "JoinOrderer", name := "linkedWith", desc := "(I)I" } : Jvm.MethodName)) ∈ lw_all := lw_g (lw_at lw_m1 96 rfl) rfl
theorem q124 : (Jvm.Cond.privateMethod ({ cls := "JoinOrderer", name := "linkedWith", desc := "(I)I" } : Jvm.MethodName)) ∈ lw_tbl := lw_at lw_m1 97 rfl
theorem q125 : (Jvm.Cond.instanceMethod ({ cls := "JoinOrderer", name := "linkedWith", desc := "(I)I" } : Jvm.MethodName)) ∈ lw_all := lw_g (lw_at lw_m1 98 rfl) rfl
theorem q126 : (Jvm.Cond.code ({ cls := "JoinOrderer", name := "linkedWith", desc := "(I)I" } : Jvm.MethodName) prog_1_method_10_code (5 : Nat) (Option.some Jvm.ClassFile.FieldType.int)) ∈ lw_all := lw_g (lw_at lw_m1 99 rfl) rfl
theorem q128 : (Jvm.Cond.instanceMethod ({ cls := "JoinOrderer", name := "cost", desc := "(I)I" } : Jvm.MethodName)) ∈ lw_all := lw_g (lw_at lw_m1 101 rfl) rfl
theorem q129 : (Jvm.Cond.selects "JoinOrderer" ({ cls := "JoinOrderer", name := "cost", desc := "(I)I" } : Jvm.MethodName) ({ cls := "JoinOrderer", name := "cost", desc := "(I)I" } : Jvm.MethodName)) ∈ lw_all := lw_g (lw_at lw_m1 102 rfl) rfl
theorem q130 : (Jvm.Cond.code ({ cls := "JoinOrderer", name := "cost", desc := "(I)I" } : Jvm.MethodName) prog_1_method_18_code (2 : Nat) (Option.some Jvm.ClassFile.FieldType.int)) ∈ lw_all := lw_g (lw_at lw_m1 103 rfl) rfl
theorem q131 : (Jvm.Cond.methodLink "JoinOrderer" (91 : Nat) ({ cls := "JoinOrderer", name := "fill", desc := "()V" } : Jvm.MethodName)) ∈ lw_all := lw_g (lw_at lw_m1 104 rfl) rfl
theorem q132 : (Jvm.Cond.privateMethod ({ cls := "JoinOrderer", name := "fill", desc := "()V" } : Jvm.MethodName)) ∈ lw_tbl := lw_at lw_m1 105 rfl
theorem q133 : (Jvm.Cond.instanceMethod ({ cls := "JoinOrderer", name := "fill", desc := "()V" } : Jvm.MethodName)) ∈ lw_all := lw_g (lw_at lw_m1 106 rfl) rfl
theorem q134 : (Jvm.Cond.code ({ cls := "JoinOrderer", name := "fill", desc := "()V" } : Jvm.MethodName) prog_1_method_15_code (2 : Nat) (Option.none : Option Jvm.ClassFile.FieldType)) ∈ lw_all := lw_g (lw_at lw_m1 107 rfl) rfl
theorem q135 : (Jvm.Cond.methodLink "JoinOrderer" (81 : Nat) ({ cls := "JoinOrderer", name := "single", desc := "(I)V" } : Jvm.MethodName)) ∈ lw_all := lw_g (lw_at lw_m1 108 rfl) rfl
theorem q136 : (Jvm.Cond.privateMethod ({ cls := "JoinOrderer", name := "single", desc := "(I)V" } : Jvm.MethodName)) ∈ lw_tbl := lw_at lw_m1 109 rfl
theorem q137 : (Jvm.Cond.instanceMethod ({ cls := "JoinOrderer", name := "single", desc := "(I)V" } : Jvm.MethodName)) ∈ lw_all := lw_g (lw_at lw_m1 110 rfl) rfl
theorem q138 : (Jvm.Cond.code ({ cls := "JoinOrderer", name := "single", desc := "(I)V" } : Jvm.MethodName) prog_1_method_11_code (2 : Nat) (Option.none : Option Jvm.ClassFile.FieldType)) ∈ lw_all := lw_g (lw_at lw_m1 111 rfl) rfl
theorem q139 : (Jvm.Cond.methodLink "JoinOrderer" (85 : Nat) ({ cls := "JoinOrderer", name := "several", desc := "(I)V" } : Jvm.MethodName)) ∈ lw_all := lw_g (lw_at lw_m1 112 rfl) rfl
theorem q140 : (Jvm.Cond.privateMethod ({ cls := "JoinOrderer", name := "several", desc := "(I)V" } : Jvm.MethodName)) ∈ lw_tbl := lw_at lw_m1 113 rfl
theorem q141 : (Jvm.Cond.instanceMethod ({ cls := "JoinOrderer", name := "several", desc := "(I)V" } : Jvm.MethodName)) ∈ lw_all := lw_g (lw_at lw_m1 114 rfl) rfl
theorem q142 : (Jvm.Cond.code ({ cls := "JoinOrderer", name := "several", desc := "(I)V" } : Jvm.MethodName) prog_1_method_14_code (3 : Nat) (Option.none : Option Jvm.ClassFile.FieldType)) ∈ lw_all := lw_g (lw_at lw_m1 115 rfl) rfl
theorem q143 : (Jvm.Cond.constant "JoinOrderer" (74 : Nat) (2147483647 : Int32)) ∈ lw_all := lw_g (lw_at lw_m1 116 rfl) rfl
theorem q144 : (Jvm.Cond.methodLink "JoinOrderer" (75 : Nat) ({ cls := "JoinOrderer", name := "part", desc := "(III)V" } : Jvm.MethodName)) ∈ lw_all := lw_g (lw_at lw_m1 117 rfl) rfl
theorem q145 : (Jvm.Cond.privateMethod ({ cls := "JoinOrderer", name := "part", desc := "(III)V" } : Jvm.MethodName)) ∈ lw_tbl := lw_at lw_m1 118 rfl
theorem q146 : (Jvm.Cond.instanceMethod ({ cls := "JoinOrderer", name := "part", desc := "(III)V" } : Jvm.MethodName)) ∈ lw_all := lw_g (lw_at lw_m1 119 rfl) rfl
theorem q147 : (Jvm.Cond.code ({ cls := "JoinOrderer", name := "part", desc := "(III)V" } : Jvm.MethodName) prog_1_method_12_code (8 : Nat) (Option.none : Option Jvm.ClassFile.FieldType)) ∈ lw_all := lw_g (lw_at lw_m1 120 rfl) rfl
theorem q148 : (Jvm.Cond.methodLink "JoinOrderer" (70 : Nat) ({ cls := "JoinOrderer", name := "partLinked", desc := "(III)V" } : Jvm.MethodName)) ∈ lw_all := lw_g (lw_at lw_m1 121 rfl) rfl
theorem q149 : (Jvm.Cond.privateMethod ({ cls := "JoinOrderer", name := "partLinked", desc := "(III)V" } : Jvm.MethodName)) ∈ lw_tbl := lw_at lw_m1 122 rfl
theorem q150 : (Jvm.Cond.instanceMethod ({ cls := "JoinOrderer", name := "partLinked", desc := "(III)V" } : Jvm.MethodName)) ∈ lw_all := lw_g (lw_at lw_m1 123 rfl) rfl
theorem q151 : (Jvm.Cond.code ({ cls := "JoinOrderer", name := "partLinked", desc := "(III)V" } : Jvm.MethodName) prog_1_method_13_code (5 : Nat) (Option.none : Option Jvm.ClassFile.FieldType)) ∈ lw_all := lw_g (lw_at lw_m1 124 rfl) rfl
theorem q153 : (Jvm.Cond.instanceMethod ({ cls := "JoinOrderer", name := "linearCost", desc := "(I)I" } : Jvm.MethodName)) ∈ lw_all := lw_g (lw_at lw_m1 126 rfl) rfl
theorem q154 : (Jvm.Cond.selects "JoinOrderer" ({ cls := "JoinOrderer", name := "linearCost", desc := "(I)I" } : Jvm.MethodName) ({ cls := "JoinOrderer", name := "linearCost", desc := "(I)I" } : Jvm.MethodName)) ∈ lw_all := lw_g (lw_at lw_m1 127 rfl) rfl
theorem q155 : (Jvm.Cond.code ({ cls := "JoinOrderer", name := "linearCost", desc := "(I)I" } : Jvm.MethodName) prog_1_method_19_code (2 : Nat) (Option.some Jvm.ClassFile.FieldType.int)) ∈ lw_all := lw_g (lw_at lw_m1 128 rfl) rfl
theorem q157 : (Jvm.Cond.instanceMethod ({ cls := "JoinOrderer", name := "linkedCost", desc := "(I)I" } : Jvm.MethodName)) ∈ lw_all := lw_g (lw_at lw_m1 130 rfl) rfl
theorem q158 : (Jvm.Cond.selects "JoinOrderer" ({ cls := "JoinOrderer", name := "linkedCost", desc := "(I)I" } : Jvm.MethodName) ({ cls := "JoinOrderer", name := "linkedCost", desc := "(I)I" } : Jvm.MethodName)) ∈ lw_all := lw_g (lw_at lw_m1 131 rfl) rfl
theorem q159 : (Jvm.Cond.code ({ cls := "JoinOrderer", name := "linkedCost", desc := "(I)I" } : Jvm.MethodName) prog_1_method_20_code (2 : Nat) (Option.some Jvm.ClassFile.FieldType.int)) ∈ lw_all := lw_g (lw_at lw_m1 132 rfl) rfl
theorem q161 : (Jvm.Cond.instanceMethod ({ cls := "JoinOrderer", name := "worst", desc := "(I)I" } : Jvm.MethodName)) ∈ lw_all := lw_g (lw_at lw_m1 134 rfl) rfl
theorem q162 : (Jvm.Cond.selects "JoinOrderer" ({ cls := "JoinOrderer", name := "worst", desc := "(I)I" } : Jvm.MethodName) ({ cls := "JoinOrderer", name := "worst", desc := "(I)I" } : Jvm.MethodName)) ∈ lw_all := lw_g (lw_at lw_m1 135 rfl) rfl
theorem q163 : (Jvm.Cond.code ({ cls := "JoinOrderer", name := "worst", desc := "(I)I" } : Jvm.MethodName) prog_1_method_21_code (2 : Nat) (Option.some Jvm.ClassFile.FieldType.int)) ∈ lw_all := lw_g (lw_at lw_m1 136 rfl) rfl
theorem q165 : (Jvm.Cond.instanceMethod ({ cls := "JoinOrderer", name := "left", desc := "(I)I" } : Jvm.MethodName)) ∈ lw_all := lw_g (lw_at lw_m1 138 rfl) rfl
theorem q166 : (Jvm.Cond.selects "JoinOrderer" ({ cls := "JoinOrderer", name := "left", desc := "(I)I" } : Jvm.MethodName) ({ cls := "JoinOrderer", name := "left", desc := "(I)I" } : Jvm.MethodName)) ∈ lw_all := lw_g (lw_at lw_m1 139 rfl) rfl
theorem q167 : (Jvm.Cond.code ({ cls := "JoinOrderer", name := "left", desc := "(I)I" } : Jvm.MethodName) prog_1_method_22_code (2 : Nat) (Option.some Jvm.ClassFile.FieldType.int)) ∈ lw_all := lw_g (lw_at lw_m1 140 rfl) rfl
theorem q169 : (Jvm.Cond.instanceMethod ({ cls := "JoinOrderer", name := "linearTable", desc := "(II)I" } : Jvm.MethodName)) ∈ lw_all := lw_g (lw_at lw_m1 142 rfl) rfl
theorem q170 : (Jvm.Cond.selects "JoinOrderer" ({ cls := "JoinOrderer", name := "linearTable", desc := "(II)I" } : Jvm.MethodName) ({ cls := "JoinOrderer", name := "linearTable", desc := "(II)I" } : Jvm.MethodName)) ∈ lw_all := lw_g (lw_at lw_m1 143 rfl) rfl
theorem q171 : (Jvm.Cond.code ({ cls := "JoinOrderer", name := "linearTable", desc := "(II)I" } : Jvm.MethodName) prog_1_method_24_code (10 : Nat) (Option.some Jvm.ClassFile.FieldType.int)) ∈ lw_all := lw_g (lw_at lw_m1 144 rfl) rfl
theorem q172 : (Jvm.Cond.methodLink "JoinOrderer" (94 : Nat) ({ cls := "JoinOrderer", name := "fillAhead", desc := "(I)V" } : Jvm.MethodName)) ∈ lw_all := lw_g (lw_at lw_m1 145 rfl) rfl
theorem q173 : (Jvm.Cond.privateMethod ({ cls := "JoinOrderer", name := "fillAhead", desc := "(I)V" } : Jvm.MethodName)) ∈ lw_tbl := lw_at lw_m1 146 rfl
theorem q174 : (Jvm.Cond.instanceMethod ({ cls := "JoinOrderer", name := "fillAhead", desc := "(I)V" } : Jvm.MethodName)) ∈ lw_all := lw_g (lw_at lw_m1 147 rfl) rfl
theorem q175 : (Jvm.Cond.code ({ cls := "JoinOrderer", name := "fillAhead", desc := "(I)V" } : Jvm.MethodName) prog_1_method_23_code (5 : Nat) (Option.none : Option Jvm.ClassFile.FieldType)) ∈ lw_all := lw_g (lw_at lw_m1 148 rfl) rfl
theorem q177 : (Jvm.Cond.instanceMethod ({ cls := "JoinOrderer", name := "plans", desc := "(I)I" } : Jvm.MethodName)) ∈ lw_all := lw_g (lw_at lw_m1 150 rfl) rfl
theorem q178 : (Jvm.Cond.selects "JoinOrderer" ({ cls := "JoinOrderer", name := "plans", desc := "(I)I" } : Jvm.MethodName) ({ cls := "JoinOrderer", name := "plans", desc := "(I)I" } : Jvm.MethodName)) ∈ lw_all := lw_g (lw_at lw_m1 151 rfl) rfl
theorem q179 : (Jvm.Cond.code ({ cls := "JoinOrderer", name := "plans", desc := "(I)I" } : Jvm.MethodName) prog_1_method_25_code (2 : Nat) (Option.some Jvm.ClassFile.FieldType.int)) ∈ lw_all := lw_g (lw_at lw_m1 152 rfl) rfl
theorem q181 : (Jvm.Cond.instanceMethod ({ cls := "JoinOrderer", name := "linkedPlans", desc := "(I)I" } : Jvm.MethodName)) ∈ lw_all := lw_g (lw_at lw_m1 154 rfl) rfl
theorem q182 : (Jvm.Cond.selects "JoinOrderer" ({ cls := "JoinOrderer", name := "linkedPlans", desc := "(I)I" } : Jvm.MethodName) ({ cls := "JoinOrderer", name := "linkedPlans", desc := "(I)I" } : Jvm.MethodName)) ∈ lw_all := lw_g (lw_at lw_m1 155 rfl) rfl
theorem q183 : (Jvm.Cond.code ({ cls := "JoinOrderer", name := "linkedPlans", desc := "(I)I" } : Jvm.MethodName) prog_1_method_26_code (2 : Nat) (Option.some Jvm.ClassFile.FieldType.int)) ∈ lw_all := lw_g (lw_at lw_m1 156 rfl) rfl
theorem q185 : (Jvm.Cond.instanceMethod ({ cls := "JoinOrderer", name := "cheapest", desc := "(I)I" } : Jvm.MethodName)) ∈ lw_all := lw_g (lw_at lw_m1 158 rfl) rfl
theorem q186 : (Jvm.Cond.selects "JoinOrderer" ({ cls := "JoinOrderer", name := "cheapest", desc := "(I)I" } : Jvm.MethodName) ({ cls := "JoinOrderer", name := "cheapest", desc := "(I)I" } : Jvm.MethodName)) ∈ lw_all := lw_g (lw_at lw_m1 159 rfl) rfl
theorem q187 : (Jvm.Cond.code ({ cls := "JoinOrderer", name := "cheapest", desc := "(I)I" } : Jvm.MethodName) prog_1_method_27_code (2 : Nat) (Option.some Jvm.ClassFile.FieldType.int)) ∈ lw_all := lw_g (lw_at lw_m1 160 rfl) rfl
theorem q189 : (Jvm.Cond.instanceMethod ({ cls := "JoinOrderer", name := "gain", desc := "(II)I" } : Jvm.MethodName)) ∈ lw_all := lw_g (lw_at lw_m1 162 rfl) rfl
theorem q190 : (Jvm.Cond.selects "JoinOrderer" ({ cls := "JoinOrderer", name := "gain", desc := "(II)I" } : Jvm.MethodName) ({ cls := "JoinOrderer", name := "gain", desc := "(II)I" } : Jvm.MethodName)) ∈ lw_all := lw_g (lw_at lw_m1 163 rfl) rfl
theorem q191 : (Jvm.Cond.code ({ cls := "JoinOrderer", name := "gain", desc := "(II)I" } : Jvm.MethodName) prog_1_method_28_code (7 : Nat) (Option.some Jvm.ClassFile.FieldType.int)) ∈ lw_all := lw_g (lw_at lw_m1 164 rfl) rfl
theorem in_X0 : ∀ w ∈ wsX00, w ∈ lw_all := lw_in wsX00 [52, 54, 56, 58, 60, 62, 64, 66, 68, 70, 72, 74, 76, 78] (by decide +kernel) (by decide +kernel)
/-! JoinOrdererModel -/
set_option maxRecDepth 100000
def RX1 : String := "JoinOrdererModel"
def TX1 : u_T := fun k => match k with
  | 0 => ("JoinOrdererModel", "tables", "[I", true)
  | 1 => ("JoinOrdererModel", "filters", "[I", true)
  | 2 => ("JoinOrdererModel", "sizes", "[I", true)
  | 3 => ("JoinOrdererModel", "forms", "[I", true)
  | 4 => ("JoinOrdererModel", "formCount", "I", false)
  | 5 => ("JoinOrdererModel", "row", "[I", true)
  | 6 => ("JoinOrdererModel", "stack", "[I", true)
  | 7 => ("JoinOrdererModel", "cost", "I", false)
  | 8 => ("JoinOrdererModel", "leftSet", "I", false)
  | 9 => ("JoinOrdererModel", "linked", "Z", false)
  | _ => ("JoinOrdererModel", "linear", "Z", false)
def tyX1 : Nat → FieldType := fun k => match k with
  | 0 => .array .int
  | 1 => .array .int
  | 2 => .array .int
  | 3 => .array .int
  | 4 => .int
  | 5 => .array .int
  | 6 => .array .int
  | 7 => .int
  | 8 => .int
  | 9 => .boolean
  | _ => .boolean
abbrev wsX10 : List Cond := u_ws RX1 TX1 11
theorem nmX1 : ∀ a, a < 11 → ∀ b, b < 11 → a ≠ b → (TX1 a).2.1 ≠ (TX1 b).2.1 := by decide +kernel
theorem tyX1_ok : ∀ k, k < 11 → parseFieldDescriptor (TX1 k).2.2.1 = some (tyX1 k) := by decide +kernel
abbrev cX1_init : ByteArray := prog_3_method_1_code
def yX1_init : MethodName := ⟨RX1, "<init>", "()V"⟩
abbrev cX1_table : ByteArray := prog_3_method_4_code
def yX1_table : MethodName := ⟨RX1, "table", "(II)I"⟩
abbrev cX1_isTable : ByteArray := prog_3_method_2_code
def yX1_isTable : MethodName := ⟨RX1, "isTable", "(I)Z"⟩
abbrev cX1_filter : ByteArray := prog_3_method_6_code
def yX1_filter : MethodName := ⟨RX1, "filter", "(III)I"⟩
abbrev cX1_isPair : ByteArray := prog_3_method_3_code
def yX1_isPair : MethodName := ⟨RX1, "isPair", "(II)Z"⟩
abbrev cX1_setFilter : ByteArray := prog_3_method_5_code
def yX1_setFilter : MethodName := ⟨RX1, "setFilter", "(III)V"⟩
abbrev cX1_unfilter : ByteArray := prog_3_method_7_code
def yX1_unfilter : MethodName := ⟨RX1, "unfilter", "(II)I"⟩
abbrev cX1_size : ByteArray := prog_3_method_11_code
def yX1_size : MethodName := ⟨RX1, "size", "(I)I"⟩
abbrev cX1_isSet : ByteArray := prog_3_method_10_code
def yX1_isSet : MethodName := ⟨RX1, "isSet", "(I)Z"⟩
abbrev cX1_sizeOf : ByteArray := prog_3_method_9_code
def yX1_sizeOf : MethodName := ⟨RX1, "sizeOf", "(I)I"⟩
abbrev cX1_has : ByteArray := prog_3_method_8_code
def yX1_has : MethodName := ⟨RX1, "has", "(II)Z"⟩
abbrev cX1_connected : ByteArray := prog_3_method_13_code
def yX1_connected : MethodName := ⟨RX1, "connected", "(I)Z"⟩
abbrev cX1_isLinked : ByteArray := prog_3_method_12_code
def yX1_isLinked : MethodName := ⟨RX1, "isLinked", "(II)Z"⟩
abbrev cX1_cost : ByteArray := prog_3_method_22_code
def yX1_cost : MethodName := ⟨RX1, "cost", "(I)I"⟩
abbrev cX1_extreme : ByteArray := prog_3_method_20_code
def yX1_extreme : MethodName := ⟨RX1, "extreme", "(IIZ)I"⟩
abbrev cX1_prepare : ByteArray := prog_3_method_16_code
def yX1_prepare : MethodName := ⟨RX1, "prepare", "(I)I"⟩
abbrev cX1_count : ByteArray := prog_3_method_14_code
def yX1_count : MethodName := ⟨RX1, "count", "(I)I"⟩
abbrev cX1_isForm : ByteArray := prog_3_method_15_code
def yX1_isForm : MethodName := ⟨RX1, "isForm", "(II)Z"⟩
abbrev cX1_order : ByteArray := prog_3_method_17_code
def yX1_order : MethodName := ⟨RX1, "order", "(III)V"⟩
abbrev cX1_follow : ByteArray := prog_3_method_18_code
def yX1_follow : MethodName := ⟨RX1, "follow", "(II)V"⟩
abbrev cX1_isKind : ByteArray := prog_3_method_19_code
def yX1_isKind : MethodName := ⟨RX1, "isKind", "(I)Z"⟩
abbrev cX1_linearCost : ByteArray := prog_3_method_23_code
def yX1_linearCost : MethodName := ⟨RX1, "linearCost", "(I)I"⟩
abbrev cX1_linkedCost : ByteArray := prog_3_method_24_code
def yX1_linkedCost : MethodName := ⟨RX1, "linkedCost", "(I)I"⟩
abbrev cX1_worst : ByteArray := prog_3_method_25_code
def yX1_worst : MethodName := ⟨RX1, "worst", "(I)I"⟩
abbrev cX1_left : ByteArray := prog_3_method_26_code
def yX1_left : MethodName := ⟨RX1, "left", "(I)I"⟩
abbrev cX1_linearTable : ByteArray := prog_3_method_27_code
def yX1_linearTable : MethodName := ⟨RX1, "linearTable", "(II)I"⟩
abbrev cX1_plans : ByteArray := prog_3_method_28_code
def yX1_plans : MethodName := ⟨RX1, "plans", "(I)I"⟩
abbrev cX1_countPlans : ByteArray := prog_3_method_21_code
def yX1_countPlans : MethodName := ⟨RX1, "countPlans", "(III)I"⟩
abbrev cX1_linkedPlans : ByteArray := prog_3_method_29_code
def yX1_linkedPlans : MethodName := ⟨RX1, "linkedPlans", "(I)I"⟩
abbrev cX1_cheapest : ByteArray := prog_3_method_30_code
def yX1_cheapest : MethodName := ⟨RX1, "cheapest", "(I)I"⟩
abbrev cX1_gain : ByteArray := prog_3_method_31_code
def yX1_gain : MethodName := ⟨RX1, "gain", "(II)I"⟩
theorem q29 : (Jvm.Cond.initialized "JoinOrdererModel") ∈ lw_all := lw_g (lw_at lw_m1 2 rfl) rfl
theorem q193 : (Jvm.Cond.instantiable "JoinOrdererModel" (11 : Nat)) ∈ lw_all := lw_g (lw_at lw_m1 166 rfl) rfl
theorem q195 : (Jvm.Cond.instanceMethod ({ cls := "JoinOrdererModel", name := "<init>", desc := "()V" } : Jvm.MethodName)) ∈ lw_all := lw_g (lw_at lw_m1 168 rfl) rfl
theorem q196 : (Jvm.Cond.code ({ cls := "JoinOrdererModel", name := "<init>", desc := "()V" } : Jvm.MethodName) prog_3_method_1_code (2 : Nat) (Option.none : Option Jvm.ClassFile.FieldType)) ∈ lw_all := lw_g (lw_at lw_m1 169 rfl) rfl
theorem q197 : (Jvm.Cond.methodLink "JoinOrdererModel" (1 : Nat) ({ cls := "java/lang/Object", name := "<init>", desc := "()V" } : Jvm.MethodName)) ∈ lw_all := lw_g (lw_at lw_m1 170 rfl) rfl
theorem q198 : (Jvm.Cond.fieldLink "JoinOrdererModel" (7 : Nat) "JoinOrdererModel" "tables" "[I") ∈ lw_all := lw_g (lw_at lw_m1 171 rfl) rfl
theorem q199 : (Jvm.Cond.fieldLink "JoinOrdererModel" (13 : Nat) "JoinOrdererModel" "filters" "[I") ∈ lw_all := lw_g (lw_at lw_m1 172 rfl) rfl
theorem q200 : (Jvm.Cond.fieldLink "JoinOrdererModel" (16 : Nat) "JoinOrdererModel" "sizes" "[I") ∈ lw_all := lw_g (lw_at lw_m1 173 rfl) rfl
theorem q201 : (Jvm.Cond.fieldLink "JoinOrdererModel" (19 : Nat) "JoinOrdererModel" "forms" "[I") ∈ lw_all := lw_g (lw_at lw_m1 174 rfl) rfl
theorem q202 : (Jvm.Cond.fieldLink "JoinOrdererModel" (56 : Nat) "JoinOrdererModel" "formCount" "I") ∈ lw_all := lw_g (lw_at lw_m1 175 rfl) rfl
theorem q203 : (Jvm.Cond.fieldLink "JoinOrdererModel" (22 : Nat) "JoinOrdererModel" "row" "[I") ∈ lw_all := lw_g (lw_at lw_m1 176 rfl) rfl
theorem q204 : (Jvm.Cond.fieldLink "JoinOrdererModel" (25 : Nat) "JoinOrdererModel" "stack" "[I") ∈ lw_all := lw_g (lw_at lw_m1 177 rfl) rfl
theorem q205 : (Jvm.Cond.fieldLink "JoinOrdererModel" (63 : Nat) "JoinOrdererModel" "cost" "I") ∈ lw_all := lw_g (lw_at lw_m1 178 rfl) rfl
theorem q206 : (Jvm.Cond.fieldLink "JoinOrdererModel" (66 : Nat) "JoinOrdererModel" "leftSet" "I") ∈ lw_all := lw_g (lw_at lw_m1 179 rfl) rfl
theorem q207 : (Jvm.Cond.fieldLink "JoinOrdererModel" (69 : Nat) "JoinOrdererModel" "linked" "Z") ∈ lw_all := lw_g (lw_at lw_m1 180 rfl) rfl
theorem q208 : (Jvm.Cond.fieldLink "JoinOrdererModel" (73 : Nat) "JoinOrdererModel" "linear" "Z") ∈ lw_all := lw_g (lw_at lw_m1 181 rfl) rfl
theorem q209 : (Jvm.Cond.laysFinal "JoinOrdererModel" "JoinOrdererModel" "tables" "[I") ∈ lw_all := lw_g (lw_at lw_m1 182 rfl) rfl
theorem q210 : (Jvm.Cond.soleField "JoinOrdererModel" "tables") ∈ lw_all := lw_g (lw_at lw_m1 183 rfl) rfl
theorem q211 : (Jvm.Cond.laysFinal "JoinOrdererModel" "JoinOrdererModel" "filters" "[I") ∈ lw_all := lw_g (lw_at lw_m1 184 rfl) rfl
theorem q212 : (Jvm.Cond.soleField "JoinOrdererModel" "filters") ∈ lw_all := lw_g (lw_at lw_m1 185 rfl) rfl
theorem q213 : (Jvm.Cond.laysFinal "JoinOrdererModel" "JoinOrdererModel" "sizes" "[I") ∈ lw_all := lw_g (lw_at lw_m1 186 rfl) rfl
theorem q214 : (Jvm.Cond.soleField "JoinOrdererModel" "sizes") ∈ lw_all := lw_g (lw_at lw_m1 187 rfl) rfl
theorem q215 : (Jvm.Cond.laysFinal "JoinOrdererModel" "JoinOrdererModel" "forms" "[I") ∈ lw_all := lw_g (lw_at lw_m1 188 rfl) rfl
theorem q216 : (Jvm.Cond.soleField "JoinOrdererModel" "forms") ∈ lw_all := lw_g (lw_at lw_m1 189 rfl) rfl
theorem q217 : (Jvm.Cond.lays "JoinOrdererModel" "JoinOrdererModel" "formCount" "I") ∈ lw_all := lw_g (lw_at lw_m1 190 rfl) rfl
theorem q218 : (Jvm.Cond.soleField "JoinOrdererModel" "formCount") ∈ lw_all := lw_g (lw_at lw_m1 191 rfl) rfl
theorem q219 : (Jvm.Cond.laysFinal "JoinOrdererModel" "JoinOrdererModel" "row" "[I") ∈ lw_all := lw_g (lw_at lw_m1 192 rfl) rfl
theorem q220 : (Jvm.Cond.soleField "JoinOrdererModel" "row") ∈ lw_all := lw_g (lw_at lw_m1 193 rfl) rfl
theorem q221 : (Jvm.Cond.laysFinal "JoinOrdererModel" "JoinOrdererModel" "stack" "[I") ∈ lw_all := lw_g (lw_at lw_m1 194 rfl) rfl
theorem q222 : (Jvm.Cond.soleField "JoinOrdererModel" "stack") ∈ lw_all := lw_g (lw_at lw_m1 195 rfl) rfl
theorem q223 : (Jvm.Cond.lays "JoinOrdererModel" "JoinOrdererModel" "cost" "I") ∈ lw_all := lw_g (lw_at lw_m1 196 rfl) rfl
theorem q224 : (Jvm.Cond.soleField "JoinOrdererModel" "cost") ∈ lw_all := lw_g (lw_at lw_m1 197 rfl) rfl
theorem q225 : (Jvm.Cond.lays "JoinOrdererModel" "JoinOrdererModel" "leftSet" "I") ∈ lw_all := lw_g (lw_at lw_m1 198 rfl) rfl
theorem q226 : (Jvm.Cond.soleField "JoinOrdererModel" "leftSet") ∈ lw_all := lw_g (lw_at lw_m1 199 rfl) rfl
theorem q227 : (Jvm.Cond.lays "JoinOrdererModel" "JoinOrdererModel" "linked" "Z") ∈ lw_all := lw_g (lw_at lw_m1 200 rfl) rfl
theorem q228 : (Jvm.Cond.soleField "JoinOrdererModel" "linked") ∈ lw_all := lw_g (lw_at lw_m1 201 rfl) rfl
theorem q229 : (Jvm.Cond.lays "JoinOrdererModel" "JoinOrdererModel" "linear" "Z") ∈ lw_all := lw_g (lw_at lw_m1 202 rfl) rfl
theorem q230 : (Jvm.Cond.soleField "JoinOrdererModel" "linear") ∈ lw_all := lw_g (lw_at lw_m1 203 rfl) rfl
theorem q231 : (Jvm.Cond.superclass "JoinOrdererModel" "java/lang/Object") ∈ lw_all := lw_g (lw_at lw_m1 204 rfl) rfl
theorem q233 : (Jvm.Cond.instanceMethod ({ cls := "JoinOrdererModel", name := "table", desc := "(II)I" } : Jvm.MethodName)) ∈ lw_all := lw_g (lw_at lw_m1 206 rfl) rfl
theorem q234 : (Jvm.Cond.selects "JoinOrdererModel" ({ cls := "JoinOrdererModel", name := "table", desc := "(II)I" } : Jvm.MethodName) ({ cls := "JoinOrdererModel", name := "table", desc := "(II)I" } : Jvm.MethodName)) ∈ lw_all := lw_g (lw_at lw_m1 207 rfl) rfl
theorem q235 : (Jvm.Cond.code ({ cls := "JoinOrdererModel", name := "table", desc := "(II)I" } : Jvm.MethodName) prog_3_method_4_code (4 : Nat) (Option.some Jvm.ClassFile.FieldType.int)) ∈ lw_all := lw_g (lw_at lw_m1 208 rfl) rfl
theorem q236 : (Jvm.Cond.methodLink "JoinOrdererModel" (28 : Nat) ({ cls := "JoinOrdererModel", name := "isTable", desc := "(I)Z" } : Jvm.MethodName)) ∈ lw_all := lw_g (lw_at lw_m1 209 rfl) rfl
theorem q237 : (Jvm.Cond.privateMethod ({ cls := "JoinOrdererModel", name := "isTable", desc := "(I)Z" } : Jvm.MethodName)) ∈ lw_tbl := lw_at lw_m1 210 rfl
theorem q238 : (Jvm.Cond.instanceMethod ({ cls := "JoinOrdererModel", name := "isTable", desc := "(I)Z" } : Jvm.MethodName)) ∈ lw_all := lw_g (lw_at lw_m1 211 rfl) rfl
theorem q239 : (Jvm.Cond.code ({ cls := "JoinOrdererModel", name := "isTable", desc := "(I)Z" } : Jvm.MethodName) prog_3_method_2_code (2 : Nat) (Option.some Jvm.ClassFile.FieldType.boolean)) ∈ lw_all := lw_g (lw_at lw_m1 212 rfl) rfl
theorem q241 : (Jvm.Cond.instanceMethod ({ cls := "JoinOrdererModel", name := "filter", desc := "(III)I" } : Jvm.MethodName)) ∈ lw_all := lw_g (lw_at lw_m1 214 rfl) rfl
theorem q242 : (Jvm.Cond.selects "JoinOrdererModel" ({ cls := "JoinOrdererModel", name := "filter", desc := "(III)I" } : Jvm.MethodName) ({ cls := "JoinOrdererModel", name := "filter", desc := "(III)I" } : Jvm.MethodName)) ∈ lw_all := lw_g (lw_at lw_m1 215 rfl) rfl
theorem q243 : (Jvm.Cond.code ({ cls := "JoinOrdererModel", name := "filter", desc := "(III)I" } : Jvm.MethodName) prog_3_method_6_code (5 : Nat) (Option.some Jvm.ClassFile.FieldType.int)) ∈ lw_all := lw_g (lw_at lw_m1 216 rfl) rfl
theorem q244 : (Jvm.Cond.methodLink "JoinOrdererModel" (32 : Nat) ({ cls := "JoinOrdererModel", name := "isPair", desc := "(II)Z" } : Jvm.MethodName)) ∈ lw_all := lw_g (lw_at lw_m1 217 rfl) rfl
theorem q245 : (Jvm.Cond.privateMethod ({ cls := "JoinOrdererModel", name := "isPair", desc := "(II)Z" } : Jvm.MethodName)) ∈ lw_tbl := lw_at lw_m1 218 rfl
theorem q246 : (Jvm.Cond.instanceMethod ({ cls := "JoinOrdererModel", name := "isPair", desc := "(II)Z" } : Jvm.MethodName)) ∈ lw_all := lw_g (lw_at lw_m1 219 rfl) rfl
theorem q247 : (Jvm.Cond.code ({ cls := "JoinOrdererModel", name := "isPair", desc := "(II)Z" } : Jvm.MethodName) prog_3_method_3_code (3 : Nat) (Option.some Jvm.ClassFile.FieldType.boolean)) ∈ lw_all := lw_g (lw_at lw_m1 220 rfl) rfl
theorem q248 : (Jvm.Cond.methodLink "JoinOrdererModel" (36 : Nat) ({ cls := "JoinOrdererModel", name := "setFilter", desc := "(III)V" } : Jvm.MethodName)) ∈ lw_all := lw_g (lw_at lw_m1 221 rfl) rfl
theorem q249 : (Jvm.Cond.privateMethod ({ cls := "JoinOrdererModel", name := "setFilter", desc := "(III)V" } : Jvm.MethodName)) ∈ lw_tbl := lw_at lw_m1 222 rfl
theorem q250 : (Jvm.Cond.instanceMethod ({ cls := "JoinOrdererModel", name := "setFilter", desc := "(III)V" } : Jvm.MethodName)) ∈ lw_all := lw_g (lw_at lw_m1 223 rfl) rfl
theorem q251 : (Jvm.Cond.code ({ cls := "JoinOrdererModel", name := "setFilter", desc := "(III)V" } : Jvm.MethodName) prog_3_method_5_code (4 : Nat) (Option.none : Option Jvm.ClassFile.FieldType)) ∈ lw_all := lw_g (lw_at lw_m1 224 rfl) rfl
theorem q253 : (Jvm.Cond.instanceMethod ({ cls := "JoinOrdererModel", name := "unfilter", desc := "(II)I" } : Jvm.MethodName)) ∈ lw_all := lw_g (lw_at lw_m1 226 rfl) rfl
theorem q254 : (Jvm.Cond.selects "JoinOrdererModel" ({ cls := "JoinOrdererModel", name := "unfilter", desc := "(II)I" } : Jvm.MethodName) ({ cls := "JoinOrdererModel", name := "unfilter", desc := "(II)I" } : Jvm.MethodName)) ∈ lw_all := lw_g (lw_at lw_m1 227 rfl) rfl
theorem q255 : (Jvm.Cond.code ({ cls := "JoinOrdererModel", name := "unfilter", desc := "(II)I" } : Jvm.MethodName) prog_3_method_7_code (4 : Nat) (Option.some Jvm.ClassFile.FieldType.int)) ∈ lw_all := lw_g (lw_at lw_m1 228 rfl) rfl
theorem q257 : (Jvm.Cond.instanceMethod ({ cls := "JoinOrdererModel", name := "size", desc := "(I)I" } : Jvm.MethodName)) ∈ lw_all := lw_g (lw_at lw_m1 230 rfl) rfl
theorem q258 : (Jvm.Cond.selects "JoinOrdererModel" ({ cls := "JoinOrdererModel", name := "size", desc := "(I)I" } : Jvm.MethodName) ({ cls := "JoinOrdererModel", name := "size", desc := "(I)I" } : Jvm.MethodName)) ∈ lw_all := lw_g (lw_at lw_m1 231 rfl) rfl
theorem q259 : (Jvm.Cond.code ({ cls := "JoinOrdererModel", name := "size", desc := "(I)I" } : Jvm.MethodName) prog_3_method_11_code (2 : Nat) (Option.some Jvm.ClassFile.FieldType.int)) ∈ lw_all := lw_g (lw_at lw_m1 232 rfl) rfl
theorem q260 : (Jvm.Cond.methodLink "JoinOrdererModel" (43 : Nat) ({ cls := "JoinOrdererModel", name := "isSet", desc := "(I)Z" } : Jvm.MethodName)) ∈ lw_all := lw_g (lw_at lw_m1 233 rfl) rfl
theorem q261 : (Jvm.Cond.privateMethod ({ cls := "JoinOrdererModel", name := "isSet", desc := "(I)Z" } : Jvm.MethodName)) ∈ lw_tbl := lw_at lw_m1 234 rfl
theorem q262 : (Jvm.Cond.instanceMethod ({ cls := "JoinOrdererModel", name := "isSet", desc := "(I)Z" } : Jvm.MethodName)) ∈ lw_all := lw_g (lw_at lw_m1 235 rfl) rfl
theorem q263 : (Jvm.Cond.code ({ cls := "JoinOrdererModel", name := "isSet", desc := "(I)Z" } : Jvm.MethodName) prog_3_method_10_code (2 : Nat) (Option.some Jvm.ClassFile.FieldType.boolean)) ∈ lw_all := lw_g (lw_at lw_m1 236 rfl) rfl
theorem q264 : (Jvm.Cond.methodLink "JoinOrdererModel" (46 : Nat) ({ cls := "JoinOrdererModel", name := "sizeOf", desc := "(I)I" } : Jvm.MethodName)) ∈ lw_all := lw_g (lw_at lw_m1 237 rfl) rfl
theorem q265 : (Jvm.Cond.privateMethod ({ cls := "JoinOrdererModel", name := "sizeOf", desc := "(I)I" } : Jvm.MethodName)) ∈ lw_tbl := lw_at lw_m1 238 rfl
theorem q266 : (Jvm.Cond.instanceMethod ({ cls := "JoinOrdererModel", name := "sizeOf", desc := "(I)I" } : Jvm.MethodName)) ∈ lw_all := lw_g (lw_at lw_m1 239 rfl) rfl
theorem q267 : (Jvm.Cond.code ({ cls := "JoinOrdererModel", name := "sizeOf", desc := "(I)I" } : Jvm.MethodName) prog_3_method_9_code (5 : Nat) (Option.some Jvm.ClassFile.FieldType.int)) ∈ lw_all := lw_g (lw_at lw_m2 0 rfl) rfl
theorem q268 : (Jvm.Cond.methodLink "JoinOrdererModel" (40 : Nat) ({ cls := "JoinOrdererModel", name := "has", desc := "(II)Z" } : Jvm.MethodName)) ∈ lw_all := lw_g (lw_at lw_m2 1 rfl) rfl
theorem q269 : (Jvm.Cond.privateMethod ({ cls := "JoinOrdererModel", name := "has", desc := "(II)Z" } : Jvm.MethodName)) ∈ lw_tbl := lw_at lw_m2 2 rfl
theorem q270 : (Jvm.Cond.instanceMethod ({ cls := "JoinOrdererModel", name := "has", desc := "(II)Z" } : Jvm.MethodName)) ∈ lw_all := lw_g (lw_at lw_m2 3 rfl) rfl
theorem q271 : (Jvm.Cond.code ({ cls := "JoinOrdererModel", name := "has", desc := "(II)Z" } : Jvm.MethodName) prog_3_method_8_code (3 : Nat) (Option.some Jvm.ClassFile.FieldType.boolean)) ∈ lw_all := lw_g (lw_at lw_m2 4 rfl) rfl
theorem q273 : (Jvm.Cond.instanceMethod ({ cls := "JoinOrdererModel", name := "connected", desc := "(I)Z" } : Jvm.MethodName)) ∈ lw_all := lw_g (lw_at lw_m2 6 rfl) rfl
theorem q274 : (Jvm.Cond.selects "JoinOrdererModel" ({ cls := "JoinOrdererModel", name := "connected", desc := "(I)Z" } : Jvm.MethodName) ({ cls := "JoinOrdererModel", name := "connected", desc := "(I)Z" } : Jvm.MethodName)) ∈ lw_all := lw_g (lw_at lw_m2 7 rfl) rfl
theorem q275 : (Jvm.Cond.code ({ cls := "JoinOrdererModel", name := "connected", desc := "(I)Z" } : Jvm.MethodName) prog_3_method_13_code (3 : Nat) (Option.some Jvm.ClassFile.FieldType.boolean)) ∈ lw_all := lw_g (lw_at lw_m2 8 rfl) rfl
theorem q276 : (Jvm.Cond.methodLink "JoinOrdererModel" (50 : Nat) ({ cls := "JoinOrdererModel", name := "isLinked", desc := "(II)Z" } : Jvm.MethodName)) ∈ lw_all := lw_g (lw_at lw_m2 9 rfl) rfl
theorem q277 : (Jvm.Cond.privateMethod ({ cls := "JoinOrdererModel", name := "isLinked", desc := "(II)Z" } : Jvm.MethodName)) ∈ lw_tbl := lw_at lw_m2 10 rfl
theorem q278 : (Jvm.Cond.instanceMethod ({ cls := "JoinOrdererModel", name := "isLinked", desc := "(II)Z" } : Jvm.MethodName)) ∈ lw_all := lw_g (lw_at lw_m2 11 rfl) rfl
theorem q279 : (Jvm.Cond.code ({ cls := "JoinOrdererModel", name := "isLinked", desc := "(II)Z" } : Jvm.MethodName) prog_3_method_12_code (4 : Nat) (Option.some Jvm.ClassFile.FieldType.boolean)) ∈ lw_all := lw_g (lw_at lw_m2 12 rfl) rfl
theorem q281 : (Jvm.Cond.instanceMethod ({ cls := "JoinOrdererModel", name := "cost", desc := "(I)I" } : Jvm.MethodName)) ∈ lw_all := lw_g (lw_at lw_m2 14 rfl) rfl
theorem q282 : (Jvm.Cond.selects "JoinOrdererModel" ({ cls := "JoinOrdererModel", name := "cost", desc := "(I)I" } : Jvm.MethodName) ({ cls := "JoinOrdererModel", name := "cost", desc := "(I)I" } : Jvm.MethodName)) ∈ lw_all := lw_g (lw_at lw_m2 15 rfl) rfl
theorem q283 : (Jvm.Cond.code ({ cls := "JoinOrdererModel", name := "cost", desc := "(I)I" } : Jvm.MethodName) prog_3_method_22_code (2 : Nat) (Option.some Jvm.ClassFile.FieldType.int)) ∈ lw_all := lw_g (lw_at lw_m2 16 rfl) rfl
theorem q284 : (Jvm.Cond.methodLink "JoinOrdererModel" (89 : Nat) ({ cls := "JoinOrdererModel", name := "extreme", desc := "(IIZ)I" } : Jvm.MethodName)) ∈ lw_all := lw_g (lw_at lw_m2 17 rfl) rfl
theorem q285 : (Jvm.Cond.privateMethod ({ cls := "JoinOrdererModel", name := "extreme", desc := "(IIZ)I" } : Jvm.MethodName)) ∈ lw_tbl := lw_at lw_m2 18 rfl
theorem q286 : (Jvm.Cond.instanceMethod ({ cls := "JoinOrdererModel", name := "extreme", desc := "(IIZ)I" } : Jvm.MethodName)) ∈ lw_all := lw_g (lw_at lw_m2 19 rfl) rfl
theorem q287 : (Jvm.Cond.code ({ cls := "JoinOrdererModel", name := "extreme", desc := "(IIZ)I" } : Jvm.MethodName) prog_3_method_20_code (9 : Nat) (Option.some Jvm.ClassFile.FieldType.int)) ∈ lw_all := lw_g (lw_at lw_m2 20 rfl) rfl
theorem q288 : (Jvm.Cond.methodLink "JoinOrdererModel" (76 : Nat) ({ cls := "JoinOrdererModel", name := "prepare", desc := "(I)I" } : Jvm.MethodName)) ∈ lw_all := lw_g (lw_at lw_m2 21 rfl) rfl
theorem q289 : (Jvm.Cond.privateMethod ({ cls := "JoinOrdererModel", name := "prepare", desc := "(I)I" } : Jvm.MethodName)) ∈ lw_tbl := lw_at lw_m2 22 rfl
theorem q290 : (Jvm.Cond.instanceMethod ({ cls := "JoinOrdererModel", name := "prepare", desc := "(I)I" } : Jvm.MethodName)) ∈ lw_all := lw_g (lw_at lw_m2 23 rfl) rfl
theorem q291 : (Jvm.Cond.code ({ cls := "JoinOrdererModel", name := "prepare", desc := "(I)I" } : Jvm.MethodName) prog_3_method_16_code (5 : Nat) (Option.some Jvm.ClassFile.FieldType.int)) ∈ lw_all := lw_g (lw_at lw_m2 24 rfl) rfl
theorem q292 : (Jvm.Cond.methodLink "JoinOrdererModel" (53 : Nat) ({ cls := "JoinOrdererModel", name := "count", desc := "(I)I" } : Jvm.MethodName)) ∈ lw_all := lw_g (lw_at lw_m2 25 rfl) rfl
theorem q293 : (Jvm.Cond.privateMethod ({ cls := "JoinOrdererModel", name := "count", desc := "(I)I" } : Jvm.MethodName)) ∈ lw_tbl := lw_at lw_m2 26 rfl
theorem q294 : (Jvm.Cond.instanceMethod ({ cls := "JoinOrdererModel", name := "count", desc := "(I)I" } : Jvm.MethodName)) ∈ lw_all := lw_g (lw_at lw_m2 27 rfl) rfl
theorem q295 : (Jvm.Cond.code ({ cls := "JoinOrdererModel", name := "count", desc := "(I)I" } : Jvm.MethodName) prog_3_method_14_code (4 : Nat) (Option.some Jvm.ClassFile.FieldType.int)) ∈ lw_all := lw_g (lw_at lw_m2 28 rfl) rfl
theorem q296 : (Jvm.Cond.methodLink "JoinOrdererModel" (60 : Nat) ({ cls := "JoinOrdererModel", name := "isForm", desc := "(II)Z" } : Jvm.MethodName)) ∈ lw_all := lw_g (lw_at lw_m2 29 rfl) rfl
theorem q297 : (Jvm.Cond.privateMethod ({ cls := "JoinOrdererModel", name := "isForm", desc := "(II)Z" } : Jvm.MethodName)) ∈ lw_tbl := lw_at lw_m2 30 rfl
theorem q298 : (Jvm.Cond.instanceMethod ({ cls := "JoinOrdererModel", name := "isForm", desc := "(II)Z" } : Jvm.MethodName)) ∈ lw_all := lw_g (lw_at lw_m2 31 rfl) rfl
theorem q299 : (Jvm.Cond.code ({ cls := "JoinOrdererModel", name := "isForm", desc := "(II)Z" } : Jvm.MethodName) prog_3_method_15_code (5 : Nat) (Option.some Jvm.ClassFile.FieldType.boolean)) ∈ lw_all := lw_g (lw_at lw_m2 32 rfl) rfl
theorem q300 : (Jvm.Cond.methodLink "JoinOrdererModel" (79 : Nat) ({ cls := "JoinOrdererModel", name := "order", desc := "(III)V" } : Jvm.MethodName)) ∈ lw_all := lw_g (lw_at lw_m2 33 rfl) rfl
theorem q301 : (Jvm.Cond.privateMethod ({ cls := "JoinOrdererModel", name := "order", desc := "(III)V" } : Jvm.MethodName)) ∈ lw_tbl := lw_at lw_m2 34 rfl
theorem q302 : (Jvm.Cond.instanceMethod ({ cls := "JoinOrdererModel", name := "order", desc := "(III)V" } : Jvm.MethodName)) ∈ lw_all := lw_g (lw_at lw_m2 35 rfl) rfl
theorem q303 : (Jvm.Cond.code ({ cls := "JoinOrdererModel", name := "order", desc := "(III)V" } : Jvm.MethodName) prog_3_method_17_code (11 : Nat) (Option.none : Option Jvm.ClassFile.FieldType)) ∈ lw_all := lw_g (lw_at lw_m2 36 rfl) rfl
theorem q304 : (Jvm.Cond.methodLink "JoinOrdererModel" (82 : Nat) ({ cls := "JoinOrdererModel", name := "follow", desc := "(II)V" } : Jvm.MethodName)) ∈ lw_all := lw_g (lw_at lw_m2 37 rfl) rfl
theorem q305 : (Jvm.Cond.privateMethod ({ cls := "JoinOrdererModel", name := "follow", desc := "(II)V" } : Jvm.MethodName)) ∈ lw_tbl := lw_at lw_m2 38 rfl
theorem q306 : (Jvm.Cond.instanceMethod ({ cls := "JoinOrdererModel", name := "follow", desc := "(II)V" } : Jvm.MethodName)) ∈ lw_all := lw_g (lw_at lw_m2 39 rfl) rfl
theorem q307 : (Jvm.Cond.code ({ cls := "JoinOrdererModel", name := "follow", desc := "(II)V" } : Jvm.MethodName) prog_3_method_18_code (7 : Nat) (Option.none : Option Jvm.ClassFile.FieldType)) ∈ lw_all := lw_g (lw_at lw_m2 40 rfl) rfl
theorem q308 : (Jvm.Cond.methodLink "JoinOrdererModel" (86 : Nat) ({ cls := "JoinOrdererModel", name := "isKind", desc := "(I)Z" } : Jvm.MethodName)) ∈ lw_all := lw_g (lw_at lw_m2 41 rfl) rfl
theorem q309 : (Jvm.Cond.privateMethod ({ cls := "JoinOrdererModel", name := "isKind", desc := "(I)Z" } : Jvm.MethodName)) ∈ lw_tbl := lw_at lw_m2 42 rfl
theorem q310 : (Jvm.Cond.instanceMethod ({ cls := "JoinOrdererModel", name := "isKind", desc := "(I)Z" } : Jvm.MethodName)) ∈ lw_all := lw_g (lw_at lw_m2 43 rfl) rfl
theorem q311 : (Jvm.Cond.code ({ cls := "JoinOrdererModel", name := "isKind", desc := "(I)Z" } : Jvm.MethodName) prog_3_method_19_code (2 : Nat) (Option.some Jvm.ClassFile.FieldType.boolean)) ∈ lw_all := lw_g (lw_at lw_m2 44 rfl) rfl
theorem q313 : (Jvm.Cond.instanceMethod ({ cls := "JoinOrdererModel", name := "linearCost", desc := "(I)I" } : Jvm.MethodName)) ∈ lw_all := lw_g (lw_at lw_m2 46 rfl) rfl
theorem q314 : (Jvm.Cond.selects "JoinOrdererModel" ({ cls := "JoinOrdererModel", name := "linearCost", desc := "(I)I" } : Jvm.MethodName) ({ cls := "JoinOrdererModel", name := "linearCost", desc := "(I)I" } : Jvm.MethodName)) ∈ lw_all := lw_g (lw_at lw_m2 47 rfl) rfl
theorem q315 : (Jvm.Cond.code ({ cls := "JoinOrdererModel", name := "linearCost", desc := "(I)I" } : Jvm.MethodName) prog_3_method_23_code (2 : Nat) (Option.some Jvm.ClassFile.FieldType.int)) ∈ lw_all := lw_g (lw_at lw_m2 48 rfl) rfl
theorem q317 : (Jvm.Cond.instanceMethod ({ cls := "JoinOrdererModel", name := "linkedCost", desc := "(I)I" } : Jvm.MethodName)) ∈ lw_all := lw_g (lw_at lw_m2 50 rfl) rfl
theorem q318 : (Jvm.Cond.selects "JoinOrdererModel" ({ cls := "JoinOrdererModel", name := "linkedCost", desc := "(I)I" } : Jvm.MethodName) ({ cls := "JoinOrdererModel", name := "linkedCost", desc := "(I)I" } : Jvm.MethodName)) ∈ lw_all := lw_g (lw_at lw_m2 51 rfl) rfl
theorem q319 : (Jvm.Cond.code ({ cls := "JoinOrdererModel", name := "linkedCost", desc := "(I)I" } : Jvm.MethodName) prog_3_method_24_code (2 : Nat) (Option.some Jvm.ClassFile.FieldType.int)) ∈ lw_all := lw_g (lw_at lw_m2 52 rfl) rfl
theorem q321 : (Jvm.Cond.instanceMethod ({ cls := "JoinOrdererModel", name := "worst", desc := "(I)I" } : Jvm.MethodName)) ∈ lw_all := lw_g (lw_at lw_m2 54 rfl) rfl
theorem q322 : (Jvm.Cond.selects "JoinOrdererModel" ({ cls := "JoinOrdererModel", name := "worst", desc := "(I)I" } : Jvm.MethodName) ({ cls := "JoinOrdererModel", name := "worst", desc := "(I)I" } : Jvm.MethodName)) ∈ lw_all := lw_g (lw_at lw_m2 55 rfl) rfl
theorem q323 : (Jvm.Cond.code ({ cls := "JoinOrdererModel", name := "worst", desc := "(I)I" } : Jvm.MethodName) prog_3_method_25_code (2 : Nat) (Option.some Jvm.ClassFile.FieldType.int)) ∈ lw_all := lw_g (lw_at lw_m2 56 rfl) rfl
theorem q325 : (Jvm.Cond.instanceMethod ({ cls := "JoinOrdererModel", name := "left", desc := "(I)I" } : Jvm.MethodName)) ∈ lw_all := lw_g (lw_at lw_m2 58 rfl) rfl
theorem q326 : (Jvm.Cond.selects "JoinOrdererModel" ({ cls := "JoinOrdererModel", name := "left", desc := "(I)I" } : Jvm.MethodName) ({ cls := "JoinOrdererModel", name := "left", desc := "(I)I" } : Jvm.MethodName)) ∈ lw_all := lw_g (lw_at lw_m2 59 rfl) rfl
theorem q327 : (Jvm.Cond.code ({ cls := "JoinOrdererModel", name := "left", desc := "(I)I" } : Jvm.MethodName) prog_3_method_26_code (7 : Nat) (Option.some Jvm.ClassFile.FieldType.int)) ∈ lw_all := lw_g (lw_at lw_m2 60 rfl) rfl
theorem q329 : (Jvm.Cond.instanceMethod ({ cls := "JoinOrdererModel", name := "linearTable", desc := "(II)I" } : Jvm.MethodName)) ∈ lw_all := lw_g (lw_at lw_m2 62 rfl) rfl
theorem q330 : (Jvm.Cond.selects "JoinOrdererModel" ({ cls := "JoinOrdererModel", name := "linearTable", desc := "(II)I" } : Jvm.MethodName) ({ cls := "JoinOrdererModel", name := "linearTable", desc := "(II)I" } : Jvm.MethodName)) ∈ lw_all := lw_g (lw_at lw_m2 63 rfl) rfl
theorem q331 : (Jvm.Cond.code ({ cls := "JoinOrdererModel", name := "linearTable", desc := "(II)I" } : Jvm.MethodName) prog_3_method_27_code (7 : Nat) (Option.some Jvm.ClassFile.FieldType.int)) ∈ lw_all := lw_g (lw_at lw_m2 64 rfl) rfl
theorem q333 : (Jvm.Cond.instanceMethod ({ cls := "JoinOrdererModel", name := "plans", desc := "(I)I" } : Jvm.MethodName)) ∈ lw_all := lw_g (lw_at lw_m2 66 rfl) rfl
theorem q334 : (Jvm.Cond.selects "JoinOrdererModel" ({ cls := "JoinOrdererModel", name := "plans", desc := "(I)I" } : Jvm.MethodName) ({ cls := "JoinOrdererModel", name := "plans", desc := "(I)I" } : Jvm.MethodName)) ∈ lw_all := lw_g (lw_at lw_m2 67 rfl) rfl
theorem q335 : (Jvm.Cond.code ({ cls := "JoinOrdererModel", name := "plans", desc := "(I)I" } : Jvm.MethodName) prog_3_method_28_code (2 : Nat) (Option.some Jvm.ClassFile.FieldType.int)) ∈ lw_all := lw_g (lw_at lw_m2 68 rfl) rfl
theorem q336 : (Jvm.Cond.methodLink "JoinOrdererModel" (93 : Nat) ({ cls := "JoinOrdererModel", name := "countPlans", desc := "(III)I" } : Jvm.MethodName)) ∈ lw_all := lw_g (lw_at lw_m2 69 rfl) rfl
theorem q337 : (Jvm.Cond.privateMethod ({ cls := "JoinOrdererModel", name := "countPlans", desc := "(III)I" } : Jvm.MethodName)) ∈ lw_tbl := lw_at lw_m2 70 rfl
theorem q338 : (Jvm.Cond.instanceMethod ({ cls := "JoinOrdererModel", name := "countPlans", desc := "(III)I" } : Jvm.MethodName)) ∈ lw_all := lw_g (lw_at lw_m2 71 rfl) rfl
theorem q339 : (Jvm.Cond.code ({ cls := "JoinOrdererModel", name := "countPlans", desc := "(III)I" } : Jvm.MethodName) prog_3_method_21_code (8 : Nat) (Option.some Jvm.ClassFile.FieldType.int)) ∈ lw_all := lw_g (lw_at lw_m2 72 rfl) rfl
theorem q341 : (Jvm.Cond.instanceMethod ({ cls := "JoinOrdererModel", name := "linkedPlans", desc := "(I)I" } : Jvm.MethodName)) ∈ lw_all := lw_g (lw_at lw_m2 74 rfl) rfl
theorem q342 : (Jvm.Cond.selects "JoinOrdererModel" ({ cls := "JoinOrdererModel", name := "linkedPlans", desc := "(I)I" } : Jvm.MethodName) ({ cls := "JoinOrdererModel", name := "linkedPlans", desc := "(I)I" } : Jvm.MethodName)) ∈ lw_all := lw_g (lw_at lw_m2 75 rfl) rfl
theorem q343 : (Jvm.Cond.code ({ cls := "JoinOrdererModel", name := "linkedPlans", desc := "(I)I" } : Jvm.MethodName) prog_3_method_29_code (2 : Nat) (Option.some Jvm.ClassFile.FieldType.int)) ∈ lw_all := lw_g (lw_at lw_m2 76 rfl) rfl
theorem q345 : (Jvm.Cond.instanceMethod ({ cls := "JoinOrdererModel", name := "cheapest", desc := "(I)I" } : Jvm.MethodName)) ∈ lw_all := lw_g (lw_at lw_m2 78 rfl) rfl
theorem q346 : (Jvm.Cond.selects "JoinOrdererModel" ({ cls := "JoinOrdererModel", name := "cheapest", desc := "(I)I" } : Jvm.MethodName) ({ cls := "JoinOrdererModel", name := "cheapest", desc := "(I)I" } : Jvm.MethodName)) ∈ lw_all := lw_g (lw_at lw_m2 79 rfl) rfl
theorem q347 : (Jvm.Cond.code ({ cls := "JoinOrdererModel", name := "cheapest", desc := "(I)I" } : Jvm.MethodName) prog_3_method_30_code (3 : Nat) (Option.some Jvm.ClassFile.FieldType.int)) ∈ lw_all := lw_g (lw_at lw_m2 80 rfl) rfl
theorem q349 : (Jvm.Cond.instanceMethod ({ cls := "JoinOrdererModel", name := "gain", desc := "(II)I" } : Jvm.MethodName)) ∈ lw_all := lw_g (lw_at lw_m2 82 rfl) rfl
theorem q350 : (Jvm.Cond.selects "JoinOrdererModel" ({ cls := "JoinOrdererModel", name := "gain", desc := "(II)I" } : Jvm.MethodName) ({ cls := "JoinOrdererModel", name := "gain", desc := "(II)I" } : Jvm.MethodName)) ∈ lw_all := lw_g (lw_at lw_m2 83 rfl) rfl
theorem q351 : (Jvm.Cond.code ({ cls := "JoinOrdererModel", name := "gain", desc := "(II)I" } : Jvm.MethodName) prog_3_method_31_code (6 : Nat) (Option.some Jvm.ClassFile.FieldType.int)) ∈ lw_all := lw_g (lw_at lw_m2 84 rfl) rfl
theorem in_X1 : ∀ w ∈ wsX10, w ∈ lw_all := lw_in wsX10 [209, 211, 213, 215, 217, 219, 221, 223, 225, 227, 229] (by decide +kernel) (by decide +kernel)
/-! the law's own entry -/
set_option maxRecDepth 100000
abbrev cL_law : ByteArray := code
abbrev vwCl : List vw_C := [(RX0, TX0, 14), (RX1, TX1, 11)]
end
section
set_option maxRecDepth 100000
theorem dX0_init_0 : decode cX0_init 0 = .ok (.aload_n 0, 1) := by decide +kernel
theorem dX0_init_1 : decode cX0_init 1 = .ok (.invokespecial 1, 3) := by decide +kernel
theorem dX0_init_4 : decode cX0_init 4 = .ok (.aload_n 0, 1) := by decide +kernel
theorem dX0_init_5 : decode cX0_init 5 = .ok (.iconst 5, 1) := by decide +kernel
theorem dX0_init_6 : decode cX0_init 6 = .ok (.newarray .int, 2) := by decide +kernel
theorem dX0_init_8 : decode cX0_init 8 = .ok (.putfield 7, 3) := by decide +kernel
theorem dX0_init_11 : decode cX0_init 11 = .ok (.aload_n 0, 1) := by decide +kernel
theorem dX0_init_12 : decode cX0_init 12 = .ok (.bipush 25, 2) := by decide +kernel
theorem dX0_init_14 : decode cX0_init 14 = .ok (.newarray .int, 2) := by decide +kernel
theorem dX0_init_16 : decode cX0_init 16 = .ok (.putfield 13, 3) := by decide +kernel
theorem dX0_init_19 : decode cX0_init 19 = .ok (.aload_n 0, 1) := by decide +kernel
theorem dX0_init_20 : decode cX0_init 20 = .ok (.bipush 25, 2) := by decide +kernel
theorem dX0_init_22 : decode cX0_init 22 = .ok (.newarray .boolean, 2) := by decide +kernel
theorem dX0_init_24 : decode cX0_init 24 = .ok (.putfield 16, 3) := by decide +kernel
theorem dX0_init_27 : decode cX0_init 27 = .ok (.aload_n 0, 1) := by decide +kernel
theorem dX0_init_28 : decode cX0_init 28 = .ok (.bipush 32, 2) := by decide +kernel
theorem dX0_init_30 : decode cX0_init 30 = .ok (.newarray .int, 2) := by decide +kernel
theorem dX0_init_32 : decode cX0_init 32 = .ok (.putfield 20, 3) := by decide +kernel
theorem dX0_init_35 : decode cX0_init 35 = .ok (.aload_n 0, 1) := by decide +kernel
theorem dX0_init_36 : decode cX0_init 36 = .ok (.bipush 32, 2) := by decide +kernel
theorem dX0_init_38 : decode cX0_init 38 = .ok (.newarray .int, 2) := by decide +kernel
theorem dX0_init_40 : decode cX0_init 40 = .ok (.putfield 23, 3) := by decide +kernel
theorem dX0_init_43 : decode cX0_init 43 = .ok (.aload_n 0, 1) := by decide +kernel
theorem dX0_init_44 : decode cX0_init 44 = .ok (.bipush 32, 2) := by decide +kernel
theorem dX0_init_46 : decode cX0_init 46 = .ok (.newarray .int, 2) := by decide +kernel
theorem dX0_init_48 : decode cX0_init 48 = .ok (.putfield 26, 3) := by decide +kernel
theorem dX0_init_51 : decode cX0_init 51 = .ok (.aload_n 0, 1) := by decide +kernel
theorem dX0_init_52 : decode cX0_init 52 = .ok (.bipush 32, 2) := by decide +kernel
theorem dX0_init_54 : decode cX0_init 54 = .ok (.newarray .int, 2) := by decide +kernel
theorem dX0_init_56 : decode cX0_init 56 = .ok (.putfield 29, 3) := by decide +kernel
theorem dX0_init_59 : decode cX0_init 59 = .ok (.aload_n 0, 1) := by decide +kernel
theorem dX0_init_60 : decode cX0_init 60 = .ok (.bipush 32, 2) := by decide +kernel
theorem dX0_init_62 : decode cX0_init 62 = .ok (.newarray .int, 2) := by decide +kernel
theorem dX0_init_64 : decode cX0_init 64 = .ok (.putfield 32, 3) := by decide +kernel
theorem dX0_init_67 : decode cX0_init 67 = .ok (.aload_n 0, 1) := by decide +kernel
theorem dX0_init_68 : decode cX0_init 68 = .ok (.bipush 32, 2) := by decide +kernel
theorem dX0_init_70 : decode cX0_init 70 = .ok (.newarray .int, 2) := by decide +kernel
theorem dX0_init_72 : decode cX0_init 72 = .ok (.putfield 35, 3) := by decide +kernel
theorem dX0_init_75 : decode cX0_init 75 = .ok (.aload_n 0, 1) := by decide +kernel
theorem dX0_init_76 : decode cX0_init 76 = .ok (.bipush 32, 2) := by decide +kernel
theorem dX0_init_78 : decode cX0_init 78 = .ok (.newarray .int, 2) := by decide +kernel
theorem dX0_init_80 : decode cX0_init 80 = .ok (.putfield 38, 3) := by decide +kernel
theorem dX0_init_83 : decode cX0_init 83 = .ok (.aload_n 0, 1) := by decide +kernel
theorem dX0_init_84 : decode cX0_init 84 = .ok (.bipush 32, 2) := by decide +kernel
theorem dX0_init_86 : decode cX0_init 86 = .ok (.newarray .int, 2) := by decide +kernel
theorem dX0_init_88 : decode cX0_init 88 = .ok (.putfield 41, 3) := by decide +kernel
theorem dX0_init_91 : decode cX0_init 91 = .ok (.aload_n 0, 1) := by decide +kernel
theorem dX0_init_92 : decode cX0_init 92 = .ok (.bipush 32, 2) := by decide +kernel
theorem dX0_init_94 : decode cX0_init 94 = .ok (.newarray .int, 2) := by decide +kernel
theorem dX0_init_96 : decode cX0_init 96 = .ok (.putfield 44, 3) := by decide +kernel
theorem dX0_init_99 : decode cX0_init 99 = .ok (.aload_n 0, 1) := by decide +kernel
theorem dX0_init_100 : decode cX0_init 100 = .ok (.bipush 32, 2) := by decide +kernel
theorem dX0_init_102 : decode cX0_init 102 = .ok (.newarray .int, 2) := by decide +kernel
theorem dX0_init_104 : decode cX0_init 104 = .ok (.putfield 47, 3) := by decide +kernel
theorem dX0_init_107 : decode cX0_init 107 = .ok (.iconst 0, 1) := by decide +kernel
theorem dX0_init_108 : decode cX0_init 108 = .ok (.istore_n 1, 1) := by decide +kernel
theorem dX0_init_109 : decode cX0_init 109 = .ok (.iload_n 1, 1) := by decide +kernel
theorem dX0_init_110 : decode cX0_init 110 = .ok (.iconst 5, 1) := by decide +kernel
theorem dX0_init_111 : decode cX0_init 111 = .ok (.if_icmp .ge 16, 3) := by decide +kernel
theorem dX0_init_114 : decode cX0_init 114 = .ok (.aload_n 0, 1) := by decide +kernel
theorem dX0_init_115 : decode cX0_init 115 = .ok (.getfield 7, 3) := by decide +kernel
theorem dX0_init_118 : decode cX0_init 118 = .ok (.iload_n 1, 1) := by decide +kernel
theorem dX0_init_119 : decode cX0_init 119 = .ok (.iconst 3, 1) := by decide +kernel
theorem dX0_init_120 : decode cX0_init 120 = .ok (.iastore, 1) := by decide +kernel
theorem dX0_init_121 : decode cX0_init 121 = .ok (.iinc 1 1, 3) := by decide +kernel
theorem dX0_init_124 : decode cX0_init 124 = .ok (.goto (-15), 3) := by decide +kernel
theorem dX0_init_127 : decode cX0_init 127 = .ok (.return_, 1) := by decide +kernel
theorem dX0_table_0 : decode cX0_table 0 = .ok (.aload_n 0, 1) := by decide +kernel
theorem dX0_table_1 : decode cX0_table 1 = .ok (.iload_n 1, 1) := by decide +kernel
theorem dX0_table_2 : decode cX0_table 2 = .ok (.invokevirtual 50, 3) := by decide +kernel
theorem dX0_table_5 : decode cX0_table 5 = .ok (.ifCond .ne 13, 3) := by decide +kernel
theorem dX0_table_8 : decode cX0_table 8 = .ok (.iload_n 2, 1) := by decide +kernel
theorem dX0_table_9 : decode cX0_table 9 = .ok (.ifCond .lt 9, 3) := by decide +kernel
theorem dX0_table_12 : decode cX0_table 12 = .ok (.iload_n 2, 1) := by decide +kernel
theorem dX0_table_13 : decode cX0_table 13 = .ok (.bipush 6, 2) := by decide +kernel
theorem dX0_table_15 : decode cX0_table 15 = .ok (.if_icmp .le 5, 3) := by decide +kernel
theorem dX0_table_18 : decode cX0_table 18 = .ok (.iconst (-1), 1) := by decide +kernel
theorem dX0_table_19 : decode cX0_table 19 = .ok (.ireturn, 1) := by decide +kernel
theorem dX0_table_20 : decode cX0_table 20 = .ok (.aload_n 0, 1) := by decide +kernel
theorem dX0_table_21 : decode cX0_table 21 = .ok (.getfield 7, 3) := by decide +kernel
theorem dX0_table_24 : decode cX0_table 24 = .ok (.iload_n 1, 1) := by decide +kernel
theorem dX0_table_25 : decode cX0_table 25 = .ok (.iaload, 1) := by decide +kernel
theorem dX0_table_26 : decode cX0_table 26 = .ok (.istore_n 3, 1) := by decide +kernel
theorem dX0_table_27 : decode cX0_table 27 = .ok (.aload_n 0, 1) := by decide +kernel
theorem dX0_table_28 : decode cX0_table 28 = .ok (.getfield 7, 3) := by decide +kernel
theorem dX0_table_31 : decode cX0_table 31 = .ok (.iload_n 1, 1) := by decide +kernel
theorem dX0_table_32 : decode cX0_table 32 = .ok (.iload_n 2, 1) := by decide +kernel
theorem dX0_table_33 : decode cX0_table 33 = .ok (.iastore, 1) := by decide +kernel
theorem dX0_table_34 : decode cX0_table 34 = .ok (.aload_n 0, 1) := by decide +kernel
theorem dX0_table_35 : decode cX0_table 35 = .ok (.iconst 0, 1) := by decide +kernel
theorem dX0_table_36 : decode cX0_table 36 = .ok (.putfield 54, 3) := by decide +kernel
theorem dX0_table_39 : decode cX0_table 39 = .ok (.iload_n 3, 1) := by decide +kernel
theorem dX0_table_40 : decode cX0_table 40 = .ok (.ireturn, 1) := by decide +kernel
theorem dX0_badTable_0 : decode cX0_badTable 0 = .ok (.iload_n 1, 1) := by decide +kernel
theorem dX0_badTable_1 : decode cX0_badTable 1 = .ok (.ifCond .lt 8, 3) := by decide +kernel
theorem dX0_badTable_4 : decode cX0_badTable 4 = .ok (.iload_n 1, 1) := by decide +kernel
theorem dX0_badTable_5 : decode cX0_badTable 5 = .ok (.iconst 5, 1) := by decide +kernel
theorem dX0_badTable_6 : decode cX0_badTable 6 = .ok (.if_icmp .lt 7, 3) := by decide +kernel
theorem dX0_badTable_9 : decode cX0_badTable 9 = .ok (.iconst 1, 1) := by decide +kernel
theorem dX0_badTable_10 : decode cX0_badTable 10 = .ok (.goto 4, 3) := by decide +kernel
theorem dX0_badTable_13 : decode cX0_badTable 13 = .ok (.iconst 0, 1) := by decide +kernel
theorem dX0_badTable_14 : decode cX0_badTable 14 = .ok (.ireturn, 1) := by decide +kernel
theorem dX0_filter_0 : decode cX0_filter 0 = .ok (.aload_n 0, 1) := by decide +kernel
theorem dX0_filter_1 : decode cX0_filter 1 = .ok (.iload_n 1, 1) := by decide +kernel
theorem dX0_filter_2 : decode cX0_filter 2 = .ok (.iload_n 2, 1) := by decide +kernel
theorem dX0_filter_3 : decode cX0_filter 3 = .ok (.invokevirtual 58, 3) := by decide +kernel
theorem dX0_filter_6 : decode cX0_filter 6 = .ok (.ifCond .ne 13, 3) := by decide +kernel
theorem dX0_filter_9 : decode cX0_filter 9 = .ok (.iload_n 3, 1) := by decide +kernel
theorem dX0_filter_10 : decode cX0_filter 10 = .ok (.ifCond .lt 9, 3) := by decide +kernel
theorem dX0_filter_13 : decode cX0_filter 13 = .ok (.iload_n 3, 1) := by decide +kernel
theorem dX0_filter_14 : decode cX0_filter 14 = .ok (.bipush 6, 2) := by decide +kernel
theorem dX0_filter_16 : decode cX0_filter 16 = .ok (.if_icmp .le 5, 3) := by decide +kernel
theorem dX0_filter_19 : decode cX0_filter 19 = .ok (.iconst (-1), 1) := by decide +kernel
theorem dX0_filter_20 : decode cX0_filter 20 = .ok (.ireturn, 1) := by decide +kernel
theorem dX0_filter_21 : decode cX0_filter 21 = .ok (.aload_n 0, 1) := by decide +kernel
theorem dX0_filter_22 : decode cX0_filter 22 = .ok (.getfield 16, 3) := by decide +kernel
theorem dX0_filter_25 : decode cX0_filter 25 = .ok (.iload_n 1, 1) := by decide +kernel
theorem dX0_filter_26 : decode cX0_filter 26 = .ok (.iconst 5, 1) := by decide +kernel
theorem dX0_filter_27 : decode cX0_filter 27 = .ok (.imul, 1) := by decide +kernel
theorem dX0_filter_28 : decode cX0_filter 28 = .ok (.iload_n 2, 1) := by decide +kernel
theorem dX0_filter_29 : decode cX0_filter 29 = .ok (.iadd, 1) := by decide +kernel
theorem dX0_filter_30 : decode cX0_filter 30 = .ok (.baload, 1) := by decide +kernel
theorem dX0_filter_31 : decode cX0_filter 31 = .ok (.ifCond .eq 7, 3) := by decide +kernel
theorem dX0_filter_34 : decode cX0_filter 34 = .ok (.iconst 1, 1) := by decide +kernel
theorem dX0_filter_35 : decode cX0_filter 35 = .ok (.goto 4, 3) := by decide +kernel
theorem dX0_filter_38 : decode cX0_filter 38 = .ok (.iconst 0, 1) := by decide +kernel
theorem dX0_filter_39 : decode cX0_filter 39 = .ok (.istore 4, 2) := by decide +kernel
theorem dX0_filter_41 : decode cX0_filter 41 = .ok (.aload_n 0, 1) := by decide +kernel
theorem dX0_filter_42 : decode cX0_filter 42 = .ok (.iload_n 1, 1) := by decide +kernel
theorem dX0_filter_43 : decode cX0_filter 43 = .ok (.iload_n 2, 1) := by decide +kernel
theorem dX0_filter_44 : decode cX0_filter 44 = .ok (.iconst 1, 1) := by decide +kernel
theorem dX0_filter_45 : decode cX0_filter 45 = .ok (.iload_n 3, 1) := by decide +kernel
theorem dX0_filter_46 : decode cX0_filter 46 = .ok (.invokevirtual 62, 3) := by decide +kernel
theorem dX0_filter_49 : decode cX0_filter 49 = .ok (.iload 4, 2) := by decide +kernel
theorem dX0_filter_51 : decode cX0_filter 51 = .ok (.ireturn, 1) := by decide +kernel
theorem dX0_badPair_0 : decode cX0_badPair 0 = .ok (.aload_n 0, 1) := by decide +kernel
theorem dX0_badPair_1 : decode cX0_badPair 1 = .ok (.iload_n 1, 1) := by decide +kernel
theorem dX0_badPair_2 : decode cX0_badPair 2 = .ok (.invokevirtual 50, 3) := by decide +kernel
theorem dX0_badPair_5 : decode cX0_badPair 5 = .ok (.ifCond .ne 16, 3) := by decide +kernel
theorem dX0_badPair_8 : decode cX0_badPair 8 = .ok (.aload_n 0, 1) := by decide +kernel
theorem dX0_badPair_9 : decode cX0_badPair 9 = .ok (.iload_n 2, 1) := by decide +kernel
theorem dX0_badPair_10 : decode cX0_badPair 10 = .ok (.invokevirtual 50, 3) := by decide +kernel
theorem dX0_badPair_13 : decode cX0_badPair 13 = .ok (.ifCond .ne 8, 3) := by decide +kernel
theorem dX0_badPair_16 : decode cX0_badPair 16 = .ok (.iload_n 1, 1) := by decide +kernel
theorem dX0_badPair_17 : decode cX0_badPair 17 = .ok (.iload_n 2, 1) := by decide +kernel
theorem dX0_badPair_18 : decode cX0_badPair 18 = .ok (.if_icmp .ne 7, 3) := by decide +kernel
theorem dX0_badPair_21 : decode cX0_badPair 21 = .ok (.iconst 1, 1) := by decide +kernel
theorem dX0_badPair_22 : decode cX0_badPair 22 = .ok (.goto 4, 3) := by decide +kernel
theorem dX0_badPair_25 : decode cX0_badPair 25 = .ok (.iconst 0, 1) := by decide +kernel
theorem dX0_badPair_26 : decode cX0_badPair 26 = .ok (.ireturn, 1) := by decide +kernel
theorem dX0_put_0 : decode cX0_put 0 = .ok (.aload_n 0, 1) := by decide +kernel
theorem dX0_put_1 : decode cX0_put 1 = .ok (.getfield 16, 3) := by decide +kernel
theorem dX0_put_4 : decode cX0_put 4 = .ok (.iload_n 1, 1) := by decide +kernel
theorem dX0_put_5 : decode cX0_put 5 = .ok (.iconst 5, 1) := by decide +kernel
theorem dX0_put_6 : decode cX0_put 6 = .ok (.imul, 1) := by decide +kernel
theorem dX0_put_7 : decode cX0_put 7 = .ok (.iload_n 2, 1) := by decide +kernel
theorem dX0_put_8 : decode cX0_put 8 = .ok (.iadd, 1) := by decide +kernel
theorem dX0_put_9 : decode cX0_put 9 = .ok (.iload_n 3, 1) := by decide +kernel
theorem dX0_put_10 : decode cX0_put 10 = .ok (.bastore, 1) := by decide +kernel
theorem dX0_put_11 : decode cX0_put 11 = .ok (.aload_n 0, 1) := by decide +kernel
theorem dX0_put_12 : decode cX0_put 12 = .ok (.getfield 16, 3) := by decide +kernel
theorem dX0_put_15 : decode cX0_put 15 = .ok (.iload_n 2, 1) := by decide +kernel
theorem dX0_put_16 : decode cX0_put 16 = .ok (.iconst 5, 1) := by decide +kernel
theorem dX0_put_17 : decode cX0_put 17 = .ok (.imul, 1) := by decide +kernel
theorem dX0_put_18 : decode cX0_put 18 = .ok (.iload_n 1, 1) := by decide +kernel
theorem dX0_put_19 : decode cX0_put 19 = .ok (.iadd, 1) := by decide +kernel
theorem dX0_put_20 : decode cX0_put 20 = .ok (.iload_n 3, 1) := by decide +kernel
theorem dX0_put_21 : decode cX0_put 21 = .ok (.bastore, 1) := by decide +kernel
theorem dX0_put_22 : decode cX0_put 22 = .ok (.aload_n 0, 1) := by decide +kernel
theorem dX0_put_23 : decode cX0_put 23 = .ok (.getfield 13, 3) := by decide +kernel
theorem dX0_put_26 : decode cX0_put 26 = .ok (.iload_n 1, 1) := by decide +kernel
theorem dX0_put_27 : decode cX0_put 27 = .ok (.iconst 5, 1) := by decide +kernel
theorem dX0_put_28 : decode cX0_put 28 = .ok (.imul, 1) := by decide +kernel
theorem dX0_put_29 : decode cX0_put 29 = .ok (.iload_n 2, 1) := by decide +kernel
theorem dX0_put_30 : decode cX0_put 30 = .ok (.iadd, 1) := by decide +kernel
theorem dX0_put_31 : decode cX0_put 31 = .ok (.iload 4, 2) := by decide +kernel
theorem dX0_put_33 : decode cX0_put 33 = .ok (.iastore, 1) := by decide +kernel
theorem dX0_put_34 : decode cX0_put 34 = .ok (.aload_n 0, 1) := by decide +kernel
theorem dX0_put_35 : decode cX0_put 35 = .ok (.getfield 13, 3) := by decide +kernel
theorem dX0_put_38 : decode cX0_put 38 = .ok (.iload_n 2, 1) := by decide +kernel
theorem dX0_put_39 : decode cX0_put 39 = .ok (.iconst 5, 1) := by decide +kernel
theorem dX0_put_40 : decode cX0_put 40 = .ok (.imul, 1) := by decide +kernel
theorem dX0_put_41 : decode cX0_put 41 = .ok (.iload_n 1, 1) := by decide +kernel
theorem dX0_put_42 : decode cX0_put 42 = .ok (.iadd, 1) := by decide +kernel
theorem dX0_put_43 : decode cX0_put 43 = .ok (.iload 4, 2) := by decide +kernel
theorem dX0_put_45 : decode cX0_put 45 = .ok (.iastore, 1) := by decide +kernel
theorem dX0_put_46 : decode cX0_put 46 = .ok (.aload_n 0, 1) := by decide +kernel
theorem dX0_put_47 : decode cX0_put 47 = .ok (.iconst 0, 1) := by decide +kernel
theorem dX0_put_48 : decode cX0_put 48 = .ok (.putfield 54, 3) := by decide +kernel
theorem dX0_put_51 : decode cX0_put 51 = .ok (.return_, 1) := by decide +kernel
theorem dX0_unfilter_0 : decode cX0_unfilter 0 = .ok (.aload_n 0, 1) := by decide +kernel
theorem dX0_unfilter_1 : decode cX0_unfilter 1 = .ok (.iload_n 1, 1) := by decide +kernel
theorem dX0_unfilter_2 : decode cX0_unfilter 2 = .ok (.iload_n 2, 1) := by decide +kernel
theorem dX0_unfilter_3 : decode cX0_unfilter 3 = .ok (.invokevirtual 58, 3) := by decide +kernel
theorem dX0_unfilter_6 : decode cX0_unfilter 6 = .ok (.ifCond .eq 5, 3) := by decide +kernel
theorem dX0_unfilter_9 : decode cX0_unfilter 9 = .ok (.iconst (-1), 1) := by decide +kernel
theorem dX0_unfilter_10 : decode cX0_unfilter 10 = .ok (.ireturn, 1) := by decide +kernel
theorem dX0_unfilter_11 : decode cX0_unfilter 11 = .ok (.aload_n 0, 1) := by decide +kernel
theorem dX0_unfilter_12 : decode cX0_unfilter 12 = .ok (.getfield 16, 3) := by decide +kernel
theorem dX0_unfilter_15 : decode cX0_unfilter 15 = .ok (.iload_n 1, 1) := by decide +kernel
theorem dX0_unfilter_16 : decode cX0_unfilter 16 = .ok (.iconst 5, 1) := by decide +kernel
theorem dX0_unfilter_17 : decode cX0_unfilter 17 = .ok (.imul, 1) := by decide +kernel
theorem dX0_unfilter_18 : decode cX0_unfilter 18 = .ok (.iload_n 2, 1) := by decide +kernel
theorem dX0_unfilter_19 : decode cX0_unfilter 19 = .ok (.iadd, 1) := by decide +kernel
theorem dX0_unfilter_20 : decode cX0_unfilter 20 = .ok (.baload, 1) := by decide +kernel
theorem dX0_unfilter_21 : decode cX0_unfilter 21 = .ok (.ifCond .ne 6, 3) := by decide +kernel
theorem dX0_unfilter_24 : decode cX0_unfilter 24 = .ok (.bipush (-4), 2) := by decide +kernel
theorem dX0_unfilter_26 : decode cX0_unfilter 26 = .ok (.ireturn, 1) := by decide +kernel
theorem dX0_unfilter_27 : decode cX0_unfilter 27 = .ok (.aload_n 0, 1) := by decide +kernel
theorem dX0_unfilter_28 : decode cX0_unfilter 28 = .ok (.getfield 13, 3) := by decide +kernel
theorem dX0_unfilter_31 : decode cX0_unfilter 31 = .ok (.iload_n 1, 1) := by decide +kernel
theorem dX0_unfilter_32 : decode cX0_unfilter 32 = .ok (.iconst 5, 1) := by decide +kernel
theorem dX0_unfilter_33 : decode cX0_unfilter 33 = .ok (.imul, 1) := by decide +kernel
theorem dX0_unfilter_34 : decode cX0_unfilter 34 = .ok (.iload_n 2, 1) := by decide +kernel
theorem dX0_unfilter_35 : decode cX0_unfilter 35 = .ok (.iadd, 1) := by decide +kernel
theorem dX0_unfilter_36 : decode cX0_unfilter 36 = .ok (.iaload, 1) := by decide +kernel
theorem dX0_unfilter_37 : decode cX0_unfilter 37 = .ok (.istore_n 3, 1) := by decide +kernel
theorem dX0_unfilter_38 : decode cX0_unfilter 38 = .ok (.aload_n 0, 1) := by decide +kernel
theorem dX0_unfilter_39 : decode cX0_unfilter 39 = .ok (.iload_n 1, 1) := by decide +kernel
theorem dX0_unfilter_40 : decode cX0_unfilter 40 = .ok (.iload_n 2, 1) := by decide +kernel
theorem dX0_unfilter_41 : decode cX0_unfilter 41 = .ok (.iconst 0, 1) := by decide +kernel
theorem dX0_unfilter_42 : decode cX0_unfilter 42 = .ok (.iconst 0, 1) := by decide +kernel
theorem dX0_unfilter_43 : decode cX0_unfilter 43 = .ok (.invokevirtual 62, 3) := by decide +kernel
theorem dX0_unfilter_46 : decode cX0_unfilter 46 = .ok (.iload_n 3, 1) := by decide +kernel
theorem dX0_unfilter_47 : decode cX0_unfilter 47 = .ok (.ireturn, 1) := by decide +kernel
theorem dX0_size_0 : decode cX0_size 0 = .ok (.aload_n 0, 1) := by decide +kernel
theorem dX0_size_1 : decode cX0_size 1 = .ok (.iload_n 1, 1) := by decide +kernel
theorem dX0_size_2 : decode cX0_size 2 = .ok (.invokevirtual 88, 3) := by decide +kernel
theorem dX0_size_5 : decode cX0_size 5 = .ok (.ifCond .eq 7, 3) := by decide +kernel
theorem dX0_size_8 : decode cX0_size 8 = .ok (.iconst (-1), 1) := by decide +kernel
theorem dX0_size_9 : decode cX0_size 9 = .ok (.goto 8, 3) := by decide +kernel
theorem dX0_size_12 : decode cX0_size 12 = .ok (.aload_n 0, 1) := by decide +kernel
theorem dX0_size_13 : decode cX0_size 13 = .ok (.iload_n 1, 1) := by decide +kernel
theorem dX0_size_14 : decode cX0_size 14 = .ok (.invokevirtual 78, 3) := by decide +kernel
theorem dX0_size_17 : decode cX0_size 17 = .ok (.ireturn, 1) := by decide +kernel
theorem dX0_badSet_0 : decode cX0_badSet 0 = .ok (.iload_n 1, 1) := by decide +kernel
theorem dX0_badSet_1 : decode cX0_badSet 1 = .ok (.iconst 1, 1) := by decide +kernel
theorem dX0_badSet_2 : decode cX0_badSet 2 = .ok (.if_icmp .lt 9, 3) := by decide +kernel
theorem dX0_badSet_5 : decode cX0_badSet 5 = .ok (.iload_n 1, 1) := by decide +kernel
theorem dX0_badSet_6 : decode cX0_badSet 6 = .ok (.bipush 32, 2) := by decide +kernel
theorem dX0_badSet_8 : decode cX0_badSet 8 = .ok (.if_icmp .lt 7, 3) := by decide +kernel
theorem dX0_badSet_11 : decode cX0_badSet 11 = .ok (.iconst 1, 1) := by decide +kernel
theorem dX0_badSet_12 : decode cX0_badSet 12 = .ok (.goto 4, 3) := by decide +kernel
theorem dX0_badSet_15 : decode cX0_badSet 15 = .ok (.iconst 0, 1) := by decide +kernel
theorem dX0_badSet_16 : decode cX0_badSet 16 = .ok (.ireturn, 1) := by decide +kernel
theorem dX0_sizeOf_0 : decode cX0_sizeOf 0 = .ok (.iconst 0, 1) := by decide +kernel
theorem dX0_sizeOf_1 : decode cX0_sizeOf 1 = .ok (.istore_n 2, 1) := by decide +kernel
theorem dX0_sizeOf_2 : decode cX0_sizeOf 2 = .ok (.iconst 0, 1) := by decide +kernel
theorem dX0_sizeOf_3 : decode cX0_sizeOf 3 = .ok (.istore_n 3, 1) := by decide +kernel
theorem dX0_sizeOf_4 : decode cX0_sizeOf 4 = .ok (.iload_n 3, 1) := by decide +kernel
theorem dX0_sizeOf_5 : decode cX0_sizeOf 5 = .ok (.iconst 5, 1) := by decide +kernel
theorem dX0_sizeOf_6 : decode cX0_sizeOf 6 = .ok (.if_icmp .ge 63, 3) := by decide +kernel
theorem dX0_sizeOf_9 : decode cX0_sizeOf 9 = .ok (.iload_n 1, 1) := by decide +kernel
theorem dX0_sizeOf_10 : decode cX0_sizeOf 10 = .ok (.iload_n 3, 1) := by decide +kernel
theorem dX0_sizeOf_11 : decode cX0_sizeOf 11 = .ok (.ishr, 1) := by decide +kernel
theorem dX0_sizeOf_12 : decode cX0_sizeOf 12 = .ok (.iconst 1, 1) := by decide +kernel
theorem dX0_sizeOf_13 : decode cX0_sizeOf 13 = .ok (.iand, 1) := by decide +kernel
theorem dX0_sizeOf_14 : decode cX0_sizeOf 14 = .ok (.iconst 1, 1) := by decide +kernel
theorem dX0_sizeOf_15 : decode cX0_sizeOf 15 = .ok (.if_icmp .ne 48, 3) := by decide +kernel
theorem dX0_sizeOf_18 : decode cX0_sizeOf 18 = .ok (.iload_n 2, 1) := by decide +kernel
theorem dX0_sizeOf_19 : decode cX0_sizeOf 19 = .ok (.aload_n 0, 1) := by decide +kernel
theorem dX0_sizeOf_20 : decode cX0_sizeOf 20 = .ok (.getfield 7, 3) := by decide +kernel
theorem dX0_sizeOf_23 : decode cX0_sizeOf 23 = .ok (.iload_n 3, 1) := by decide +kernel
theorem dX0_sizeOf_24 : decode cX0_sizeOf 24 = .ok (.iaload, 1) := by decide +kernel
theorem dX0_sizeOf_25 : decode cX0_sizeOf 25 = .ok (.iadd, 1) := by decide +kernel
theorem dX0_sizeOf_26 : decode cX0_sizeOf 26 = .ok (.istore_n 2, 1) := by decide +kernel
theorem dX0_sizeOf_27 : decode cX0_sizeOf 27 = .ok (.iconst 0, 1) := by decide +kernel
theorem dX0_sizeOf_28 : decode cX0_sizeOf 28 = .ok (.istore 4, 2) := by decide +kernel
theorem dX0_sizeOf_30 : decode cX0_sizeOf 30 = .ok (.iload 4, 2) := by decide +kernel
theorem dX0_sizeOf_32 : decode cX0_sizeOf 32 = .ok (.iload_n 3, 1) := by decide +kernel
theorem dX0_sizeOf_33 : decode cX0_sizeOf 33 = .ok (.if_icmp .ge 30, 3) := by decide +kernel
theorem dX0_sizeOf_36 : decode cX0_sizeOf 36 = .ok (.iload_n 2, 1) := by decide +kernel
theorem dX0_sizeOf_37 : decode cX0_sizeOf 37 = .ok (.iload_n 1, 1) := by decide +kernel
theorem dX0_sizeOf_38 : decode cX0_sizeOf 38 = .ok (.iload 4, 2) := by decide +kernel
theorem dX0_sizeOf_40 : decode cX0_sizeOf 40 = .ok (.ishr, 1) := by decide +kernel
theorem dX0_sizeOf_41 : decode cX0_sizeOf 41 = .ok (.iconst 1, 1) := by decide +kernel
theorem dX0_sizeOf_42 : decode cX0_sizeOf 42 = .ok (.iand, 1) := by decide +kernel
theorem dX0_sizeOf_43 : decode cX0_sizeOf 43 = .ok (.aload_n 0, 1) := by decide +kernel
theorem dX0_sizeOf_44 : decode cX0_sizeOf 44 = .ok (.getfield 13, 3) := by decide +kernel
theorem dX0_sizeOf_47 : decode cX0_sizeOf 47 = .ok (.iload_n 3, 1) := by decide +kernel
theorem dX0_sizeOf_48 : decode cX0_sizeOf 48 = .ok (.iconst 5, 1) := by decide +kernel
theorem dX0_sizeOf_49 : decode cX0_sizeOf 49 = .ok (.imul, 1) := by decide +kernel
theorem dX0_sizeOf_50 : decode cX0_sizeOf 50 = .ok (.iload 4, 2) := by decide +kernel
theorem dX0_sizeOf_52 : decode cX0_sizeOf 52 = .ok (.iadd, 1) := by decide +kernel
theorem dX0_sizeOf_53 : decode cX0_sizeOf 53 = .ok (.iaload, 1) := by decide +kernel
theorem dX0_sizeOf_54 : decode cX0_sizeOf 54 = .ok (.imul, 1) := by decide +kernel
theorem dX0_sizeOf_55 : decode cX0_sizeOf 55 = .ok (.isub, 1) := by decide +kernel
theorem dX0_sizeOf_56 : decode cX0_sizeOf 56 = .ok (.istore_n 2, 1) := by decide +kernel
theorem dX0_sizeOf_57 : decode cX0_sizeOf 57 = .ok (.iinc 4 1, 3) := by decide +kernel
theorem dX0_sizeOf_60 : decode cX0_sizeOf 60 = .ok (.goto (-30), 3) := by decide +kernel
theorem dX0_sizeOf_63 : decode cX0_sizeOf 63 = .ok (.iinc 3 1, 3) := by decide +kernel
theorem dX0_sizeOf_66 : decode cX0_sizeOf 66 = .ok (.goto (-62), 3) := by decide +kernel
theorem dX0_sizeOf_69 : decode cX0_sizeOf 69 = .ok (.iload_n 2, 1) := by decide +kernel
theorem dX0_sizeOf_70 : decode cX0_sizeOf 70 = .ok (.ifCond .ge 7, 3) := by decide +kernel
theorem dX0_sizeOf_73 : decode cX0_sizeOf 73 = .ok (.iconst 1, 1) := by decide +kernel
theorem dX0_sizeOf_74 : decode cX0_sizeOf 74 = .ok (.goto 6, 3) := by decide +kernel
theorem dX0_sizeOf_77 : decode cX0_sizeOf 77 = .ok (.iconst 1, 1) := by decide +kernel
theorem dX0_sizeOf_78 : decode cX0_sizeOf 78 = .ok (.iload_n 2, 1) := by decide +kernel
theorem dX0_sizeOf_79 : decode cX0_sizeOf 79 = .ok (.ishl, 1) := by decide +kernel
theorem dX0_sizeOf_80 : decode cX0_sizeOf 80 = .ok (.ireturn, 1) := by decide +kernel
theorem dX0_connected_0 : decode cX0_connected 0 = .ok (.aload_n 0, 1) := by decide +kernel
theorem dX0_connected_1 : decode cX0_connected 1 = .ok (.iload_n 1, 1) := by decide +kernel
theorem dX0_connected_2 : decode cX0_connected 2 = .ok (.invokevirtual 88, 3) := by decide +kernel
theorem dX0_connected_5 : decode cX0_connected 5 = .ok (.ifCond .eq 5, 3) := by decide +kernel
theorem dX0_connected_8 : decode cX0_connected 8 = .ok (.iconst 0, 1) := by decide +kernel
theorem dX0_connected_9 : decode cX0_connected 9 = .ok (.ireturn, 1) := by decide +kernel
theorem dX0_connected_10 : decode cX0_connected 10 = .ok (.iload_n 1, 1) := by decide +kernel
theorem dX0_connected_11 : decode cX0_connected 11 = .ok (.iload_n 1, 1) := by decide +kernel
theorem dX0_connected_12 : decode cX0_connected 12 = .ok (.ineg, 1) := by decide +kernel
theorem dX0_connected_13 : decode cX0_connected 13 = .ok (.iand, 1) := by decide +kernel
theorem dX0_connected_14 : decode cX0_connected 14 = .ok (.istore_n 2, 1) := by decide +kernel
theorem dX0_connected_15 : decode cX0_connected 15 = .ok (.iconst 0, 1) := by decide +kernel
theorem dX0_connected_16 : decode cX0_connected 16 = .ok (.istore_n 3, 1) := by decide +kernel
theorem dX0_connected_17 : decode cX0_connected 17 = .ok (.iload_n 3, 1) := by decide +kernel
theorem dX0_connected_18 : decode cX0_connected 18 = .ok (.iconst 5, 1) := by decide +kernel
theorem dX0_connected_19 : decode cX0_connected 19 = .ok (.if_icmp .ge 19, 3) := by decide +kernel
theorem dX0_connected_22 : decode cX0_connected 22 = .ok (.iload_n 2, 1) := by decide +kernel
theorem dX0_connected_23 : decode cX0_connected 23 = .ok (.aload_n 0, 1) := by decide +kernel
theorem dX0_connected_24 : decode cX0_connected 24 = .ok (.iload_n 2, 1) := by decide +kernel
theorem dX0_connected_25 : decode cX0_connected 25 = .ok (.invokevirtual 66, 3) := by decide +kernel
theorem dX0_connected_28 : decode cX0_connected 28 = .ok (.iload_n 1, 1) := by decide +kernel
theorem dX0_connected_29 : decode cX0_connected 29 = .ok (.iand, 1) := by decide +kernel
theorem dX0_connected_30 : decode cX0_connected 30 = .ok (.ior, 1) := by decide +kernel
theorem dX0_connected_31 : decode cX0_connected 31 = .ok (.istore_n 2, 1) := by decide +kernel
theorem dX0_connected_32 : decode cX0_connected 32 = .ok (.iinc 3 1, 3) := by decide +kernel
theorem dX0_connected_35 : decode cX0_connected 35 = .ok (.goto (-18), 3) := by decide +kernel
theorem dX0_connected_38 : decode cX0_connected 38 = .ok (.iload_n 2, 1) := by decide +kernel
theorem dX0_connected_39 : decode cX0_connected 39 = .ok (.iload_n 1, 1) := by decide +kernel
theorem dX0_connected_40 : decode cX0_connected 40 = .ok (.if_icmp .ne 7, 3) := by decide +kernel
theorem dX0_connected_43 : decode cX0_connected 43 = .ok (.iconst 1, 1) := by decide +kernel
theorem dX0_connected_44 : decode cX0_connected 44 = .ok (.goto 4, 3) := by decide +kernel
theorem dX0_connected_47 : decode cX0_connected 47 = .ok (.iconst 0, 1) := by decide +kernel
theorem dX0_connected_48 : decode cX0_connected 48 = .ok (.ireturn, 1) := by decide +kernel
theorem dX0_linkedWith_0 : decode cX0_linkedWith 0 = .ok (.iconst 0, 1) := by decide +kernel
theorem dX0_linkedWith_1 : decode cX0_linkedWith 1 = .ok (.istore_n 2, 1) := by decide +kernel
theorem dX0_linkedWith_2 : decode cX0_linkedWith 2 = .ok (.iconst 0, 1) := by decide +kernel
theorem dX0_linkedWith_3 : decode cX0_linkedWith 3 = .ok (.istore_n 3, 1) := by decide +kernel
theorem dX0_linkedWith_4 : decode cX0_linkedWith 4 = .ok (.iload_n 3, 1) := by decide +kernel
theorem dX0_linkedWith_5 : decode cX0_linkedWith 5 = .ok (.iconst 5, 1) := by decide +kernel
theorem dX0_linkedWith_6 : decode cX0_linkedWith 6 = .ok (.if_icmp .ge 54, 3) := by decide +kernel
theorem dX0_linkedWith_9 : decode cX0_linkedWith 9 = .ok (.iconst 0, 1) := by decide +kernel
theorem dX0_linkedWith_10 : decode cX0_linkedWith 10 = .ok (.istore 4, 2) := by decide +kernel
theorem dX0_linkedWith_12 : decode cX0_linkedWith 12 = .ok (.iload 4, 2) := by decide +kernel
theorem dX0_linkedWith_14 : decode cX0_linkedWith 14 = .ok (.iconst 5, 1) := by decide +kernel
theorem dX0_linkedWith_15 : decode cX0_linkedWith 15 = .ok (.if_icmp .ge 39, 3) := by decide +kernel
theorem dX0_linkedWith_18 : decode cX0_linkedWith 18 = .ok (.iload_n 1, 1) := by decide +kernel
theorem dX0_linkedWith_19 : decode cX0_linkedWith 19 = .ok (.iload_n 3, 1) := by decide +kernel
theorem dX0_linkedWith_20 : decode cX0_linkedWith 20 = .ok (.ishr, 1) := by decide +kernel
theorem dX0_linkedWith_21 : decode cX0_linkedWith 21 = .ok (.iconst 1, 1) := by decide +kernel
theorem dX0_linkedWith_22 : decode cX0_linkedWith 22 = .ok (.iand, 1) := by decide +kernel
theorem dX0_linkedWith_23 : decode cX0_linkedWith 23 = .ok (.iconst 1, 1) := by decide +kernel
theorem dX0_linkedWith_24 : decode cX0_linkedWith 24 = .ok (.if_icmp .ne 24, 3) := by decide +kernel
theorem dX0_linkedWith_27 : decode cX0_linkedWith 27 = .ok (.aload_n 0, 1) := by decide +kernel
theorem dX0_linkedWith_28 : decode cX0_linkedWith 28 = .ok (.getfield 16, 3) := by decide +kernel
theorem dX0_linkedWith_31 : decode cX0_linkedWith 31 = .ok (.iload_n 3, 1) := by decide +kernel
theorem dX0_linkedWith_32 : decode cX0_linkedWith 32 = .ok (.iconst 5, 1) := by decide +kernel
theorem dX0_linkedWith_33 : decode cX0_linkedWith 33 = .ok (.imul, 1) := by decide +kernel
theorem dX0_linkedWith_34 : decode cX0_linkedWith 34 = .ok (.iload 4, 2) := by decide +kernel
theorem dX0_linkedWith_36 : decode cX0_linkedWith 36 = .ok (.iadd, 1) := by decide +kernel
theorem dX0_linkedWith_37 : decode cX0_linkedWith 37 = .ok (.baload, 1) := by decide +kernel
theorem dX0_linkedWith_38 : decode cX0_linkedWith 38 = .ok (.ifCond .eq 10, 3) := by decide +kernel
theorem dX0_linkedWith_41 : decode cX0_linkedWith 41 = .ok (.iload_n 2, 1) := by decide +kernel
theorem dX0_linkedWith_42 : decode cX0_linkedWith 42 = .ok (.iconst 1, 1) := by decide +kernel
theorem dX0_linkedWith_43 : decode cX0_linkedWith 43 = .ok (.iload 4, 2) := by decide +kernel
theorem dX0_linkedWith_45 : decode cX0_linkedWith 45 = .ok (.ishl, 1) := by decide +kernel
theorem dX0_linkedWith_46 : decode cX0_linkedWith 46 = .ok (.ior, 1) := by decide +kernel
theorem dX0_linkedWith_47 : decode cX0_linkedWith 47 = .ok (.istore_n 2, 1) := by decide +kernel
theorem dX0_linkedWith_48 : decode cX0_linkedWith 48 = .ok (.iinc 4 1, 3) := by decide +kernel
theorem dX0_linkedWith_51 : decode cX0_linkedWith 51 = .ok (.goto (-39), 3) := by decide +kernel
theorem dX0_linkedWith_54 : decode cX0_linkedWith 54 = .ok (.iinc 3 1, 3) := by decide +kernel
theorem dX0_linkedWith_57 : decode cX0_linkedWith 57 = .ok (.goto (-53), 3) := by decide +kernel
theorem dX0_linkedWith_60 : decode cX0_linkedWith 60 = .ok (.iload_n 2, 1) := by decide +kernel
theorem dX0_linkedWith_61 : decode cX0_linkedWith 61 = .ok (.ireturn, 1) := by decide +kernel
theorem dX0_cost_0 : decode cX0_cost 0 = .ok (.aload_n 0, 1) := by decide +kernel
theorem dX0_cost_1 : decode cX0_cost 1 = .ok (.iload_n 1, 1) := by decide +kernel
theorem dX0_cost_2 : decode cX0_cost 2 = .ok (.invokevirtual 88, 3) := by decide +kernel
theorem dX0_cost_5 : decode cX0_cost 5 = .ok (.ifCond .eq 5, 3) := by decide +kernel
theorem dX0_cost_8 : decode cX0_cost 8 = .ok (.iconst (-1), 1) := by decide +kernel
theorem dX0_cost_9 : decode cX0_cost 9 = .ok (.ireturn, 1) := by decide +kernel
theorem dX0_cost_10 : decode cX0_cost 10 = .ok (.aload_n 0, 1) := by decide +kernel
theorem dX0_cost_11 : decode cX0_cost 11 = .ok (.invokevirtual 91, 3) := by decide +kernel
theorem dX0_cost_14 : decode cX0_cost 14 = .ok (.aload_n 0, 1) := by decide +kernel
theorem dX0_cost_15 : decode cX0_cost 15 = .ok (.getfield 23, 3) := by decide +kernel
theorem dX0_cost_18 : decode cX0_cost 18 = .ok (.iload_n 1, 1) := by decide +kernel
theorem dX0_cost_19 : decode cX0_cost 19 = .ok (.iaload, 1) := by decide +kernel
theorem dX0_cost_20 : decode cX0_cost 20 = .ok (.ireturn, 1) := by decide +kernel
theorem dX0_fill_0 : decode cX0_fill 0 = .ok (.aload_n 0, 1) := by decide +kernel
theorem dX0_fill_1 : decode cX0_fill 1 = .ok (.getfield 54, 3) := by decide +kernel
theorem dX0_fill_4 : decode cX0_fill 4 = .ok (.ifCond .eq 4, 3) := by decide +kernel
theorem dX0_fill_7 : decode cX0_fill 7 = .ok (.return_, 1) := by decide +kernel
theorem dX0_fill_8 : decode cX0_fill 8 = .ok (.iconst 1, 1) := by decide +kernel
theorem dX0_fill_9 : decode cX0_fill 9 = .ok (.istore_n 1, 1) := by decide +kernel
theorem dX0_fill_10 : decode cX0_fill 10 = .ok (.iload_n 1, 1) := by decide +kernel
theorem dX0_fill_11 : decode cX0_fill 11 = .ok (.bipush 32, 2) := by decide +kernel
theorem dX0_fill_13 : decode cX0_fill 13 = .ok (.if_icmp .ge 41, 3) := by decide +kernel
theorem dX0_fill_16 : decode cX0_fill 16 = .ok (.aload_n 0, 1) := by decide +kernel
theorem dX0_fill_17 : decode cX0_fill 17 = .ok (.getfield 20, 3) := by decide +kernel
theorem dX0_fill_20 : decode cX0_fill 20 = .ok (.iload_n 1, 1) := by decide +kernel
theorem dX0_fill_21 : decode cX0_fill 21 = .ok (.aload_n 0, 1) := by decide +kernel
theorem dX0_fill_22 : decode cX0_fill 22 = .ok (.iload_n 1, 1) := by decide +kernel
theorem dX0_fill_23 : decode cX0_fill 23 = .ok (.invokevirtual 78, 3) := by decide +kernel
theorem dX0_fill_26 : decode cX0_fill 26 = .ok (.iastore, 1) := by decide +kernel
theorem dX0_fill_27 : decode cX0_fill 27 = .ok (.iload_n 1, 1) := by decide +kernel
theorem dX0_fill_28 : decode cX0_fill 28 = .ok (.iload_n 1, 1) := by decide +kernel
theorem dX0_fill_29 : decode cX0_fill 29 = .ok (.iconst 1, 1) := by decide +kernel
theorem dX0_fill_30 : decode cX0_fill 30 = .ok (.isub, 1) := by decide +kernel
theorem dX0_fill_31 : decode cX0_fill 31 = .ok (.iand, 1) := by decide +kernel
theorem dX0_fill_32 : decode cX0_fill 32 = .ok (.ifCond .ne 11, 3) := by decide +kernel
theorem dX0_fill_35 : decode cX0_fill 35 = .ok (.aload_n 0, 1) := by decide +kernel
theorem dX0_fill_36 : decode cX0_fill 36 = .ok (.iload_n 1, 1) := by decide +kernel
theorem dX0_fill_37 : decode cX0_fill 37 = .ok (.invokevirtual 81, 3) := by decide +kernel
theorem dX0_fill_40 : decode cX0_fill 40 = .ok (.goto 8, 3) := by decide +kernel
theorem dX0_fill_43 : decode cX0_fill 43 = .ok (.aload_n 0, 1) := by decide +kernel
theorem dX0_fill_44 : decode cX0_fill 44 = .ok (.iload_n 1, 1) := by decide +kernel
theorem dX0_fill_45 : decode cX0_fill 45 = .ok (.invokevirtual 85, 3) := by decide +kernel
theorem dX0_fill_48 : decode cX0_fill 48 = .ok (.iinc 1 1, 3) := by decide +kernel
theorem dX0_fill_51 : decode cX0_fill 51 = .ok (.goto (-41), 3) := by decide +kernel
theorem dX0_fill_54 : decode cX0_fill 54 = .ok (.aload_n 0, 1) := by decide +kernel
theorem dX0_fill_55 : decode cX0_fill 55 = .ok (.iconst 1, 1) := by decide +kernel
theorem dX0_fill_56 : decode cX0_fill 56 = .ok (.putfield 54, 3) := by decide +kernel
theorem dX0_fill_59 : decode cX0_fill 59 = .ok (.return_, 1) := by decide +kernel
theorem dX0_single_0 : decode cX0_single 0 = .ok (.aload_n 0, 1) := by decide +kernel
theorem dX0_single_1 : decode cX0_single 1 = .ok (.getfield 23, 3) := by decide +kernel
theorem dX0_single_4 : decode cX0_single 4 = .ok (.iload_n 1, 1) := by decide +kernel
theorem dX0_single_5 : decode cX0_single 5 = .ok (.iconst 0, 1) := by decide +kernel
theorem dX0_single_6 : decode cX0_single 6 = .ok (.iastore, 1) := by decide +kernel
theorem dX0_single_7 : decode cX0_single 7 = .ok (.aload_n 0, 1) := by decide +kernel
theorem dX0_single_8 : decode cX0_single 8 = .ok (.getfield 26, 3) := by decide +kernel
theorem dX0_single_11 : decode cX0_single 11 = .ok (.iload_n 1, 1) := by decide +kernel
theorem dX0_single_12 : decode cX0_single 12 = .ok (.bipush (-4), 2) := by decide +kernel
theorem dX0_single_14 : decode cX0_single 14 = .ok (.iastore, 1) := by decide +kernel
theorem dX0_single_15 : decode cX0_single 15 = .ok (.aload_n 0, 1) := by decide +kernel
theorem dX0_single_16 : decode cX0_single 16 = .ok (.getfield 29, 3) := by decide +kernel
theorem dX0_single_19 : decode cX0_single 19 = .ok (.iload_n 1, 1) := by decide +kernel
theorem dX0_single_20 : decode cX0_single 20 = .ok (.iconst 1, 1) := by decide +kernel
theorem dX0_single_21 : decode cX0_single 21 = .ok (.iastore, 1) := by decide +kernel
theorem dX0_single_22 : decode cX0_single 22 = .ok (.aload_n 0, 1) := by decide +kernel
theorem dX0_single_23 : decode cX0_single 23 = .ok (.getfield 32, 3) := by decide +kernel
theorem dX0_single_26 : decode cX0_single 26 = .ok (.iload_n 1, 1) := by decide +kernel
theorem dX0_single_27 : decode cX0_single 27 = .ok (.iconst 0, 1) := by decide +kernel
theorem dX0_single_28 : decode cX0_single 28 = .ok (.iastore, 1) := by decide +kernel
theorem dX0_single_29 : decode cX0_single 29 = .ok (.aload_n 0, 1) := by decide +kernel
theorem dX0_single_30 : decode cX0_single 30 = .ok (.getfield 35, 3) := by decide +kernel
theorem dX0_single_33 : decode cX0_single 33 = .ok (.iload_n 1, 1) := by decide +kernel
theorem dX0_single_34 : decode cX0_single 34 = .ok (.iconst 0, 1) := by decide +kernel
theorem dX0_single_35 : decode cX0_single 35 = .ok (.iastore, 1) := by decide +kernel
theorem dX0_single_36 : decode cX0_single 36 = .ok (.aload_n 0, 1) := by decide +kernel
theorem dX0_single_37 : decode cX0_single 37 = .ok (.getfield 38, 3) := by decide +kernel
theorem dX0_single_40 : decode cX0_single 40 = .ok (.iload_n 1, 1) := by decide +kernel
theorem dX0_single_41 : decode cX0_single 41 = .ok (.iconst 0, 1) := by decide +kernel
theorem dX0_single_42 : decode cX0_single 42 = .ok (.iastore, 1) := by decide +kernel
theorem dX0_single_43 : decode cX0_single 43 = .ok (.aload_n 0, 1) := by decide +kernel
theorem dX0_single_44 : decode cX0_single 44 = .ok (.getfield 41, 3) := by decide +kernel
theorem dX0_single_47 : decode cX0_single 47 = .ok (.iload_n 1, 1) := by decide +kernel
theorem dX0_single_48 : decode cX0_single 48 = .ok (.iconst 1, 1) := by decide +kernel
theorem dX0_single_49 : decode cX0_single 49 = .ok (.iastore, 1) := by decide +kernel
theorem dX0_single_50 : decode cX0_single 50 = .ok (.aload_n 0, 1) := by decide +kernel
theorem dX0_single_51 : decode cX0_single 51 = .ok (.getfield 44, 3) := by decide +kernel
theorem dX0_single_54 : decode cX0_single 54 = .ok (.iload_n 1, 1) := by decide +kernel
theorem dX0_single_55 : decode cX0_single 55 = .ok (.iconst 1, 1) := by decide +kernel
theorem dX0_single_56 : decode cX0_single 56 = .ok (.iastore, 1) := by decide +kernel
theorem dX0_single_57 : decode cX0_single 57 = .ok (.return_, 1) := by decide +kernel
theorem dX0_several_0 : decode cX0_several 0 = .ok (.aload_n 0, 1) := by decide +kernel
theorem dX0_several_1 : decode cX0_several 1 = .ok (.getfield 23, 3) := by decide +kernel
theorem dX0_several_4 : decode cX0_several 4 = .ok (.iload_n 1, 1) := by decide +kernel
theorem dX0_several_5 : decode cX0_several 5 = .ok (.ldc 74, 2) := by decide +kernel
theorem dX0_several_7 : decode cX0_several 7 = .ok (.iastore, 1) := by decide +kernel
theorem dX0_several_8 : decode cX0_several 8 = .ok (.aload_n 0, 1) := by decide +kernel
theorem dX0_several_9 : decode cX0_several 9 = .ok (.getfield 26, 3) := by decide +kernel
theorem dX0_several_12 : decode cX0_several 12 = .ok (.iload_n 1, 1) := by decide +kernel
theorem dX0_several_13 : decode cX0_several 13 = .ok (.bipush 32, 2) := by decide +kernel
theorem dX0_several_15 : decode cX0_several 15 = .ok (.iastore, 1) := by decide +kernel
theorem dX0_several_16 : decode cX0_several 16 = .ok (.aload_n 0, 1) := by decide +kernel
theorem dX0_several_17 : decode cX0_several 17 = .ok (.getfield 29, 3) := by decide +kernel
theorem dX0_several_20 : decode cX0_several 20 = .ok (.iload_n 1, 1) := by decide +kernel
theorem dX0_several_21 : decode cX0_several 21 = .ok (.iconst 0, 1) := by decide +kernel
theorem dX0_several_22 : decode cX0_several 22 = .ok (.iastore, 1) := by decide +kernel
theorem dX0_several_23 : decode cX0_several 23 = .ok (.aload_n 0, 1) := by decide +kernel
theorem dX0_several_24 : decode cX0_several 24 = .ok (.getfield 32, 3) := by decide +kernel
theorem dX0_several_27 : decode cX0_several 27 = .ok (.iload_n 1, 1) := by decide +kernel
theorem dX0_several_28 : decode cX0_several 28 = .ok (.ldc 74, 2) := by decide +kernel
theorem dX0_several_30 : decode cX0_several 30 = .ok (.iastore, 1) := by decide +kernel
theorem dX0_several_31 : decode cX0_several 31 = .ok (.aload_n 0, 1) := by decide +kernel
theorem dX0_several_32 : decode cX0_several 32 = .ok (.getfield 35, 3) := by decide +kernel
theorem dX0_several_35 : decode cX0_several 35 = .ok (.iload_n 1, 1) := by decide +kernel
theorem dX0_several_36 : decode cX0_several 36 = .ok (.ldc 74, 2) := by decide +kernel
theorem dX0_several_38 : decode cX0_several 38 = .ok (.iastore, 1) := by decide +kernel
theorem dX0_several_39 : decode cX0_several 39 = .ok (.aload_n 0, 1) := by decide +kernel
theorem dX0_several_40 : decode cX0_several 40 = .ok (.getfield 38, 3) := by decide +kernel
theorem dX0_several_43 : decode cX0_several 43 = .ok (.iload_n 1, 1) := by decide +kernel
theorem dX0_several_44 : decode cX0_several 44 = .ok (.iconst 0, 1) := by decide +kernel
theorem dX0_several_45 : decode cX0_several 45 = .ok (.iastore, 1) := by decide +kernel
theorem dX0_several_46 : decode cX0_several 46 = .ok (.aload_n 0, 1) := by decide +kernel
theorem dX0_several_47 : decode cX0_several 47 = .ok (.getfield 41, 3) := by decide +kernel
theorem dX0_several_50 : decode cX0_several 50 = .ok (.iload_n 1, 1) := by decide +kernel
theorem dX0_several_51 : decode cX0_several 51 = .ok (.iconst 0, 1) := by decide +kernel
theorem dX0_several_52 : decode cX0_several 52 = .ok (.iastore, 1) := by decide +kernel
theorem dX0_several_53 : decode cX0_several 53 = .ok (.aload_n 0, 1) := by decide +kernel
theorem dX0_several_54 : decode cX0_several 54 = .ok (.getfield 44, 3) := by decide +kernel
theorem dX0_several_57 : decode cX0_several 57 = .ok (.iload_n 1, 1) := by decide +kernel
theorem dX0_several_58 : decode cX0_several 58 = .ok (.iconst 0, 1) := by decide +kernel
theorem dX0_several_59 : decode cX0_several 59 = .ok (.iastore, 1) := by decide +kernel
theorem dX0_several_60 : decode cX0_several 60 = .ok (.iload_n 1, 1) := by decide +kernel
theorem dX0_several_61 : decode cX0_several 61 = .ok (.iconst 1, 1) := by decide +kernel
theorem dX0_several_62 : decode cX0_several 62 = .ok (.isub, 1) := by decide +kernel
theorem dX0_several_63 : decode cX0_several 63 = .ok (.iload_n 1, 1) := by decide +kernel
theorem dX0_several_64 : decode cX0_several 64 = .ok (.iand, 1) := by decide +kernel
theorem dX0_several_65 : decode cX0_several 65 = .ok (.istore_n 2, 1) := by decide +kernel
theorem dX0_several_66 : decode cX0_several 66 = .ok (.iload_n 2, 1) := by decide +kernel
theorem dX0_several_67 : decode cX0_several 67 = .ok (.ifCond .le 23, 3) := by decide +kernel
theorem dX0_several_70 : decode cX0_several 70 = .ok (.aload_n 0, 1) := by decide +kernel
theorem dX0_several_71 : decode cX0_several 71 = .ok (.iload_n 1, 1) := by decide +kernel
theorem dX0_several_72 : decode cX0_several 72 = .ok (.iload_n 2, 1) := by decide +kernel
theorem dX0_several_73 : decode cX0_several 73 = .ok (.iload_n 1, 1) := by decide +kernel
theorem dX0_several_74 : decode cX0_several 74 = .ok (.iload_n 2, 1) := by decide +kernel
theorem dX0_several_75 : decode cX0_several 75 = .ok (.iconst (-1), 1) := by decide +kernel
theorem dX0_several_76 : decode cX0_several 76 = .ok (.ixor, 1) := by decide +kernel
theorem dX0_several_77 : decode cX0_several 77 = .ok (.iand, 1) := by decide +kernel
theorem dX0_several_78 : decode cX0_several 78 = .ok (.invokevirtual 75, 3) := by decide +kernel
theorem dX0_several_81 : decode cX0_several 81 = .ok (.iload_n 2, 1) := by decide +kernel
theorem dX0_several_82 : decode cX0_several 82 = .ok (.iconst 1, 1) := by decide +kernel
theorem dX0_several_83 : decode cX0_several 83 = .ok (.isub, 1) := by decide +kernel
theorem dX0_several_84 : decode cX0_several 84 = .ok (.iload_n 1, 1) := by decide +kernel
theorem dX0_several_85 : decode cX0_several 85 = .ok (.iand, 1) := by decide +kernel
theorem dX0_several_86 : decode cX0_several 86 = .ok (.istore_n 2, 1) := by decide +kernel
theorem dX0_several_87 : decode cX0_several 87 = .ok (.goto (-21), 3) := by decide +kernel
theorem dX0_several_90 : decode cX0_several 90 = .ok (.return_, 1) := by decide +kernel
theorem dX0_part_0 : decode cX0_part 0 = .ok (.aload_n 0, 1) := by decide +kernel
theorem dX0_part_1 : decode cX0_part 1 = .ok (.getfield 23, 3) := by decide +kernel
theorem dX0_part_4 : decode cX0_part 4 = .ok (.iload_n 2, 1) := by decide +kernel
theorem dX0_part_5 : decode cX0_part 5 = .ok (.iaload, 1) := by decide +kernel
theorem dX0_part_6 : decode cX0_part 6 = .ok (.aload_n 0, 1) := by decide +kernel
theorem dX0_part_7 : decode cX0_part 7 = .ok (.getfield 23, 3) := by decide +kernel
theorem dX0_part_10 : decode cX0_part 10 = .ok (.iload_n 3, 1) := by decide +kernel
theorem dX0_part_11 : decode cX0_part 11 = .ok (.iaload, 1) := by decide +kernel
theorem dX0_part_12 : decode cX0_part 12 = .ok (.iadd, 1) := by decide +kernel
theorem dX0_part_13 : decode cX0_part 13 = .ok (.aload_n 0, 1) := by decide +kernel
theorem dX0_part_14 : decode cX0_part 14 = .ok (.getfield 20, 3) := by decide +kernel
theorem dX0_part_17 : decode cX0_part 17 = .ok (.iload_n 1, 1) := by decide +kernel
theorem dX0_part_18 : decode cX0_part 18 = .ok (.iaload, 1) := by decide +kernel
theorem dX0_part_19 : decode cX0_part 19 = .ok (.iadd, 1) := by decide +kernel
theorem dX0_part_20 : decode cX0_part 20 = .ok (.istore 4, 2) := by decide +kernel
theorem dX0_part_22 : decode cX0_part 22 = .ok (.aload_n 0, 1) := by decide +kernel
theorem dX0_part_23 : decode cX0_part 23 = .ok (.getfield 29, 3) := by decide +kernel
theorem dX0_part_26 : decode cX0_part 26 = .ok (.iload_n 2, 1) := by decide +kernel
theorem dX0_part_27 : decode cX0_part 27 = .ok (.iaload, 1) := by decide +kernel
theorem dX0_part_28 : decode cX0_part 28 = .ok (.aload_n 0, 1) := by decide +kernel
theorem dX0_part_29 : decode cX0_part 29 = .ok (.getfield 29, 3) := by decide +kernel
theorem dX0_part_32 : decode cX0_part 32 = .ok (.iload_n 3, 1) := by decide +kernel
theorem dX0_part_33 : decode cX0_part 33 = .ok (.iaload, 1) := by decide +kernel
end
section
set_option maxRecDepth 100000
theorem dX0_part_34 : decode cX0_part 34 = .ok (.imul, 1) := by decide +kernel
theorem dX0_part_35 : decode cX0_part 35 = .ok (.istore 5, 2) := by decide +kernel
theorem dX0_part_37 : decode cX0_part 37 = .ok (.iload 4, 2) := by decide +kernel
theorem dX0_part_39 : decode cX0_part 39 = .ok (.aload_n 0, 1) := by decide +kernel
theorem dX0_part_40 : decode cX0_part 40 = .ok (.getfield 23, 3) := by decide +kernel
theorem dX0_part_43 : decode cX0_part 43 = .ok (.iload_n 1, 1) := by decide +kernel
theorem dX0_part_44 : decode cX0_part 44 = .ok (.iaload, 1) := by decide +kernel
theorem dX0_part_45 : decode cX0_part 45 = .ok (.if_icmp .ge 29, 3) := by decide +kernel
theorem dX0_part_48 : decode cX0_part 48 = .ok (.aload_n 0, 1) := by decide +kernel
theorem dX0_part_49 : decode cX0_part 49 = .ok (.getfield 23, 3) := by decide +kernel
theorem dX0_part_52 : decode cX0_part 52 = .ok (.iload_n 1, 1) := by decide +kernel
theorem dX0_part_53 : decode cX0_part 53 = .ok (.iload 4, 2) := by decide +kernel
theorem dX0_part_55 : decode cX0_part 55 = .ok (.iastore, 1) := by decide +kernel
theorem dX0_part_56 : decode cX0_part 56 = .ok (.aload_n 0, 1) := by decide +kernel
theorem dX0_part_57 : decode cX0_part 57 = .ok (.getfield 26, 3) := by decide +kernel
theorem dX0_part_60 : decode cX0_part 60 = .ok (.iload_n 1, 1) := by decide +kernel
theorem dX0_part_61 : decode cX0_part 61 = .ok (.iload_n 2, 1) := by decide +kernel
theorem dX0_part_62 : decode cX0_part 62 = .ok (.iastore, 1) := by decide +kernel
theorem dX0_part_63 : decode cX0_part 63 = .ok (.aload_n 0, 1) := by decide +kernel
theorem dX0_part_64 : decode cX0_part 64 = .ok (.getfield 29, 3) := by decide +kernel
theorem dX0_part_67 : decode cX0_part 67 = .ok (.iload_n 1, 1) := by decide +kernel
theorem dX0_part_68 : decode cX0_part 68 = .ok (.iload 5, 2) := by decide +kernel
theorem dX0_part_70 : decode cX0_part 70 = .ok (.iastore, 1) := by decide +kernel
theorem dX0_part_71 : decode cX0_part 71 = .ok (.goto 55, 3) := by decide +kernel
theorem dX0_part_74 : decode cX0_part 74 = .ok (.iload 4, 2) := by decide +kernel
theorem dX0_part_76 : decode cX0_part 76 = .ok (.aload_n 0, 1) := by decide +kernel
theorem dX0_part_77 : decode cX0_part 77 = .ok (.getfield 23, 3) := by decide +kernel
theorem dX0_part_80 : decode cX0_part 80 = .ok (.iload_n 1, 1) := by decide +kernel
theorem dX0_part_81 : decode cX0_part 81 = .ok (.iaload, 1) := by decide +kernel
theorem dX0_part_82 : decode cX0_part 82 = .ok (.if_icmp .ne 44, 3) := by decide +kernel
theorem dX0_part_85 : decode cX0_part 85 = .ok (.aload_n 0, 1) := by decide +kernel
theorem dX0_part_86 : decode cX0_part 86 = .ok (.getfield 29, 3) := by decide +kernel
theorem dX0_part_89 : decode cX0_part 89 = .ok (.iload_n 1, 1) := by decide +kernel
theorem dX0_part_90 : decode cX0_part 90 = .ok (.aload_n 0, 1) := by decide +kernel
theorem dX0_part_91 : decode cX0_part 91 = .ok (.getfield 29, 3) := by decide +kernel
theorem dX0_part_94 : decode cX0_part 94 = .ok (.iload_n 1, 1) := by decide +kernel
theorem dX0_part_95 : decode cX0_part 95 = .ok (.iaload, 1) := by decide +kernel
theorem dX0_part_96 : decode cX0_part 96 = .ok (.iload 5, 2) := by decide +kernel
theorem dX0_part_98 : decode cX0_part 98 = .ok (.iadd, 1) := by decide +kernel
theorem dX0_part_99 : decode cX0_part 99 = .ok (.iastore, 1) := by decide +kernel
theorem dX0_part_100 : decode cX0_part 100 = .ok (.aload_n 0, 1) := by decide +kernel
theorem dX0_part_101 : decode cX0_part 101 = .ok (.getfield 26, 3) := by decide +kernel
theorem dX0_part_104 : decode cX0_part 104 = .ok (.iload_n 1, 1) := by decide +kernel
theorem dX0_part_105 : decode cX0_part 105 = .ok (.iload_n 2, 1) := by decide +kernel
theorem dX0_part_106 : decode cX0_part 106 = .ok (.aload_n 0, 1) := by decide +kernel
theorem dX0_part_107 : decode cX0_part 107 = .ok (.getfield 26, 3) := by decide +kernel
theorem dX0_part_110 : decode cX0_part 110 = .ok (.iload_n 1, 1) := by decide +kernel
theorem dX0_part_111 : decode cX0_part 111 = .ok (.iaload, 1) := by decide +kernel
theorem dX0_part_112 : decode cX0_part 112 = .ok (.if_icmp .ge 7, 3) := by decide +kernel
theorem dX0_part_115 : decode cX0_part 115 = .ok (.iload_n 2, 1) := by decide +kernel
theorem dX0_part_116 : decode cX0_part 116 = .ok (.goto 9, 3) := by decide +kernel
theorem dX0_part_119 : decode cX0_part 119 = .ok (.aload_n 0, 1) := by decide +kernel
theorem dX0_part_120 : decode cX0_part 120 = .ok (.getfield 26, 3) := by decide +kernel
theorem dX0_part_123 : decode cX0_part 123 = .ok (.iload_n 1, 1) := by decide +kernel
theorem dX0_part_124 : decode cX0_part 124 = .ok (.iaload, 1) := by decide +kernel
theorem dX0_part_125 : decode cX0_part 125 = .ok (.iastore, 1) := by decide +kernel
theorem dX0_part_126 : decode cX0_part 126 = .ok (.aload_n 0, 1) := by decide +kernel
theorem dX0_part_127 : decode cX0_part 127 = .ok (.getfield 38, 3) := by decide +kernel
theorem dX0_part_130 : decode cX0_part 130 = .ok (.iload_n 2, 1) := by decide +kernel
theorem dX0_part_131 : decode cX0_part 131 = .ok (.iaload, 1) := by decide +kernel
theorem dX0_part_132 : decode cX0_part 132 = .ok (.aload_n 0, 1) := by decide +kernel
theorem dX0_part_133 : decode cX0_part 133 = .ok (.getfield 38, 3) := by decide +kernel
theorem dX0_part_136 : decode cX0_part 136 = .ok (.iload_n 3, 1) := by decide +kernel
theorem dX0_part_137 : decode cX0_part 137 = .ok (.iaload, 1) := by decide +kernel
theorem dX0_part_138 : decode cX0_part 138 = .ok (.iadd, 1) := by decide +kernel
theorem dX0_part_139 : decode cX0_part 139 = .ok (.aload_n 0, 1) := by decide +kernel
theorem dX0_part_140 : decode cX0_part 140 = .ok (.getfield 20, 3) := by decide +kernel
theorem dX0_part_143 : decode cX0_part 143 = .ok (.iload_n 1, 1) := by decide +kernel
theorem dX0_part_144 : decode cX0_part 144 = .ok (.iaload, 1) := by decide +kernel
theorem dX0_part_145 : decode cX0_part 145 = .ok (.iadd, 1) := by decide +kernel
theorem dX0_part_146 : decode cX0_part 146 = .ok (.istore 6, 2) := by decide +kernel
theorem dX0_part_148 : decode cX0_part 148 = .ok (.aload_n 0, 1) := by decide +kernel
theorem dX0_part_149 : decode cX0_part 149 = .ok (.getfield 38, 3) := by decide +kernel
theorem dX0_part_152 : decode cX0_part 152 = .ok (.iload_n 1, 1) := by decide +kernel
theorem dX0_part_153 : decode cX0_part 153 = .ok (.iload 6, 2) := by decide +kernel
theorem dX0_part_155 : decode cX0_part 155 = .ok (.aload_n 0, 1) := by decide +kernel
theorem dX0_part_156 : decode cX0_part 156 = .ok (.getfield 38, 3) := by decide +kernel
theorem dX0_part_159 : decode cX0_part 159 = .ok (.iload_n 1, 1) := by decide +kernel
theorem dX0_part_160 : decode cX0_part 160 = .ok (.iaload, 1) := by decide +kernel
theorem dX0_part_161 : decode cX0_part 161 = .ok (.if_icmp .le 8, 3) := by decide +kernel
theorem dX0_part_164 : decode cX0_part 164 = .ok (.iload 6, 2) := by decide +kernel
theorem dX0_part_166 : decode cX0_part 166 = .ok (.goto 9, 3) := by decide +kernel
theorem dX0_part_169 : decode cX0_part 169 = .ok (.aload_n 0, 1) := by decide +kernel
theorem dX0_part_170 : decode cX0_part 170 = .ok (.getfield 38, 3) := by decide +kernel
theorem dX0_part_173 : decode cX0_part 173 = .ok (.iload_n 1, 1) := by decide +kernel
theorem dX0_part_174 : decode cX0_part 174 = .ok (.iaload, 1) := by decide +kernel
theorem dX0_part_175 : decode cX0_part 175 = .ok (.iastore, 1) := by decide +kernel
theorem dX0_part_176 : decode cX0_part 176 = .ok (.aload_n 0, 1) := by decide +kernel
theorem dX0_part_177 : decode cX0_part 177 = .ok (.getfield 41, 3) := by decide +kernel
theorem dX0_part_180 : decode cX0_part 180 = .ok (.iload_n 1, 1) := by decide +kernel
theorem dX0_part_181 : decode cX0_part 181 = .ok (.aload_n 0, 1) := by decide +kernel
theorem dX0_part_182 : decode cX0_part 182 = .ok (.getfield 41, 3) := by decide +kernel
theorem dX0_part_185 : decode cX0_part 185 = .ok (.iload_n 1, 1) := by decide +kernel
theorem dX0_part_186 : decode cX0_part 186 = .ok (.iaload, 1) := by decide +kernel
theorem dX0_part_187 : decode cX0_part 187 = .ok (.aload_n 0, 1) := by decide +kernel
theorem dX0_part_188 : decode cX0_part 188 = .ok (.getfield 41, 3) := by decide +kernel
theorem dX0_part_191 : decode cX0_part 191 = .ok (.iload_n 2, 1) := by decide +kernel
theorem dX0_part_192 : decode cX0_part 192 = .ok (.iaload, 1) := by decide +kernel
theorem dX0_part_193 : decode cX0_part 193 = .ok (.aload_n 0, 1) := by decide +kernel
theorem dX0_part_194 : decode cX0_part 194 = .ok (.getfield 41, 3) := by decide +kernel
theorem dX0_part_197 : decode cX0_part 197 = .ok (.iload_n 3, 1) := by decide +kernel
theorem dX0_part_198 : decode cX0_part 198 = .ok (.iaload, 1) := by decide +kernel
theorem dX0_part_199 : decode cX0_part 199 = .ok (.imul, 1) := by decide +kernel
theorem dX0_part_200 : decode cX0_part 200 = .ok (.iadd, 1) := by decide +kernel
theorem dX0_part_201 : decode cX0_part 201 = .ok (.iastore, 1) := by decide +kernel
theorem dX0_part_202 : decode cX0_part 202 = .ok (.iload_n 3, 1) := by decide +kernel
theorem dX0_part_203 : decode cX0_part 203 = .ok (.iload_n 3, 1) := by decide +kernel
theorem dX0_part_204 : decode cX0_part 204 = .ok (.iconst 1, 1) := by decide +kernel
theorem dX0_part_205 : decode cX0_part 205 = .ok (.isub, 1) := by decide +kernel
theorem dX0_part_206 : decode cX0_part 206 = .ok (.iand, 1) := by decide +kernel
theorem dX0_part_207 : decode cX0_part 207 = .ok (.ifCond .ne 46, 3) := by decide +kernel
theorem dX0_part_210 : decode cX0_part 210 = .ok (.aload_n 0, 1) := by decide +kernel
theorem dX0_part_211 : decode cX0_part 211 = .ok (.getfield 32, 3) := by decide +kernel
theorem dX0_part_214 : decode cX0_part 214 = .ok (.iload_n 2, 1) := by decide +kernel
theorem dX0_part_215 : decode cX0_part 215 = .ok (.iaload, 1) := by decide +kernel
theorem dX0_part_216 : decode cX0_part 216 = .ok (.aload_n 0, 1) := by decide +kernel
theorem dX0_part_217 : decode cX0_part 217 = .ok (.getfield 20, 3) := by decide +kernel
theorem dX0_part_220 : decode cX0_part 220 = .ok (.iload_n 1, 1) := by decide +kernel
theorem dX0_part_221 : decode cX0_part 221 = .ok (.iaload, 1) := by decide +kernel
theorem dX0_part_222 : decode cX0_part 222 = .ok (.iadd, 1) := by decide +kernel
theorem dX0_part_223 : decode cX0_part 223 = .ok (.istore 7, 2) := by decide +kernel
theorem dX0_part_225 : decode cX0_part 225 = .ok (.aload_n 0, 1) := by decide +kernel
theorem dX0_part_226 : decode cX0_part 226 = .ok (.getfield 32, 3) := by decide +kernel
theorem dX0_part_229 : decode cX0_part 229 = .ok (.iload_n 1, 1) := by decide +kernel
theorem dX0_part_230 : decode cX0_part 230 = .ok (.iload 7, 2) := by decide +kernel
theorem dX0_part_232 : decode cX0_part 232 = .ok (.aload_n 0, 1) := by decide +kernel
theorem dX0_part_233 : decode cX0_part 233 = .ok (.getfield 32, 3) := by decide +kernel
theorem dX0_part_236 : decode cX0_part 236 = .ok (.iload_n 1, 1) := by decide +kernel
theorem dX0_part_237 : decode cX0_part 237 = .ok (.iaload, 1) := by decide +kernel
theorem dX0_part_238 : decode cX0_part 238 = .ok (.if_icmp .ge 8, 3) := by decide +kernel
theorem dX0_part_241 : decode cX0_part 241 = .ok (.iload 7, 2) := by decide +kernel
theorem dX0_part_243 : decode cX0_part 243 = .ok (.goto 9, 3) := by decide +kernel
theorem dX0_part_246 : decode cX0_part 246 = .ok (.aload_n 0, 1) := by decide +kernel
theorem dX0_part_247 : decode cX0_part 247 = .ok (.getfield 32, 3) := by decide +kernel
theorem dX0_part_250 : decode cX0_part 250 = .ok (.iload_n 1, 1) := by decide +kernel
theorem dX0_part_251 : decode cX0_part 251 = .ok (.iaload, 1) := by decide +kernel
theorem dX0_part_252 : decode cX0_part 252 = .ok (.iastore, 1) := by decide +kernel
theorem dX0_part_253 : decode cX0_part 253 = .ok (.aload_n 0, 1) := by decide +kernel
theorem dX0_part_254 : decode cX0_part 254 = .ok (.iload_n 2, 1) := by decide +kernel
theorem dX0_part_255 : decode cX0_part 255 = .ok (.invokevirtual 66, 3) := by decide +kernel
theorem dX0_part_258 : decode cX0_part 258 = .ok (.istore 7, 2) := by decide +kernel
theorem dX0_part_260 : decode cX0_part 260 = .ok (.iload 7, 2) := by decide +kernel
theorem dX0_part_262 : decode cX0_part 262 = .ok (.iload_n 3, 1) := by decide +kernel
theorem dX0_part_263 : decode cX0_part 263 = .ok (.iand, 1) := by decide +kernel
theorem dX0_part_264 : decode cX0_part 264 = .ok (.ifCond .eq 10, 3) := by decide +kernel
theorem dX0_part_267 : decode cX0_part 267 = .ok (.aload_n 0, 1) := by decide +kernel
theorem dX0_part_268 : decode cX0_part 268 = .ok (.iload_n 1, 1) := by decide +kernel
theorem dX0_part_269 : decode cX0_part 269 = .ok (.iload_n 2, 1) := by decide +kernel
theorem dX0_part_270 : decode cX0_part 270 = .ok (.iload_n 3, 1) := by decide +kernel
theorem dX0_part_271 : decode cX0_part 271 = .ok (.invokevirtual 70, 3) := by decide +kernel
theorem dX0_part_274 : decode cX0_part 274 = .ok (.return_, 1) := by decide +kernel
theorem dX0_partLinked_0 : decode cX0_partLinked 0 = .ok (.aload_n 0, 1) := by decide +kernel
theorem dX0_partLinked_1 : decode cX0_partLinked 1 = .ok (.getfield 44, 3) := by decide +kernel
theorem dX0_partLinked_4 : decode cX0_partLinked 4 = .ok (.iload_n 1, 1) := by decide +kernel
theorem dX0_partLinked_5 : decode cX0_partLinked 5 = .ok (.aload_n 0, 1) := by decide +kernel
theorem dX0_partLinked_6 : decode cX0_partLinked 6 = .ok (.getfield 44, 3) := by decide +kernel
theorem dX0_partLinked_9 : decode cX0_partLinked 9 = .ok (.iload_n 1, 1) := by decide +kernel
theorem dX0_partLinked_10 : decode cX0_partLinked 10 = .ok (.iaload, 1) := by decide +kernel
theorem dX0_partLinked_11 : decode cX0_partLinked 11 = .ok (.aload_n 0, 1) := by decide +kernel
theorem dX0_partLinked_12 : decode cX0_partLinked 12 = .ok (.getfield 44, 3) := by decide +kernel
theorem dX0_partLinked_15 : decode cX0_partLinked 15 = .ok (.iload_n 2, 1) := by decide +kernel
theorem dX0_partLinked_16 : decode cX0_partLinked 16 = .ok (.iaload, 1) := by decide +kernel
theorem dX0_partLinked_17 : decode cX0_partLinked 17 = .ok (.aload_n 0, 1) := by decide +kernel
theorem dX0_partLinked_18 : decode cX0_partLinked 18 = .ok (.getfield 44, 3) := by decide +kernel
theorem dX0_partLinked_21 : decode cX0_partLinked 21 = .ok (.iload_n 3, 1) := by decide +kernel
theorem dX0_partLinked_22 : decode cX0_partLinked 22 = .ok (.iaload, 1) := by decide +kernel
theorem dX0_partLinked_23 : decode cX0_partLinked 23 = .ok (.imul, 1) := by decide +kernel
theorem dX0_partLinked_24 : decode cX0_partLinked 24 = .ok (.iadd, 1) := by decide +kernel
theorem dX0_partLinked_25 : decode cX0_partLinked 25 = .ok (.iastore, 1) := by decide +kernel
theorem dX0_partLinked_26 : decode cX0_partLinked 26 = .ok (.aload_n 0, 1) := by decide +kernel
theorem dX0_partLinked_27 : decode cX0_partLinked 27 = .ok (.getfield 35, 3) := by decide +kernel
theorem dX0_partLinked_30 : decode cX0_partLinked 30 = .ok (.iload_n 2, 1) := by decide +kernel
theorem dX0_partLinked_31 : decode cX0_partLinked 31 = .ok (.iaload, 1) := by decide +kernel
theorem dX0_partLinked_32 : decode cX0_partLinked 32 = .ok (.ldc 74, 2) := by decide +kernel
theorem dX0_partLinked_34 : decode cX0_partLinked 34 = .ok (.if_icmp .ge 64, 3) := by decide +kernel
theorem dX0_partLinked_37 : decode cX0_partLinked 37 = .ok (.aload_n 0, 1) := by decide +kernel
theorem dX0_partLinked_38 : decode cX0_partLinked 38 = .ok (.getfield 35, 3) := by decide +kernel
theorem dX0_partLinked_41 : decode cX0_partLinked 41 = .ok (.iload_n 3, 1) := by decide +kernel
theorem dX0_partLinked_42 : decode cX0_partLinked 42 = .ok (.iaload, 1) := by decide +kernel
theorem dX0_partLinked_43 : decode cX0_partLinked 43 = .ok (.ldc 74, 2) := by decide +kernel
theorem dX0_partLinked_45 : decode cX0_partLinked 45 = .ok (.if_icmp .ge 53, 3) := by decide +kernel
theorem dX0_partLinked_48 : decode cX0_partLinked 48 = .ok (.aload_n 0, 1) := by decide +kernel
theorem dX0_partLinked_49 : decode cX0_partLinked 49 = .ok (.getfield 35, 3) := by decide +kernel
theorem dX0_partLinked_52 : decode cX0_partLinked 52 = .ok (.iload_n 2, 1) := by decide +kernel
theorem dX0_partLinked_53 : decode cX0_partLinked 53 = .ok (.iaload, 1) := by decide +kernel
theorem dX0_partLinked_54 : decode cX0_partLinked 54 = .ok (.aload_n 0, 1) := by decide +kernel
theorem dX0_partLinked_55 : decode cX0_partLinked 55 = .ok (.getfield 35, 3) := by decide +kernel
theorem dX0_partLinked_58 : decode cX0_partLinked 58 = .ok (.iload_n 3, 1) := by decide +kernel
theorem dX0_partLinked_59 : decode cX0_partLinked 59 = .ok (.iaload, 1) := by decide +kernel
theorem dX0_partLinked_60 : decode cX0_partLinked 60 = .ok (.iadd, 1) := by decide +kernel
theorem dX0_partLinked_61 : decode cX0_partLinked 61 = .ok (.aload_n 0, 1) := by decide +kernel
theorem dX0_partLinked_62 : decode cX0_partLinked 62 = .ok (.getfield 20, 3) := by decide +kernel
theorem dX0_partLinked_65 : decode cX0_partLinked 65 = .ok (.iload_n 1, 1) := by decide +kernel
theorem dX0_partLinked_66 : decode cX0_partLinked 66 = .ok (.iaload, 1) := by decide +kernel
theorem dX0_partLinked_67 : decode cX0_partLinked 67 = .ok (.iadd, 1) := by decide +kernel
theorem dX0_partLinked_68 : decode cX0_partLinked 68 = .ok (.istore 4, 2) := by decide +kernel
theorem dX0_partLinked_70 : decode cX0_partLinked 70 = .ok (.aload_n 0, 1) := by decide +kernel
theorem dX0_partLinked_71 : decode cX0_partLinked 71 = .ok (.getfield 35, 3) := by decide +kernel
theorem dX0_partLinked_74 : decode cX0_partLinked 74 = .ok (.iload_n 1, 1) := by decide +kernel
theorem dX0_partLinked_75 : decode cX0_partLinked 75 = .ok (.iload 4, 2) := by decide +kernel
theorem dX0_partLinked_77 : decode cX0_partLinked 77 = .ok (.aload_n 0, 1) := by decide +kernel
theorem dX0_partLinked_78 : decode cX0_partLinked 78 = .ok (.getfield 35, 3) := by decide +kernel
theorem dX0_partLinked_81 : decode cX0_partLinked 81 = .ok (.iload_n 1, 1) := by decide +kernel
theorem dX0_partLinked_82 : decode cX0_partLinked 82 = .ok (.iaload, 1) := by decide +kernel
theorem dX0_partLinked_83 : decode cX0_partLinked 83 = .ok (.if_icmp .ge 8, 3) := by decide +kernel
theorem dX0_partLinked_86 : decode cX0_partLinked 86 = .ok (.iload 4, 2) := by decide +kernel
theorem dX0_partLinked_88 : decode cX0_partLinked 88 = .ok (.goto 9, 3) := by decide +kernel
theorem dX0_partLinked_91 : decode cX0_partLinked 91 = .ok (.aload_n 0, 1) := by decide +kernel
theorem dX0_partLinked_92 : decode cX0_partLinked 92 = .ok (.getfield 35, 3) := by decide +kernel
theorem dX0_partLinked_95 : decode cX0_partLinked 95 = .ok (.iload_n 1, 1) := by decide +kernel
theorem dX0_partLinked_96 : decode cX0_partLinked 96 = .ok (.iaload, 1) := by decide +kernel
theorem dX0_partLinked_97 : decode cX0_partLinked 97 = .ok (.iastore, 1) := by decide +kernel
theorem dX0_partLinked_98 : decode cX0_partLinked 98 = .ok (.return_, 1) := by decide +kernel
theorem dX0_linearCost_0 : decode cX0_linearCost 0 = .ok (.aload_n 0, 1) := by decide +kernel
theorem dX0_linearCost_1 : decode cX0_linearCost 1 = .ok (.iload_n 1, 1) := by decide +kernel
theorem dX0_linearCost_2 : decode cX0_linearCost 2 = .ok (.invokevirtual 88, 3) := by decide +kernel
theorem dX0_linearCost_5 : decode cX0_linearCost 5 = .ok (.ifCond .eq 5, 3) := by decide +kernel
theorem dX0_linearCost_8 : decode cX0_linearCost 8 = .ok (.iconst (-1), 1) := by decide +kernel
theorem dX0_linearCost_9 : decode cX0_linearCost 9 = .ok (.ireturn, 1) := by decide +kernel
theorem dX0_linearCost_10 : decode cX0_linearCost 10 = .ok (.aload_n 0, 1) := by decide +kernel
theorem dX0_linearCost_11 : decode cX0_linearCost 11 = .ok (.invokevirtual 91, 3) := by decide +kernel
theorem dX0_linearCost_14 : decode cX0_linearCost 14 = .ok (.aload_n 0, 1) := by decide +kernel
theorem dX0_linearCost_15 : decode cX0_linearCost 15 = .ok (.getfield 32, 3) := by decide +kernel
theorem dX0_linearCost_18 : decode cX0_linearCost 18 = .ok (.iload_n 1, 1) := by decide +kernel
theorem dX0_linearCost_19 : decode cX0_linearCost 19 = .ok (.iaload, 1) := by decide +kernel
theorem dX0_linearCost_20 : decode cX0_linearCost 20 = .ok (.ireturn, 1) := by decide +kernel
theorem dX0_linkedCost_0 : decode cX0_linkedCost 0 = .ok (.aload_n 0, 1) := by decide +kernel
theorem dX0_linkedCost_1 : decode cX0_linkedCost 1 = .ok (.iload_n 1, 1) := by decide +kernel
theorem dX0_linkedCost_2 : decode cX0_linkedCost 2 = .ok (.invokevirtual 88, 3) := by decide +kernel
theorem dX0_linkedCost_5 : decode cX0_linkedCost 5 = .ok (.ifCond .eq 5, 3) := by decide +kernel
theorem dX0_linkedCost_8 : decode cX0_linkedCost 8 = .ok (.iconst (-1), 1) := by decide +kernel
theorem dX0_linkedCost_9 : decode cX0_linkedCost 9 = .ok (.ireturn, 1) := by decide +kernel
theorem dX0_linkedCost_10 : decode cX0_linkedCost 10 = .ok (.aload_n 0, 1) := by decide +kernel
theorem dX0_linkedCost_11 : decode cX0_linkedCost 11 = .ok (.invokevirtual 91, 3) := by decide +kernel
theorem dX0_linkedCost_14 : decode cX0_linkedCost 14 = .ok (.aload_n 0, 1) := by decide +kernel
theorem dX0_linkedCost_15 : decode cX0_linkedCost 15 = .ok (.getfield 35, 3) := by decide +kernel
theorem dX0_linkedCost_18 : decode cX0_linkedCost 18 = .ok (.iload_n 1, 1) := by decide +kernel
theorem dX0_linkedCost_19 : decode cX0_linkedCost 19 = .ok (.iaload, 1) := by decide +kernel
theorem dX0_linkedCost_20 : decode cX0_linkedCost 20 = .ok (.ldc 74, 2) := by decide +kernel
theorem dX0_linkedCost_22 : decode cX0_linkedCost 22 = .ok (.if_icmp .ne 8, 3) := by decide +kernel
theorem dX0_linkedCost_25 : decode cX0_linkedCost 25 = .ok (.bipush (-4), 2) := by decide +kernel
theorem dX0_linkedCost_27 : decode cX0_linkedCost 27 = .ok (.goto 9, 3) := by decide +kernel
theorem dX0_linkedCost_30 : decode cX0_linkedCost 30 = .ok (.aload_n 0, 1) := by decide +kernel
theorem dX0_linkedCost_31 : decode cX0_linkedCost 31 = .ok (.getfield 35, 3) := by decide +kernel
theorem dX0_linkedCost_34 : decode cX0_linkedCost 34 = .ok (.iload_n 1, 1) := by decide +kernel
theorem dX0_linkedCost_35 : decode cX0_linkedCost 35 = .ok (.iaload, 1) := by decide +kernel
theorem dX0_linkedCost_36 : decode cX0_linkedCost 36 = .ok (.ireturn, 1) := by decide +kernel
theorem dX0_worst_0 : decode cX0_worst 0 = .ok (.aload_n 0, 1) := by decide +kernel
theorem dX0_worst_1 : decode cX0_worst 1 = .ok (.iload_n 1, 1) := by decide +kernel
theorem dX0_worst_2 : decode cX0_worst 2 = .ok (.invokevirtual 88, 3) := by decide +kernel
theorem dX0_worst_5 : decode cX0_worst 5 = .ok (.ifCond .eq 5, 3) := by decide +kernel
theorem dX0_worst_8 : decode cX0_worst 8 = .ok (.iconst (-1), 1) := by decide +kernel
theorem dX0_worst_9 : decode cX0_worst 9 = .ok (.ireturn, 1) := by decide +kernel
theorem dX0_worst_10 : decode cX0_worst 10 = .ok (.aload_n 0, 1) := by decide +kernel
theorem dX0_worst_11 : decode cX0_worst 11 = .ok (.invokevirtual 91, 3) := by decide +kernel
theorem dX0_worst_14 : decode cX0_worst 14 = .ok (.aload_n 0, 1) := by decide +kernel
theorem dX0_worst_15 : decode cX0_worst 15 = .ok (.getfield 38, 3) := by decide +kernel
theorem dX0_worst_18 : decode cX0_worst 18 = .ok (.iload_n 1, 1) := by decide +kernel
theorem dX0_worst_19 : decode cX0_worst 19 = .ok (.iaload, 1) := by decide +kernel
theorem dX0_worst_20 : decode cX0_worst 20 = .ok (.ireturn, 1) := by decide +kernel
theorem dX0_left_0 : decode cX0_left 0 = .ok (.aload_n 0, 1) := by decide +kernel
theorem dX0_left_1 : decode cX0_left 1 = .ok (.iload_n 1, 1) := by decide +kernel
theorem dX0_left_2 : decode cX0_left 2 = .ok (.invokevirtual 88, 3) := by decide +kernel
theorem dX0_left_5 : decode cX0_left 5 = .ok (.ifCond .eq 5, 3) := by decide +kernel
theorem dX0_left_8 : decode cX0_left 8 = .ok (.iconst (-1), 1) := by decide +kernel
theorem dX0_left_9 : decode cX0_left 9 = .ok (.ireturn, 1) := by decide +kernel
theorem dX0_left_10 : decode cX0_left 10 = .ok (.aload_n 0, 1) := by decide +kernel
theorem dX0_left_11 : decode cX0_left 11 = .ok (.invokevirtual 91, 3) := by decide +kernel
theorem dX0_left_14 : decode cX0_left 14 = .ok (.aload_n 0, 1) := by decide +kernel
theorem dX0_left_15 : decode cX0_left 15 = .ok (.getfield 26, 3) := by decide +kernel
theorem dX0_left_18 : decode cX0_left 18 = .ok (.iload_n 1, 1) := by decide +kernel
theorem dX0_left_19 : decode cX0_left 19 = .ok (.iaload, 1) := by decide +kernel
theorem dX0_left_20 : decode cX0_left 20 = .ok (.ireturn, 1) := by decide +kernel
theorem dX0_linearTable_0 : decode cX0_linearTable 0 = .ok (.aload_n 0, 1) := by decide +kernel
theorem dX0_linearTable_1 : decode cX0_linearTable 1 = .ok (.iload_n 1, 1) := by decide +kernel
theorem dX0_linearTable_2 : decode cX0_linearTable 2 = .ok (.invokevirtual 88, 3) := by decide +kernel
theorem dX0_linearTable_5 : decode cX0_linearTable 5 = .ok (.ifCond .eq 5, 3) := by decide +kernel
theorem dX0_linearTable_8 : decode cX0_linearTable 8 = .ok (.iconst (-1), 1) := by decide +kernel
theorem dX0_linearTable_9 : decode cX0_linearTable 9 = .ok (.ireturn, 1) := by decide +kernel
theorem dX0_linearTable_10 : decode cX0_linearTable 10 = .ok (.aload_n 0, 1) := by decide +kernel
theorem dX0_linearTable_11 : decode cX0_linearTable 11 = .ok (.invokevirtual 91, 3) := by decide +kernel
theorem dX0_linearTable_14 : decode cX0_linearTable 14 = .ok (.aload_n 0, 1) := by decide +kernel
theorem dX0_linearTable_15 : decode cX0_linearTable 15 = .ok (.iload_n 1, 1) := by decide +kernel
theorem dX0_linearTable_16 : decode cX0_linearTable 16 = .ok (.invokevirtual 94, 3) := by decide +kernel
theorem dX0_linearTable_19 : decode cX0_linearTable 19 = .ok (.iconst 0, 1) := by decide +kernel
theorem dX0_linearTable_20 : decode cX0_linearTable 20 = .ok (.istore_n 3, 1) := by decide +kernel
theorem dX0_linearTable_21 : decode cX0_linearTable 21 = .ok (.aload_n 0, 1) := by decide +kernel
theorem dX0_linearTable_22 : decode cX0_linearTable 22 = .ok (.getfield 32, 3) := by decide +kernel
theorem dX0_linearTable_25 : decode cX0_linearTable 25 = .ok (.iload_n 1, 1) := by decide +kernel
theorem dX0_linearTable_26 : decode cX0_linearTable 26 = .ok (.iaload, 1) := by decide +kernel
theorem dX0_linearTable_27 : decode cX0_linearTable 27 = .ok (.istore 4, 2) := by decide +kernel
theorem dX0_linearTable_29 : decode cX0_linearTable 29 = .ok (.bipush (-4), 2) := by decide +kernel
theorem dX0_linearTable_31 : decode cX0_linearTable 31 = .ok (.istore 5, 2) := by decide +kernel
theorem dX0_linearTable_33 : decode cX0_linearTable 33 = .ok (.iconst 0, 1) := by decide +kernel
theorem dX0_linearTable_34 : decode cX0_linearTable 34 = .ok (.istore 6, 2) := by decide +kernel
theorem dX0_linearTable_36 : decode cX0_linearTable 36 = .ok (.iload 6, 2) := by decide +kernel
theorem dX0_linearTable_38 : decode cX0_linearTable 38 = .ok (.iload_n 2, 1) := by decide +kernel
theorem dX0_linearTable_39 : decode cX0_linearTable 39 = .ok (.if_icmp .gt 132, 3) := by decide +kernel
theorem dX0_linearTable_42 : decode cX0_linearTable 42 = .ok (.iload_n 3, 1) := by decide +kernel
theorem dX0_linearTable_43 : decode cX0_linearTable 43 = .ok (.iload_n 1, 1) := by decide +kernel
theorem dX0_linearTable_44 : decode cX0_linearTable 44 = .ok (.if_icmp .eq 127, 3) := by decide +kernel
theorem dX0_linearTable_47 : decode cX0_linearTable 47 = .ok (.bipush (-4), 2) := by decide +kernel
theorem dX0_linearTable_49 : decode cX0_linearTable 49 = .ok (.istore 5, 2) := by decide +kernel
theorem dX0_linearTable_51 : decode cX0_linearTable 51 = .ok (.iconst 4, 1) := by decide +kernel
theorem dX0_linearTable_52 : decode cX0_linearTable 52 = .ok (.istore 7, 2) := by decide +kernel
theorem dX0_linearTable_54 : decode cX0_linearTable 54 = .ok (.iload 7, 2) := by decide +kernel
theorem dX0_linearTable_56 : decode cX0_linearTable 56 = .ok (.ifCond .lt 69, 3) := by decide +kernel
theorem dX0_linearTable_59 : decode cX0_linearTable 59 = .ok (.iload_n 3, 1) := by decide +kernel
theorem dX0_linearTable_60 : decode cX0_linearTable 60 = .ok (.iconst 1, 1) := by decide +kernel
theorem dX0_linearTable_61 : decode cX0_linearTable 61 = .ok (.iload 7, 2) := by decide +kernel
theorem dX0_linearTable_63 : decode cX0_linearTable 63 = .ok (.ishl, 1) := by decide +kernel
theorem dX0_linearTable_64 : decode cX0_linearTable 64 = .ok (.ior, 1) := by decide +kernel
theorem dX0_linearTable_65 : decode cX0_linearTable 65 = .ok (.istore 8, 2) := by decide +kernel
theorem dX0_linearTable_67 : decode cX0_linearTable 67 = .ok (.iload_n 3, 1) := by decide +kernel
theorem dX0_linearTable_68 : decode cX0_linearTable 68 = .ok (.ifCond .ne 7, 3) := by decide +kernel
theorem dX0_linearTable_71 : decode cX0_linearTable 71 = .ok (.iconst 0, 1) := by decide +kernel
theorem dX0_linearTable_72 : decode cX0_linearTable 72 = .ok (.goto 10, 3) := by decide +kernel
theorem dX0_linearTable_75 : decode cX0_linearTable 75 = .ok (.aload_n 0, 1) := by decide +kernel
theorem dX0_linearTable_76 : decode cX0_linearTable 76 = .ok (.getfield 20, 3) := by decide +kernel
theorem dX0_linearTable_79 : decode cX0_linearTable 79 = .ok (.iload 8, 2) := by decide +kernel
theorem dX0_linearTable_81 : decode cX0_linearTable 81 = .ok (.iaload, 1) := by decide +kernel
theorem dX0_linearTable_82 : decode cX0_linearTable 82 = .ok (.istore 9, 2) := by decide +kernel
theorem dX0_linearTable_84 : decode cX0_linearTable 84 = .ok (.iload_n 1, 1) := by decide +kernel
theorem dX0_linearTable_85 : decode cX0_linearTable 85 = .ok (.iload 7, 2) := by decide +kernel
theorem dX0_linearTable_87 : decode cX0_linearTable 87 = .ok (.ishr, 1) := by decide +kernel
theorem dX0_linearTable_88 : decode cX0_linearTable 88 = .ok (.iconst 1, 1) := by decide +kernel
theorem dX0_linearTable_89 : decode cX0_linearTable 89 = .ok (.iand, 1) := by decide +kernel
theorem dX0_linearTable_90 : decode cX0_linearTable 90 = .ok (.iconst 1, 1) := by decide +kernel
theorem dX0_linearTable_91 : decode cX0_linearTable 91 = .ok (.if_icmp .ne 28, 3) := by decide +kernel
theorem dX0_linearTable_94 : decode cX0_linearTable 94 = .ok (.iload 8, 2) := by decide +kernel
theorem dX0_linearTable_96 : decode cX0_linearTable 96 = .ok (.iload_n 3, 1) := by decide +kernel
theorem dX0_linearTable_97 : decode cX0_linearTable 97 = .ok (.if_icmp .eq 22, 3) := by decide +kernel
theorem dX0_linearTable_100 : decode cX0_linearTable 100 = .ok (.iload 9, 2) := by decide +kernel
theorem dX0_linearTable_102 : decode cX0_linearTable 102 = .ok (.aload_n 0, 1) := by decide +kernel
theorem dX0_linearTable_103 : decode cX0_linearTable 103 = .ok (.getfield 47, 3) := by decide +kernel
theorem dX0_linearTable_106 : decode cX0_linearTable 106 = .ok (.iload 8, 2) := by decide +kernel
theorem dX0_linearTable_108 : decode cX0_linearTable 108 = .ok (.iaload, 1) := by decide +kernel
theorem dX0_linearTable_109 : decode cX0_linearTable 109 = .ok (.iadd, 1) := by decide +kernel
theorem dX0_linearTable_110 : decode cX0_linearTable 110 = .ok (.iload 4, 2) := by decide +kernel
theorem dX0_linearTable_112 : decode cX0_linearTable 112 = .ok (.if_icmp .ne 7, 3) := by decide +kernel
theorem dX0_linearTable_115 : decode cX0_linearTable 115 = .ok (.iload 7, 2) := by decide +kernel
theorem dX0_linearTable_117 : decode cX0_linearTable 117 = .ok (.istore 5, 2) := by decide +kernel
theorem dX0_linearTable_119 : decode cX0_linearTable 119 = .ok (.iinc 7 (-1), 3) := by decide +kernel
theorem dX0_linearTable_122 : decode cX0_linearTable 122 = .ok (.goto (-68), 3) := by decide +kernel
theorem dX0_linearTable_125 : decode cX0_linearTable 125 = .ok (.iload 4, 2) := by decide +kernel
theorem dX0_linearTable_127 : decode cX0_linearTable 127 = .ok (.iload_n 3, 1) := by decide +kernel
theorem dX0_linearTable_128 : decode cX0_linearTable 128 = .ok (.ifCond .ne 7, 3) := by decide +kernel
theorem dX0_linearTable_131 : decode cX0_linearTable 131 = .ok (.iconst 0, 1) := by decide +kernel
theorem dX0_linearTable_132 : decode cX0_linearTable 132 = .ok (.goto 14, 3) := by decide +kernel
theorem dX0_linearTable_135 : decode cX0_linearTable 135 = .ok (.aload_n 0, 1) := by decide +kernel
theorem dX0_linearTable_136 : decode cX0_linearTable 136 = .ok (.getfield 20, 3) := by decide +kernel
theorem dX0_linearTable_139 : decode cX0_linearTable 139 = .ok (.iload_n 3, 1) := by decide +kernel
theorem dX0_linearTable_140 : decode cX0_linearTable 140 = .ok (.iconst 1, 1) := by decide +kernel
theorem dX0_linearTable_141 : decode cX0_linearTable 141 = .ok (.iload 5, 2) := by decide +kernel
theorem dX0_linearTable_143 : decode cX0_linearTable 143 = .ok (.ishl, 1) := by decide +kernel
theorem dX0_linearTable_144 : decode cX0_linearTable 144 = .ok (.ior, 1) := by decide +kernel
theorem dX0_linearTable_145 : decode cX0_linearTable 145 = .ok (.iaload, 1) := by decide +kernel
theorem dX0_linearTable_146 : decode cX0_linearTable 146 = .ok (.isub, 1) := by decide +kernel
theorem dX0_linearTable_147 : decode cX0_linearTable 147 = .ok (.istore 4, 2) := by decide +kernel
theorem dX0_linearTable_149 : decode cX0_linearTable 149 = .ok (.iload_n 3, 1) := by decide +kernel
theorem dX0_linearTable_150 : decode cX0_linearTable 150 = .ok (.iconst 1, 1) := by decide +kernel
theorem dX0_linearTable_151 : decode cX0_linearTable 151 = .ok (.iload 5, 2) := by decide +kernel
theorem dX0_linearTable_153 : decode cX0_linearTable 153 = .ok (.ishl, 1) := by decide +kernel
theorem dX0_linearTable_154 : decode cX0_linearTable 154 = .ok (.ior, 1) := by decide +kernel
theorem dX0_linearTable_155 : decode cX0_linearTable 155 = .ok (.istore_n 3, 1) := by decide +kernel
theorem dX0_linearTable_156 : decode cX0_linearTable 156 = .ok (.iload 6, 2) := by decide +kernel
theorem dX0_linearTable_158 : decode cX0_linearTable 158 = .ok (.iload_n 2, 1) := by decide +kernel
theorem dX0_linearTable_159 : decode cX0_linearTable 159 = .ok (.if_icmp .ne 6, 3) := by decide +kernel
theorem dX0_linearTable_162 : decode cX0_linearTable 162 = .ok (.iload 5, 2) := by decide +kernel
theorem dX0_linearTable_164 : decode cX0_linearTable 164 = .ok (.ireturn, 1) := by decide +kernel
theorem dX0_linearTable_165 : decode cX0_linearTable 165 = .ok (.iinc 6 1, 3) := by decide +kernel
theorem dX0_linearTable_168 : decode cX0_linearTable 168 = .ok (.goto (-132), 3) := by decide +kernel
theorem dX0_linearTable_171 : decode cX0_linearTable 171 = .ok (.bipush (-4), 2) := by decide +kernel
theorem dX0_linearTable_173 : decode cX0_linearTable 173 = .ok (.ireturn, 1) := by decide +kernel
theorem dX0_fillAhead_0 : decode cX0_fillAhead 0 = .ok (.iload_n 1, 1) := by decide +kernel
theorem dX0_fillAhead_1 : decode cX0_fillAhead 1 = .ok (.istore_n 2, 1) := by decide +kernel
theorem dX0_fillAhead_2 : decode cX0_fillAhead 2 = .ok (.iload_n 2, 1) := by decide +kernel
theorem dX0_fillAhead_3 : decode cX0_fillAhead 3 = .ok (.ifCond .le 109, 3) := by decide +kernel
theorem dX0_fillAhead_6 : decode cX0_fillAhead 6 = .ok (.aload_n 0, 1) := by decide +kernel
theorem dX0_fillAhead_7 : decode cX0_fillAhead 7 = .ok (.getfield 47, 3) := by decide +kernel
theorem dX0_fillAhead_10 : decode cX0_fillAhead 10 = .ok (.iload_n 2, 1) := by decide +kernel
theorem dX0_fillAhead_11 : decode cX0_fillAhead 11 = .ok (.iload_n 2, 1) := by decide +kernel
theorem dX0_fillAhead_12 : decode cX0_fillAhead 12 = .ok (.iload_n 1, 1) := by decide +kernel
theorem dX0_fillAhead_13 : decode cX0_fillAhead 13 = .ok (.if_icmp .ne 7, 3) := by decide +kernel
theorem dX0_fillAhead_16 : decode cX0_fillAhead 16 = .ok (.iconst 0, 1) := by decide +kernel
theorem dX0_fillAhead_17 : decode cX0_fillAhead 17 = .ok (.goto 5, 3) := by decide +kernel
theorem dX0_fillAhead_20 : decode cX0_fillAhead 20 = .ok (.ldc 74, 2) := by decide +kernel
theorem dX0_fillAhead_22 : decode cX0_fillAhead 22 = .ok (.iastore, 1) := by decide +kernel
theorem dX0_fillAhead_23 : decode cX0_fillAhead 23 = .ok (.iconst 0, 1) := by decide +kernel
theorem dX0_fillAhead_24 : decode cX0_fillAhead 24 = .ok (.istore_n 3, 1) := by decide +kernel
theorem dX0_fillAhead_25 : decode cX0_fillAhead 25 = .ok (.iload_n 3, 1) := by decide +kernel
theorem dX0_fillAhead_26 : decode cX0_fillAhead 26 = .ok (.iconst 5, 1) := by decide +kernel
theorem dX0_fillAhead_27 : decode cX0_fillAhead 27 = .ok (.if_icmp .ge 76, 3) := by decide +kernel
theorem dX0_fillAhead_30 : decode cX0_fillAhead 30 = .ok (.iload_n 2, 1) := by decide +kernel
theorem dX0_fillAhead_31 : decode cX0_fillAhead 31 = .ok (.iconst 1, 1) := by decide +kernel
theorem dX0_fillAhead_32 : decode cX0_fillAhead 32 = .ok (.iload_n 3, 1) := by decide +kernel
theorem dX0_fillAhead_33 : decode cX0_fillAhead 33 = .ok (.ishl, 1) := by decide +kernel
theorem dX0_fillAhead_34 : decode cX0_fillAhead 34 = .ok (.ior, 1) := by decide +kernel
theorem dX0_fillAhead_35 : decode cX0_fillAhead 35 = .ok (.istore 4, 2) := by decide +kernel
theorem dX0_fillAhead_37 : decode cX0_fillAhead 37 = .ok (.iload_n 1, 1) := by decide +kernel
theorem dX0_fillAhead_38 : decode cX0_fillAhead 38 = .ok (.iload_n 3, 1) := by decide +kernel
theorem dX0_fillAhead_39 : decode cX0_fillAhead 39 = .ok (.ishr, 1) := by decide +kernel
theorem dX0_fillAhead_40 : decode cX0_fillAhead 40 = .ok (.iconst 1, 1) := by decide +kernel
theorem dX0_fillAhead_41 : decode cX0_fillAhead 41 = .ok (.iand, 1) := by decide +kernel
theorem dX0_fillAhead_42 : decode cX0_fillAhead 42 = .ok (.iconst 1, 1) := by decide +kernel
theorem dX0_fillAhead_43 : decode cX0_fillAhead 43 = .ok (.if_icmp .ne 54, 3) := by decide +kernel
theorem dX0_fillAhead_46 : decode cX0_fillAhead 46 = .ok (.iload 4, 2) := by decide +kernel
theorem dX0_fillAhead_48 : decode cX0_fillAhead 48 = .ok (.iload_n 2, 1) := by decide +kernel
theorem dX0_fillAhead_49 : decode cX0_fillAhead 49 = .ok (.if_icmp .eq 48, 3) := by decide +kernel
theorem dX0_fillAhead_52 : decode cX0_fillAhead 52 = .ok (.aload_n 0, 1) := by decide +kernel
theorem dX0_fillAhead_53 : decode cX0_fillAhead 53 = .ok (.getfield 47, 3) := by decide +kernel
theorem dX0_fillAhead_56 : decode cX0_fillAhead 56 = .ok (.iload 4, 2) := by decide +kernel
theorem dX0_fillAhead_58 : decode cX0_fillAhead 58 = .ok (.iaload, 1) := by decide +kernel
theorem dX0_fillAhead_59 : decode cX0_fillAhead 59 = .ok (.aload_n 0, 1) := by decide +kernel
theorem dX0_fillAhead_60 : decode cX0_fillAhead 60 = .ok (.getfield 20, 3) := by decide +kernel
theorem dX0_fillAhead_63 : decode cX0_fillAhead 63 = .ok (.iload 4, 2) := by decide +kernel
theorem dX0_fillAhead_65 : decode cX0_fillAhead 65 = .ok (.iaload, 1) := by decide +kernel
theorem dX0_fillAhead_66 : decode cX0_fillAhead 66 = .ok (.iadd, 1) := by decide +kernel
theorem dX0_fillAhead_67 : decode cX0_fillAhead 67 = .ok (.aload_n 0, 1) := by decide +kernel
theorem dX0_fillAhead_68 : decode cX0_fillAhead 68 = .ok (.getfield 47, 3) := by decide +kernel
theorem dX0_fillAhead_71 : decode cX0_fillAhead 71 = .ok (.iload_n 2, 1) := by decide +kernel
theorem dX0_fillAhead_72 : decode cX0_fillAhead 72 = .ok (.iaload, 1) := by decide +kernel
theorem dX0_fillAhead_73 : decode cX0_fillAhead 73 = .ok (.if_icmp .ge 24, 3) := by decide +kernel
theorem dX0_fillAhead_76 : decode cX0_fillAhead 76 = .ok (.aload_n 0, 1) := by decide +kernel
theorem dX0_fillAhead_77 : decode cX0_fillAhead 77 = .ok (.getfield 47, 3) := by decide +kernel
theorem dX0_fillAhead_80 : decode cX0_fillAhead 80 = .ok (.iload_n 2, 1) := by decide +kernel
theorem dX0_fillAhead_81 : decode cX0_fillAhead 81 = .ok (.aload_n 0, 1) := by decide +kernel
theorem dX0_fillAhead_82 : decode cX0_fillAhead 82 = .ok (.getfield 47, 3) := by decide +kernel
theorem dX0_fillAhead_85 : decode cX0_fillAhead 85 = .ok (.iload 4, 2) := by decide +kernel
theorem dX0_fillAhead_87 : decode cX0_fillAhead 87 = .ok (.iaload, 1) := by decide +kernel
theorem dX0_fillAhead_88 : decode cX0_fillAhead 88 = .ok (.aload_n 0, 1) := by decide +kernel
theorem dX0_fillAhead_89 : decode cX0_fillAhead 89 = .ok (.getfield 20, 3) := by decide +kernel
theorem dX0_fillAhead_92 : decode cX0_fillAhead 92 = .ok (.iload 4, 2) := by decide +kernel
theorem dX0_fillAhead_94 : decode cX0_fillAhead 94 = .ok (.iaload, 1) := by decide +kernel
theorem dX0_fillAhead_95 : decode cX0_fillAhead 95 = .ok (.iadd, 1) := by decide +kernel
theorem dX0_fillAhead_96 : decode cX0_fillAhead 96 = .ok (.iastore, 1) := by decide +kernel
theorem dX0_fillAhead_97 : decode cX0_fillAhead 97 = .ok (.iinc 3 1, 3) := by decide +kernel
theorem dX0_fillAhead_100 : decode cX0_fillAhead 100 = .ok (.goto (-75), 3) := by decide +kernel
theorem dX0_fillAhead_103 : decode cX0_fillAhead 103 = .ok (.iload_n 2, 1) := by decide +kernel
theorem dX0_fillAhead_104 : decode cX0_fillAhead 104 = .ok (.iconst 1, 1) := by decide +kernel
theorem dX0_fillAhead_105 : decode cX0_fillAhead 105 = .ok (.isub, 1) := by decide +kernel
theorem dX0_fillAhead_106 : decode cX0_fillAhead 106 = .ok (.iload_n 1, 1) := by decide +kernel
theorem dX0_fillAhead_107 : decode cX0_fillAhead 107 = .ok (.iand, 1) := by decide +kernel
theorem dX0_fillAhead_108 : decode cX0_fillAhead 108 = .ok (.istore_n 2, 1) := by decide +kernel
theorem dX0_fillAhead_109 : decode cX0_fillAhead 109 = .ok (.goto (-107), 3) := by decide +kernel
theorem dX0_fillAhead_112 : decode cX0_fillAhead 112 = .ok (.return_, 1) := by decide +kernel
theorem dX0_plans_0 : decode cX0_plans 0 = .ok (.aload_n 0, 1) := by decide +kernel
theorem dX0_plans_1 : decode cX0_plans 1 = .ok (.iload_n 1, 1) := by decide +kernel
theorem dX0_plans_2 : decode cX0_plans 2 = .ok (.invokevirtual 88, 3) := by decide +kernel
theorem dX0_plans_5 : decode cX0_plans 5 = .ok (.ifCond .eq 5, 3) := by decide +kernel
theorem dX0_plans_8 : decode cX0_plans 8 = .ok (.iconst (-1), 1) := by decide +kernel
theorem dX0_plans_9 : decode cX0_plans 9 = .ok (.ireturn, 1) := by decide +kernel
theorem dX0_plans_10 : decode cX0_plans 10 = .ok (.aload_n 0, 1) := by decide +kernel
theorem dX0_plans_11 : decode cX0_plans 11 = .ok (.invokevirtual 91, 3) := by decide +kernel
theorem dX0_plans_14 : decode cX0_plans 14 = .ok (.aload_n 0, 1) := by decide +kernel
theorem dX0_plans_15 : decode cX0_plans 15 = .ok (.getfield 41, 3) := by decide +kernel
theorem dX0_plans_18 : decode cX0_plans 18 = .ok (.iload_n 1, 1) := by decide +kernel
theorem dX0_plans_19 : decode cX0_plans 19 = .ok (.iaload, 1) := by decide +kernel
theorem dX0_plans_20 : decode cX0_plans 20 = .ok (.ireturn, 1) := by decide +kernel
theorem dX0_linkedPlans_0 : decode cX0_linkedPlans 0 = .ok (.aload_n 0, 1) := by decide +kernel
theorem dX0_linkedPlans_1 : decode cX0_linkedPlans 1 = .ok (.iload_n 1, 1) := by decide +kernel
theorem dX0_linkedPlans_2 : decode cX0_linkedPlans 2 = .ok (.invokevirtual 88, 3) := by decide +kernel
theorem dX0_linkedPlans_5 : decode cX0_linkedPlans 5 = .ok (.ifCond .eq 5, 3) := by decide +kernel
theorem dX0_linkedPlans_8 : decode cX0_linkedPlans 8 = .ok (.iconst (-1), 1) := by decide +kernel
theorem dX0_linkedPlans_9 : decode cX0_linkedPlans 9 = .ok (.ireturn, 1) := by decide +kernel
theorem dX0_linkedPlans_10 : decode cX0_linkedPlans 10 = .ok (.aload_n 0, 1) := by decide +kernel
theorem dX0_linkedPlans_11 : decode cX0_linkedPlans 11 = .ok (.invokevirtual 91, 3) := by decide +kernel
theorem dX0_linkedPlans_14 : decode cX0_linkedPlans 14 = .ok (.aload_n 0, 1) := by decide +kernel
theorem dX0_linkedPlans_15 : decode cX0_linkedPlans 15 = .ok (.getfield 44, 3) := by decide +kernel
theorem dX0_linkedPlans_18 : decode cX0_linkedPlans 18 = .ok (.iload_n 1, 1) := by decide +kernel
theorem dX0_linkedPlans_19 : decode cX0_linkedPlans 19 = .ok (.iaload, 1) := by decide +kernel
theorem dX0_linkedPlans_20 : decode cX0_linkedPlans 20 = .ok (.ireturn, 1) := by decide +kernel
theorem dX0_cheapest_0 : decode cX0_cheapest 0 = .ok (.aload_n 0, 1) := by decide +kernel
theorem dX0_cheapest_1 : decode cX0_cheapest 1 = .ok (.iload_n 1, 1) := by decide +kernel
theorem dX0_cheapest_2 : decode cX0_cheapest 2 = .ok (.invokevirtual 88, 3) := by decide +kernel
theorem dX0_cheapest_5 : decode cX0_cheapest 5 = .ok (.ifCond .eq 5, 3) := by decide +kernel
theorem dX0_cheapest_8 : decode cX0_cheapest 8 = .ok (.iconst (-1), 1) := by decide +kernel
theorem dX0_cheapest_9 : decode cX0_cheapest 9 = .ok (.ireturn, 1) := by decide +kernel
theorem dX0_cheapest_10 : decode cX0_cheapest 10 = .ok (.aload_n 0, 1) := by decide +kernel
theorem dX0_cheapest_11 : decode cX0_cheapest 11 = .ok (.invokevirtual 91, 3) := by decide +kernel
theorem dX0_cheapest_14 : decode cX0_cheapest 14 = .ok (.aload_n 0, 1) := by decide +kernel
theorem dX0_cheapest_15 : decode cX0_cheapest 15 = .ok (.getfield 29, 3) := by decide +kernel
theorem dX0_cheapest_18 : decode cX0_cheapest 18 = .ok (.iload_n 1, 1) := by decide +kernel
theorem dX0_cheapest_19 : decode cX0_cheapest 19 = .ok (.iaload, 1) := by decide +kernel
theorem dX0_cheapest_20 : decode cX0_cheapest 20 = .ok (.ireturn, 1) := by decide +kernel
theorem dX0_gain_0 : decode cX0_gain 0 = .ok (.aload_n 0, 1) := by decide +kernel
theorem dX0_gain_1 : decode cX0_gain 1 = .ok (.iload_n 1, 1) := by decide +kernel
theorem dX0_gain_2 : decode cX0_gain 2 = .ok (.iload_n 2, 1) := by decide +kernel
theorem dX0_gain_3 : decode cX0_gain 3 = .ok (.invokevirtual 58, 3) := by decide +kernel
theorem dX0_gain_6 : decode cX0_gain 6 = .ok (.ifCond .eq 5, 3) := by decide +kernel
theorem dX0_gain_9 : decode cX0_gain 9 = .ok (.iconst (-1), 1) := by decide +kernel
theorem dX0_gain_10 : decode cX0_gain 10 = .ok (.ireturn, 1) := by decide +kernel
theorem dX0_gain_11 : decode cX0_gain 11 = .ok (.aload_n 0, 1) := by decide +kernel
theorem dX0_gain_12 : decode cX0_gain 12 = .ok (.invokevirtual 91, 3) := by decide +kernel
theorem dX0_gain_15 : decode cX0_gain 15 = .ok (.aload_n 0, 1) := by decide +kernel
theorem dX0_gain_16 : decode cX0_gain 16 = .ok (.getfield 23, 3) := by decide +kernel
theorem dX0_gain_19 : decode cX0_gain 19 = .ok (.bipush 31, 2) := by decide +kernel
theorem dX0_gain_21 : decode cX0_gain 21 = .ok (.iaload, 1) := by decide +kernel
theorem dX0_gain_22 : decode cX0_gain 22 = .ok (.istore_n 3, 1) := by decide +kernel
theorem dX0_gain_23 : decode cX0_gain 23 = .ok (.aload_n 0, 1) := by decide +kernel
theorem dX0_gain_24 : decode cX0_gain 24 = .ok (.getfield 16, 3) := by decide +kernel
theorem dX0_gain_27 : decode cX0_gain 27 = .ok (.iload_n 1, 1) := by decide +kernel
theorem dX0_gain_28 : decode cX0_gain 28 = .ok (.iconst 5, 1) := by decide +kernel
theorem dX0_gain_29 : decode cX0_gain 29 = .ok (.imul, 1) := by decide +kernel
theorem dX0_gain_30 : decode cX0_gain 30 = .ok (.iload_n 2, 1) := by decide +kernel
theorem dX0_gain_31 : decode cX0_gain 31 = .ok (.iadd, 1) := by decide +kernel
theorem dX0_gain_32 : decode cX0_gain 32 = .ok (.baload, 1) := by decide +kernel
theorem dX0_gain_33 : decode cX0_gain 33 = .ok (.istore 4, 2) := by decide +kernel
theorem dX0_gain_35 : decode cX0_gain 35 = .ok (.aload_n 0, 1) := by decide +kernel
theorem dX0_gain_36 : decode cX0_gain 36 = .ok (.getfield 13, 3) := by decide +kernel
theorem dX0_gain_39 : decode cX0_gain 39 = .ok (.iload_n 1, 1) := by decide +kernel
theorem dX0_gain_40 : decode cX0_gain 40 = .ok (.iconst 5, 1) := by decide +kernel
theorem dX0_gain_41 : decode cX0_gain 41 = .ok (.imul, 1) := by decide +kernel
theorem dX0_gain_42 : decode cX0_gain 42 = .ok (.iload_n 2, 1) := by decide +kernel
theorem dX0_gain_43 : decode cX0_gain 43 = .ok (.iadd, 1) := by decide +kernel
theorem dX0_gain_44 : decode cX0_gain 44 = .ok (.iaload, 1) := by decide +kernel
theorem dX0_gain_45 : decode cX0_gain 45 = .ok (.istore 5, 2) := by decide +kernel
theorem dX0_gain_47 : decode cX0_gain 47 = .ok (.aload_n 0, 1) := by decide +kernel
theorem dX0_gain_48 : decode cX0_gain 48 = .ok (.iload_n 1, 1) := by decide +kernel
theorem dX0_gain_49 : decode cX0_gain 49 = .ok (.iload_n 2, 1) := by decide +kernel
theorem dX0_gain_50 : decode cX0_gain 50 = .ok (.iconst 1, 1) := by decide +kernel
theorem dX0_gain_51 : decode cX0_gain 51 = .ok (.bipush 6, 2) := by decide +kernel
theorem dX0_gain_53 : decode cX0_gain 53 = .ok (.invokevirtual 62, 3) := by decide +kernel
theorem dX0_gain_56 : decode cX0_gain 56 = .ok (.aload_n 0, 1) := by decide +kernel
theorem dX0_gain_57 : decode cX0_gain 57 = .ok (.invokevirtual 91, 3) := by decide +kernel
theorem dX0_gain_60 : decode cX0_gain 60 = .ok (.aload_n 0, 1) := by decide +kernel
theorem dX0_gain_61 : decode cX0_gain 61 = .ok (.getfield 23, 3) := by decide +kernel
theorem dX0_gain_64 : decode cX0_gain 64 = .ok (.bipush 31, 2) := by decide +kernel
theorem dX0_gain_66 : decode cX0_gain 66 = .ok (.iaload, 1) := by decide +kernel
theorem dX0_gain_67 : decode cX0_gain 67 = .ok (.istore 6, 2) := by decide +kernel
theorem dX0_gain_69 : decode cX0_gain 69 = .ok (.aload_n 0, 1) := by decide +kernel
theorem dX0_gain_70 : decode cX0_gain 70 = .ok (.iload_n 1, 1) := by decide +kernel
theorem dX0_gain_71 : decode cX0_gain 71 = .ok (.iload_n 2, 1) := by decide +kernel
theorem dX0_gain_72 : decode cX0_gain 72 = .ok (.iload 4, 2) := by decide +kernel
theorem dX0_gain_74 : decode cX0_gain 74 = .ok (.iload 5, 2) := by decide +kernel
theorem dX0_gain_76 : decode cX0_gain 76 = .ok (.invokevirtual 62, 3) := by decide +kernel
theorem dX0_gain_79 : decode cX0_gain 79 = .ok (.iload_n 3, 1) := by decide +kernel
theorem dX0_gain_80 : decode cX0_gain 80 = .ok (.iload 6, 2) := by decide +kernel
theorem dX0_gain_82 : decode cX0_gain 82 = .ok (.isub, 1) := by decide +kernel
theorem dX0_gain_83 : decode cX0_gain 83 = .ok (.ireturn, 1) := by decide +kernel
end
section
set_option maxRecDepth 100000
theorem dX1_init_0 : decode cX1_init 0 = .ok (.aload_n 0, 1) := by decide +kernel
theorem dX1_init_1 : decode cX1_init 1 = .ok (.invokespecial 1, 3) := by decide +kernel
theorem dX1_init_4 : decode cX1_init 4 = .ok (.aload_n 0, 1) := by decide +kernel
theorem dX1_init_5 : decode cX1_init 5 = .ok (.iconst 5, 1) := by decide +kernel
theorem dX1_init_6 : decode cX1_init 6 = .ok (.newarray .int, 2) := by decide +kernel
theorem dX1_init_8 : decode cX1_init 8 = .ok (.putfield 7, 3) := by decide +kernel
theorem dX1_init_11 : decode cX1_init 11 = .ok (.aload_n 0, 1) := by decide +kernel
theorem dX1_init_12 : decode cX1_init 12 = .ok (.bipush 25, 2) := by decide +kernel
theorem dX1_init_14 : decode cX1_init 14 = .ok (.newarray .int, 2) := by decide +kernel
theorem dX1_init_16 : decode cX1_init 16 = .ok (.putfield 13, 3) := by decide +kernel
theorem dX1_init_19 : decode cX1_init 19 = .ok (.aload_n 0, 1) := by decide +kernel
theorem dX1_init_20 : decode cX1_init 20 = .ok (.bipush 32, 2) := by decide +kernel
theorem dX1_init_22 : decode cX1_init 22 = .ok (.newarray .int, 2) := by decide +kernel
theorem dX1_init_24 : decode cX1_init 24 = .ok (.putfield 16, 3) := by decide +kernel
theorem dX1_init_27 : decode cX1_init 27 = .ok (.aload_n 0, 1) := by decide +kernel
theorem dX1_init_28 : decode cX1_init 28 = .ok (.bipush 14, 2) := by decide +kernel
theorem dX1_init_30 : decode cX1_init 30 = .ok (.newarray .int, 2) := by decide +kernel
theorem dX1_init_32 : decode cX1_init 32 = .ok (.putfield 19, 3) := by decide +kernel
theorem dX1_init_35 : decode cX1_init 35 = .ok (.aload_n 0, 1) := by decide +kernel
theorem dX1_init_36 : decode cX1_init 36 = .ok (.iconst 5, 1) := by decide +kernel
theorem dX1_init_37 : decode cX1_init 37 = .ok (.newarray .int, 2) := by decide +kernel
theorem dX1_init_39 : decode cX1_init 39 = .ok (.putfield 22, 3) := by decide +kernel
theorem dX1_init_42 : decode cX1_init 42 = .ok (.aload_n 0, 1) := by decide +kernel
theorem dX1_init_43 : decode cX1_init 43 = .ok (.iconst 5, 1) := by decide +kernel
theorem dX1_init_44 : decode cX1_init 44 = .ok (.newarray .int, 2) := by decide +kernel
theorem dX1_init_46 : decode cX1_init 46 = .ok (.putfield 25, 3) := by decide +kernel
theorem dX1_init_49 : decode cX1_init 49 = .ok (.iconst 0, 1) := by decide +kernel
theorem dX1_init_50 : decode cX1_init 50 = .ok (.istore_n 1, 1) := by decide +kernel
theorem dX1_init_51 : decode cX1_init 51 = .ok (.iload_n 1, 1) := by decide +kernel
theorem dX1_init_52 : decode cX1_init 52 = .ok (.bipush 25, 2) := by decide +kernel
theorem dX1_init_54 : decode cX1_init 54 = .ok (.if_icmp .ge 25, 3) := by decide +kernel
theorem dX1_init_57 : decode cX1_init 57 = .ok (.aload_n 0, 1) := by decide +kernel
theorem dX1_init_58 : decode cX1_init 58 = .ok (.getfield 13, 3) := by decide +kernel
theorem dX1_init_61 : decode cX1_init 61 = .ok (.iload_n 1, 1) := by decide +kernel
theorem dX1_init_62 : decode cX1_init 62 = .ok (.iconst (-1), 1) := by decide +kernel
theorem dX1_init_63 : decode cX1_init 63 = .ok (.iastore, 1) := by decide +kernel
theorem dX1_init_64 : decode cX1_init 64 = .ok (.aload_n 0, 1) := by decide +kernel
theorem dX1_init_65 : decode cX1_init 65 = .ok (.getfield 7, 3) := by decide +kernel
theorem dX1_init_68 : decode cX1_init 68 = .ok (.iload_n 1, 1) := by decide +kernel
theorem dX1_init_69 : decode cX1_init 69 = .ok (.iconst 5, 1) := by decide +kernel
theorem dX1_init_70 : decode cX1_init 70 = .ok (.irem, 1) := by decide +kernel
theorem dX1_init_71 : decode cX1_init 71 = .ok (.iconst 3, 1) := by decide +kernel
theorem dX1_init_72 : decode cX1_init 72 = .ok (.iastore, 1) := by decide +kernel
theorem dX1_init_73 : decode cX1_init 73 = .ok (.iinc 1 1, 3) := by decide +kernel
theorem dX1_init_76 : decode cX1_init 76 = .ok (.goto (-25), 3) := by decide +kernel
theorem dX1_init_79 : decode cX1_init 79 = .ok (.return_, 1) := by decide +kernel
theorem dX1_table_0 : decode cX1_table 0 = .ok (.aload_n 0, 1) := by decide +kernel
theorem dX1_table_1 : decode cX1_table 1 = .ok (.iload_n 1, 1) := by decide +kernel
theorem dX1_table_2 : decode cX1_table 2 = .ok (.invokevirtual 28, 3) := by decide +kernel
theorem dX1_table_5 : decode cX1_table 5 = .ok (.ifCond .eq 13, 3) := by decide +kernel
theorem dX1_table_8 : decode cX1_table 8 = .ok (.iload_n 2, 1) := by decide +kernel
theorem dX1_table_9 : decode cX1_table 9 = .ok (.ifCond .lt 9, 3) := by decide +kernel
theorem dX1_table_12 : decode cX1_table 12 = .ok (.iload_n 2, 1) := by decide +kernel
theorem dX1_table_13 : decode cX1_table 13 = .ok (.bipush 6, 2) := by decide +kernel
theorem dX1_table_15 : decode cX1_table 15 = .ok (.if_icmp .le 5, 3) := by decide +kernel
theorem dX1_table_18 : decode cX1_table 18 = .ok (.iconst (-1), 1) := by decide +kernel
theorem dX1_table_19 : decode cX1_table 19 = .ok (.ireturn, 1) := by decide +kernel
theorem dX1_table_20 : decode cX1_table 20 = .ok (.aload_n 0, 1) := by decide +kernel
theorem dX1_table_21 : decode cX1_table 21 = .ok (.getfield 7, 3) := by decide +kernel
theorem dX1_table_24 : decode cX1_table 24 = .ok (.iload_n 1, 1) := by decide +kernel
theorem dX1_table_25 : decode cX1_table 25 = .ok (.iaload, 1) := by decide +kernel
theorem dX1_table_26 : decode cX1_table 26 = .ok (.istore_n 3, 1) := by decide +kernel
theorem dX1_table_27 : decode cX1_table 27 = .ok (.aload_n 0, 1) := by decide +kernel
theorem dX1_table_28 : decode cX1_table 28 = .ok (.getfield 7, 3) := by decide +kernel
theorem dX1_table_31 : decode cX1_table 31 = .ok (.iload_n 1, 1) := by decide +kernel
theorem dX1_table_32 : decode cX1_table 32 = .ok (.iload_n 2, 1) := by decide +kernel
theorem dX1_table_33 : decode cX1_table 33 = .ok (.iastore, 1) := by decide +kernel
theorem dX1_table_34 : decode cX1_table 34 = .ok (.iload_n 3, 1) := by decide +kernel
theorem dX1_table_35 : decode cX1_table 35 = .ok (.ireturn, 1) := by decide +kernel
theorem dX1_isTable_0 : decode cX1_isTable 0 = .ok (.iload_n 1, 1) := by decide +kernel
theorem dX1_isTable_1 : decode cX1_isTable 1 = .ok (.ifCond .lt 12, 3) := by decide +kernel
theorem dX1_isTable_4 : decode cX1_isTable 4 = .ok (.iload_n 1, 1) := by decide +kernel
theorem dX1_isTable_5 : decode cX1_isTable 5 = .ok (.iconst 4, 1) := by decide +kernel
theorem dX1_isTable_6 : decode cX1_isTable 6 = .ok (.if_icmp .gt 7, 3) := by decide +kernel
theorem dX1_isTable_9 : decode cX1_isTable 9 = .ok (.iconst 1, 1) := by decide +kernel
theorem dX1_isTable_10 : decode cX1_isTable 10 = .ok (.goto 4, 3) := by decide +kernel
theorem dX1_isTable_13 : decode cX1_isTable 13 = .ok (.iconst 0, 1) := by decide +kernel
theorem dX1_isTable_14 : decode cX1_isTable 14 = .ok (.ireturn, 1) := by decide +kernel
theorem dX1_filter_0 : decode cX1_filter 0 = .ok (.aload_n 0, 1) := by decide +kernel
theorem dX1_filter_1 : decode cX1_filter 1 = .ok (.iload_n 1, 1) := by decide +kernel
theorem dX1_filter_2 : decode cX1_filter 2 = .ok (.iload_n 2, 1) := by decide +kernel
theorem dX1_filter_3 : decode cX1_filter 3 = .ok (.invokevirtual 32, 3) := by decide +kernel
theorem dX1_filter_6 : decode cX1_filter 6 = .ok (.ifCond .eq 13, 3) := by decide +kernel
theorem dX1_filter_9 : decode cX1_filter 9 = .ok (.iload_n 3, 1) := by decide +kernel
theorem dX1_filter_10 : decode cX1_filter 10 = .ok (.ifCond .lt 9, 3) := by decide +kernel
theorem dX1_filter_13 : decode cX1_filter 13 = .ok (.iload_n 3, 1) := by decide +kernel
theorem dX1_filter_14 : decode cX1_filter 14 = .ok (.bipush 6, 2) := by decide +kernel
theorem dX1_filter_16 : decode cX1_filter 16 = .ok (.if_icmp .le 5, 3) := by decide +kernel
theorem dX1_filter_19 : decode cX1_filter 19 = .ok (.iconst (-1), 1) := by decide +kernel
theorem dX1_filter_20 : decode cX1_filter 20 = .ok (.ireturn, 1) := by decide +kernel
theorem dX1_filter_21 : decode cX1_filter 21 = .ok (.aload_n 0, 1) := by decide +kernel
theorem dX1_filter_22 : decode cX1_filter 22 = .ok (.getfield 13, 3) := by decide +kernel
theorem dX1_filter_25 : decode cX1_filter 25 = .ok (.iconst 5, 1) := by decide +kernel
theorem dX1_filter_26 : decode cX1_filter 26 = .ok (.iload_n 1, 1) := by decide +kernel
theorem dX1_filter_27 : decode cX1_filter 27 = .ok (.imul, 1) := by decide +kernel
theorem dX1_filter_28 : decode cX1_filter 28 = .ok (.iload_n 2, 1) := by decide +kernel
theorem dX1_filter_29 : decode cX1_filter 29 = .ok (.iadd, 1) := by decide +kernel
theorem dX1_filter_30 : decode cX1_filter 30 = .ok (.iaload, 1) := by decide +kernel
theorem dX1_filter_31 : decode cX1_filter 31 = .ok (.ifCond .ge 7, 3) := by decide +kernel
theorem dX1_filter_34 : decode cX1_filter 34 = .ok (.iconst 0, 1) := by decide +kernel
theorem dX1_filter_35 : decode cX1_filter 35 = .ok (.goto 4, 3) := by decide +kernel
theorem dX1_filter_38 : decode cX1_filter 38 = .ok (.iconst 1, 1) := by decide +kernel
theorem dX1_filter_39 : decode cX1_filter 39 = .ok (.istore 4, 2) := by decide +kernel
theorem dX1_filter_41 : decode cX1_filter 41 = .ok (.aload_n 0, 1) := by decide +kernel
theorem dX1_filter_42 : decode cX1_filter 42 = .ok (.iload_n 1, 1) := by decide +kernel
theorem dX1_filter_43 : decode cX1_filter 43 = .ok (.iload_n 2, 1) := by decide +kernel
theorem dX1_filter_44 : decode cX1_filter 44 = .ok (.iload_n 3, 1) := by decide +kernel
theorem dX1_filter_45 : decode cX1_filter 45 = .ok (.invokevirtual 36, 3) := by decide +kernel
theorem dX1_filter_48 : decode cX1_filter 48 = .ok (.iload 4, 2) := by decide +kernel
theorem dX1_filter_50 : decode cX1_filter 50 = .ok (.ireturn, 1) := by decide +kernel
theorem dX1_isPair_0 : decode cX1_isPair 0 = .ok (.aload_n 0, 1) := by decide +kernel
theorem dX1_isPair_1 : decode cX1_isPair 1 = .ok (.iload_n 1, 1) := by decide +kernel
theorem dX1_isPair_2 : decode cX1_isPair 2 = .ok (.invokevirtual 28, 3) := by decide +kernel
theorem dX1_isPair_5 : decode cX1_isPair 5 = .ok (.ifCond .eq 20, 3) := by decide +kernel
theorem dX1_isPair_8 : decode cX1_isPair 8 = .ok (.aload_n 0, 1) := by decide +kernel
theorem dX1_isPair_9 : decode cX1_isPair 9 = .ok (.iload_n 2, 1) := by decide +kernel
theorem dX1_isPair_10 : decode cX1_isPair 10 = .ok (.invokevirtual 28, 3) := by decide +kernel
theorem dX1_isPair_13 : decode cX1_isPair 13 = .ok (.ifCond .eq 12, 3) := by decide +kernel
theorem dX1_isPair_16 : decode cX1_isPair 16 = .ok (.iload_n 1, 1) := by decide +kernel
theorem dX1_isPair_17 : decode cX1_isPair 17 = .ok (.iload_n 2, 1) := by decide +kernel
theorem dX1_isPair_18 : decode cX1_isPair 18 = .ok (.if_icmp .eq 7, 3) := by decide +kernel
theorem dX1_isPair_21 : decode cX1_isPair 21 = .ok (.iconst 1, 1) := by decide +kernel
theorem dX1_isPair_22 : decode cX1_isPair 22 = .ok (.goto 4, 3) := by decide +kernel
theorem dX1_isPair_25 : decode cX1_isPair 25 = .ok (.iconst 0, 1) := by decide +kernel
theorem dX1_isPair_26 : decode cX1_isPair 26 = .ok (.ireturn, 1) := by decide +kernel
theorem dX1_setFilter_0 : decode cX1_setFilter 0 = .ok (.aload_n 0, 1) := by decide +kernel
theorem dX1_setFilter_1 : decode cX1_setFilter 1 = .ok (.getfield 13, 3) := by decide +kernel
theorem dX1_setFilter_4 : decode cX1_setFilter 4 = .ok (.iconst 5, 1) := by decide +kernel
theorem dX1_setFilter_5 : decode cX1_setFilter 5 = .ok (.iload_n 1, 1) := by decide +kernel
theorem dX1_setFilter_6 : decode cX1_setFilter 6 = .ok (.imul, 1) := by decide +kernel
theorem dX1_setFilter_7 : decode cX1_setFilter 7 = .ok (.iload_n 2, 1) := by decide +kernel
theorem dX1_setFilter_8 : decode cX1_setFilter 8 = .ok (.iadd, 1) := by decide +kernel
theorem dX1_setFilter_9 : decode cX1_setFilter 9 = .ok (.iload_n 3, 1) := by decide +kernel
theorem dX1_setFilter_10 : decode cX1_setFilter 10 = .ok (.iastore, 1) := by decide +kernel
theorem dX1_setFilter_11 : decode cX1_setFilter 11 = .ok (.aload_n 0, 1) := by decide +kernel
theorem dX1_setFilter_12 : decode cX1_setFilter 12 = .ok (.getfield 13, 3) := by decide +kernel
theorem dX1_setFilter_15 : decode cX1_setFilter 15 = .ok (.iconst 5, 1) := by decide +kernel
theorem dX1_setFilter_16 : decode cX1_setFilter 16 = .ok (.iload_n 2, 1) := by decide +kernel
theorem dX1_setFilter_17 : decode cX1_setFilter 17 = .ok (.imul, 1) := by decide +kernel
theorem dX1_setFilter_18 : decode cX1_setFilter 18 = .ok (.iload_n 1, 1) := by decide +kernel
theorem dX1_setFilter_19 : decode cX1_setFilter 19 = .ok (.iadd, 1) := by decide +kernel
theorem dX1_setFilter_20 : decode cX1_setFilter 20 = .ok (.iload_n 3, 1) := by decide +kernel
theorem dX1_setFilter_21 : decode cX1_setFilter 21 = .ok (.iastore, 1) := by decide +kernel
theorem dX1_setFilter_22 : decode cX1_setFilter 22 = .ok (.return_, 1) := by decide +kernel
theorem dX1_unfilter_0 : decode cX1_unfilter 0 = .ok (.aload_n 0, 1) := by decide +kernel
theorem dX1_unfilter_1 : decode cX1_unfilter 1 = .ok (.iload_n 1, 1) := by decide +kernel
theorem dX1_unfilter_2 : decode cX1_unfilter 2 = .ok (.iload_n 2, 1) := by decide +kernel
theorem dX1_unfilter_3 : decode cX1_unfilter 3 = .ok (.invokevirtual 32, 3) := by decide +kernel
theorem dX1_unfilter_6 : decode cX1_unfilter 6 = .ok (.ifCond .ne 5, 3) := by decide +kernel
theorem dX1_unfilter_9 : decode cX1_unfilter 9 = .ok (.iconst (-1), 1) := by decide +kernel
theorem dX1_unfilter_10 : decode cX1_unfilter 10 = .ok (.ireturn, 1) := by decide +kernel
theorem dX1_unfilter_11 : decode cX1_unfilter 11 = .ok (.aload_n 0, 1) := by decide +kernel
theorem dX1_unfilter_12 : decode cX1_unfilter 12 = .ok (.getfield 13, 3) := by decide +kernel
theorem dX1_unfilter_15 : decode cX1_unfilter 15 = .ok (.iconst 5, 1) := by decide +kernel
theorem dX1_unfilter_16 : decode cX1_unfilter 16 = .ok (.iload_n 1, 1) := by decide +kernel
theorem dX1_unfilter_17 : decode cX1_unfilter 17 = .ok (.imul, 1) := by decide +kernel
theorem dX1_unfilter_18 : decode cX1_unfilter 18 = .ok (.iload_n 2, 1) := by decide +kernel
theorem dX1_unfilter_19 : decode cX1_unfilter 19 = .ok (.iadd, 1) := by decide +kernel
theorem dX1_unfilter_20 : decode cX1_unfilter 20 = .ok (.iaload, 1) := by decide +kernel
theorem dX1_unfilter_21 : decode cX1_unfilter 21 = .ok (.istore_n 3, 1) := by decide +kernel
theorem dX1_unfilter_22 : decode cX1_unfilter 22 = .ok (.aload_n 0, 1) := by decide +kernel
theorem dX1_unfilter_23 : decode cX1_unfilter 23 = .ok (.iload_n 1, 1) := by decide +kernel
theorem dX1_unfilter_24 : decode cX1_unfilter 24 = .ok (.iload_n 2, 1) := by decide +kernel
theorem dX1_unfilter_25 : decode cX1_unfilter 25 = .ok (.iconst (-1), 1) := by decide +kernel
theorem dX1_unfilter_26 : decode cX1_unfilter 26 = .ok (.invokevirtual 36, 3) := by decide +kernel
theorem dX1_unfilter_29 : decode cX1_unfilter 29 = .ok (.iload_n 3, 1) := by decide +kernel
theorem dX1_unfilter_30 : decode cX1_unfilter 30 = .ok (.ifCond .ge 8, 3) := by decide +kernel
theorem dX1_unfilter_33 : decode cX1_unfilter 33 = .ok (.bipush (-4), 2) := by decide +kernel
theorem dX1_unfilter_35 : decode cX1_unfilter 35 = .ok (.goto 4, 3) := by decide +kernel
theorem dX1_unfilter_38 : decode cX1_unfilter 38 = .ok (.iload_n 3, 1) := by decide +kernel
theorem dX1_unfilter_39 : decode cX1_unfilter 39 = .ok (.ireturn, 1) := by decide +kernel
theorem dX1_size_0 : decode cX1_size 0 = .ok (.aload_n 0, 1) := by decide +kernel
theorem dX1_size_1 : decode cX1_size 1 = .ok (.iload_n 1, 1) := by decide +kernel
theorem dX1_size_2 : decode cX1_size 2 = .ok (.invokevirtual 43, 3) := by decide +kernel
theorem dX1_size_5 : decode cX1_size 5 = .ok (.ifCond .eq 11, 3) := by decide +kernel
theorem dX1_size_8 : decode cX1_size 8 = .ok (.aload_n 0, 1) := by decide +kernel
theorem dX1_size_9 : decode cX1_size 9 = .ok (.iload_n 1, 1) := by decide +kernel
theorem dX1_size_10 : decode cX1_size 10 = .ok (.invokevirtual 46, 3) := by decide +kernel
theorem dX1_size_13 : decode cX1_size 13 = .ok (.goto 4, 3) := by decide +kernel
theorem dX1_size_16 : decode cX1_size 16 = .ok (.iconst (-1), 1) := by decide +kernel
theorem dX1_size_17 : decode cX1_size 17 = .ok (.ireturn, 1) := by decide +kernel
theorem dX1_isSet_0 : decode cX1_isSet 0 = .ok (.iload_n 1, 1) := by decide +kernel
theorem dX1_isSet_1 : decode cX1_isSet 1 = .ok (.iconst 1, 1) := by decide +kernel
theorem dX1_isSet_2 : decode cX1_isSet 2 = .ok (.if_icmp .lt 13, 3) := by decide +kernel
theorem dX1_isSet_5 : decode cX1_isSet 5 = .ok (.iload_n 1, 1) := by decide +kernel
theorem dX1_isSet_6 : decode cX1_isSet 6 = .ok (.bipush 31, 2) := by decide +kernel
theorem dX1_isSet_8 : decode cX1_isSet 8 = .ok (.if_icmp .gt 7, 3) := by decide +kernel
theorem dX1_isSet_11 : decode cX1_isSet 11 = .ok (.iconst 1, 1) := by decide +kernel
theorem dX1_isSet_12 : decode cX1_isSet 12 = .ok (.goto 4, 3) := by decide +kernel
theorem dX1_isSet_15 : decode cX1_isSet 15 = .ok (.iconst 0, 1) := by decide +kernel
theorem dX1_isSet_16 : decode cX1_isSet 16 = .ok (.ireturn, 1) := by decide +kernel
theorem dX1_sizeOf_0 : decode cX1_sizeOf 0 = .ok (.iconst 0, 1) := by decide +kernel
theorem dX1_sizeOf_1 : decode cX1_sizeOf 1 = .ok (.istore_n 2, 1) := by decide +kernel
theorem dX1_sizeOf_2 : decode cX1_sizeOf 2 = .ok (.iconst 0, 1) := by decide +kernel
theorem dX1_sizeOf_3 : decode cX1_sizeOf 3 = .ok (.istore_n 3, 1) := by decide +kernel
theorem dX1_sizeOf_4 : decode cX1_sizeOf 4 = .ok (.iload_n 3, 1) := by decide +kernel
theorem dX1_sizeOf_5 : decode cX1_sizeOf 5 = .ok (.iconst 5, 1) := by decide +kernel
theorem dX1_sizeOf_6 : decode cX1_sizeOf 6 = .ok (.if_icmp .ge 97, 3) := by decide +kernel
theorem dX1_sizeOf_9 : decode cX1_sizeOf 9 = .ok (.aload_n 0, 1) := by decide +kernel
theorem dX1_sizeOf_10 : decode cX1_sizeOf 10 = .ok (.iload_n 1, 1) := by decide +kernel
theorem dX1_sizeOf_11 : decode cX1_sizeOf 11 = .ok (.iload_n 3, 1) := by decide +kernel
theorem dX1_sizeOf_12 : decode cX1_sizeOf 12 = .ok (.invokevirtual 40, 3) := by decide +kernel
theorem dX1_sizeOf_15 : decode cX1_sizeOf 15 = .ok (.ifCond .eq 14, 3) := by decide +kernel
theorem dX1_sizeOf_18 : decode cX1_sizeOf 18 = .ok (.iload_n 2, 1) := by decide +kernel
theorem dX1_sizeOf_19 : decode cX1_sizeOf 19 = .ok (.aload_n 0, 1) := by decide +kernel
theorem dX1_sizeOf_20 : decode cX1_sizeOf 20 = .ok (.getfield 7, 3) := by decide +kernel
theorem dX1_sizeOf_23 : decode cX1_sizeOf 23 = .ok (.iload_n 3, 1) := by decide +kernel
theorem dX1_sizeOf_24 : decode cX1_sizeOf 24 = .ok (.iaload, 1) := by decide +kernel
theorem dX1_sizeOf_25 : decode cX1_sizeOf 25 = .ok (.iadd, 1) := by decide +kernel
theorem dX1_sizeOf_26 : decode cX1_sizeOf 26 = .ok (.goto 4, 3) := by decide +kernel
theorem dX1_sizeOf_29 : decode cX1_sizeOf 29 = .ok (.iload_n 2, 1) := by decide +kernel
theorem dX1_sizeOf_30 : decode cX1_sizeOf 30 = .ok (.istore_n 2, 1) := by decide +kernel
theorem dX1_sizeOf_31 : decode cX1_sizeOf 31 = .ok (.iconst 0, 1) := by decide +kernel
theorem dX1_sizeOf_32 : decode cX1_sizeOf 32 = .ok (.istore 4, 2) := by decide +kernel
theorem dX1_sizeOf_34 : decode cX1_sizeOf 34 = .ok (.iload 4, 2) := by decide +kernel
theorem dX1_sizeOf_36 : decode cX1_sizeOf 36 = .ok (.iload_n 3, 1) := by decide +kernel
theorem dX1_sizeOf_37 : decode cX1_sizeOf 37 = .ok (.if_icmp .ge 60, 3) := by decide +kernel
theorem dX1_sizeOf_40 : decode cX1_sizeOf 40 = .ok (.aload_n 0, 1) := by decide +kernel
theorem dX1_sizeOf_41 : decode cX1_sizeOf 41 = .ok (.iload_n 1, 1) := by decide +kernel
theorem dX1_sizeOf_42 : decode cX1_sizeOf 42 = .ok (.iload_n 3, 1) := by decide +kernel
theorem dX1_sizeOf_43 : decode cX1_sizeOf 43 = .ok (.invokevirtual 40, 3) := by decide +kernel
theorem dX1_sizeOf_46 : decode cX1_sizeOf 46 = .ok (.ifCond .eq 43, 3) := by decide +kernel
theorem dX1_sizeOf_49 : decode cX1_sizeOf 49 = .ok (.aload_n 0, 1) := by decide +kernel
theorem dX1_sizeOf_50 : decode cX1_sizeOf 50 = .ok (.iload_n 1, 1) := by decide +kernel
theorem dX1_sizeOf_51 : decode cX1_sizeOf 51 = .ok (.iload 4, 2) := by decide +kernel
theorem dX1_sizeOf_53 : decode cX1_sizeOf 53 = .ok (.invokevirtual 40, 3) := by decide +kernel
theorem dX1_sizeOf_56 : decode cX1_sizeOf 56 = .ok (.ifCond .eq 33, 3) := by decide +kernel
theorem dX1_sizeOf_59 : decode cX1_sizeOf 59 = .ok (.aload_n 0, 1) := by decide +kernel
theorem dX1_sizeOf_60 : decode cX1_sizeOf 60 = .ok (.getfield 13, 3) := by decide +kernel
theorem dX1_sizeOf_63 : decode cX1_sizeOf 63 = .ok (.iconst 5, 1) := by decide +kernel
theorem dX1_sizeOf_64 : decode cX1_sizeOf 64 = .ok (.iload_n 3, 1) := by decide +kernel
theorem dX1_sizeOf_65 : decode cX1_sizeOf 65 = .ok (.imul, 1) := by decide +kernel
theorem dX1_sizeOf_66 : decode cX1_sizeOf 66 = .ok (.iload 4, 2) := by decide +kernel
theorem dX1_sizeOf_68 : decode cX1_sizeOf 68 = .ok (.iadd, 1) := by decide +kernel
theorem dX1_sizeOf_69 : decode cX1_sizeOf 69 = .ok (.iaload, 1) := by decide +kernel
theorem dX1_sizeOf_70 : decode cX1_sizeOf 70 = .ok (.ifCond .le 19, 3) := by decide +kernel
theorem dX1_sizeOf_73 : decode cX1_sizeOf 73 = .ok (.iload_n 2, 1) := by decide +kernel
theorem dX1_sizeOf_74 : decode cX1_sizeOf 74 = .ok (.aload_n 0, 1) := by decide +kernel
theorem dX1_sizeOf_75 : decode cX1_sizeOf 75 = .ok (.getfield 13, 3) := by decide +kernel
theorem dX1_sizeOf_78 : decode cX1_sizeOf 78 = .ok (.iconst 5, 1) := by decide +kernel
theorem dX1_sizeOf_79 : decode cX1_sizeOf 79 = .ok (.iload_n 3, 1) := by decide +kernel
theorem dX1_sizeOf_80 : decode cX1_sizeOf 80 = .ok (.imul, 1) := by decide +kernel
theorem dX1_sizeOf_81 : decode cX1_sizeOf 81 = .ok (.iload 4, 2) := by decide +kernel
theorem dX1_sizeOf_83 : decode cX1_sizeOf 83 = .ok (.iadd, 1) := by decide +kernel
theorem dX1_sizeOf_84 : decode cX1_sizeOf 84 = .ok (.iaload, 1) := by decide +kernel
theorem dX1_sizeOf_85 : decode cX1_sizeOf 85 = .ok (.isub, 1) := by decide +kernel
theorem dX1_sizeOf_86 : decode cX1_sizeOf 86 = .ok (.goto 4, 3) := by decide +kernel
theorem dX1_sizeOf_89 : decode cX1_sizeOf 89 = .ok (.iload_n 2, 1) := by decide +kernel
theorem dX1_sizeOf_90 : decode cX1_sizeOf 90 = .ok (.istore_n 2, 1) := by decide +kernel
theorem dX1_sizeOf_91 : decode cX1_sizeOf 91 = .ok (.iinc 4 1, 3) := by decide +kernel
theorem dX1_sizeOf_94 : decode cX1_sizeOf 94 = .ok (.goto (-60), 3) := by decide +kernel
theorem dX1_sizeOf_97 : decode cX1_sizeOf 97 = .ok (.iinc 3 1, 3) := by decide +kernel
theorem dX1_sizeOf_100 : decode cX1_sizeOf 100 = .ok (.goto (-96), 3) := by decide +kernel
theorem dX1_sizeOf_103 : decode cX1_sizeOf 103 = .ok (.iload_n 2, 1) := by decide +kernel
theorem dX1_sizeOf_104 : decode cX1_sizeOf 104 = .ok (.ifCond .ge 7, 3) := by decide +kernel
theorem dX1_sizeOf_107 : decode cX1_sizeOf 107 = .ok (.iconst 1, 1) := by decide +kernel
theorem dX1_sizeOf_108 : decode cX1_sizeOf 108 = .ok (.goto 6, 3) := by decide +kernel
theorem dX1_sizeOf_111 : decode cX1_sizeOf 111 = .ok (.iconst 1, 1) := by decide +kernel
theorem dX1_sizeOf_112 : decode cX1_sizeOf 112 = .ok (.iload_n 2, 1) := by decide +kernel
theorem dX1_sizeOf_113 : decode cX1_sizeOf 113 = .ok (.ishl, 1) := by decide +kernel
theorem dX1_sizeOf_114 : decode cX1_sizeOf 114 = .ok (.ireturn, 1) := by decide +kernel
theorem dX1_has_0 : decode cX1_has 0 = .ok (.iload_n 1, 1) := by decide +kernel
theorem dX1_has_1 : decode cX1_has 1 = .ok (.iload_n 2, 1) := by decide +kernel
theorem dX1_has_2 : decode cX1_has 2 = .ok (.ishr, 1) := by decide +kernel
theorem dX1_has_3 : decode cX1_has 3 = .ok (.iconst 1, 1) := by decide +kernel
theorem dX1_has_4 : decode cX1_has 4 = .ok (.iand, 1) := by decide +kernel
theorem dX1_has_5 : decode cX1_has 5 = .ok (.iconst 1, 1) := by decide +kernel
theorem dX1_has_6 : decode cX1_has 6 = .ok (.if_icmp .ne 7, 3) := by decide +kernel
theorem dX1_has_9 : decode cX1_has 9 = .ok (.iconst 1, 1) := by decide +kernel
theorem dX1_has_10 : decode cX1_has 10 = .ok (.goto 4, 3) := by decide +kernel
theorem dX1_has_13 : decode cX1_has 13 = .ok (.iconst 0, 1) := by decide +kernel
theorem dX1_has_14 : decode cX1_has 14 = .ok (.ireturn, 1) := by decide +kernel
theorem dX1_connected_0 : decode cX1_connected 0 = .ok (.aload_n 0, 1) := by decide +kernel
theorem dX1_connected_1 : decode cX1_connected 1 = .ok (.iload_n 1, 1) := by decide +kernel
theorem dX1_connected_2 : decode cX1_connected 2 = .ok (.invokevirtual 43, 3) := by decide +kernel
theorem dX1_connected_5 : decode cX1_connected 5 = .ok (.ifCond .ne 5, 3) := by decide +kernel
theorem dX1_connected_8 : decode cX1_connected 8 = .ok (.iconst 0, 1) := by decide +kernel
theorem dX1_connected_9 : decode cX1_connected 9 = .ok (.ireturn, 1) := by decide +kernel
theorem dX1_connected_10 : decode cX1_connected 10 = .ok (.iconst 1, 1) := by decide +kernel
theorem dX1_connected_11 : decode cX1_connected 11 = .ok (.istore_n 2, 1) := by decide +kernel
theorem dX1_connected_12 : decode cX1_connected 12 = .ok (.iload_n 2, 1) := by decide +kernel
theorem dX1_connected_13 : decode cX1_connected 13 = .ok (.iload_n 1, 1) := by decide +kernel
theorem dX1_connected_14 : decode cX1_connected 14 = .ok (.if_icmp .ge 32, 3) := by decide +kernel
theorem dX1_connected_17 : decode cX1_connected 17 = .ok (.iload_n 2, 1) := by decide +kernel
theorem dX1_connected_18 : decode cX1_connected 18 = .ok (.iload_n 1, 1) := by decide +kernel
theorem dX1_connected_19 : decode cX1_connected 19 = .ok (.iconst (-1), 1) := by decide +kernel
theorem dX1_connected_20 : decode cX1_connected 20 = .ok (.ixor, 1) := by decide +kernel
theorem dX1_connected_21 : decode cX1_connected 21 = .ok (.iand, 1) := by decide +kernel
theorem dX1_connected_22 : decode cX1_connected 22 = .ok (.ifCond .ne 18, 3) := by decide +kernel
theorem dX1_connected_25 : decode cX1_connected 25 = .ok (.aload_n 0, 1) := by decide +kernel
theorem dX1_connected_26 : decode cX1_connected 26 = .ok (.iload_n 2, 1) := by decide +kernel
theorem dX1_connected_27 : decode cX1_connected 27 = .ok (.iload_n 1, 1) := by decide +kernel
theorem dX1_connected_28 : decode cX1_connected 28 = .ok (.iload_n 2, 1) := by decide +kernel
theorem dX1_connected_29 : decode cX1_connected 29 = .ok (.iconst (-1), 1) := by decide +kernel
theorem dX1_connected_30 : decode cX1_connected 30 = .ok (.ixor, 1) := by decide +kernel
theorem dX1_connected_31 : decode cX1_connected 31 = .ok (.iand, 1) := by decide +kernel
theorem dX1_connected_32 : decode cX1_connected 32 = .ok (.invokevirtual 50, 3) := by decide +kernel
theorem dX1_connected_35 : decode cX1_connected 35 = .ok (.ifCond .ne 5, 3) := by decide +kernel
theorem dX1_connected_38 : decode cX1_connected 38 = .ok (.iconst 0, 1) := by decide +kernel
theorem dX1_connected_39 : decode cX1_connected 39 = .ok (.ireturn, 1) := by decide +kernel
theorem dX1_connected_40 : decode cX1_connected 40 = .ok (.iinc 2 1, 3) := by decide +kernel
theorem dX1_connected_43 : decode cX1_connected 43 = .ok (.goto (-31), 3) := by decide +kernel
theorem dX1_connected_46 : decode cX1_connected 46 = .ok (.iconst 1, 1) := by decide +kernel
theorem dX1_connected_47 : decode cX1_connected 47 = .ok (.ireturn, 1) := by decide +kernel
theorem dX1_isLinked_0 : decode cX1_isLinked 0 = .ok (.iconst 0, 1) := by decide +kernel
theorem dX1_isLinked_1 : decode cX1_isLinked 1 = .ok (.istore_n 3, 1) := by decide +kernel
theorem dX1_isLinked_2 : decode cX1_isLinked 2 = .ok (.iload_n 3, 1) := by decide +kernel
theorem dX1_isLinked_3 : decode cX1_isLinked 3 = .ok (.bipush 25, 2) := by decide +kernel
theorem dX1_isLinked_5 : decode cX1_isLinked 5 = .ok (.if_icmp .ge 42, 3) := by decide +kernel
theorem dX1_isLinked_8 : decode cX1_isLinked 8 = .ok (.aload_n 0, 1) := by decide +kernel
theorem dX1_isLinked_9 : decode cX1_isLinked 9 = .ok (.getfield 13, 3) := by decide +kernel
theorem dX1_isLinked_12 : decode cX1_isLinked 12 = .ok (.iload_n 3, 1) := by decide +kernel
theorem dX1_isLinked_13 : decode cX1_isLinked 13 = .ok (.iaload, 1) := by decide +kernel
theorem dX1_isLinked_14 : decode cX1_isLinked 14 = .ok (.ifCond .lt 27, 3) := by decide +kernel
theorem dX1_isLinked_17 : decode cX1_isLinked 17 = .ok (.aload_n 0, 1) := by decide +kernel
theorem dX1_isLinked_18 : decode cX1_isLinked 18 = .ok (.iload_n 1, 1) := by decide +kernel
theorem dX1_isLinked_19 : decode cX1_isLinked 19 = .ok (.iload_n 3, 1) := by decide +kernel
theorem dX1_isLinked_20 : decode cX1_isLinked 20 = .ok (.iconst 5, 1) := by decide +kernel
theorem dX1_isLinked_21 : decode cX1_isLinked 21 = .ok (.idiv, 1) := by decide +kernel
theorem dX1_isLinked_22 : decode cX1_isLinked 22 = .ok (.invokevirtual 40, 3) := by decide +kernel
theorem dX1_isLinked_25 : decode cX1_isLinked 25 = .ok (.ifCond .eq 16, 3) := by decide +kernel
theorem dX1_isLinked_28 : decode cX1_isLinked 28 = .ok (.aload_n 0, 1) := by decide +kernel
theorem dX1_isLinked_29 : decode cX1_isLinked 29 = .ok (.iload_n 2, 1) := by decide +kernel
theorem dX1_isLinked_30 : decode cX1_isLinked 30 = .ok (.iload_n 3, 1) := by decide +kernel
theorem dX1_isLinked_31 : decode cX1_isLinked 31 = .ok (.iconst 5, 1) := by decide +kernel
theorem dX1_isLinked_32 : decode cX1_isLinked 32 = .ok (.irem, 1) := by decide +kernel
theorem dX1_isLinked_33 : decode cX1_isLinked 33 = .ok (.invokevirtual 40, 3) := by decide +kernel
theorem dX1_isLinked_36 : decode cX1_isLinked 36 = .ok (.ifCond .eq 5, 3) := by decide +kernel
theorem dX1_isLinked_39 : decode cX1_isLinked 39 = .ok (.iconst 1, 1) := by decide +kernel
theorem dX1_isLinked_40 : decode cX1_isLinked 40 = .ok (.ireturn, 1) := by decide +kernel
theorem dX1_isLinked_41 : decode cX1_isLinked 41 = .ok (.iinc 3 1, 3) := by decide +kernel
theorem dX1_isLinked_44 : decode cX1_isLinked 44 = .ok (.goto (-42), 3) := by decide +kernel
theorem dX1_isLinked_47 : decode cX1_isLinked 47 = .ok (.iconst 0, 1) := by decide +kernel
theorem dX1_isLinked_48 : decode cX1_isLinked 48 = .ok (.ireturn, 1) := by decide +kernel
theorem dX1_cost_0 : decode cX1_cost 0 = .ok (.aload_n 0, 1) := by decide +kernel
theorem dX1_cost_1 : decode cX1_cost 1 = .ok (.iload_n 1, 1) := by decide +kernel
theorem dX1_cost_2 : decode cX1_cost 2 = .ok (.invokevirtual 43, 3) := by decide +kernel
theorem dX1_cost_5 : decode cX1_cost 5 = .ok (.ifCond .eq 13, 3) := by decide +kernel
theorem dX1_cost_8 : decode cX1_cost 8 = .ok (.aload_n 0, 1) := by decide +kernel
theorem dX1_cost_9 : decode cX1_cost 9 = .ok (.iload_n 1, 1) := by decide +kernel
theorem dX1_cost_10 : decode cX1_cost 10 = .ok (.iconst 0, 1) := by decide +kernel
theorem dX1_cost_11 : decode cX1_cost 11 = .ok (.iconst 0, 1) := by decide +kernel
theorem dX1_cost_12 : decode cX1_cost 12 = .ok (.invokevirtual 89, 3) := by decide +kernel
theorem dX1_cost_15 : decode cX1_cost 15 = .ok (.goto 4, 3) := by decide +kernel
theorem dX1_cost_18 : decode cX1_cost 18 = .ok (.iconst (-1), 1) := by decide +kernel
theorem dX1_cost_19 : decode cX1_cost 19 = .ok (.ireturn, 1) := by decide +kernel
theorem dX1_extreme_0 : decode cX1_extreme 0 = .ok (.aload_n 0, 1) := by decide +kernel
theorem dX1_extreme_1 : decode cX1_extreme 1 = .ok (.iload_n 1, 1) := by decide +kernel
theorem dX1_extreme_2 : decode cX1_extreme 2 = .ok (.invokevirtual 76, 3) := by decide +kernel
theorem dX1_extreme_5 : decode cX1_extreme 5 = .ok (.istore 4, 2) := by decide +kernel
theorem dX1_extreme_7 : decode cX1_extreme 7 = .ok (.aload_n 0, 1) := by decide +kernel
theorem dX1_extreme_8 : decode cX1_extreme 8 = .ok (.iload_n 1, 1) := by decide +kernel
theorem dX1_extreme_9 : decode cX1_extreme 9 = .ok (.invokevirtual 53, 3) := by decide +kernel
theorem dX1_extreme_12 : decode cX1_extreme 12 = .ok (.istore 5, 2) := by decide +kernel
theorem dX1_extreme_14 : decode cX1_extreme 14 = .ok (.bipush (-4), 2) := by decide +kernel
theorem dX1_extreme_16 : decode cX1_extreme 16 = .ok (.istore 6, 2) := by decide +kernel
theorem dX1_extreme_18 : decode cX1_extreme 18 = .ok (.iconst 0, 1) := by decide +kernel
theorem dX1_extreme_19 : decode cX1_extreme 19 = .ok (.istore 7, 2) := by decide +kernel
theorem dX1_extreme_21 : decode cX1_extreme 21 = .ok (.iload 7, 2) := by decide +kernel
theorem dX1_extreme_23 : decode cX1_extreme 23 = .ok (.iload 4, 2) := by decide +kernel
theorem dX1_extreme_25 : decode cX1_extreme 25 = .ok (.aload_n 0, 1) := by decide +kernel
theorem dX1_extreme_26 : decode cX1_extreme 26 = .ok (.getfield 56, 3) := by decide +kernel
theorem dX1_extreme_29 : decode cX1_extreme 29 = .ok (.imul, 1) := by decide +kernel
theorem dX1_extreme_30 : decode cX1_extreme 30 = .ok (.if_icmp .ge 107, 3) := by decide +kernel
theorem dX1_extreme_33 : decode cX1_extreme 33 = .ok (.aload_n 0, 1) := by decide +kernel
theorem dX1_extreme_34 : decode cX1_extreme 34 = .ok (.iload_n 1, 1) := by decide +kernel
theorem dX1_extreme_35 : decode cX1_extreme 35 = .ok (.iload 7, 2) := by decide +kernel
theorem dX1_extreme_37 : decode cX1_extreme 37 = .ok (.aload_n 0, 1) := by decide +kernel
theorem dX1_extreme_38 : decode cX1_extreme 38 = .ok (.getfield 56, 3) := by decide +kernel
theorem dX1_extreme_41 : decode cX1_extreme 41 = .ok (.idiv, 1) := by decide +kernel
theorem dX1_extreme_42 : decode cX1_extreme 42 = .ok (.iload 4, 2) := by decide +kernel
theorem dX1_extreme_44 : decode cX1_extreme 44 = .ok (.invokevirtual 79, 3) := by decide +kernel
theorem dX1_extreme_47 : decode cX1_extreme 47 = .ok (.aload_n 0, 1) := by decide +kernel
theorem dX1_extreme_48 : decode cX1_extreme 48 = .ok (.aload_n 0, 1) := by decide +kernel
theorem dX1_extreme_49 : decode cX1_extreme 49 = .ok (.getfield 19, 3) := by decide +kernel
theorem dX1_extreme_52 : decode cX1_extreme 52 = .ok (.iload 7, 2) := by decide +kernel
theorem dX1_extreme_54 : decode cX1_extreme 54 = .ok (.aload_n 0, 1) := by decide +kernel
theorem dX1_extreme_55 : decode cX1_extreme 55 = .ok (.getfield 56, 3) := by decide +kernel
theorem dX1_extreme_58 : decode cX1_extreme 58 = .ok (.irem, 1) := by decide +kernel
theorem dX1_extreme_59 : decode cX1_extreme 59 = .ok (.iaload, 1) := by decide +kernel
theorem dX1_extreme_60 : decode cX1_extreme 60 = .ok (.iload 5, 2) := by decide +kernel
theorem dX1_extreme_62 : decode cX1_extreme 62 = .ok (.invokevirtual 82, 3) := by decide +kernel
theorem dX1_extreme_65 : decode cX1_extreme 65 = .ok (.iload_n 3, 1) := by decide +kernel
theorem dX1_extreme_66 : decode cX1_extreme 66 = .ok (.ifCond .eq 20, 3) := by decide +kernel
theorem dX1_extreme_69 : decode cX1_extreme 69 = .ok (.aload_n 0, 1) := by decide +kernel
theorem dX1_extreme_70 : decode cX1_extreme 70 = .ok (.getfield 63, 3) := by decide +kernel
theorem dX1_extreme_73 : decode cX1_extreme 73 = .ok (.iload 6, 2) := by decide +kernel
theorem dX1_extreme_75 : decode cX1_extreme 75 = .ok (.if_icmp .le 7, 3) := by decide +kernel
theorem dX1_extreme_78 : decode cX1_extreme 78 = .ok (.iconst 1, 1) := by decide +kernel
theorem dX1_extreme_79 : decode cX1_extreme 79 = .ok (.goto 26, 3) := by decide +kernel
theorem dX1_extreme_82 : decode cX1_extreme 82 = .ok (.iconst 0, 1) := by decide +kernel
theorem dX1_extreme_83 : decode cX1_extreme 83 = .ok (.goto 22, 3) := by decide +kernel
theorem dX1_extreme_86 : decode cX1_extreme 86 = .ok (.iload 6, 2) := by decide +kernel
theorem dX1_extreme_88 : decode cX1_extreme 88 = .ok (.ifCond .lt 12, 3) := by decide +kernel
theorem dX1_extreme_91 : decode cX1_extreme 91 = .ok (.aload_n 0, 1) := by decide +kernel
theorem dX1_extreme_92 : decode cX1_extreme 92 = .ok (.getfield 63, 3) := by decide +kernel
theorem dX1_extreme_95 : decode cX1_extreme 95 = .ok (.iload 6, 2) := by decide +kernel
theorem dX1_extreme_97 : decode cX1_extreme 97 = .ok (.if_icmp .ge 7, 3) := by decide +kernel
theorem dX1_extreme_100 : decode cX1_extreme 100 = .ok (.iconst 1, 1) := by decide +kernel
theorem dX1_extreme_101 : decode cX1_extreme 101 = .ok (.goto 4, 3) := by decide +kernel
theorem dX1_extreme_104 : decode cX1_extreme 104 = .ok (.iconst 0, 1) := by decide +kernel
theorem dX1_extreme_105 : decode cX1_extreme 105 = .ok (.istore 8, 2) := by decide +kernel
theorem dX1_extreme_107 : decode cX1_extreme 107 = .ok (.aload_n 0, 1) := by decide +kernel
theorem dX1_extreme_108 : decode cX1_extreme 108 = .ok (.iload_n 2, 1) := by decide +kernel
theorem dX1_extreme_109 : decode cX1_extreme 109 = .ok (.invokevirtual 86, 3) := by decide +kernel
theorem dX1_extreme_112 : decode cX1_extreme 112 = .ok (.ifCond .eq 15, 3) := by decide +kernel
theorem dX1_extreme_115 : decode cX1_extreme 115 = .ok (.iload 8, 2) := by decide +kernel
theorem dX1_extreme_117 : decode cX1_extreme 117 = .ok (.ifCond .eq 10, 3) := by decide +kernel
theorem dX1_extreme_120 : decode cX1_extreme 120 = .ok (.aload_n 0, 1) := by decide +kernel
theorem dX1_extreme_121 : decode cX1_extreme 121 = .ok (.getfield 63, 3) := by decide +kernel
theorem dX1_extreme_124 : decode cX1_extreme 124 = .ok (.goto 5, 3) := by decide +kernel
theorem dX1_extreme_127 : decode cX1_extreme 127 = .ok (.iload 6, 2) := by decide +kernel
theorem dX1_extreme_129 : decode cX1_extreme 129 = .ok (.istore 6, 2) := by decide +kernel
theorem dX1_extreme_131 : decode cX1_extreme 131 = .ok (.iinc 7 1, 3) := by decide +kernel
theorem dX1_extreme_134 : decode cX1_extreme 134 = .ok (.goto (-113), 3) := by decide +kernel
theorem dX1_extreme_137 : decode cX1_extreme 137 = .ok (.iload 6, 2) := by decide +kernel
theorem dX1_extreme_139 : decode cX1_extreme 139 = .ok (.ireturn, 1) := by decide +kernel
theorem dX1_prepare_0 : decode cX1_prepare 0 = .ok (.iconst 0, 1) := by decide +kernel
theorem dX1_prepare_1 : decode cX1_prepare 1 = .ok (.istore_n 2, 1) := by decide +kernel
theorem dX1_prepare_2 : decode cX1_prepare 2 = .ok (.iload_n 2, 1) := by decide +kernel
theorem dX1_prepare_3 : decode cX1_prepare 3 = .ok (.bipush 32, 2) := by decide +kernel
theorem dX1_prepare_5 : decode cX1_prepare 5 = .ok (.if_icmp .ge 20, 3) := by decide +kernel
theorem dX1_prepare_8 : decode cX1_prepare 8 = .ok (.aload_n 0, 1) := by decide +kernel
theorem dX1_prepare_9 : decode cX1_prepare 9 = .ok (.getfield 16, 3) := by decide +kernel
theorem dX1_prepare_12 : decode cX1_prepare 12 = .ok (.iload_n 2, 1) := by decide +kernel
theorem dX1_prepare_13 : decode cX1_prepare 13 = .ok (.aload_n 0, 1) := by decide +kernel
theorem dX1_prepare_14 : decode cX1_prepare 14 = .ok (.iload_n 2, 1) := by decide +kernel
theorem dX1_prepare_15 : decode cX1_prepare 15 = .ok (.invokevirtual 46, 3) := by decide +kernel
theorem dX1_prepare_18 : decode cX1_prepare 18 = .ok (.iastore, 1) := by decide +kernel
theorem dX1_prepare_19 : decode cX1_prepare 19 = .ok (.iinc 2 1, 3) := by decide +kernel
theorem dX1_prepare_22 : decode cX1_prepare 22 = .ok (.goto (-20), 3) := by decide +kernel
theorem dX1_prepare_25 : decode cX1_prepare 25 = .ok (.aload_n 0, 1) := by decide +kernel
theorem dX1_prepare_26 : decode cX1_prepare 26 = .ok (.iload_n 1, 1) := by decide +kernel
theorem dX1_prepare_27 : decode cX1_prepare 27 = .ok (.invokevirtual 53, 3) := by decide +kernel
theorem dX1_prepare_30 : decode cX1_prepare 30 = .ok (.istore_n 2, 1) := by decide +kernel
theorem dX1_prepare_31 : decode cX1_prepare 31 = .ok (.aload_n 0, 1) := by decide +kernel
theorem dX1_prepare_32 : decode cX1_prepare 32 = .ok (.iconst 0, 1) := by decide +kernel
theorem dX1_prepare_33 : decode cX1_prepare 33 = .ok (.putfield 56, 3) := by decide +kernel
theorem dX1_prepare_36 : decode cX1_prepare 36 = .ok (.iconst 0, 1) := by decide +kernel
theorem dX1_prepare_37 : decode cX1_prepare 37 = .ok (.istore_n 3, 1) := by decide +kernel
theorem dX1_prepare_38 : decode cX1_prepare 38 = .ok (.iload_n 3, 1) := by decide +kernel
theorem dX1_prepare_39 : decode cX1_prepare 39 = .ok (.sipush 512, 3) := by decide +kernel
theorem dX1_prepare_42 : decode cX1_prepare 42 = .ok (.if_icmp .ge 49, 3) := by decide +kernel
theorem dX1_prepare_45 : decode cX1_prepare 45 = .ok (.iload_n 3, 1) := by decide +kernel
theorem dX1_prepare_46 : decode cX1_prepare 46 = .ok (.iconst 1, 1) := by decide +kernel
theorem dX1_prepare_47 : decode cX1_prepare 47 = .ok (.iconst 2, 1) := by decide +kernel
theorem dX1_prepare_48 : decode cX1_prepare 48 = .ok (.iload_n 2, 1) := by decide +kernel
theorem dX1_prepare_49 : decode cX1_prepare 49 = .ok (.imul, 1) := by decide +kernel
theorem dX1_prepare_50 : decode cX1_prepare 50 = .ok (.iconst 1, 1) := by decide +kernel
theorem dX1_prepare_51 : decode cX1_prepare 51 = .ok (.isub, 1) := by decide +kernel
theorem dX1_prepare_52 : decode cX1_prepare 52 = .ok (.ishl, 1) := by decide +kernel
theorem dX1_prepare_53 : decode cX1_prepare 53 = .ok (.if_icmp .ge 32, 3) := by decide +kernel
theorem dX1_prepare_56 : decode cX1_prepare 56 = .ok (.aload_n 0, 1) := by decide +kernel
theorem dX1_prepare_57 : decode cX1_prepare 57 = .ok (.iload_n 3, 1) := by decide +kernel
theorem dX1_prepare_58 : decode cX1_prepare 58 = .ok (.iload_n 2, 1) := by decide +kernel
theorem dX1_prepare_59 : decode cX1_prepare 59 = .ok (.invokevirtual 60, 3) := by decide +kernel
theorem dX1_prepare_62 : decode cX1_prepare 62 = .ok (.ifCond .eq 23, 3) := by decide +kernel
theorem dX1_prepare_65 : decode cX1_prepare 65 = .ok (.aload_n 0, 1) := by decide +kernel
theorem dX1_prepare_66 : decode cX1_prepare 66 = .ok (.getfield 19, 3) := by decide +kernel
theorem dX1_prepare_69 : decode cX1_prepare 69 = .ok (.aload_n 0, 1) := by decide +kernel
theorem dX1_prepare_70 : decode cX1_prepare 70 = .ok (.getfield 56, 3) := by decide +kernel
theorem dX1_prepare_73 : decode cX1_prepare 73 = .ok (.iload_n 3, 1) := by decide +kernel
theorem dX1_prepare_74 : decode cX1_prepare 74 = .ok (.iastore, 1) := by decide +kernel
theorem dX1_prepare_75 : decode cX1_prepare 75 = .ok (.aload_n 0, 1) := by decide +kernel
theorem dX1_prepare_76 : decode cX1_prepare 76 = .ok (.dup, 1) := by decide +kernel
theorem dX1_prepare_77 : decode cX1_prepare 77 = .ok (.getfield 56, 3) := by decide +kernel
theorem dX1_prepare_80 : decode cX1_prepare 80 = .ok (.iconst 1, 1) := by decide +kernel
theorem dX1_prepare_81 : decode cX1_prepare 81 = .ok (.iadd, 1) := by decide +kernel
theorem dX1_prepare_82 : decode cX1_prepare 82 = .ok (.putfield 56, 3) := by decide +kernel
theorem dX1_prepare_85 : decode cX1_prepare 85 = .ok (.iinc 3 1, 3) := by decide +kernel
theorem dX1_prepare_88 : decode cX1_prepare 88 = .ok (.goto (-50), 3) := by decide +kernel
theorem dX1_prepare_91 : decode cX1_prepare 91 = .ok (.iconst 1, 1) := by decide +kernel
theorem dX1_prepare_92 : decode cX1_prepare 92 = .ok (.istore_n 3, 1) := by decide +kernel
theorem dX1_prepare_93 : decode cX1_prepare 93 = .ok (.iconst 2, 1) := by decide +kernel
theorem dX1_prepare_94 : decode cX1_prepare 94 = .ok (.istore 4, 2) := by decide +kernel
theorem dX1_prepare_96 : decode cX1_prepare 96 = .ok (.iload 4, 2) := by decide +kernel
theorem dX1_prepare_98 : decode cX1_prepare 98 = .ok (.iload_n 2, 1) := by decide +kernel
theorem dX1_prepare_99 : decode cX1_prepare 99 = .ok (.if_icmp .gt 14, 3) := by decide +kernel
theorem dX1_prepare_102 : decode cX1_prepare 102 = .ok (.iload_n 3, 1) := by decide +kernel
theorem dX1_prepare_103 : decode cX1_prepare 103 = .ok (.iload 4, 2) := by decide +kernel
theorem dX1_prepare_105 : decode cX1_prepare 105 = .ok (.imul, 1) := by decide +kernel
theorem dX1_prepare_106 : decode cX1_prepare 106 = .ok (.istore_n 3, 1) := by decide +kernel
theorem dX1_prepare_107 : decode cX1_prepare 107 = .ok (.iinc 4 1, 3) := by decide +kernel
theorem dX1_prepare_110 : decode cX1_prepare 110 = .ok (.goto (-14), 3) := by decide +kernel
theorem dX1_prepare_113 : decode cX1_prepare 113 = .ok (.iload_n 3, 1) := by decide +kernel
theorem dX1_prepare_114 : decode cX1_prepare 114 = .ok (.ireturn, 1) := by decide +kernel
theorem dX1_count_0 : decode cX1_count 0 = .ok (.iconst 0, 1) := by decide +kernel
theorem dX1_count_1 : decode cX1_count 1 = .ok (.istore_n 2, 1) := by decide +kernel
theorem dX1_count_2 : decode cX1_count 2 = .ok (.iconst 0, 1) := by decide +kernel
theorem dX1_count_3 : decode cX1_count 3 = .ok (.istore_n 3, 1) := by decide +kernel
theorem dX1_count_4 : decode cX1_count 4 = .ok (.iload_n 3, 1) := by decide +kernel
theorem dX1_count_5 : decode cX1_count 5 = .ok (.iconst 5, 1) := by decide +kernel
theorem dX1_count_6 : decode cX1_count 6 = .ok (.if_icmp .ge 26, 3) := by decide +kernel
theorem dX1_count_9 : decode cX1_count 9 = .ok (.aload_n 0, 1) := by decide +kernel
theorem dX1_count_10 : decode cX1_count 10 = .ok (.iload_n 1, 1) := by decide +kernel
theorem dX1_count_11 : decode cX1_count 11 = .ok (.iload_n 3, 1) := by decide +kernel
theorem dX1_count_12 : decode cX1_count 12 = .ok (.invokevirtual 40, 3) := by decide +kernel
theorem dX1_count_15 : decode cX1_count 15 = .ok (.ifCond .eq 9, 3) := by decide +kernel
theorem dX1_count_18 : decode cX1_count 18 = .ok (.iload_n 2, 1) := by decide +kernel
theorem dX1_count_19 : decode cX1_count 19 = .ok (.iconst 1, 1) := by decide +kernel
theorem dX1_count_20 : decode cX1_count 20 = .ok (.iadd, 1) := by decide +kernel
theorem dX1_count_21 : decode cX1_count 21 = .ok (.goto 4, 3) := by decide +kernel
theorem dX1_count_24 : decode cX1_count 24 = .ok (.iload_n 2, 1) := by decide +kernel
theorem dX1_count_25 : decode cX1_count 25 = .ok (.istore_n 2, 1) := by decide +kernel
theorem dX1_count_26 : decode cX1_count 26 = .ok (.iinc 3 1, 3) := by decide +kernel
theorem dX1_count_29 : decode cX1_count 29 = .ok (.goto (-25), 3) := by decide +kernel
theorem dX1_count_32 : decode cX1_count 32 = .ok (.iload_n 2, 1) := by decide +kernel
theorem dX1_count_33 : decode cX1_count 33 = .ok (.ireturn, 1) := by decide +kernel
theorem dX1_isForm_0 : decode cX1_isForm 0 = .ok (.iconst 0, 1) := by decide +kernel
theorem dX1_isForm_1 : decode cX1_isForm 1 = .ok (.istore_n 3, 1) := by decide +kernel
theorem dX1_isForm_2 : decode cX1_isForm 2 = .ok (.iconst 0, 1) := by decide +kernel
theorem dX1_isForm_3 : decode cX1_isForm 3 = .ok (.istore 4, 2) := by decide +kernel
theorem dX1_isForm_5 : decode cX1_isForm 5 = .ok (.iload 4, 2) := by decide +kernel
theorem dX1_isForm_7 : decode cX1_isForm 7 = .ok (.iconst 2, 1) := by decide +kernel
theorem dX1_isForm_8 : decode cX1_isForm 8 = .ok (.iload_n 2, 1) := by decide +kernel
theorem dX1_isForm_9 : decode cX1_isForm 9 = .ok (.imul, 1) := by decide +kernel
theorem dX1_isForm_10 : decode cX1_isForm 10 = .ok (.iconst 1, 1) := by decide +kernel
theorem dX1_isForm_11 : decode cX1_isForm 11 = .ok (.isub, 1) := by decide +kernel
theorem dX1_isForm_12 : decode cX1_isForm 12 = .ok (.if_icmp .ge 36, 3) := by decide +kernel
theorem dX1_isForm_15 : decode cX1_isForm 15 = .ok (.iload_n 1, 1) := by decide +kernel
theorem dX1_isForm_16 : decode cX1_isForm 16 = .ok (.iload 4, 2) := by decide +kernel
theorem dX1_isForm_18 : decode cX1_isForm 18 = .ok (.ishr, 1) := by decide +kernel
theorem dX1_isForm_19 : decode cX1_isForm 19 = .ok (.iconst 1, 1) := by decide +kernel
theorem dX1_isForm_20 : decode cX1_isForm 20 = .ok (.iand, 1) := by decide +kernel
theorem dX1_isForm_21 : decode cX1_isForm 21 = .ok (.iconst 1, 1) := by decide +kernel
theorem dX1_isForm_22 : decode cX1_isForm 22 = .ok (.if_icmp .ne 9, 3) := by decide +kernel
theorem dX1_isForm_25 : decode cX1_isForm 25 = .ok (.iload_n 3, 1) := by decide +kernel
theorem dX1_isForm_26 : decode cX1_isForm 26 = .ok (.iconst 1, 1) := by decide +kernel
theorem dX1_isForm_27 : decode cX1_isForm 27 = .ok (.iadd, 1) := by decide +kernel
theorem dX1_isForm_28 : decode cX1_isForm 28 = .ok (.goto 6, 3) := by decide +kernel
theorem dX1_isForm_31 : decode cX1_isForm 31 = .ok (.iload_n 3, 1) := by decide +kernel
theorem dX1_isForm_32 : decode cX1_isForm 32 = .ok (.iconst 1, 1) := by decide +kernel
theorem dX1_isForm_33 : decode cX1_isForm 33 = .ok (.isub, 1) := by decide +kernel
theorem dX1_isForm_34 : decode cX1_isForm 34 = .ok (.istore_n 3, 1) := by decide +kernel
theorem dX1_isForm_35 : decode cX1_isForm 35 = .ok (.iload_n 3, 1) := by decide +kernel
theorem dX1_isForm_36 : decode cX1_isForm 36 = .ok (.iconst 1, 1) := by decide +kernel
theorem dX1_isForm_37 : decode cX1_isForm 37 = .ok (.if_icmp .ge 5, 3) := by decide +kernel
theorem dX1_isForm_40 : decode cX1_isForm 40 = .ok (.iconst 0, 1) := by decide +kernel
theorem dX1_isForm_41 : decode cX1_isForm 41 = .ok (.ireturn, 1) := by decide +kernel
theorem dX1_isForm_42 : decode cX1_isForm 42 = .ok (.iinc 4 1, 3) := by decide +kernel
theorem dX1_isForm_45 : decode cX1_isForm 45 = .ok (.goto (-40), 3) := by decide +kernel
theorem dX1_isForm_48 : decode cX1_isForm 48 = .ok (.iload_n 3, 1) := by decide +kernel
theorem dX1_isForm_49 : decode cX1_isForm 49 = .ok (.iconst 1, 1) := by decide +kernel
theorem dX1_isForm_50 : decode cX1_isForm 50 = .ok (.if_icmp .ne 7, 3) := by decide +kernel
theorem dX1_isForm_53 : decode cX1_isForm 53 = .ok (.iconst 1, 1) := by decide +kernel
theorem dX1_isForm_54 : decode cX1_isForm 54 = .ok (.goto 4, 3) := by decide +kernel
theorem dX1_isForm_57 : decode cX1_isForm 57 = .ok (.iconst 0, 1) := by decide +kernel
theorem dX1_isForm_58 : decode cX1_isForm 58 = .ok (.ireturn, 1) := by decide +kernel
theorem dX1_order_0 : decode cX1_order 0 = .ok (.iload_n 2, 1) := by decide +kernel
theorem dX1_order_1 : decode cX1_order 1 = .ok (.istore 4, 2) := by decide +kernel
end
section
set_option maxRecDepth 100000
theorem dX1_order_3 : decode cX1_order 3 = .ok (.iload_n 3, 1) := by decide +kernel
theorem dX1_order_4 : decode cX1_order 4 = .ok (.istore 5, 2) := by decide +kernel
theorem dX1_order_6 : decode cX1_order 6 = .ok (.iload_n 1, 1) := by decide +kernel
theorem dX1_order_7 : decode cX1_order 7 = .ok (.istore 6, 2) := by decide +kernel
theorem dX1_order_9 : decode cX1_order 9 = .ok (.aload_n 0, 1) := by decide +kernel
theorem dX1_order_10 : decode cX1_order 10 = .ok (.iload_n 1, 1) := by decide +kernel
theorem dX1_order_11 : decode cX1_order 11 = .ok (.invokevirtual 53, 3) := by decide +kernel
theorem dX1_order_14 : decode cX1_order 14 = .ok (.istore 7, 2) := by decide +kernel
theorem dX1_order_16 : decode cX1_order 16 = .ok (.iconst 0, 1) := by decide +kernel
theorem dX1_order_17 : decode cX1_order 17 = .ok (.istore 8, 2) := by decide +kernel
theorem dX1_order_19 : decode cX1_order 19 = .ok (.iload 8, 2) := by decide +kernel
theorem dX1_order_21 : decode cX1_order 21 = .ok (.iload 7, 2) := by decide +kernel
theorem dX1_order_23 : decode cX1_order 23 = .ok (.if_icmp .ge 100, 3) := by decide +kernel
theorem dX1_order_26 : decode cX1_order 26 = .ok (.iload 5, 2) := by decide +kernel
theorem dX1_order_28 : decode cX1_order 28 = .ok (.iload 7, 2) := by decide +kernel
theorem dX1_order_30 : decode cX1_order 30 = .ok (.iload 8, 2) := by decide +kernel
theorem dX1_order_32 : decode cX1_order 32 = .ok (.isub, 1) := by decide +kernel
theorem dX1_order_33 : decode cX1_order 33 = .ok (.idiv, 1) := by decide +kernel
theorem dX1_order_34 : decode cX1_order 34 = .ok (.istore 5, 2) := by decide +kernel
theorem dX1_order_36 : decode cX1_order 36 = .ok (.iload 4, 2) := by decide +kernel
theorem dX1_order_38 : decode cX1_order 38 = .ok (.iload 5, 2) := by decide +kernel
theorem dX1_order_40 : decode cX1_order 40 = .ok (.idiv, 1) := by decide +kernel
theorem dX1_order_41 : decode cX1_order 41 = .ok (.istore 9, 2) := by decide +kernel
theorem dX1_order_43 : decode cX1_order 43 = .ok (.iload 4, 2) := by decide +kernel
theorem dX1_order_45 : decode cX1_order 45 = .ok (.iload 5, 2) := by decide +kernel
theorem dX1_order_47 : decode cX1_order 47 = .ok (.irem, 1) := by decide +kernel
theorem dX1_order_48 : decode cX1_order 48 = .ok (.istore 4, 2) := by decide +kernel
theorem dX1_order_50 : decode cX1_order 50 = .ok (.iconst 0, 1) := by decide +kernel
theorem dX1_order_51 : decode cX1_order 51 = .ok (.istore 10, 2) := by decide +kernel
theorem dX1_order_53 : decode cX1_order 53 = .ok (.aload_n 0, 1) := by decide +kernel
theorem dX1_order_54 : decode cX1_order 54 = .ok (.iload 6, 2) := by decide +kernel
theorem dX1_order_56 : decode cX1_order 56 = .ok (.iload 10, 2) := by decide +kernel
theorem dX1_order_58 : decode cX1_order 58 = .ok (.invokevirtual 40, 3) := by decide +kernel
theorem dX1_order_61 : decode cX1_order 61 = .ok (.ifCond .eq 8, 3) := by decide +kernel
theorem dX1_order_64 : decode cX1_order 64 = .ok (.iload 9, 2) := by decide +kernel
theorem dX1_order_66 : decode cX1_order 66 = .ok (.ifCond .le 31, 3) := by decide +kernel
theorem dX1_order_69 : decode cX1_order 69 = .ok (.aload_n 0, 1) := by decide +kernel
theorem dX1_order_70 : decode cX1_order 70 = .ok (.iload 6, 2) := by decide +kernel
theorem dX1_order_72 : decode cX1_order 72 = .ok (.iload 10, 2) := by decide +kernel
theorem dX1_order_74 : decode cX1_order 74 = .ok (.invokevirtual 40, 3) := by decide +kernel
theorem dX1_order_77 : decode cX1_order 77 = .ok (.ifCond .eq 10, 3) := by decide +kernel
theorem dX1_order_80 : decode cX1_order 80 = .ok (.iload 9, 2) := by decide +kernel
theorem dX1_order_82 : decode cX1_order 82 = .ok (.iconst 1, 1) := by decide +kernel
theorem dX1_order_83 : decode cX1_order 83 = .ok (.isub, 1) := by decide +kernel
theorem dX1_order_84 : decode cX1_order 84 = .ok (.goto 5, 3) := by decide +kernel
theorem dX1_order_87 : decode cX1_order 87 = .ok (.iload 9, 2) := by decide +kernel
theorem dX1_order_89 : decode cX1_order 89 = .ok (.istore 9, 2) := by decide +kernel
theorem dX1_order_91 : decode cX1_order 91 = .ok (.iinc 10 1, 3) := by decide +kernel
theorem dX1_order_94 : decode cX1_order 94 = .ok (.goto (-41), 3) := by decide +kernel
theorem dX1_order_97 : decode cX1_order 97 = .ok (.aload_n 0, 1) := by decide +kernel
theorem dX1_order_98 : decode cX1_order 98 = .ok (.getfield 22, 3) := by decide +kernel
theorem dX1_order_101 : decode cX1_order 101 = .ok (.iload 8, 2) := by decide +kernel
theorem dX1_order_103 : decode cX1_order 103 = .ok (.iload 10, 2) := by decide +kernel
theorem dX1_order_105 : decode cX1_order 105 = .ok (.iastore, 1) := by decide +kernel
theorem dX1_order_106 : decode cX1_order 106 = .ok (.iload 6, 2) := by decide +kernel
theorem dX1_order_108 : decode cX1_order 108 = .ok (.iconst 1, 1) := by decide +kernel
theorem dX1_order_109 : decode cX1_order 109 = .ok (.iload 10, 2) := by decide +kernel
theorem dX1_order_111 : decode cX1_order 111 = .ok (.ishl, 1) := by decide +kernel
theorem dX1_order_112 : decode cX1_order 112 = .ok (.iconst (-1), 1) := by decide +kernel
theorem dX1_order_113 : decode cX1_order 113 = .ok (.ixor, 1) := by decide +kernel
theorem dX1_order_114 : decode cX1_order 114 = .ok (.iand, 1) := by decide +kernel
theorem dX1_order_115 : decode cX1_order 115 = .ok (.istore 6, 2) := by decide +kernel
theorem dX1_order_117 : decode cX1_order 117 = .ok (.iinc 8 1, 3) := by decide +kernel
theorem dX1_order_120 : decode cX1_order 120 = .ok (.goto (-101), 3) := by decide +kernel
theorem dX1_order_123 : decode cX1_order 123 = .ok (.return_, 1) := by decide +kernel
theorem dX1_follow_0 : decode cX1_follow 0 = .ok (.iconst 0, 1) := by decide +kernel
theorem dX1_follow_1 : decode cX1_follow 1 = .ok (.istore_n 3, 1) := by decide +kernel
theorem dX1_follow_2 : decode cX1_follow 2 = .ok (.iconst 0, 1) := by decide +kernel
theorem dX1_follow_3 : decode cX1_follow 3 = .ok (.istore 4, 2) := by decide +kernel
theorem dX1_follow_5 : decode cX1_follow 5 = .ok (.aload_n 0, 1) := by decide +kernel
theorem dX1_follow_6 : decode cX1_follow 6 = .ok (.iconst 0, 1) := by decide +kernel
theorem dX1_follow_7 : decode cX1_follow 7 = .ok (.putfield 63, 3) := by decide +kernel
theorem dX1_follow_10 : decode cX1_follow 10 = .ok (.aload_n 0, 1) := by decide +kernel
theorem dX1_follow_11 : decode cX1_follow 11 = .ok (.bipush (-4), 2) := by decide +kernel
theorem dX1_follow_13 : decode cX1_follow 13 = .ok (.putfield 66, 3) := by decide +kernel
theorem dX1_follow_16 : decode cX1_follow 16 = .ok (.aload_n 0, 1) := by decide +kernel
theorem dX1_follow_17 : decode cX1_follow 17 = .ok (.iconst 1, 1) := by decide +kernel
theorem dX1_follow_18 : decode cX1_follow 18 = .ok (.putfield 69, 3) := by decide +kernel
theorem dX1_follow_21 : decode cX1_follow 21 = .ok (.aload_n 0, 1) := by decide +kernel
theorem dX1_follow_22 : decode cX1_follow 22 = .ok (.iconst 1, 1) := by decide +kernel
theorem dX1_follow_23 : decode cX1_follow 23 = .ok (.putfield 73, 3) := by decide +kernel
theorem dX1_follow_26 : decode cX1_follow 26 = .ok (.iconst 0, 1) := by decide +kernel
theorem dX1_follow_27 : decode cX1_follow 27 = .ok (.istore 5, 2) := by decide +kernel
theorem dX1_follow_29 : decode cX1_follow 29 = .ok (.iload 5, 2) := by decide +kernel
theorem dX1_follow_31 : decode cX1_follow 31 = .ok (.iconst 2, 1) := by decide +kernel
theorem dX1_follow_32 : decode cX1_follow 32 = .ok (.iload_n 2, 1) := by decide +kernel
theorem dX1_follow_33 : decode cX1_follow 33 = .ok (.imul, 1) := by decide +kernel
theorem dX1_follow_34 : decode cX1_follow 34 = .ok (.iconst 1, 1) := by decide +kernel
theorem dX1_follow_35 : decode cX1_follow 35 = .ok (.isub, 1) := by decide +kernel
theorem dX1_follow_36 : decode cX1_follow 36 = .ok (.if_icmp .ge 157, 3) := by decide +kernel
theorem dX1_follow_39 : decode cX1_follow 39 = .ok (.iload_n 1, 1) := by decide +kernel
theorem dX1_follow_40 : decode cX1_follow 40 = .ok (.iload 5, 2) := by decide +kernel
theorem dX1_follow_42 : decode cX1_follow 42 = .ok (.ishr, 1) := by decide +kernel
theorem dX1_follow_43 : decode cX1_follow 43 = .ok (.iconst 1, 1) := by decide +kernel
theorem dX1_follow_44 : decode cX1_follow 44 = .ok (.iand, 1) := by decide +kernel
theorem dX1_follow_45 : decode cX1_follow 45 = .ok (.iconst 1, 1) := by decide +kernel
theorem dX1_follow_46 : decode cX1_follow 46 = .ok (.if_icmp .ne 27, 3) := by decide +kernel
theorem dX1_follow_49 : decode cX1_follow 49 = .ok (.aload_n 0, 1) := by decide +kernel
theorem dX1_follow_50 : decode cX1_follow 50 = .ok (.getfield 25, 3) := by decide +kernel
theorem dX1_follow_53 : decode cX1_follow 53 = .ok (.iload_n 3, 1) := by decide +kernel
theorem dX1_follow_54 : decode cX1_follow 54 = .ok (.iconst 1, 1) := by decide +kernel
theorem dX1_follow_55 : decode cX1_follow 55 = .ok (.aload_n 0, 1) := by decide +kernel
theorem dX1_follow_56 : decode cX1_follow 56 = .ok (.getfield 22, 3) := by decide +kernel
theorem dX1_follow_59 : decode cX1_follow 59 = .ok (.iload 4, 2) := by decide +kernel
theorem dX1_follow_61 : decode cX1_follow 61 = .ok (.iaload, 1) := by decide +kernel
theorem dX1_follow_62 : decode cX1_follow 62 = .ok (.ishl, 1) := by decide +kernel
theorem dX1_follow_63 : decode cX1_follow 63 = .ok (.iastore, 1) := by decide +kernel
theorem dX1_follow_64 : decode cX1_follow 64 = .ok (.iinc 3 1, 3) := by decide +kernel
theorem dX1_follow_67 : decode cX1_follow 67 = .ok (.iinc 4 1, 3) := by decide +kernel
theorem dX1_follow_70 : decode cX1_follow 70 = .ok (.goto 117, 3) := by decide +kernel
theorem dX1_follow_73 : decode cX1_follow 73 = .ok (.iinc 3 (-1), 3) := by decide +kernel
theorem dX1_follow_76 : decode cX1_follow 76 = .ok (.aload_n 0, 1) := by decide +kernel
theorem dX1_follow_77 : decode cX1_follow 77 = .ok (.getfield 25, 3) := by decide +kernel
theorem dX1_follow_80 : decode cX1_follow 80 = .ok (.iload_n 3, 1) := by decide +kernel
theorem dX1_follow_81 : decode cX1_follow 81 = .ok (.iaload, 1) := by decide +kernel
theorem dX1_follow_82 : decode cX1_follow 82 = .ok (.istore 6, 2) := by decide +kernel
theorem dX1_follow_84 : decode cX1_follow 84 = .ok (.aload_n 0, 1) := by decide +kernel
theorem dX1_follow_85 : decode cX1_follow 85 = .ok (.aload_n 0, 1) := by decide +kernel
theorem dX1_follow_86 : decode cX1_follow 86 = .ok (.getfield 25, 3) := by decide +kernel
theorem dX1_follow_89 : decode cX1_follow 89 = .ok (.iload_n 3, 1) := by decide +kernel
theorem dX1_follow_90 : decode cX1_follow 90 = .ok (.iconst 1, 1) := by decide +kernel
theorem dX1_follow_91 : decode cX1_follow 91 = .ok (.isub, 1) := by decide +kernel
theorem dX1_follow_92 : decode cX1_follow 92 = .ok (.iaload, 1) := by decide +kernel
theorem dX1_follow_93 : decode cX1_follow 93 = .ok (.putfield 66, 3) := by decide +kernel
theorem dX1_follow_96 : decode cX1_follow 96 = .ok (.aload_n 0, 1) := by decide +kernel
theorem dX1_follow_97 : decode cX1_follow 97 = .ok (.aload_n 0, 1) := by decide +kernel
theorem dX1_follow_98 : decode cX1_follow 98 = .ok (.getfield 69, 3) := by decide +kernel
theorem dX1_follow_101 : decode cX1_follow 101 = .ok (.ifCond .eq 20, 3) := by decide +kernel
theorem dX1_follow_104 : decode cX1_follow 104 = .ok (.aload_n 0, 1) := by decide +kernel
theorem dX1_follow_105 : decode cX1_follow 105 = .ok (.aload_n 0, 1) := by decide +kernel
theorem dX1_follow_106 : decode cX1_follow 106 = .ok (.getfield 66, 3) := by decide +kernel
theorem dX1_follow_109 : decode cX1_follow 109 = .ok (.iload 6, 2) := by decide +kernel
theorem dX1_follow_111 : decode cX1_follow 111 = .ok (.invokevirtual 50, 3) := by decide +kernel
theorem dX1_follow_114 : decode cX1_follow 114 = .ok (.ifCond .eq 7, 3) := by decide +kernel
theorem dX1_follow_117 : decode cX1_follow 117 = .ok (.iconst 1, 1) := by decide +kernel
theorem dX1_follow_118 : decode cX1_follow 118 = .ok (.goto 4, 3) := by decide +kernel
theorem dX1_follow_121 : decode cX1_follow 121 = .ok (.iconst 0, 1) := by decide +kernel
theorem dX1_follow_122 : decode cX1_follow 122 = .ok (.putfield 69, 3) := by decide +kernel
theorem dX1_follow_125 : decode cX1_follow 125 = .ok (.aload_n 0, 1) := by decide +kernel
theorem dX1_follow_126 : decode cX1_follow 126 = .ok (.aload_n 0, 1) := by decide +kernel
theorem dX1_follow_127 : decode cX1_follow 127 = .ok (.getfield 73, 3) := by decide +kernel
theorem dX1_follow_130 : decode cX1_follow 130 = .ok (.ifCond .eq 17, 3) := by decide +kernel
theorem dX1_follow_133 : decode cX1_follow 133 = .ok (.iload 6, 2) := by decide +kernel
theorem dX1_follow_135 : decode cX1_follow 135 = .ok (.iload 6, 2) := by decide +kernel
theorem dX1_follow_137 : decode cX1_follow 137 = .ok (.iconst 1, 1) := by decide +kernel
theorem dX1_follow_138 : decode cX1_follow 138 = .ok (.isub, 1) := by decide +kernel
theorem dX1_follow_139 : decode cX1_follow 139 = .ok (.iand, 1) := by decide +kernel
theorem dX1_follow_140 : decode cX1_follow 140 = .ok (.ifCond .ne 7, 3) := by decide +kernel
theorem dX1_follow_143 : decode cX1_follow 143 = .ok (.iconst 1, 1) := by decide +kernel
theorem dX1_follow_144 : decode cX1_follow 144 = .ok (.goto 4, 3) := by decide +kernel
theorem dX1_follow_147 : decode cX1_follow 147 = .ok (.iconst 0, 1) := by decide +kernel
theorem dX1_follow_148 : decode cX1_follow 148 = .ok (.putfield 73, 3) := by decide +kernel
theorem dX1_follow_151 : decode cX1_follow 151 = .ok (.aload_n 0, 1) := by decide +kernel
theorem dX1_follow_152 : decode cX1_follow 152 = .ok (.getfield 25, 3) := by decide +kernel
theorem dX1_follow_155 : decode cX1_follow 155 = .ok (.iload_n 3, 1) := by decide +kernel
theorem dX1_follow_156 : decode cX1_follow 156 = .ok (.iconst 1, 1) := by decide +kernel
theorem dX1_follow_157 : decode cX1_follow 157 = .ok (.isub, 1) := by decide +kernel
theorem dX1_follow_158 : decode cX1_follow 158 = .ok (.aload_n 0, 1) := by decide +kernel
theorem dX1_follow_159 : decode cX1_follow 159 = .ok (.getfield 66, 3) := by decide +kernel
theorem dX1_follow_162 : decode cX1_follow 162 = .ok (.iload 6, 2) := by decide +kernel
theorem dX1_follow_164 : decode cX1_follow 164 = .ok (.ior, 1) := by decide +kernel
theorem dX1_follow_165 : decode cX1_follow 165 = .ok (.iastore, 1) := by decide +kernel
theorem dX1_follow_166 : decode cX1_follow 166 = .ok (.aload_n 0, 1) := by decide +kernel
theorem dX1_follow_167 : decode cX1_follow 167 = .ok (.aload_n 0, 1) := by decide +kernel
theorem dX1_follow_168 : decode cX1_follow 168 = .ok (.getfield 63, 3) := by decide +kernel
theorem dX1_follow_171 : decode cX1_follow 171 = .ok (.aload_n 0, 1) := by decide +kernel
theorem dX1_follow_172 : decode cX1_follow 172 = .ok (.getfield 16, 3) := by decide +kernel
theorem dX1_follow_175 : decode cX1_follow 175 = .ok (.aload_n 0, 1) := by decide +kernel
theorem dX1_follow_176 : decode cX1_follow 176 = .ok (.getfield 66, 3) := by decide +kernel
theorem dX1_follow_179 : decode cX1_follow 179 = .ok (.iload 6, 2) := by decide +kernel
theorem dX1_follow_181 : decode cX1_follow 181 = .ok (.ior, 1) := by decide +kernel
theorem dX1_follow_182 : decode cX1_follow 182 = .ok (.iaload, 1) := by decide +kernel
theorem dX1_follow_183 : decode cX1_follow 183 = .ok (.iadd, 1) := by decide +kernel
theorem dX1_follow_184 : decode cX1_follow 184 = .ok (.putfield 63, 3) := by decide +kernel
theorem dX1_follow_187 : decode cX1_follow 187 = .ok (.iinc 5 1, 3) := by decide +kernel
theorem dX1_follow_190 : decode cX1_follow 190 = .ok (.goto (-161), 3) := by decide +kernel
theorem dX1_follow_193 : decode cX1_follow 193 = .ok (.return_, 1) := by decide +kernel
theorem dX1_isKind_0 : decode cX1_isKind 0 = .ok (.iload_n 1, 1) := by decide +kernel
theorem dX1_isKind_1 : decode cX1_isKind 1 = .ok (.ifCond .eq 25, 3) := by decide +kernel
theorem dX1_isKind_4 : decode cX1_isKind 4 = .ok (.iload_n 1, 1) := by decide +kernel
theorem dX1_isKind_5 : decode cX1_isKind 5 = .ok (.iconst 1, 1) := by decide +kernel
theorem dX1_isKind_6 : decode cX1_isKind 6 = .ok (.if_icmp .ne 13, 3) := by decide +kernel
theorem dX1_isKind_9 : decode cX1_isKind 9 = .ok (.aload_n 0, 1) := by decide +kernel
theorem dX1_isKind_10 : decode cX1_isKind 10 = .ok (.getfield 73, 3) := by decide +kernel
theorem dX1_isKind_13 : decode cX1_isKind 13 = .ok (.ifCond .eq 17, 3) := by decide +kernel
theorem dX1_isKind_16 : decode cX1_isKind 16 = .ok (.goto 10, 3) := by decide +kernel
theorem dX1_isKind_19 : decode cX1_isKind 19 = .ok (.aload_n 0, 1) := by decide +kernel
theorem dX1_isKind_20 : decode cX1_isKind 20 = .ok (.getfield 69, 3) := by decide +kernel
theorem dX1_isKind_23 : decode cX1_isKind 23 = .ok (.ifCond .eq 7, 3) := by decide +kernel
theorem dX1_isKind_26 : decode cX1_isKind 26 = .ok (.iconst 1, 1) := by decide +kernel
theorem dX1_isKind_27 : decode cX1_isKind 27 = .ok (.goto 4, 3) := by decide +kernel
theorem dX1_isKind_30 : decode cX1_isKind 30 = .ok (.iconst 0, 1) := by decide +kernel
theorem dX1_isKind_31 : decode cX1_isKind 31 = .ok (.ireturn, 1) := by decide +kernel
theorem dX1_linearCost_0 : decode cX1_linearCost 0 = .ok (.aload_n 0, 1) := by decide +kernel
theorem dX1_linearCost_1 : decode cX1_linearCost 1 = .ok (.iload_n 1, 1) := by decide +kernel
theorem dX1_linearCost_2 : decode cX1_linearCost 2 = .ok (.invokevirtual 43, 3) := by decide +kernel
theorem dX1_linearCost_5 : decode cX1_linearCost 5 = .ok (.ifCond .eq 13, 3) := by decide +kernel
theorem dX1_linearCost_8 : decode cX1_linearCost 8 = .ok (.aload_n 0, 1) := by decide +kernel
theorem dX1_linearCost_9 : decode cX1_linearCost 9 = .ok (.iload_n 1, 1) := by decide +kernel
theorem dX1_linearCost_10 : decode cX1_linearCost 10 = .ok (.iconst 1, 1) := by decide +kernel
theorem dX1_linearCost_11 : decode cX1_linearCost 11 = .ok (.iconst 0, 1) := by decide +kernel
theorem dX1_linearCost_12 : decode cX1_linearCost 12 = .ok (.invokevirtual 89, 3) := by decide +kernel
theorem dX1_linearCost_15 : decode cX1_linearCost 15 = .ok (.goto 4, 3) := by decide +kernel
theorem dX1_linearCost_18 : decode cX1_linearCost 18 = .ok (.iconst (-1), 1) := by decide +kernel
theorem dX1_linearCost_19 : decode cX1_linearCost 19 = .ok (.ireturn, 1) := by decide +kernel
theorem dX1_linkedCost_0 : decode cX1_linkedCost 0 = .ok (.aload_n 0, 1) := by decide +kernel
theorem dX1_linkedCost_1 : decode cX1_linkedCost 1 = .ok (.iload_n 1, 1) := by decide +kernel
theorem dX1_linkedCost_2 : decode cX1_linkedCost 2 = .ok (.invokevirtual 43, 3) := by decide +kernel
theorem dX1_linkedCost_5 : decode cX1_linkedCost 5 = .ok (.ifCond .eq 13, 3) := by decide +kernel
theorem dX1_linkedCost_8 : decode cX1_linkedCost 8 = .ok (.aload_n 0, 1) := by decide +kernel
theorem dX1_linkedCost_9 : decode cX1_linkedCost 9 = .ok (.iload_n 1, 1) := by decide +kernel
theorem dX1_linkedCost_10 : decode cX1_linkedCost 10 = .ok (.iconst 2, 1) := by decide +kernel
theorem dX1_linkedCost_11 : decode cX1_linkedCost 11 = .ok (.iconst 0, 1) := by decide +kernel
theorem dX1_linkedCost_12 : decode cX1_linkedCost 12 = .ok (.invokevirtual 89, 3) := by decide +kernel
theorem dX1_linkedCost_15 : decode cX1_linkedCost 15 = .ok (.goto 4, 3) := by decide +kernel
theorem dX1_linkedCost_18 : decode cX1_linkedCost 18 = .ok (.iconst (-1), 1) := by decide +kernel
theorem dX1_linkedCost_19 : decode cX1_linkedCost 19 = .ok (.ireturn, 1) := by decide +kernel
theorem dX1_worst_0 : decode cX1_worst 0 = .ok (.aload_n 0, 1) := by decide +kernel
theorem dX1_worst_1 : decode cX1_worst 1 = .ok (.iload_n 1, 1) := by decide +kernel
theorem dX1_worst_2 : decode cX1_worst 2 = .ok (.invokevirtual 43, 3) := by decide +kernel
theorem dX1_worst_5 : decode cX1_worst 5 = .ok (.ifCond .eq 13, 3) := by decide +kernel
theorem dX1_worst_8 : decode cX1_worst 8 = .ok (.aload_n 0, 1) := by decide +kernel
theorem dX1_worst_9 : decode cX1_worst 9 = .ok (.iload_n 1, 1) := by decide +kernel
theorem dX1_worst_10 : decode cX1_worst 10 = .ok (.iconst 0, 1) := by decide +kernel
theorem dX1_worst_11 : decode cX1_worst 11 = .ok (.iconst 1, 1) := by decide +kernel
theorem dX1_worst_12 : decode cX1_worst 12 = .ok (.invokevirtual 89, 3) := by decide +kernel
theorem dX1_worst_15 : decode cX1_worst 15 = .ok (.goto 4, 3) := by decide +kernel
theorem dX1_worst_18 : decode cX1_worst 18 = .ok (.iconst (-1), 1) := by decide +kernel
theorem dX1_worst_19 : decode cX1_worst 19 = .ok (.ireturn, 1) := by decide +kernel
theorem dX1_left_0 : decode cX1_left 0 = .ok (.aload_n 0, 1) := by decide +kernel
theorem dX1_left_1 : decode cX1_left 1 = .ok (.iload_n 1, 1) := by decide +kernel
theorem dX1_left_2 : decode cX1_left 2 = .ok (.invokevirtual 43, 3) := by decide +kernel
theorem dX1_left_5 : decode cX1_left 5 = .ok (.ifCond .ne 5, 3) := by decide +kernel
theorem dX1_left_8 : decode cX1_left 8 = .ok (.iconst (-1), 1) := by decide +kernel
theorem dX1_left_9 : decode cX1_left 9 = .ok (.ireturn, 1) := by decide +kernel
theorem dX1_left_10 : decode cX1_left 10 = .ok (.aload_n 0, 1) := by decide +kernel
theorem dX1_left_11 : decode cX1_left 11 = .ok (.iload_n 1, 1) := by decide +kernel
theorem dX1_left_12 : decode cX1_left 12 = .ok (.iconst 0, 1) := by decide +kernel
theorem dX1_left_13 : decode cX1_left 13 = .ok (.iconst 0, 1) := by decide +kernel
theorem dX1_left_14 : decode cX1_left 14 = .ok (.invokevirtual 89, 3) := by decide +kernel
theorem dX1_left_17 : decode cX1_left 17 = .ok (.istore_n 2, 1) := by decide +kernel
theorem dX1_left_18 : decode cX1_left 18 = .ok (.aload_n 0, 1) := by decide +kernel
theorem dX1_left_19 : decode cX1_left 19 = .ok (.iload_n 1, 1) := by decide +kernel
theorem dX1_left_20 : decode cX1_left 20 = .ok (.invokevirtual 76, 3) := by decide +kernel
theorem dX1_left_23 : decode cX1_left 23 = .ok (.istore_n 3, 1) := by decide +kernel
theorem dX1_left_24 : decode cX1_left 24 = .ok (.aload_n 0, 1) := by decide +kernel
theorem dX1_left_25 : decode cX1_left 25 = .ok (.iload_n 1, 1) := by decide +kernel
theorem dX1_left_26 : decode cX1_left 26 = .ok (.invokevirtual 53, 3) := by decide +kernel
theorem dX1_left_29 : decode cX1_left 29 = .ok (.istore 4, 2) := by decide +kernel
theorem dX1_left_31 : decode cX1_left 31 = .ok (.bipush (-4), 2) := by decide +kernel
theorem dX1_left_33 : decode cX1_left 33 = .ok (.istore 5, 2) := by decide +kernel
theorem dX1_left_35 : decode cX1_left 35 = .ok (.iconst 0, 1) := by decide +kernel
theorem dX1_left_36 : decode cX1_left 36 = .ok (.istore 6, 2) := by decide +kernel
theorem dX1_left_38 : decode cX1_left 38 = .ok (.iload 6, 2) := by decide +kernel
theorem dX1_left_40 : decode cX1_left 40 = .ok (.iload_n 3, 1) := by decide +kernel
theorem dX1_left_41 : decode cX1_left 41 = .ok (.aload_n 0, 1) := by decide +kernel
theorem dX1_left_42 : decode cX1_left 42 = .ok (.getfield 56, 3) := by decide +kernel
theorem dX1_left_45 : decode cX1_left 45 = .ok (.imul, 1) := by decide +kernel
theorem dX1_left_46 : decode cX1_left 46 = .ok (.if_icmp .ge 73, 3) := by decide +kernel
theorem dX1_left_49 : decode cX1_left 49 = .ok (.aload_n 0, 1) := by decide +kernel
theorem dX1_left_50 : decode cX1_left 50 = .ok (.iload_n 1, 1) := by decide +kernel
theorem dX1_left_51 : decode cX1_left 51 = .ok (.iload 6, 2) := by decide +kernel
theorem dX1_left_53 : decode cX1_left 53 = .ok (.aload_n 0, 1) := by decide +kernel
theorem dX1_left_54 : decode cX1_left 54 = .ok (.getfield 56, 3) := by decide +kernel
theorem dX1_left_57 : decode cX1_left 57 = .ok (.idiv, 1) := by decide +kernel
theorem dX1_left_58 : decode cX1_left 58 = .ok (.iload_n 3, 1) := by decide +kernel
theorem dX1_left_59 : decode cX1_left 59 = .ok (.invokevirtual 79, 3) := by decide +kernel
theorem dX1_left_62 : decode cX1_left 62 = .ok (.aload_n 0, 1) := by decide +kernel
theorem dX1_left_63 : decode cX1_left 63 = .ok (.aload_n 0, 1) := by decide +kernel
theorem dX1_left_64 : decode cX1_left 64 = .ok (.getfield 19, 3) := by decide +kernel
theorem dX1_left_67 : decode cX1_left 67 = .ok (.iload 6, 2) := by decide +kernel
theorem dX1_left_69 : decode cX1_left 69 = .ok (.aload_n 0, 1) := by decide +kernel
theorem dX1_left_70 : decode cX1_left 70 = .ok (.getfield 56, 3) := by decide +kernel
theorem dX1_left_73 : decode cX1_left 73 = .ok (.irem, 1) := by decide +kernel
theorem dX1_left_74 : decode cX1_left 74 = .ok (.iaload, 1) := by decide +kernel
theorem dX1_left_75 : decode cX1_left 75 = .ok (.iload 4, 2) := by decide +kernel
theorem dX1_left_77 : decode cX1_left 77 = .ok (.invokevirtual 82, 3) := by decide +kernel
theorem dX1_left_80 : decode cX1_left 80 = .ok (.aload_n 0, 1) := by decide +kernel
theorem dX1_left_81 : decode cX1_left 81 = .ok (.getfield 63, 3) := by decide +kernel
theorem dX1_left_84 : decode cX1_left 84 = .ok (.iload_n 2, 1) := by decide +kernel
theorem dX1_left_85 : decode cX1_left 85 = .ok (.if_icmp .ne 24, 3) := by decide +kernel
theorem dX1_left_88 : decode cX1_left 88 = .ok (.iload 5, 2) := by decide +kernel
theorem dX1_left_90 : decode cX1_left 90 = .ok (.ifCond .lt 12, 3) := by decide +kernel
theorem dX1_left_93 : decode cX1_left 93 = .ok (.aload_n 0, 1) := by decide +kernel
theorem dX1_left_94 : decode cX1_left 94 = .ok (.getfield 66, 3) := by decide +kernel
theorem dX1_left_97 : decode cX1_left 97 = .ok (.iload 5, 2) := by decide +kernel
theorem dX1_left_99 : decode cX1_left 99 = .ok (.if_icmp .ge 10, 3) := by decide +kernel
theorem dX1_left_102 : decode cX1_left 102 = .ok (.aload_n 0, 1) := by decide +kernel
theorem dX1_left_103 : decode cX1_left 103 = .ok (.getfield 66, 3) := by decide +kernel
theorem dX1_left_106 : decode cX1_left 106 = .ok (.goto 5, 3) := by decide +kernel
theorem dX1_left_109 : decode cX1_left 109 = .ok (.iload 5, 2) := by decide +kernel
theorem dX1_left_111 : decode cX1_left 111 = .ok (.istore 5, 2) := by decide +kernel
theorem dX1_left_113 : decode cX1_left 113 = .ok (.iinc 6 1, 3) := by decide +kernel
theorem dX1_left_116 : decode cX1_left 116 = .ok (.goto (-78), 3) := by decide +kernel
theorem dX1_left_119 : decode cX1_left 119 = .ok (.iload 5, 2) := by decide +kernel
theorem dX1_left_121 : decode cX1_left 121 = .ok (.ireturn, 1) := by decide +kernel
theorem dX1_linearTable_0 : decode cX1_linearTable 0 = .ok (.aload_n 0, 1) := by decide +kernel
theorem dX1_linearTable_1 : decode cX1_linearTable 1 = .ok (.iload_n 1, 1) := by decide +kernel
theorem dX1_linearTable_2 : decode cX1_linearTable 2 = .ok (.invokevirtual 43, 3) := by decide +kernel
theorem dX1_linearTable_5 : decode cX1_linearTable 5 = .ok (.ifCond .ne 5, 3) := by decide +kernel
theorem dX1_linearTable_8 : decode cX1_linearTable 8 = .ok (.iconst (-1), 1) := by decide +kernel
theorem dX1_linearTable_9 : decode cX1_linearTable 9 = .ok (.ireturn, 1) := by decide +kernel
theorem dX1_linearTable_10 : decode cX1_linearTable 10 = .ok (.aload_n 0, 1) := by decide +kernel
theorem dX1_linearTable_11 : decode cX1_linearTable 11 = .ok (.iload_n 1, 1) := by decide +kernel
theorem dX1_linearTable_12 : decode cX1_linearTable 12 = .ok (.iconst 1, 1) := by decide +kernel
theorem dX1_linearTable_13 : decode cX1_linearTable 13 = .ok (.iconst 0, 1) := by decide +kernel
theorem dX1_linearTable_14 : decode cX1_linearTable 14 = .ok (.invokevirtual 89, 3) := by decide +kernel
theorem dX1_linearTable_17 : decode cX1_linearTable 17 = .ok (.istore_n 3, 1) := by decide +kernel
theorem dX1_linearTable_18 : decode cX1_linearTable 18 = .ok (.aload_n 0, 1) := by decide +kernel
theorem dX1_linearTable_19 : decode cX1_linearTable 19 = .ok (.iload_n 1, 1) := by decide +kernel
theorem dX1_linearTable_20 : decode cX1_linearTable 20 = .ok (.invokevirtual 76, 3) := by decide +kernel
theorem dX1_linearTable_23 : decode cX1_linearTable 23 = .ok (.istore 4, 2) := by decide +kernel
theorem dX1_linearTable_25 : decode cX1_linearTable 25 = .ok (.aload_n 0, 1) := by decide +kernel
theorem dX1_linearTable_26 : decode cX1_linearTable 26 = .ok (.iload_n 1, 1) := by decide +kernel
theorem dX1_linearTable_27 : decode cX1_linearTable 27 = .ok (.invokevirtual 53, 3) := by decide +kernel
theorem dX1_linearTable_30 : decode cX1_linearTable 30 = .ok (.istore 5, 2) := by decide +kernel
theorem dX1_linearTable_32 : decode cX1_linearTable 32 = .ok (.iconst 0, 1) := by decide +kernel
theorem dX1_linearTable_33 : decode cX1_linearTable 33 = .ok (.istore 6, 2) := by decide +kernel
theorem dX1_linearTable_35 : decode cX1_linearTable 35 = .ok (.iload 6, 2) := by decide +kernel
theorem dX1_linearTable_37 : decode cX1_linearTable 37 = .ok (.iload 4, 2) := by decide +kernel
theorem dX1_linearTable_39 : decode cX1_linearTable 39 = .ok (.aload_n 0, 1) := by decide +kernel
theorem dX1_linearTable_40 : decode cX1_linearTable 40 = .ok (.getfield 56, 3) := by decide +kernel
theorem dX1_linearTable_43 : decode cX1_linearTable 43 = .ok (.imul, 1) := by decide +kernel
theorem dX1_linearTable_44 : decode cX1_linearTable 44 = .ok (.if_icmp .ge 78, 3) := by decide +kernel
theorem dX1_linearTable_47 : decode cX1_linearTable 47 = .ok (.aload_n 0, 1) := by decide +kernel
theorem dX1_linearTable_48 : decode cX1_linearTable 48 = .ok (.iload_n 1, 1) := by decide +kernel
theorem dX1_linearTable_49 : decode cX1_linearTable 49 = .ok (.iload 6, 2) := by decide +kernel
theorem dX1_linearTable_51 : decode cX1_linearTable 51 = .ok (.aload_n 0, 1) := by decide +kernel
theorem dX1_linearTable_52 : decode cX1_linearTable 52 = .ok (.getfield 56, 3) := by decide +kernel
theorem dX1_linearTable_55 : decode cX1_linearTable 55 = .ok (.idiv, 1) := by decide +kernel
theorem dX1_linearTable_56 : decode cX1_linearTable 56 = .ok (.iload 4, 2) := by decide +kernel
theorem dX1_linearTable_58 : decode cX1_linearTable 58 = .ok (.invokevirtual 79, 3) := by decide +kernel
theorem dX1_linearTable_61 : decode cX1_linearTable 61 = .ok (.aload_n 0, 1) := by decide +kernel
theorem dX1_linearTable_62 : decode cX1_linearTable 62 = .ok (.aload_n 0, 1) := by decide +kernel
theorem dX1_linearTable_63 : decode cX1_linearTable 63 = .ok (.getfield 19, 3) := by decide +kernel
theorem dX1_linearTable_66 : decode cX1_linearTable 66 = .ok (.iload 6, 2) := by decide +kernel
theorem dX1_linearTable_68 : decode cX1_linearTable 68 = .ok (.aload_n 0, 1) := by decide +kernel
theorem dX1_linearTable_69 : decode cX1_linearTable 69 = .ok (.getfield 56, 3) := by decide +kernel
theorem dX1_linearTable_72 : decode cX1_linearTable 72 = .ok (.irem, 1) := by decide +kernel
theorem dX1_linearTable_73 : decode cX1_linearTable 73 = .ok (.iaload, 1) := by decide +kernel
theorem dX1_linearTable_74 : decode cX1_linearTable 74 = .ok (.iload 5, 2) := by decide +kernel
theorem dX1_linearTable_76 : decode cX1_linearTable 76 = .ok (.invokevirtual 82, 3) := by decide +kernel
theorem dX1_linearTable_79 : decode cX1_linearTable 79 = .ok (.aload_n 0, 1) := by decide +kernel
theorem dX1_linearTable_80 : decode cX1_linearTable 80 = .ok (.getfield 73, 3) := by decide +kernel
theorem dX1_linearTable_83 : decode cX1_linearTable 83 = .ok (.ifCond .eq 33, 3) := by decide +kernel
theorem dX1_linearTable_86 : decode cX1_linearTable 86 = .ok (.aload_n 0, 1) := by decide +kernel
theorem dX1_linearTable_87 : decode cX1_linearTable 87 = .ok (.getfield 63, 3) := by decide +kernel
theorem dX1_linearTable_90 : decode cX1_linearTable 90 = .ok (.iload_n 3, 1) := by decide +kernel
theorem dX1_linearTable_91 : decode cX1_linearTable 91 = .ok (.if_icmp .ne 25, 3) := by decide +kernel
theorem dX1_linearTable_94 : decode cX1_linearTable 94 = .ok (.iload_n 2, 1) := by decide +kernel
theorem dX1_linearTable_95 : decode cX1_linearTable 95 = .ok (.ifCond .lt 18, 3) := by decide +kernel
theorem dX1_linearTable_98 : decode cX1_linearTable 98 = .ok (.iload_n 2, 1) := by decide +kernel
theorem dX1_linearTable_99 : decode cX1_linearTable 99 = .ok (.iload 5, 2) := by decide +kernel
theorem dX1_linearTable_101 : decode cX1_linearTable 101 = .ok (.if_icmp .ge 12, 3) := by decide +kernel
theorem dX1_linearTable_104 : decode cX1_linearTable 104 = .ok (.aload_n 0, 1) := by decide +kernel
theorem dX1_linearTable_105 : decode cX1_linearTable 105 = .ok (.getfield 22, 3) := by decide +kernel
theorem dX1_linearTable_108 : decode cX1_linearTable 108 = .ok (.iload_n 2, 1) := by decide +kernel
theorem dX1_linearTable_109 : decode cX1_linearTable 109 = .ok (.iaload, 1) := by decide +kernel
theorem dX1_linearTable_110 : decode cX1_linearTable 110 = .ok (.goto 5, 3) := by decide +kernel
theorem dX1_linearTable_113 : decode cX1_linearTable 113 = .ok (.bipush (-4), 2) := by decide +kernel
theorem dX1_linearTable_115 : decode cX1_linearTable 115 = .ok (.ireturn, 1) := by decide +kernel
theorem dX1_linearTable_116 : decode cX1_linearTable 116 = .ok (.iinc 6 1, 3) := by decide +kernel
theorem dX1_linearTable_119 : decode cX1_linearTable 119 = .ok (.goto (-84), 3) := by decide +kernel
theorem dX1_linearTable_122 : decode cX1_linearTable 122 = .ok (.bipush (-4), 2) := by decide +kernel
theorem dX1_linearTable_124 : decode cX1_linearTable 124 = .ok (.ireturn, 1) := by decide +kernel
theorem dX1_plans_0 : decode cX1_plans 0 = .ok (.aload_n 0, 1) := by decide +kernel
theorem dX1_plans_1 : decode cX1_plans 1 = .ok (.iload_n 1, 1) := by decide +kernel
theorem dX1_plans_2 : decode cX1_plans 2 = .ok (.invokevirtual 43, 3) := by decide +kernel
theorem dX1_plans_5 : decode cX1_plans 5 = .ok (.ifCond .eq 13, 3) := by decide +kernel
theorem dX1_plans_8 : decode cX1_plans 8 = .ok (.aload_n 0, 1) := by decide +kernel
theorem dX1_plans_9 : decode cX1_plans 9 = .ok (.iload_n 1, 1) := by decide +kernel
theorem dX1_plans_10 : decode cX1_plans 10 = .ok (.iconst 0, 1) := by decide +kernel
theorem dX1_plans_11 : decode cX1_plans 11 = .ok (.iconst (-1), 1) := by decide +kernel
theorem dX1_plans_12 : decode cX1_plans 12 = .ok (.invokevirtual 93, 3) := by decide +kernel
theorem dX1_plans_15 : decode cX1_plans 15 = .ok (.goto 4, 3) := by decide +kernel
theorem dX1_plans_18 : decode cX1_plans 18 = .ok (.iconst (-1), 1) := by decide +kernel
theorem dX1_plans_19 : decode cX1_plans 19 = .ok (.ireturn, 1) := by decide +kernel
theorem dX1_countPlans_0 : decode cX1_countPlans 0 = .ok (.aload_n 0, 1) := by decide +kernel
theorem dX1_countPlans_1 : decode cX1_countPlans 1 = .ok (.iload_n 1, 1) := by decide +kernel
theorem dX1_countPlans_2 : decode cX1_countPlans 2 = .ok (.invokevirtual 76, 3) := by decide +kernel
theorem dX1_countPlans_5 : decode cX1_countPlans 5 = .ok (.istore 4, 2) := by decide +kernel
theorem dX1_countPlans_7 : decode cX1_countPlans 7 = .ok (.aload_n 0, 1) := by decide +kernel
theorem dX1_countPlans_8 : decode cX1_countPlans 8 = .ok (.iload_n 1, 1) := by decide +kernel
theorem dX1_countPlans_9 : decode cX1_countPlans 9 = .ok (.invokevirtual 53, 3) := by decide +kernel
theorem dX1_countPlans_12 : decode cX1_countPlans 12 = .ok (.istore 5, 2) := by decide +kernel
theorem dX1_countPlans_14 : decode cX1_countPlans 14 = .ok (.iconst 0, 1) := by decide +kernel
theorem dX1_countPlans_15 : decode cX1_countPlans 15 = .ok (.istore 6, 2) := by decide +kernel
theorem dX1_countPlans_17 : decode cX1_countPlans 17 = .ok (.iconst 0, 1) := by decide +kernel
theorem dX1_countPlans_18 : decode cX1_countPlans 18 = .ok (.istore 7, 2) := by decide +kernel
theorem dX1_countPlans_20 : decode cX1_countPlans 20 = .ok (.iload 7, 2) := by decide +kernel
theorem dX1_countPlans_22 : decode cX1_countPlans 22 = .ok (.iload 4, 2) := by decide +kernel
theorem dX1_countPlans_24 : decode cX1_countPlans 24 = .ok (.aload_n 0, 1) := by decide +kernel
theorem dX1_countPlans_25 : decode cX1_countPlans 25 = .ok (.getfield 56, 3) := by decide +kernel
theorem dX1_countPlans_28 : decode cX1_countPlans 28 = .ok (.imul, 1) := by decide +kernel
theorem dX1_countPlans_29 : decode cX1_countPlans 29 = .ok (.if_icmp .ge 72, 3) := by decide +kernel
theorem dX1_countPlans_32 : decode cX1_countPlans 32 = .ok (.aload_n 0, 1) := by decide +kernel
theorem dX1_countPlans_33 : decode cX1_countPlans 33 = .ok (.iload_n 1, 1) := by decide +kernel
theorem dX1_countPlans_34 : decode cX1_countPlans 34 = .ok (.iload 7, 2) := by decide +kernel
theorem dX1_countPlans_36 : decode cX1_countPlans 36 = .ok (.aload_n 0, 1) := by decide +kernel
theorem dX1_countPlans_37 : decode cX1_countPlans 37 = .ok (.getfield 56, 3) := by decide +kernel
theorem dX1_countPlans_40 : decode cX1_countPlans 40 = .ok (.idiv, 1) := by decide +kernel
theorem dX1_countPlans_41 : decode cX1_countPlans 41 = .ok (.iload 4, 2) := by decide +kernel
theorem dX1_countPlans_43 : decode cX1_countPlans 43 = .ok (.invokevirtual 79, 3) := by decide +kernel
theorem dX1_countPlans_46 : decode cX1_countPlans 46 = .ok (.aload_n 0, 1) := by decide +kernel
theorem dX1_countPlans_47 : decode cX1_countPlans 47 = .ok (.aload_n 0, 1) := by decide +kernel
theorem dX1_countPlans_48 : decode cX1_countPlans 48 = .ok (.getfield 19, 3) := by decide +kernel
theorem dX1_countPlans_51 : decode cX1_countPlans 51 = .ok (.iload 7, 2) := by decide +kernel
theorem dX1_countPlans_53 : decode cX1_countPlans 53 = .ok (.aload_n 0, 1) := by decide +kernel
theorem dX1_countPlans_54 : decode cX1_countPlans 54 = .ok (.getfield 56, 3) := by decide +kernel
theorem dX1_countPlans_57 : decode cX1_countPlans 57 = .ok (.irem, 1) := by decide +kernel
theorem dX1_countPlans_58 : decode cX1_countPlans 58 = .ok (.iaload, 1) := by decide +kernel
theorem dX1_countPlans_59 : decode cX1_countPlans 59 = .ok (.iload 5, 2) := by decide +kernel
theorem dX1_countPlans_61 : decode cX1_countPlans 61 = .ok (.invokevirtual 82, 3) := by decide +kernel
theorem dX1_countPlans_64 : decode cX1_countPlans 64 = .ok (.aload_n 0, 1) := by decide +kernel
theorem dX1_countPlans_65 : decode cX1_countPlans 65 = .ok (.iload_n 2, 1) := by decide +kernel
theorem dX1_countPlans_66 : decode cX1_countPlans 66 = .ok (.invokevirtual 86, 3) := by decide +kernel
theorem dX1_countPlans_69 : decode cX1_countPlans 69 = .ok (.ifCond .eq 22, 3) := by decide +kernel
theorem dX1_countPlans_72 : decode cX1_countPlans 72 = .ok (.iload_n 3, 1) := by decide +kernel
theorem dX1_countPlans_73 : decode cX1_countPlans 73 = .ok (.ifCond .lt 11, 3) := by decide +kernel
theorem dX1_countPlans_76 : decode cX1_countPlans 76 = .ok (.aload_n 0, 1) := by decide +kernel
theorem dX1_countPlans_77 : decode cX1_countPlans 77 = .ok (.getfield 63, 3) := by decide +kernel
theorem dX1_countPlans_80 : decode cX1_countPlans 80 = .ok (.iload_n 3, 1) := by decide +kernel
theorem dX1_countPlans_81 : decode cX1_countPlans 81 = .ok (.if_icmp .ne 10, 3) := by decide +kernel
theorem dX1_countPlans_84 : decode cX1_countPlans 84 = .ok (.iload 6, 2) := by decide +kernel
theorem dX1_countPlans_86 : decode cX1_countPlans 86 = .ok (.iconst 1, 1) := by decide +kernel
theorem dX1_countPlans_87 : decode cX1_countPlans 87 = .ok (.iadd, 1) := by decide +kernel
theorem dX1_countPlans_88 : decode cX1_countPlans 88 = .ok (.goto 5, 3) := by decide +kernel
theorem dX1_countPlans_91 : decode cX1_countPlans 91 = .ok (.iload 6, 2) := by decide +kernel
theorem dX1_countPlans_93 : decode cX1_countPlans 93 = .ok (.istore 6, 2) := by decide +kernel
theorem dX1_countPlans_95 : decode cX1_countPlans 95 = .ok (.iinc 7 1, 3) := by decide +kernel
theorem dX1_countPlans_98 : decode cX1_countPlans 98 = .ok (.goto (-78), 3) := by decide +kernel
theorem dX1_countPlans_101 : decode cX1_countPlans 101 = .ok (.iload 6, 2) := by decide +kernel
theorem dX1_countPlans_103 : decode cX1_countPlans 103 = .ok (.ireturn, 1) := by decide +kernel
theorem dX1_linkedPlans_0 : decode cX1_linkedPlans 0 = .ok (.aload_n 0, 1) := by decide +kernel
theorem dX1_linkedPlans_1 : decode cX1_linkedPlans 1 = .ok (.iload_n 1, 1) := by decide +kernel
theorem dX1_linkedPlans_2 : decode cX1_linkedPlans 2 = .ok (.invokevirtual 43, 3) := by decide +kernel
theorem dX1_linkedPlans_5 : decode cX1_linkedPlans 5 = .ok (.ifCond .eq 13, 3) := by decide +kernel
theorem dX1_linkedPlans_8 : decode cX1_linkedPlans 8 = .ok (.aload_n 0, 1) := by decide +kernel
theorem dX1_linkedPlans_9 : decode cX1_linkedPlans 9 = .ok (.iload_n 1, 1) := by decide +kernel
theorem dX1_linkedPlans_10 : decode cX1_linkedPlans 10 = .ok (.iconst 2, 1) := by decide +kernel
theorem dX1_linkedPlans_11 : decode cX1_linkedPlans 11 = .ok (.iconst (-1), 1) := by decide +kernel
theorem dX1_linkedPlans_12 : decode cX1_linkedPlans 12 = .ok (.invokevirtual 93, 3) := by decide +kernel
theorem dX1_linkedPlans_15 : decode cX1_linkedPlans 15 = .ok (.goto 4, 3) := by decide +kernel
theorem dX1_linkedPlans_18 : decode cX1_linkedPlans 18 = .ok (.iconst (-1), 1) := by decide +kernel
theorem dX1_linkedPlans_19 : decode cX1_linkedPlans 19 = .ok (.ireturn, 1) := by decide +kernel
theorem dX1_cheapest_0 : decode cX1_cheapest 0 = .ok (.aload_n 0, 1) := by decide +kernel
theorem dX1_cheapest_1 : decode cX1_cheapest 1 = .ok (.iload_n 1, 1) := by decide +kernel
theorem dX1_cheapest_2 : decode cX1_cheapest 2 = .ok (.invokevirtual 43, 3) := by decide +kernel
theorem dX1_cheapest_5 : decode cX1_cheapest 5 = .ok (.ifCond .ne 5, 3) := by decide +kernel
theorem dX1_cheapest_8 : decode cX1_cheapest 8 = .ok (.iconst (-1), 1) := by decide +kernel
theorem dX1_cheapest_9 : decode cX1_cheapest 9 = .ok (.ireturn, 1) := by decide +kernel
theorem dX1_cheapest_10 : decode cX1_cheapest 10 = .ok (.aload_n 0, 1) := by decide +kernel
theorem dX1_cheapest_11 : decode cX1_cheapest 11 = .ok (.iload_n 1, 1) := by decide +kernel
theorem dX1_cheapest_12 : decode cX1_cheapest 12 = .ok (.iconst 0, 1) := by decide +kernel
theorem dX1_cheapest_13 : decode cX1_cheapest 13 = .ok (.iconst 0, 1) := by decide +kernel
theorem dX1_cheapest_14 : decode cX1_cheapest 14 = .ok (.invokevirtual 89, 3) := by decide +kernel
theorem dX1_cheapest_17 : decode cX1_cheapest 17 = .ok (.istore_n 2, 1) := by decide +kernel
theorem dX1_cheapest_18 : decode cX1_cheapest 18 = .ok (.aload_n 0, 1) := by decide +kernel
theorem dX1_cheapest_19 : decode cX1_cheapest 19 = .ok (.iload_n 1, 1) := by decide +kernel
theorem dX1_cheapest_20 : decode cX1_cheapest 20 = .ok (.iconst 0, 1) := by decide +kernel
theorem dX1_cheapest_21 : decode cX1_cheapest 21 = .ok (.iload_n 2, 1) := by decide +kernel
theorem dX1_cheapest_22 : decode cX1_cheapest 22 = .ok (.invokevirtual 93, 3) := by decide +kernel
theorem dX1_cheapest_25 : decode cX1_cheapest 25 = .ok (.ireturn, 1) := by decide +kernel
theorem dX1_gain_0 : decode cX1_gain 0 = .ok (.aload_n 0, 1) := by decide +kernel
theorem dX1_gain_1 : decode cX1_gain 1 = .ok (.iload_n 1, 1) := by decide +kernel
theorem dX1_gain_2 : decode cX1_gain 2 = .ok (.iload_n 2, 1) := by decide +kernel
theorem dX1_gain_3 : decode cX1_gain 3 = .ok (.invokevirtual 32, 3) := by decide +kernel
theorem dX1_gain_6 : decode cX1_gain 6 = .ok (.ifCond .ne 5, 3) := by decide +kernel
theorem dX1_gain_9 : decode cX1_gain 9 = .ok (.iconst (-1), 1) := by decide +kernel
theorem dX1_gain_10 : decode cX1_gain 10 = .ok (.ireturn, 1) := by decide +kernel
theorem dX1_gain_11 : decode cX1_gain 11 = .ok (.aload_n 0, 1) := by decide +kernel
theorem dX1_gain_12 : decode cX1_gain 12 = .ok (.bipush 31, 2) := by decide +kernel
theorem dX1_gain_14 : decode cX1_gain 14 = .ok (.iconst 0, 1) := by decide +kernel
theorem dX1_gain_15 : decode cX1_gain 15 = .ok (.iconst 0, 1) := by decide +kernel
theorem dX1_gain_16 : decode cX1_gain 16 = .ok (.invokevirtual 89, 3) := by decide +kernel
theorem dX1_gain_19 : decode cX1_gain 19 = .ok (.istore_n 3, 1) := by decide +kernel
theorem dX1_gain_20 : decode cX1_gain 20 = .ok (.aload_n 0, 1) := by decide +kernel
theorem dX1_gain_21 : decode cX1_gain 21 = .ok (.getfield 13, 3) := by decide +kernel
theorem dX1_gain_24 : decode cX1_gain 24 = .ok (.iconst 5, 1) := by decide +kernel
theorem dX1_gain_25 : decode cX1_gain 25 = .ok (.iload_n 1, 1) := by decide +kernel
theorem dX1_gain_26 : decode cX1_gain 26 = .ok (.imul, 1) := by decide +kernel
theorem dX1_gain_27 : decode cX1_gain 27 = .ok (.iload_n 2, 1) := by decide +kernel
theorem dX1_gain_28 : decode cX1_gain 28 = .ok (.iadd, 1) := by decide +kernel
theorem dX1_gain_29 : decode cX1_gain 29 = .ok (.iaload, 1) := by decide +kernel
theorem dX1_gain_30 : decode cX1_gain 30 = .ok (.istore 4, 2) := by decide +kernel
theorem dX1_gain_32 : decode cX1_gain 32 = .ok (.aload_n 0, 1) := by decide +kernel
theorem dX1_gain_33 : decode cX1_gain 33 = .ok (.iload_n 1, 1) := by decide +kernel
theorem dX1_gain_34 : decode cX1_gain 34 = .ok (.iload_n 2, 1) := by decide +kernel
theorem dX1_gain_35 : decode cX1_gain 35 = .ok (.bipush 6, 2) := by decide +kernel
theorem dX1_gain_37 : decode cX1_gain 37 = .ok (.invokevirtual 36, 3) := by decide +kernel
theorem dX1_gain_40 : decode cX1_gain 40 = .ok (.aload_n 0, 1) := by decide +kernel
theorem dX1_gain_41 : decode cX1_gain 41 = .ok (.bipush 31, 2) := by decide +kernel
theorem dX1_gain_43 : decode cX1_gain 43 = .ok (.iconst 0, 1) := by decide +kernel
theorem dX1_gain_44 : decode cX1_gain 44 = .ok (.iconst 0, 1) := by decide +kernel
theorem dX1_gain_45 : decode cX1_gain 45 = .ok (.invokevirtual 89, 3) := by decide +kernel
theorem dX1_gain_48 : decode cX1_gain 48 = .ok (.istore 5, 2) := by decide +kernel
theorem dX1_gain_50 : decode cX1_gain 50 = .ok (.aload_n 0, 1) := by decide +kernel
theorem dX1_gain_51 : decode cX1_gain 51 = .ok (.iload_n 1, 1) := by decide +kernel
theorem dX1_gain_52 : decode cX1_gain 52 = .ok (.iload_n 2, 1) := by decide +kernel
theorem dX1_gain_53 : decode cX1_gain 53 = .ok (.iload 4, 2) := by decide +kernel
theorem dX1_gain_55 : decode cX1_gain 55 = .ok (.invokevirtual 36, 3) := by decide +kernel
theorem dX1_gain_58 : decode cX1_gain 58 = .ok (.iload_n 3, 1) := by decide +kernel
theorem dX1_gain_59 : decode cX1_gain 59 = .ok (.iload 5, 2) := by decide +kernel
theorem dX1_gain_61 : decode cX1_gain 61 = .ok (.isub, 1) := by decide +kernel
theorem dX1_gain_62 : decode cX1_gain 62 = .ok (.ireturn, 1) := by decide +kernel
end
section
set_option maxRecDepth 100000
theorem dL_law_0 : decode cL_law 0 = .ok (.new 7, 3) := by decide +kernel
theorem dL_law_3 : decode cL_law 3 = .ok (.dup, 1) := by decide +kernel
theorem dL_law_4 : decode cL_law 4 = .ok (.invokespecial 9, 3) := by decide +kernel
theorem dL_law_7 : decode cL_law 7 = .ok (.astore_n 1, 1) := by decide +kernel
theorem dL_law_8 : decode cL_law 8 = .ok (.new 10, 3) := by decide +kernel
theorem dL_law_11 : decode cL_law 11 = .ok (.dup, 1) := by decide +kernel
theorem dL_law_12 : decode cL_law 12 = .ok (.invokespecial 12, 3) := by decide +kernel
theorem dL_law_15 : decode cL_law 15 = .ok (.astore_n 2, 1) := by decide +kernel
theorem dL_law_16 : decode cL_law 16 = .ok (.iconst 0, 1) := by decide +kernel
theorem dL_law_17 : decode cL_law 17 = .ok (.istore_n 3, 1) := by decide +kernel
theorem dL_law_18 : decode cL_law 18 = .ok (.iload_n 3, 1) := by decide +kernel
theorem dL_law_19 : decode cL_law 19 = .ok (.aload_n 0, 1) := by decide +kernel
theorem dL_law_20 : decode cL_law 20 = .ok (.arraylength, 1) := by decide +kernel
theorem dL_law_21 : decode cL_law 21 = .ok (.iconst 4, 1) := by decide +kernel
theorem dL_law_22 : decode cL_law 22 = .ok (.isub, 1) := by decide +kernel
theorem dL_law_23 : decode cL_law 23 = .ok (.if_icmp .gt 496, 3) := by decide +kernel
theorem dL_law_26 : decode cL_law 26 = .ok (.aload_n 0, 1) := by decide +kernel
theorem dL_law_27 : decode cL_law 27 = .ok (.iload_n 3, 1) := by decide +kernel
theorem dL_law_28 : decode cL_law 28 = .ok (.iaload, 1) := by decide +kernel
theorem dL_law_29 : decode cL_law 29 = .ok (.bipush 15, 2) := by decide +kernel
theorem dL_law_31 : decode cL_law 31 = .ok (.iand, 1) := by decide +kernel
theorem dL_law_32 : decode cL_law 32 = .ok (.tableswitch 481 0 14 #[76, 109, 152, 185, 208, 231, 254, 277, 300, 323, 346, 379, 402, 425, 448], 76) := by decide +kernel
theorem dL_law_108 : decode cL_law 108 = .ok (.aload_n 1, 1) := by decide +kernel
theorem dL_law_109 : decode cL_law 109 = .ok (.aload_n 0, 1) := by decide +kernel
theorem dL_law_110 : decode cL_law 110 = .ok (.iload_n 3, 1) := by decide +kernel
theorem dL_law_111 : decode cL_law 111 = .ok (.iconst 1, 1) := by decide +kernel
theorem dL_law_112 : decode cL_law 112 = .ok (.iadd, 1) := by decide +kernel
theorem dL_law_113 : decode cL_law 113 = .ok (.iaload, 1) := by decide +kernel
theorem dL_law_114 : decode cL_law 114 = .ok (.aload_n 0, 1) := by decide +kernel
theorem dL_law_115 : decode cL_law 115 = .ok (.iload_n 3, 1) := by decide +kernel
theorem dL_law_116 : decode cL_law 116 = .ok (.iconst 2, 1) := by decide +kernel
theorem dL_law_117 : decode cL_law 117 = .ok (.iadd, 1) := by decide +kernel
theorem dL_law_118 : decode cL_law 118 = .ok (.iaload, 1) := by decide +kernel
theorem dL_law_119 : decode cL_law 119 = .ok (.invokevirtual 13, 3) := by decide +kernel
theorem dL_law_122 : decode cL_law 122 = .ok (.aload_n 2, 1) := by decide +kernel
theorem dL_law_123 : decode cL_law 123 = .ok (.aload_n 0, 1) := by decide +kernel
theorem dL_law_124 : decode cL_law 124 = .ok (.iload_n 3, 1) := by decide +kernel
theorem dL_law_125 : decode cL_law 125 = .ok (.iconst 1, 1) := by decide +kernel
theorem dL_law_126 : decode cL_law 126 = .ok (.iadd, 1) := by decide +kernel
theorem dL_law_127 : decode cL_law 127 = .ok (.iaload, 1) := by decide +kernel
theorem dL_law_128 : decode cL_law 128 = .ok (.aload_n 0, 1) := by decide +kernel
theorem dL_law_129 : decode cL_law 129 = .ok (.iload_n 3, 1) := by decide +kernel
theorem dL_law_130 : decode cL_law 130 = .ok (.iconst 2, 1) := by decide +kernel
theorem dL_law_131 : decode cL_law 131 = .ok (.iadd, 1) := by decide +kernel
theorem dL_law_132 : decode cL_law 132 = .ok (.iaload, 1) := by decide +kernel
theorem dL_law_133 : decode cL_law 133 = .ok (.invokevirtual 17, 3) := by decide +kernel
theorem dL_law_136 : decode cL_law 136 = .ok (.if_icmp .eq 377, 3) := by decide +kernel
theorem dL_law_139 : decode cL_law 139 = .ok (.iconst 0, 1) := by decide +kernel
theorem dL_law_140 : decode cL_law 140 = .ok (.ireturn, 1) := by decide +kernel
theorem dL_law_141 : decode cL_law 141 = .ok (.aload_n 1, 1) := by decide +kernel
theorem dL_law_142 : decode cL_law 142 = .ok (.aload_n 0, 1) := by decide +kernel
theorem dL_law_143 : decode cL_law 143 = .ok (.iload_n 3, 1) := by decide +kernel
theorem dL_law_144 : decode cL_law 144 = .ok (.iconst 1, 1) := by decide +kernel
theorem dL_law_145 : decode cL_law 145 = .ok (.iadd, 1) := by decide +kernel
theorem dL_law_146 : decode cL_law 146 = .ok (.iaload, 1) := by decide +kernel
theorem dL_law_147 : decode cL_law 147 = .ok (.aload_n 0, 1) := by decide +kernel
theorem dL_law_148 : decode cL_law 148 = .ok (.iload_n 3, 1) := by decide +kernel
theorem dL_law_149 : decode cL_law 149 = .ok (.iconst 2, 1) := by decide +kernel
theorem dL_law_150 : decode cL_law 150 = .ok (.iadd, 1) := by decide +kernel
theorem dL_law_151 : decode cL_law 151 = .ok (.iaload, 1) := by decide +kernel
theorem dL_law_152 : decode cL_law 152 = .ok (.aload_n 0, 1) := by decide +kernel
theorem dL_law_153 : decode cL_law 153 = .ok (.iload_n 3, 1) := by decide +kernel
theorem dL_law_154 : decode cL_law 154 = .ok (.iconst 3, 1) := by decide +kernel
theorem dL_law_155 : decode cL_law 155 = .ok (.iadd, 1) := by decide +kernel
theorem dL_law_156 : decode cL_law 156 = .ok (.iaload, 1) := by decide +kernel
theorem dL_law_157 : decode cL_law 157 = .ok (.invokevirtual 18, 3) := by decide +kernel
theorem dL_law_160 : decode cL_law 160 = .ok (.aload_n 2, 1) := by decide +kernel
theorem dL_law_161 : decode cL_law 161 = .ok (.aload_n 0, 1) := by decide +kernel
theorem dL_law_162 : decode cL_law 162 = .ok (.iload_n 3, 1) := by decide +kernel
theorem dL_law_163 : decode cL_law 163 = .ok (.iconst 1, 1) := by decide +kernel
theorem dL_law_164 : decode cL_law 164 = .ok (.iadd, 1) := by decide +kernel
theorem dL_law_165 : decode cL_law 165 = .ok (.iaload, 1) := by decide +kernel
theorem dL_law_166 : decode cL_law 166 = .ok (.aload_n 0, 1) := by decide +kernel
theorem dL_law_167 : decode cL_law 167 = .ok (.iload_n 3, 1) := by decide +kernel
theorem dL_law_168 : decode cL_law 168 = .ok (.iconst 2, 1) := by decide +kernel
theorem dL_law_169 : decode cL_law 169 = .ok (.iadd, 1) := by decide +kernel
theorem dL_law_170 : decode cL_law 170 = .ok (.iaload, 1) := by decide +kernel
theorem dL_law_171 : decode cL_law 171 = .ok (.aload_n 0, 1) := by decide +kernel
theorem dL_law_172 : decode cL_law 172 = .ok (.iload_n 3, 1) := by decide +kernel
theorem dL_law_173 : decode cL_law 173 = .ok (.iconst 3, 1) := by decide +kernel
theorem dL_law_174 : decode cL_law 174 = .ok (.iadd, 1) := by decide +kernel
theorem dL_law_175 : decode cL_law 175 = .ok (.iaload, 1) := by decide +kernel
theorem dL_law_176 : decode cL_law 176 = .ok (.invokevirtual 22, 3) := by decide +kernel
theorem dL_law_179 : decode cL_law 179 = .ok (.if_icmp .eq 334, 3) := by decide +kernel
theorem dL_law_182 : decode cL_law 182 = .ok (.iconst 0, 1) := by decide +kernel
theorem dL_law_183 : decode cL_law 183 = .ok (.ireturn, 1) := by decide +kernel
theorem dL_law_184 : decode cL_law 184 = .ok (.aload_n 1, 1) := by decide +kernel
theorem dL_law_185 : decode cL_law 185 = .ok (.aload_n 0, 1) := by decide +kernel
theorem dL_law_186 : decode cL_law 186 = .ok (.iload_n 3, 1) := by decide +kernel
theorem dL_law_187 : decode cL_law 187 = .ok (.iconst 1, 1) := by decide +kernel
theorem dL_law_188 : decode cL_law 188 = .ok (.iadd, 1) := by decide +kernel
theorem dL_law_189 : decode cL_law 189 = .ok (.iaload, 1) := by decide +kernel
theorem dL_law_190 : decode cL_law 190 = .ok (.aload_n 0, 1) := by decide +kernel
theorem dL_law_191 : decode cL_law 191 = .ok (.iload_n 3, 1) := by decide +kernel
theorem dL_law_192 : decode cL_law 192 = .ok (.iconst 2, 1) := by decide +kernel
theorem dL_law_193 : decode cL_law 193 = .ok (.iadd, 1) := by decide +kernel
theorem dL_law_194 : decode cL_law 194 = .ok (.iaload, 1) := by decide +kernel
theorem dL_law_195 : decode cL_law 195 = .ok (.invokevirtual 23, 3) := by decide +kernel
theorem dL_law_198 : decode cL_law 198 = .ok (.aload_n 2, 1) := by decide +kernel
theorem dL_law_199 : decode cL_law 199 = .ok (.aload_n 0, 1) := by decide +kernel
theorem dL_law_200 : decode cL_law 200 = .ok (.iload_n 3, 1) := by decide +kernel
theorem dL_law_201 : decode cL_law 201 = .ok (.iconst 1, 1) := by decide +kernel
theorem dL_law_202 : decode cL_law 202 = .ok (.iadd, 1) := by decide +kernel
theorem dL_law_203 : decode cL_law 203 = .ok (.iaload, 1) := by decide +kernel
theorem dL_law_204 : decode cL_law 204 = .ok (.aload_n 0, 1) := by decide +kernel
theorem dL_law_205 : decode cL_law 205 = .ok (.iload_n 3, 1) := by decide +kernel
theorem dL_law_206 : decode cL_law 206 = .ok (.iconst 2, 1) := by decide +kernel
theorem dL_law_207 : decode cL_law 207 = .ok (.iadd, 1) := by decide +kernel
theorem dL_law_208 : decode cL_law 208 = .ok (.iaload, 1) := by decide +kernel
theorem dL_law_209 : decode cL_law 209 = .ok (.invokevirtual 26, 3) := by decide +kernel
theorem dL_law_212 : decode cL_law 212 = .ok (.if_icmp .eq 301, 3) := by decide +kernel
theorem dL_law_215 : decode cL_law 215 = .ok (.iconst 0, 1) := by decide +kernel
theorem dL_law_216 : decode cL_law 216 = .ok (.ireturn, 1) := by decide +kernel
theorem dL_law_217 : decode cL_law 217 = .ok (.aload_n 1, 1) := by decide +kernel
theorem dL_law_218 : decode cL_law 218 = .ok (.aload_n 0, 1) := by decide +kernel
theorem dL_law_219 : decode cL_law 219 = .ok (.iload_n 3, 1) := by decide +kernel
theorem dL_law_220 : decode cL_law 220 = .ok (.iconst 1, 1) := by decide +kernel
theorem dL_law_221 : decode cL_law 221 = .ok (.iadd, 1) := by decide +kernel
theorem dL_law_222 : decode cL_law 222 = .ok (.iaload, 1) := by decide +kernel
theorem dL_law_223 : decode cL_law 223 = .ok (.invokevirtual 27, 3) := by decide +kernel
theorem dL_law_226 : decode cL_law 226 = .ok (.aload_n 2, 1) := by decide +kernel
theorem dL_law_227 : decode cL_law 227 = .ok (.aload_n 0, 1) := by decide +kernel
theorem dL_law_228 : decode cL_law 228 = .ok (.iload_n 3, 1) := by decide +kernel
theorem dL_law_229 : decode cL_law 229 = .ok (.iconst 1, 1) := by decide +kernel
theorem dL_law_230 : decode cL_law 230 = .ok (.iadd, 1) := by decide +kernel
theorem dL_law_231 : decode cL_law 231 = .ok (.iaload, 1) := by decide +kernel
theorem dL_law_232 : decode cL_law 232 = .ok (.invokevirtual 31, 3) := by decide +kernel
theorem dL_law_235 : decode cL_law 235 = .ok (.if_icmp .eq 278, 3) := by decide +kernel
theorem dL_law_238 : decode cL_law 238 = .ok (.iconst 0, 1) := by decide +kernel
theorem dL_law_239 : decode cL_law 239 = .ok (.ireturn, 1) := by decide +kernel
theorem dL_law_240 : decode cL_law 240 = .ok (.aload_n 1, 1) := by decide +kernel
theorem dL_law_241 : decode cL_law 241 = .ok (.aload_n 0, 1) := by decide +kernel
theorem dL_law_242 : decode cL_law 242 = .ok (.iload_n 3, 1) := by decide +kernel
theorem dL_law_243 : decode cL_law 243 = .ok (.iconst 1, 1) := by decide +kernel
theorem dL_law_244 : decode cL_law 244 = .ok (.iadd, 1) := by decide +kernel
theorem dL_law_245 : decode cL_law 245 = .ok (.iaload, 1) := by decide +kernel
theorem dL_law_246 : decode cL_law 246 = .ok (.invokevirtual 32, 3) := by decide +kernel
theorem dL_law_249 : decode cL_law 249 = .ok (.aload_n 2, 1) := by decide +kernel
theorem dL_law_250 : decode cL_law 250 = .ok (.aload_n 0, 1) := by decide +kernel
theorem dL_law_251 : decode cL_law 251 = .ok (.iload_n 3, 1) := by decide +kernel
theorem dL_law_252 : decode cL_law 252 = .ok (.iconst 1, 1) := by decide +kernel
theorem dL_law_253 : decode cL_law 253 = .ok (.iadd, 1) := by decide +kernel
theorem dL_law_254 : decode cL_law 254 = .ok (.iaload, 1) := by decide +kernel
theorem dL_law_255 : decode cL_law 255 = .ok (.invokevirtual 36, 3) := by decide +kernel
theorem dL_law_258 : decode cL_law 258 = .ok (.if_icmp .eq 255, 3) := by decide +kernel
theorem dL_law_261 : decode cL_law 261 = .ok (.iconst 0, 1) := by decide +kernel
theorem dL_law_262 : decode cL_law 262 = .ok (.ireturn, 1) := by decide +kernel
theorem dL_law_263 : decode cL_law 263 = .ok (.aload_n 1, 1) := by decide +kernel
theorem dL_law_264 : decode cL_law 264 = .ok (.aload_n 0, 1) := by decide +kernel
theorem dL_law_265 : decode cL_law 265 = .ok (.iload_n 3, 1) := by decide +kernel
theorem dL_law_266 : decode cL_law 266 = .ok (.iconst 1, 1) := by decide +kernel
theorem dL_law_267 : decode cL_law 267 = .ok (.iadd, 1) := by decide +kernel
theorem dL_law_268 : decode cL_law 268 = .ok (.iaload, 1) := by decide +kernel
theorem dL_law_269 : decode cL_law 269 = .ok (.invokevirtual 37, 3) := by decide +kernel
theorem dL_law_272 : decode cL_law 272 = .ok (.aload_n 2, 1) := by decide +kernel
theorem dL_law_273 : decode cL_law 273 = .ok (.aload_n 0, 1) := by decide +kernel
theorem dL_law_274 : decode cL_law 274 = .ok (.iload_n 3, 1) := by decide +kernel
theorem dL_law_275 : decode cL_law 275 = .ok (.iconst 1, 1) := by decide +kernel
theorem dL_law_276 : decode cL_law 276 = .ok (.iadd, 1) := by decide +kernel
theorem dL_law_277 : decode cL_law 277 = .ok (.iaload, 1) := by decide +kernel
theorem dL_law_278 : decode cL_law 278 = .ok (.invokevirtual 40, 3) := by decide +kernel
theorem dL_law_281 : decode cL_law 281 = .ok (.if_icmp .eq 232, 3) := by decide +kernel
theorem dL_law_284 : decode cL_law 284 = .ok (.iconst 0, 1) := by decide +kernel
theorem dL_law_285 : decode cL_law 285 = .ok (.ireturn, 1) := by decide +kernel
theorem dL_law_286 : decode cL_law 286 = .ok (.aload_n 1, 1) := by decide +kernel
theorem dL_law_287 : decode cL_law 287 = .ok (.aload_n 0, 1) := by decide +kernel
theorem dL_law_288 : decode cL_law 288 = .ok (.iload_n 3, 1) := by decide +kernel
theorem dL_law_289 : decode cL_law 289 = .ok (.iconst 1, 1) := by decide +kernel
theorem dL_law_290 : decode cL_law 290 = .ok (.iadd, 1) := by decide +kernel
theorem dL_law_291 : decode cL_law 291 = .ok (.iaload, 1) := by decide +kernel
theorem dL_law_292 : decode cL_law 292 = .ok (.invokevirtual 41, 3) := by decide +kernel
theorem dL_law_295 : decode cL_law 295 = .ok (.aload_n 2, 1) := by decide +kernel
theorem dL_law_296 : decode cL_law 296 = .ok (.aload_n 0, 1) := by decide +kernel
theorem dL_law_297 : decode cL_law 297 = .ok (.iload_n 3, 1) := by decide +kernel
theorem dL_law_298 : decode cL_law 298 = .ok (.iconst 1, 1) := by decide +kernel
theorem dL_law_299 : decode cL_law 299 = .ok (.iadd, 1) := by decide +kernel
theorem dL_law_300 : decode cL_law 300 = .ok (.iaload, 1) := by decide +kernel
theorem dL_law_301 : decode cL_law 301 = .ok (.invokevirtual 44, 3) := by decide +kernel
theorem dL_law_304 : decode cL_law 304 = .ok (.if_icmp .eq 209, 3) := by decide +kernel
theorem dL_law_307 : decode cL_law 307 = .ok (.iconst 0, 1) := by decide +kernel
theorem dL_law_308 : decode cL_law 308 = .ok (.ireturn, 1) := by decide +kernel
theorem dL_law_309 : decode cL_law 309 = .ok (.aload_n 1, 1) := by decide +kernel
theorem dL_law_310 : decode cL_law 310 = .ok (.aload_n 0, 1) := by decide +kernel
theorem dL_law_311 : decode cL_law 311 = .ok (.iload_n 3, 1) := by decide +kernel
theorem dL_law_312 : decode cL_law 312 = .ok (.iconst 1, 1) := by decide +kernel
theorem dL_law_313 : decode cL_law 313 = .ok (.iadd, 1) := by decide +kernel
theorem dL_law_314 : decode cL_law 314 = .ok (.iaload, 1) := by decide +kernel
theorem dL_law_315 : decode cL_law 315 = .ok (.invokevirtual 45, 3) := by decide +kernel
theorem dL_law_318 : decode cL_law 318 = .ok (.aload_n 2, 1) := by decide +kernel
theorem dL_law_319 : decode cL_law 319 = .ok (.aload_n 0, 1) := by decide +kernel
theorem dL_law_320 : decode cL_law 320 = .ok (.iload_n 3, 1) := by decide +kernel
theorem dL_law_321 : decode cL_law 321 = .ok (.iconst 1, 1) := by decide +kernel
theorem dL_law_322 : decode cL_law 322 = .ok (.iadd, 1) := by decide +kernel
theorem dL_law_323 : decode cL_law 323 = .ok (.iaload, 1) := by decide +kernel
theorem dL_law_324 : decode cL_law 324 = .ok (.invokevirtual 48, 3) := by decide +kernel
theorem dL_law_327 : decode cL_law 327 = .ok (.if_icmp .eq 186, 3) := by decide +kernel
theorem dL_law_330 : decode cL_law 330 = .ok (.iconst 0, 1) := by decide +kernel
theorem dL_law_331 : decode cL_law 331 = .ok (.ireturn, 1) := by decide +kernel
theorem dL_law_332 : decode cL_law 332 = .ok (.aload_n 1, 1) := by decide +kernel
theorem dL_law_333 : decode cL_law 333 = .ok (.aload_n 0, 1) := by decide +kernel
theorem dL_law_334 : decode cL_law 334 = .ok (.iload_n 3, 1) := by decide +kernel
theorem dL_law_335 : decode cL_law 335 = .ok (.iconst 1, 1) := by decide +kernel
theorem dL_law_336 : decode cL_law 336 = .ok (.iadd, 1) := by decide +kernel
theorem dL_law_337 : decode cL_law 337 = .ok (.iaload, 1) := by decide +kernel
theorem dL_law_338 : decode cL_law 338 = .ok (.invokevirtual 49, 3) := by decide +kernel
theorem dL_law_341 : decode cL_law 341 = .ok (.aload_n 2, 1) := by decide +kernel
theorem dL_law_342 : decode cL_law 342 = .ok (.aload_n 0, 1) := by decide +kernel
theorem dL_law_343 : decode cL_law 343 = .ok (.iload_n 3, 1) := by decide +kernel
theorem dL_law_344 : decode cL_law 344 = .ok (.iconst 1, 1) := by decide +kernel
theorem dL_law_345 : decode cL_law 345 = .ok (.iadd, 1) := by decide +kernel
theorem dL_law_346 : decode cL_law 346 = .ok (.iaload, 1) := by decide +kernel
theorem dL_law_347 : decode cL_law 347 = .ok (.invokevirtual 52, 3) := by decide +kernel
theorem dL_law_350 : decode cL_law 350 = .ok (.if_icmp .eq 163, 3) := by decide +kernel
theorem dL_law_353 : decode cL_law 353 = .ok (.iconst 0, 1) := by decide +kernel
theorem dL_law_354 : decode cL_law 354 = .ok (.ireturn, 1) := by decide +kernel
theorem dL_law_355 : decode cL_law 355 = .ok (.aload_n 1, 1) := by decide +kernel
theorem dL_law_356 : decode cL_law 356 = .ok (.aload_n 0, 1) := by decide +kernel
theorem dL_law_357 : decode cL_law 357 = .ok (.iload_n 3, 1) := by decide +kernel
theorem dL_law_358 : decode cL_law 358 = .ok (.iconst 1, 1) := by decide +kernel
theorem dL_law_359 : decode cL_law 359 = .ok (.iadd, 1) := by decide +kernel
theorem dL_law_360 : decode cL_law 360 = .ok (.iaload, 1) := by decide +kernel
theorem dL_law_361 : decode cL_law 361 = .ok (.invokevirtual 53, 3) := by decide +kernel
theorem dL_law_364 : decode cL_law 364 = .ok (.aload_n 2, 1) := by decide +kernel
theorem dL_law_365 : decode cL_law 365 = .ok (.aload_n 0, 1) := by decide +kernel
theorem dL_law_366 : decode cL_law 366 = .ok (.iload_n 3, 1) := by decide +kernel
theorem dL_law_367 : decode cL_law 367 = .ok (.iconst 1, 1) := by decide +kernel
theorem dL_law_368 : decode cL_law 368 = .ok (.iadd, 1) := by decide +kernel
theorem dL_law_369 : decode cL_law 369 = .ok (.iaload, 1) := by decide +kernel
theorem dL_law_370 : decode cL_law 370 = .ok (.invokevirtual 56, 3) := by decide +kernel
theorem dL_law_373 : decode cL_law 373 = .ok (.if_icmp .eq 140, 3) := by decide +kernel
theorem dL_law_376 : decode cL_law 376 = .ok (.iconst 0, 1) := by decide +kernel
theorem dL_law_377 : decode cL_law 377 = .ok (.ireturn, 1) := by decide +kernel
theorem dL_law_378 : decode cL_law 378 = .ok (.aload_n 1, 1) := by decide +kernel
theorem dL_law_379 : decode cL_law 379 = .ok (.aload_n 0, 1) := by decide +kernel
theorem dL_law_380 : decode cL_law 380 = .ok (.iload_n 3, 1) := by decide +kernel
theorem dL_law_381 : decode cL_law 381 = .ok (.iconst 1, 1) := by decide +kernel
theorem dL_law_382 : decode cL_law 382 = .ok (.iadd, 1) := by decide +kernel
theorem dL_law_383 : decode cL_law 383 = .ok (.iaload, 1) := by decide +kernel
theorem dL_law_384 : decode cL_law 384 = .ok (.aload_n 0, 1) := by decide +kernel
theorem dL_law_385 : decode cL_law 385 = .ok (.iload_n 3, 1) := by decide +kernel
theorem dL_law_386 : decode cL_law 386 = .ok (.iconst 2, 1) := by decide +kernel
theorem dL_law_387 : decode cL_law 387 = .ok (.iadd, 1) := by decide +kernel
theorem dL_law_388 : decode cL_law 388 = .ok (.iaload, 1) := by decide +kernel
theorem dL_law_389 : decode cL_law 389 = .ok (.invokevirtual 57, 3) := by decide +kernel
theorem dL_law_392 : decode cL_law 392 = .ok (.aload_n 2, 1) := by decide +kernel
theorem dL_law_393 : decode cL_law 393 = .ok (.aload_n 0, 1) := by decide +kernel
theorem dL_law_394 : decode cL_law 394 = .ok (.iload_n 3, 1) := by decide +kernel
theorem dL_law_395 : decode cL_law 395 = .ok (.iconst 1, 1) := by decide +kernel
theorem dL_law_396 : decode cL_law 396 = .ok (.iadd, 1) := by decide +kernel
theorem dL_law_397 : decode cL_law 397 = .ok (.iaload, 1) := by decide +kernel
theorem dL_law_398 : decode cL_law 398 = .ok (.aload_n 0, 1) := by decide +kernel
theorem dL_law_399 : decode cL_law 399 = .ok (.iload_n 3, 1) := by decide +kernel
theorem dL_law_400 : decode cL_law 400 = .ok (.iconst 2, 1) := by decide +kernel
theorem dL_law_401 : decode cL_law 401 = .ok (.iadd, 1) := by decide +kernel
theorem dL_law_402 : decode cL_law 402 = .ok (.iaload, 1) := by decide +kernel
theorem dL_law_403 : decode cL_law 403 = .ok (.invokevirtual 60, 3) := by decide +kernel
theorem dL_law_406 : decode cL_law 406 = .ok (.if_icmp .eq 107, 3) := by decide +kernel
theorem dL_law_409 : decode cL_law 409 = .ok (.iconst 0, 1) := by decide +kernel
theorem dL_law_410 : decode cL_law 410 = .ok (.ireturn, 1) := by decide +kernel
theorem dL_law_411 : decode cL_law 411 = .ok (.aload_n 1, 1) := by decide +kernel
theorem dL_law_412 : decode cL_law 412 = .ok (.aload_n 0, 1) := by decide +kernel
theorem dL_law_413 : decode cL_law 413 = .ok (.iload_n 3, 1) := by decide +kernel
theorem dL_law_414 : decode cL_law 414 = .ok (.iconst 1, 1) := by decide +kernel
theorem dL_law_415 : decode cL_law 415 = .ok (.iadd, 1) := by decide +kernel
theorem dL_law_416 : decode cL_law 416 = .ok (.iaload, 1) := by decide +kernel
theorem dL_law_417 : decode cL_law 417 = .ok (.invokevirtual 61, 3) := by decide +kernel
theorem dL_law_420 : decode cL_law 420 = .ok (.aload_n 2, 1) := by decide +kernel
theorem dL_law_421 : decode cL_law 421 = .ok (.aload_n 0, 1) := by decide +kernel
theorem dL_law_422 : decode cL_law 422 = .ok (.iload_n 3, 1) := by decide +kernel
theorem dL_law_423 : decode cL_law 423 = .ok (.iconst 1, 1) := by decide +kernel
theorem dL_law_424 : decode cL_law 424 = .ok (.iadd, 1) := by decide +kernel
theorem dL_law_425 : decode cL_law 425 = .ok (.iaload, 1) := by decide +kernel
theorem dL_law_426 : decode cL_law 426 = .ok (.invokevirtual 64, 3) := by decide +kernel
theorem dL_law_429 : decode cL_law 429 = .ok (.if_icmp .eq 84, 3) := by decide +kernel
theorem dL_law_432 : decode cL_law 432 = .ok (.iconst 0, 1) := by decide +kernel
theorem dL_law_433 : decode cL_law 433 = .ok (.ireturn, 1) := by decide +kernel
theorem dL_law_434 : decode cL_law 434 = .ok (.aload_n 1, 1) := by decide +kernel
theorem dL_law_435 : decode cL_law 435 = .ok (.aload_n 0, 1) := by decide +kernel
theorem dL_law_436 : decode cL_law 436 = .ok (.iload_n 3, 1) := by decide +kernel
theorem dL_law_437 : decode cL_law 437 = .ok (.iconst 1, 1) := by decide +kernel
theorem dL_law_438 : decode cL_law 438 = .ok (.iadd, 1) := by decide +kernel
theorem dL_law_439 : decode cL_law 439 = .ok (.iaload, 1) := by decide +kernel
theorem dL_law_440 : decode cL_law 440 = .ok (.invokevirtual 65, 3) := by decide +kernel
theorem dL_law_443 : decode cL_law 443 = .ok (.aload_n 2, 1) := by decide +kernel
theorem dL_law_444 : decode cL_law 444 = .ok (.aload_n 0, 1) := by decide +kernel
theorem dL_law_445 : decode cL_law 445 = .ok (.iload_n 3, 1) := by decide +kernel
theorem dL_law_446 : decode cL_law 446 = .ok (.iconst 1, 1) := by decide +kernel
theorem dL_law_447 : decode cL_law 447 = .ok (.iadd, 1) := by decide +kernel
theorem dL_law_448 : decode cL_law 448 = .ok (.iaload, 1) := by decide +kernel
theorem dL_law_449 : decode cL_law 449 = .ok (.invokevirtual 68, 3) := by decide +kernel
theorem dL_law_452 : decode cL_law 452 = .ok (.if_icmp .eq 61, 3) := by decide +kernel
theorem dL_law_455 : decode cL_law 455 = .ok (.iconst 0, 1) := by decide +kernel
theorem dL_law_456 : decode cL_law 456 = .ok (.ireturn, 1) := by decide +kernel
theorem dL_law_457 : decode cL_law 457 = .ok (.aload_n 1, 1) := by decide +kernel
theorem dL_law_458 : decode cL_law 458 = .ok (.aload_n 0, 1) := by decide +kernel
theorem dL_law_459 : decode cL_law 459 = .ok (.iload_n 3, 1) := by decide +kernel
theorem dL_law_460 : decode cL_law 460 = .ok (.iconst 1, 1) := by decide +kernel
theorem dL_law_461 : decode cL_law 461 = .ok (.iadd, 1) := by decide +kernel
theorem dL_law_462 : decode cL_law 462 = .ok (.iaload, 1) := by decide +kernel
theorem dL_law_463 : decode cL_law 463 = .ok (.invokevirtual 69, 3) := by decide +kernel
theorem dL_law_466 : decode cL_law 466 = .ok (.aload_n 2, 1) := by decide +kernel
theorem dL_law_467 : decode cL_law 467 = .ok (.aload_n 0, 1) := by decide +kernel
theorem dL_law_468 : decode cL_law 468 = .ok (.iload_n 3, 1) := by decide +kernel
theorem dL_law_469 : decode cL_law 469 = .ok (.iconst 1, 1) := by decide +kernel
theorem dL_law_470 : decode cL_law 470 = .ok (.iadd, 1) := by decide +kernel
theorem dL_law_471 : decode cL_law 471 = .ok (.iaload, 1) := by decide +kernel
theorem dL_law_472 : decode cL_law 472 = .ok (.invokevirtual 72, 3) := by decide +kernel
theorem dL_law_475 : decode cL_law 475 = .ok (.if_icmp .eq 38, 3) := by decide +kernel
theorem dL_law_478 : decode cL_law 478 = .ok (.iconst 0, 1) := by decide +kernel
theorem dL_law_479 : decode cL_law 479 = .ok (.ireturn, 1) := by decide +kernel
theorem dL_law_480 : decode cL_law 480 = .ok (.aload_n 1, 1) := by decide +kernel
theorem dL_law_481 : decode cL_law 481 = .ok (.aload_n 0, 1) := by decide +kernel
theorem dL_law_482 : decode cL_law 482 = .ok (.iload_n 3, 1) := by decide +kernel
theorem dL_law_483 : decode cL_law 483 = .ok (.iconst 1, 1) := by decide +kernel
theorem dL_law_484 : decode cL_law 484 = .ok (.iadd, 1) := by decide +kernel
theorem dL_law_485 : decode cL_law 485 = .ok (.iaload, 1) := by decide +kernel
theorem dL_law_486 : decode cL_law 486 = .ok (.aload_n 0, 1) := by decide +kernel
theorem dL_law_487 : decode cL_law 487 = .ok (.iload_n 3, 1) := by decide +kernel
theorem dL_law_488 : decode cL_law 488 = .ok (.iconst 2, 1) := by decide +kernel
theorem dL_law_489 : decode cL_law 489 = .ok (.iadd, 1) := by decide +kernel
theorem dL_law_490 : decode cL_law 490 = .ok (.iaload, 1) := by decide +kernel
theorem dL_law_491 : decode cL_law 491 = .ok (.invokevirtual 73, 3) := by decide +kernel
theorem dL_law_494 : decode cL_law 494 = .ok (.aload_n 2, 1) := by decide +kernel
theorem dL_law_495 : decode cL_law 495 = .ok (.aload_n 0, 1) := by decide +kernel
theorem dL_law_496 : decode cL_law 496 = .ok (.iload_n 3, 1) := by decide +kernel
theorem dL_law_497 : decode cL_law 497 = .ok (.iconst 1, 1) := by decide +kernel
theorem dL_law_498 : decode cL_law 498 = .ok (.iadd, 1) := by decide +kernel
theorem dL_law_499 : decode cL_law 499 = .ok (.iaload, 1) := by decide +kernel
theorem dL_law_500 : decode cL_law 500 = .ok (.aload_n 0, 1) := by decide +kernel
theorem dL_law_501 : decode cL_law 501 = .ok (.iload_n 3, 1) := by decide +kernel
theorem dL_law_502 : decode cL_law 502 = .ok (.iconst 2, 1) := by decide +kernel
theorem dL_law_503 : decode cL_law 503 = .ok (.iadd, 1) := by decide +kernel
theorem dL_law_504 : decode cL_law 504 = .ok (.iaload, 1) := by decide +kernel
theorem dL_law_505 : decode cL_law 505 = .ok (.invokevirtual 76, 3) := by decide +kernel
theorem dL_law_508 : decode cL_law 508 = .ok (.if_icmp .eq 5, 3) := by decide +kernel
theorem dL_law_511 : decode cL_law 511 = .ok (.iconst 0, 1) := by decide +kernel
theorem dL_law_512 : decode cL_law 512 = .ok (.ireturn, 1) := by decide +kernel
theorem dL_law_513 : decode cL_law 513 = .ok (.iinc 3 4, 3) := by decide +kernel
theorem dL_law_516 : decode cL_law 516 = .ok (.goto (-498), 3) := by decide +kernel
theorem dL_law_519 : decode cL_law 519 = .ok (.iconst 1, 1) := by decide +kernel
theorem dL_law_520 : decode cL_law 520 = .ok (.ireturn, 1) := by decide +kernel
end
section
/-! THE ENGINE: a method's walk over a picture: the world is 'ww v' for a table of numbers v, the locals a list by place, the stack a list. -/
abbrev jo_V : Type := Nat → Nat → Int32
/-- locals by place: what is listed is held -/
def jo_lo (ls : Array Slot) (L : List (Option Value)) : Prop := ls.size = L.length ∧ lv_wf ls ∧ ∀ (i : Nat) (v : Value), L[i]? = some (some v) → v.category = 1 ∧ ls[i]? = some (.val v)
def jo_ps (L : List (Option Value)) : List (Nat × Value) := (List.range L.length).filterMap (fun i => match L[i]? with
  | some (some v) => some (i, v)
  | _ => none)
theorem jo_ps_mem {L : List (Option Value)} {q : Nat × Value} : q ∈ jo_ps L ↔ L[q.1]? = some (some q.2) := by
  unfold jo_ps
  rw [List.mem_filterMap]
  constructor
  · rintro ⟨i, hi, h⟩
    split at h
    · next v hv => cases h; exact hv
    · cases h
  · intro h
    refine ⟨q.1, List.mem_range.mpr (List.getElem?_eq_some_iff.mp h).1, ?_⟩
    rw [h]
theorem jo_lo.has {ls : Array Slot} {L : List (Option Value)} (h : jo_lo ls L) : lv_has ls L.length (jo_ps L) := ⟨h.1, h.2.1, fun q hq => (h.2.2 q.1 q.2 (jo_ps_mem.mp hq)).2⟩
theorem jo_lo.set {ls ls' : Array Slot} {L : List (Option Value)} {i : Nat} {x : Value} (h : jo_lo ls L) (hi : i < L.length) (hx : x.category = 1) (h' : lv_has ls' L.length ((i, x) :: (jo_ps L).filter (fun q => !(q.1 == i) && !(q.1 + 1 == i && q.2.category == 2)))) : jo_lo ls' (L.set i (some x)) := by
  refine ⟨by rw [List.length_set]; exact h'.1, h'.2.1, fun j v hj => ?_⟩
  by_cases e : j = i
  · subst e
    rw [List.getElem?_set_self hi] at hj
    cases hj
    exact ⟨hx, h'.2.2 (j, x) List.mem_cons_self⟩
  · rw [List.getElem?_set_ne (fun q => e q.symm)] at hj
    obtain ⟨h1, h2⟩ := h.2.2 j v hj
    refine ⟨h1, h'.2.2 (j, v) (List.mem_cons_of_mem _ (List.mem_filter.mpr ⟨jo_ps_mem.mpr hj, ?_⟩))⟩
    simp [e, h1]
theorem jo_args_mem : ∀ (As : List Value) (i j : Nat) (x : Value), (∀ y ∈ As, y.category = 1) → As[j]? = some x → (i + j, x) ∈ lv_args i As
  | [], i, j, x, _, h => by simp at h
  | a :: As, i, 0, x, _, h => by
    simp at h
    subst h
    exact List.mem_cons_self
  | a :: As, i, j + 1, x, hc, h => by
    have ha : ¬ a.category = 2 := by
      have := hc a List.mem_cons_self
      omega
    have h2 := jo_args_mem As (i + 1) j x (fun y hy => hc y (List.mem_cons_of_mem _ hy)) (by simpa using h)
    unfold lv_args
    rw [if_neg ha]
    refine List.mem_cons_of_mem _ ?_
    rw [show i + (j + 1) = i + 1 + j by omega]
    exact h2
theorem jo_sl_len : ∀ (As : List Value), (∀ y ∈ As, y.category = 1) → (lg_sl As).length = As.length
  | [], _ => rfl
  | a :: As, hc => by
    have ha : ¬ a.category = 2 := by
      have := hc a List.mem_cons_self
      omega
    have h2 := jo_sl_len As (fun y hy => hc y (List.mem_cons_of_mem _ hy))
    unfold lg_sl at h2 ⊢
    rw [List.flatMap_cons, if_neg ha, List.length_append, h2]
    simp
    omega
theorem jo_entry {As : List Value} {nL : Nat} (hc : ∀ y ∈ As, y.category = 1) (hn : As.length ≤ nL) : jo_lo ((lg_sl As ++ List.replicate (nL - (lg_sl As).length) Slot.unset).toArray) (As.map some ++ List.replicate (nL - As.length) none) := by
  have hl := lv_entry As (n := nL) (by rw [jo_sl_len As hc]; exact hn)
  refine ⟨?_, hl.2.1, fun i v h => ?_⟩
  · rw [hl.1]
    simp
    omega
  · by_cases hi : i < As.length
    · rw [List.getElem?_append_left (by simpa using hi)] at h
      simp at h
      have hm := jo_args_mem As 0 i v hc h
      rw [Nat.zero_add] at hm
      exact ⟨hc v (List.mem_of_getElem? h), hl.2.2 _ hm⟩
    · rw [List.getElem?_append_right (by simp; omega)] at h
      have := List.mem_of_getElem? h
      rw [List.mem_replicate] at this
      cases this.2
/-- the fixed things of a walk -/
abbrev jo_C : Type := Program × Launch × Env × Room × State × MethodId × Array Value × List Frame × Method × Code × (Nat → Prop) × Nat × Nat × (State → Prop)
/-- from the picture v, the place pc, the locals L and the stack st the machine comes to the end that K names -/
def jo_G (K : jo_C) (D : va_G) (T : List (ClassId × FieldType)) (ww : jo_V → va_W) (v : jo_V) (pc : Nat) (L : List (Option Value)) (st : List Value) : Prop :=
  match K with
  | (p, l, e, R, s, m, args, below, meth, c, A, k, n, Q) => va_K D vwCl T s → ∀ (H : Heap) (locs : List Loc) (ls : Array Slot), va_P D vwCl (ww v) H → va_D A (ww v) → va_S A s.heap H locs → jo_lo ls L → W p l e R s m args below meth c H locs k n Q (F0 m pc ls st)
def jo_F (K : jo_C) (cc : ByteArray) (nL : Nat) (own : String) (fr lo : Nat) : Prop :=
  match K with
  | (p, l, e, R, s, m, args, below, meth, c, A, k, n, Q) => CallFix p m c cc nL s args lw_all own ∧ (∀ q : Nat, s.heap.size ≤ q → A q) ∧ meth.locks = false ∧ fr ≤ R.frames ∧ lo ≤ R.locals ∧ k ≤ R.cells ∧ n ≤ R.slots
def jo_P (D : va_G) (T : List (ClassId × FieldType)) (ww : jo_V → va_W) (v : jo_V) (sz : Nat) : State → Prop := fun U => U.heap.size = sz ∧ va_P D vwCl (ww v) U.heap ∧ va_K D vwCl T U ∧ va_D (fun _ => True) (ww v)
def jo_B (D : va_G) (T : List (ClassId × FieldType)) (ww : jo_V → va_W) (A : Nat → Prop) : jo_V → State → Prop := fun u t => va_P D vwCl (ww u) t.heap ∧ va_K D vwCl T t ∧ va_D A (ww u)
/-- a contract with an int for an answer, and one without -/
def jo_Mi (l : Launch) (y : MethodName) (ws : List Cond) (rm : Room) (As : List Value) (D : va_G) (T : List (ClassId × FieldType)) (ww : jo_V → va_W) (v : jo_V) (post : Int32 → jo_V → Prop) : Prop := ∀ sz : Nat, Met l y ws rm (va_Pc As (jo_P D T ww v sz)) (va_Qi post (jo_B D T ww (va_A (ww v) sz)) (va_A (ww v) sz)) 0 0 (va_A (ww v) sz)
def jo_Mv (l : Launch) (y : MethodName) (ws : List Cond) (rm : Room) (As : List Value) (D : va_G) (T : List (ClassId × FieldType)) (ww : jo_V → va_W) (v : jo_V) (post : jo_V → Prop) : Prop := ∀ sz : Nat, Met l y ws rm (va_Pc As (jo_P D T ww v sz)) (va_Qv post (jo_B D T ww (va_A (ww v) sz)) (va_A (ww v) sz)) 0 0 (va_A (ww v) sz)
def jo_Qi (K : jo_C) (ret : FieldType) (D : va_G) (T : List (ClassId × FieldType)) (ww : jo_V → va_W) (post : Int32 → jo_V → Prop) : Prop :=
  match K with
  | (p, l, e, R, s, m, args, below, meth, c, A, k, n, Q) => meth.sig.returnType = some ret ∧ Q = MQ below (va_Qi post (jo_B D T ww A) A) args s k n A
def jo_Qv (K : jo_C) (D : va_G) (T : List (ClassId × FieldType)) (ww : jo_V → va_W) (post : jo_V → Prop) : Prop :=
  match K with
  | (p, l, e, R, s, m, args, below, meth, c, A, k, n, Q) => meth.sig.returnType = none ∧ Q = MQ below (va_Qv post (jo_B D T ww A) A) args s k n A
/-- a truth as a number -/
def jo_b (b : Bool) : Int32 := if b then nI 1 else nI 0
theorem jo_bN (b : Bool) : narrow .boolean (.int (jo_b b)) = .int (jo_b b) := by cases b <;> rfl
theorem jo_Mi.of {l : Launch} {y : MethodName} {cc : ByteArray} {nL : Nat} {ret : FieldType} {rm : Room} {As : List Value} {D : va_G} {T : List (ClassId × FieldType)} {ww : jo_V → va_W} {v : jo_V} {post : Int32 → jo_V → Prop} (hy : plainName y.cls = true) (hc : ∀ x ∈ As, x.category = 1) (hn : As.length ≤ nL)
    (h : ∀ K : jo_C, jo_F K cc nL y.cls rm.frames rm.locals → jo_Qi K ret D T ww post → jo_G K D T ww v 0 (As.map some ++ List.replicate (nL - As.length) none) []) : jo_Mi l y (ws_ y cc nL (some ret)) rm As D T ww v post := by
  intro sz
  refine Met.ofW (cc := cc) (maxL := nL) (ret := some ret) hy rfl ?_
  intro p e s m args below meth c s₁ B hml hv
  obtain ⟨rfl, hsz, hP, hK, hD0⟩ := hv
  have hts := atoms_spec (ws := ws_ y cc nL (some ret)) B.pre
  have hts : ∀ w ∈ lw_all, w.before _ s = true := fun w h => hts w (List.mem_cons_of_mem _ h)
  subst hsz
  rw [lg_entry_eq]
  exact h (p, l, e, (headSpec (ws_ y cc nL (some ret)) rm).room, s, m, As.toArray, below, meth, c, va_A (ww v) s.heap.size, 0, 0, MQ below (va_Qi post (jo_B D T ww (va_A (ww v) s.heap.size)) (va_A (ww v) s.heap.size)) As.toArray s 0 0 (va_A (ww v) s.heap.size))
    ⟨⟨B.exec, B.bytes, hml, findClass_of_methodNamed B.named, hts⟩, fun q hq => Or.inr hq, B.notSynchronized, Nat.le_refl _, Nat.le_refl _, Nat.zero_le _, Nat.zero_le _⟩ ⟨B.returns, rfl⟩ hK s.heap [] _ hP hD0.self va_S.rf (jo_entry hc hn)
theorem jo_Mv.of {l : Launch} {y : MethodName} {cc : ByteArray} {nL : Nat} {rm : Room} {As : List Value} {D : va_G} {T : List (ClassId × FieldType)} {ww : jo_V → va_W} {v : jo_V} {post : jo_V → Prop} (hy : plainName y.cls = true) (hc : ∀ x ∈ As, x.category = 1) (hn : As.length ≤ nL)
    (h : ∀ K : jo_C, jo_F K cc nL y.cls rm.frames rm.locals → jo_Qv K D T ww post → jo_G K D T ww v 0 (As.map some ++ List.replicate (nL - As.length) none) []) : jo_Mv l y (ws_ y cc nL none) rm As D T ww v post := by
  intro sz
  refine Met.ofW (cc := cc) (maxL := nL) (ret := none) hy rfl ?_
  intro p e s m args below meth c s₁ B hml hv
  obtain ⟨rfl, hsz, hP, hK, hD0⟩ := hv
  have hts := atoms_spec (ws := ws_ y cc nL none) B.pre
  have hts : ∀ w ∈ lw_all, w.before _ s = true := fun w h => hts w (List.mem_cons_of_mem _ h)
  subst hsz
  rw [lg_entry_eq]
  exact h (p, l, e, (headSpec (ws_ y cc nL none) rm).room, s, m, As.toArray, below, meth, c, va_A (ww v) s.heap.size, 0, 0, MQ below (va_Qv post (jo_B D T ww (va_A (ww v) s.heap.size)) (va_A (ww v) s.heap.size)) As.toArray s 0 0 (va_A (ww v) s.heap.size))
    ⟨⟨B.exec, B.bytes, hml, findClass_of_methodNamed B.named, hts⟩, fun q hq => Or.inr hq, B.notSynchronized, Nat.le_refl _, Nat.le_refl _, Nat.zero_le _, Nat.zero_le _⟩ ⟨B.returns, rfl⟩ hK s.heap [] _ hP hD0.self va_S.rf (jo_entry hc hn)
section JOE
variable {K : jo_C} {D : va_G} {T : List (ClassId × FieldType)} {ww : jo_V → va_W} {v : jo_V} {pc : Nat} {L : List (Option Value)} {st : List Value} {cc : ByteArray} {nL : Nat} {own : String} {fr lo : Nat}
theorem jo_iconst (F : jo_F K cc nL own fr lo) {n : Int} {x : Int32} (hdg : decode cc pc = .ok (.iconst n, 1)) (hv : Int32.ofInt n = x) (k : jo_G K D T ww v (pc + 1) L (.int x :: st)) : jo_G K D T ww v pc L st := by
  obtain ⟨p, l, e, R, s, m, args, below, meth, c, A, kc, n, Q⟩ := K
  obtain ⟨⟨hx, hb, hml, hown, hts⟩, hA, hlk, h1, h2, h3, h4⟩ := F
  exact fun hK H locs ls hP hD hS hl => lv_iconst hx hb hdg hv (k hK H locs ls hP hD hS hl)
theorem jo_bipush (F : jo_F K cc nL own fr lo) {n : Int} {x : Int32} (hdg : decode cc pc = .ok (.bipush n, 2)) (hv : (Int8.ofInt n).toInt32 = x) (k : jo_G K D T ww v (pc + 2) L (.int x :: st)) : jo_G K D T ww v pc L st := by
  obtain ⟨p, l, e, R, s, m, args, below, meth, c, A, kc, n, Q⟩ := K
  obtain ⟨⟨hx, hb, hml, hown, hts⟩, hA, hlk, h1, h2, h3, h4⟩ := F
  exact fun hK H locs ls hP hD hS hl => lv_bipush hx hb hdg hv (k hK H locs ls hP hD hS hl)
theorem jo_sipush (F : jo_F K cc nL own fr lo) {n : Int} {x : Int32} (hdg : decode cc pc = .ok (.sipush n, 3)) (hv : (Int16.ofInt n).toInt32 = x) (k : jo_G K D T ww v (pc + 3) L (.int x :: st)) : jo_G K D T ww v pc L st := by
  obtain ⟨p, l, e, R, s, m, args, below, meth, c, A, kc, n, Q⟩ := K
  obtain ⟨⟨hx, hb, hml, hown, hts⟩, hA, hlk, h1, h2, h3, h4⟩ := F
  exact fun hK H locs ls hP hD hS hl => lv_sipush hx hb hdg hv (k hK H locs ls hP hD hS hl)
theorem jo_ldc (F : jo_F K cc nL own fr lo) {index : Nat} {x : Int32} (hc : Jvm.Cond.constant own index x ∈ lw_all) (hdg : decode cc pc = .ok (.ldc index, 2)) (k : jo_G K D T ww v (pc + 2) L (.int x :: st)) : jo_G K D T ww v pc L st := by
  obtain ⟨p, l, e, R, s, m, args, below, meth, c, A, kc, n, Q⟩ := K
  obtain ⟨⟨hx, hb, hml, hown, hts⟩, hA, hlk, h1, h2, h3, h4⟩ := F
  exact fun hK H locs ls hP hD hS hl => lv_ldc hx hb hown (hts _ hc) hdg (k hK H locs ls hP hD hS hl)
theorem jo_iload_n (F : jo_F K cc nL own fr lo) {i : Fin 4} (j : Nat) {x : Int32} (hdg : decode cc pc = .ok (.iload_n i, 1)) (hi : (i : Nat) = j) (h : L[j]? = some (some (.int x))) (k : jo_G K D T ww v (pc + 1) L (.int x :: st)) : jo_G K D T ww v pc L st := by
  obtain ⟨p, l, e, R, s, m, args, below, meth, c, A, kc, n, Q⟩ := K
  obtain ⟨⟨hx, hb, hml, hown, hts⟩, hA, hlk, h1, h2, h3, h4⟩ := F
  exact fun hK H locs ls hP hD hS hl => lv_iload_n hx hb hdg hi (hl.2.2 _ _ h).2 (k hK H locs ls hP hD hS hl)
theorem jo_iload (F : jo_F K cc nL own fr lo) (j : Nat) {x : Int32} (hdg : decode cc pc = .ok (.iload j, 2)) (h : L[j]? = some (some (.int x))) (k : jo_G K D T ww v (pc + 2) L (.int x :: st)) : jo_G K D T ww v pc L st := by
  obtain ⟨p, l, e, R, s, m, args, below, meth, c, A, kc, n, Q⟩ := K
  obtain ⟨⟨hx, hb, hml, hown, hts⟩, hA, hlk, h1, h2, h3, h4⟩ := F
  exact fun hK H locs ls hP hD hS hl => lv_iload hx hb hdg (hl.2.2 _ _ h).2 (k hK H locs ls hP hD hS hl)
theorem jo_istore_n (F : jo_F K cc nL own fr lo) {i : Fin 4} (j : Nat) {x : Int32} (hdg : decode cc pc = .ok (.istore_n i, 1)) (hi : (i : Nat) = j) (hj : j < L.length) (k : jo_G K D T ww v (pc + 1) (L.set j (some (.int x))) st) : jo_G K D T ww v pc L (.int x :: st) := by
  obtain ⟨p, l, e, R, s, m, args, below, meth, c, A, kc, n, Q⟩ := K
  obtain ⟨⟨hx, hb, hml, hown, hts⟩, hA, hlk, h1, h2, h3, h4⟩ := F
  exact fun hK H locs ls hP hD hS hl => lv_istore_n hx hb hdg hi hl.has hj rfl (fun ls' h' => k hK H locs ls' hP hD hS (hl.set hj rfl h'))
theorem jo_istore (F : jo_F K cc nL own fr lo) (j : Nat) {x : Int32} (hdg : decode cc pc = .ok (.istore j, 2)) (hj : j < L.length) (k : jo_G K D T ww v (pc + 2) (L.set j (some (.int x))) st) : jo_G K D T ww v pc L (.int x :: st) := by
  obtain ⟨p, l, e, R, s, m, args, below, meth, c, A, kc, n, Q⟩ := K
  obtain ⟨⟨hx, hb, hml, hown, hts⟩, hA, hlk, h1, h2, h3, h4⟩ := F
  exact fun hK H locs ls hP hD hS hl => lv_istore hx hb hdg hl.has hj rfl (fun ls' h' => k hK H locs ls' hP hD hS (hl.set hj rfl h'))
theorem jo_aload_n (F : jo_F K cc nL own fr lo) {i : Fin 4} (j : Nat) {x : Nat} (hdg : decode cc pc = .ok (.aload_n i, 1)) (hi : (i : Nat) = j) (h : L[j]? = some (some (.ref x))) (k : jo_G K D T ww v (pc + 1) L (.ref x :: st)) : jo_G K D T ww v pc L st := by
  obtain ⟨p, l, e, R, s, m, args, below, meth, c, A, kc, n, Q⟩ := K
  obtain ⟨⟨hx, hb, hml, hown, hts⟩, hA, hlk, h1, h2, h3, h4⟩ := F
  exact fun hK H locs ls hP hD hS hl => lv_aload_n hx hb hdg hi (hl.2.2 _ _ h).2 (k hK H locs ls hP hD hS hl)
theorem jo_aload (F : jo_F K cc nL own fr lo) (j : Nat) {x : Nat} (hdg : decode cc pc = .ok (.aload j, 2)) (h : L[j]? = some (some (.ref x))) (k : jo_G K D T ww v (pc + 2) L (.ref x :: st)) : jo_G K D T ww v pc L st := by
  obtain ⟨p, l, e, R, s, m, args, below, meth, c, A, kc, n, Q⟩ := K
  obtain ⟨⟨hx, hb, hml, hown, hts⟩, hA, hlk, h1, h2, h3, h4⟩ := F
  exact fun hK H locs ls hP hD hS hl => lv_aload hx hb hdg (hl.2.2 _ _ h).2 (k hK H locs ls hP hD hS hl)
theorem jo_astore_n (F : jo_F K cc nL own fr lo) {i : Fin 4} (j : Nat) {x : Nat} (hdg : decode cc pc = .ok (.astore_n i, 1)) (hi : (i : Nat) = j) (hj : j < L.length) (k : jo_G K D T ww v (pc + 1) (L.set j (some (.ref x))) st) : jo_G K D T ww v pc L (.ref x :: st) := by
  obtain ⟨p, l, e, R, s, m, args, below, meth, c, A, kc, n, Q⟩ := K
  obtain ⟨⟨hx, hb, hml, hown, hts⟩, hA, hlk, h1, h2, h3, h4⟩ := F
  exact fun hK H locs ls hP hD hS hl => lv_astore_n hx hb hdg hi hl.has hj rfl (fun ls' h' => k hK H locs ls' hP hD hS (hl.set hj rfl h'))
theorem jo_astore (F : jo_F K cc nL own fr lo) (j : Nat) {x : Nat} (hdg : decode cc pc = .ok (.astore j, 2)) (hj : j < L.length) (k : jo_G K D T ww v (pc + 2) (L.set j (some (.ref x))) st) : jo_G K D T ww v pc L (.ref x :: st) := by
  obtain ⟨p, l, e, R, s, m, args, below, meth, c, A, kc, n, Q⟩ := K
  obtain ⟨⟨hx, hb, hml, hown, hts⟩, hA, hlk, h1, h2, h3, h4⟩ := F
  exact fun hK H locs ls hP hD hS hl => lv_astore hx hb hdg hl.has hj rfl (fun ls' h' => k hK H locs ls' hP hD hS (hl.set hj rfl h'))
theorem jo_iinc (F : jo_F K cc nL own fr lo) (j : Nat) {n : Int} {x y : Int32} (hdg : decode cc pc = .ok (.iinc j n, 3)) (h : L[j]? = some (some (.int x))) (hv : x + Int32.ofInt n = y) (k : jo_G K D T ww v (pc + 3) (L.set j (some (.int y))) st) : jo_G K D T ww v pc L st := by
  obtain ⟨p, l, e, R, s, m, args, below, meth, c, A, kc, n', Q⟩ := K
  obtain ⟨⟨hx, hb, hml, hown, hts⟩, hA, hlk, h1, h2, h3, h4⟩ := F
  have hj : j < L.length := (List.getElem?_eq_some_iff.mp h).1
  intro hK H locs ls hP hD hS hl
  obtain ⟨q, hq⟩ := List.getElem?_of_mem (jo_ps_mem (L := L) (q := (j, .int x)) |>.mpr h)
  exact lv_iinc hx hb hdg hl.has hq hv hj rfl (fun ls' h' => k hK H locs ls' hP hD hS (hl.set hj rfl h'))
theorem jo_iadd (F : jo_F K cc nL own fr lo) {x y : Int32} (hdg : decode cc pc = .ok (.iadd, 1)) (k : jo_G K D T ww v (pc + 1) L (.int (x + y) :: st)) : jo_G K D T ww v pc L (.int y :: .int x :: st) := by
  obtain ⟨p, l, e, R, s, m, args, below, meth, c, A, kc, n, Q⟩ := K
  obtain ⟨⟨hx, hb, hml, hown, hts⟩, hA, hlk, h1, h2, h3, h4⟩ := F
  exact fun hK H locs ls hP hD hS hl => lv_iadd hx hb hdg (k hK H locs ls hP hD hS hl)
theorem jo_isub (F : jo_F K cc nL own fr lo) {x y : Int32} (hdg : decode cc pc = .ok (.isub, 1)) (k : jo_G K D T ww v (pc + 1) L (.int (x - y) :: st)) : jo_G K D T ww v pc L (.int y :: .int x :: st) := by
  obtain ⟨p, l, e, R, s, m, args, below, meth, c, A, kc, n, Q⟩ := K
  obtain ⟨⟨hx, hb, hml, hown, hts⟩, hA, hlk, h1, h2, h3, h4⟩ := F
  exact fun hK H locs ls hP hD hS hl => lv_isub hx hb hdg (k hK H locs ls hP hD hS hl)
theorem jo_imul (F : jo_F K cc nL own fr lo) {x y : Int32} (hdg : decode cc pc = .ok (.imul, 1)) (k : jo_G K D T ww v (pc + 1) L (.int (x * y) :: st)) : jo_G K D T ww v pc L (.int y :: .int x :: st) := by
  obtain ⟨p, l, e, R, s, m, args, below, meth, c, A, kc, n, Q⟩ := K
  obtain ⟨⟨hx, hb, hml, hown, hts⟩, hA, hlk, h1, h2, h3, h4⟩ := F
  exact fun hK H locs ls hP hD hS hl => lv_imul hx hb hdg (k hK H locs ls hP hD hS hl)
theorem jo_iand (F : jo_F K cc nL own fr lo) {x y : Int32} (hdg : decode cc pc = .ok (.iand, 1)) (k : jo_G K D T ww v (pc + 1) L (.int (x &&& y) :: st)) : jo_G K D T ww v pc L (.int y :: .int x :: st) := by
  obtain ⟨p, l, e, R, s, m, args, below, meth, c, A, kc, n, Q⟩ := K
  obtain ⟨⟨hx, hb, hml, hown, hts⟩, hA, hlk, h1, h2, h3, h4⟩ := F
  exact fun hK H locs ls hP hD hS hl => lv_iand hx hb hdg (k hK H locs ls hP hD hS hl)
theorem jo_ior (F : jo_F K cc nL own fr lo) {x y : Int32} (hdg : decode cc pc = .ok (.ior, 1)) (k : jo_G K D T ww v (pc + 1) L (.int (x ||| y) :: st)) : jo_G K D T ww v pc L (.int y :: .int x :: st) := by
  obtain ⟨p, l, e, R, s, m, args, below, meth, c, A, kc, n, Q⟩ := K
  obtain ⟨⟨hx, hb, hml, hown, hts⟩, hA, hlk, h1, h2, h3, h4⟩ := F
  exact fun hK H locs ls hP hD hS hl => lv_ior hx hb hdg (k hK H locs ls hP hD hS hl)
theorem jo_ixor (F : jo_F K cc nL own fr lo) {x y : Int32} (hdg : decode cc pc = .ok (.ixor, 1)) (k : jo_G K D T ww v (pc + 1) L (.int (x ^^^ y) :: st)) : jo_G K D T ww v pc L (.int y :: .int x :: st) := by
  obtain ⟨p, l, e, R, s, m, args, below, meth, c, A, kc, n, Q⟩ := K
  obtain ⟨⟨hx, hb, hml, hown, hts⟩, hA, hlk, h1, h2, h3, h4⟩ := F
  exact fun hK H locs ls hP hD hS hl => lv_ixor hx hb hdg (k hK H locs ls hP hD hS hl)
theorem jo_ishl (F : jo_F K cc nL own fr lo) {x y : Int32} (hdg : decode cc pc = .ok (.ishl, 1)) (k : jo_G K D T ww v (pc + 1) L (.int (x <<< (y &&& 31)) :: st)) : jo_G K D T ww v pc L (.int y :: .int x :: st) := by
  obtain ⟨p, l, e, R, s, m, args, below, meth, c, A, kc, n, Q⟩ := K
  obtain ⟨⟨hx, hb, hml, hown, hts⟩, hA, hlk, h1, h2, h3, h4⟩ := F
  exact fun hK H locs ls hP hD hS hl => lv_ishl hx hb hdg (k hK H locs ls hP hD hS hl)
theorem jo_ishr (F : jo_F K cc nL own fr lo) {x y : Int32} (hdg : decode cc pc = .ok (.ishr, 1)) (k : jo_G K D T ww v (pc + 1) L (.int (x >>> (y &&& 31)) :: st)) : jo_G K D T ww v pc L (.int y :: .int x :: st) := by
  obtain ⟨p, l, e, R, s, m, args, below, meth, c, A, kc, n, Q⟩ := K
  obtain ⟨⟨hx, hb, hml, hown, hts⟩, hA, hlk, h1, h2, h3, h4⟩ := F
  exact fun hK H locs ls hP hD hS hl => lv_ishr hx hb hdg (k hK H locs ls hP hD hS hl)
theorem jo_ineg (F : jo_F K cc nL own fr lo) {x : Int32} (hdg : decode cc pc = .ok (.ineg, 1)) (k : jo_G K D T ww v (pc + 1) L (.int (-x) :: st)) : jo_G K D T ww v pc L (.int x :: st) := by
  obtain ⟨p, l, e, R, s, m, args, below, meth, c, A, kc, n, Q⟩ := K
  obtain ⟨⟨hx, hb, hml, hown, hts⟩, hA, hlk, h1, h2, h3, h4⟩ := F
  exact fun hK H locs ls hP hD hS hl => lv_ineg hx hb hdg (k hK H locs ls hP hD hS hl)
theorem jo_idiv (F : jo_F K cc nL own fr lo) {x y : Int32} (hdg : decode cc pc = .ok (.idiv, 1)) (hne : ¬ y = 0) (k : jo_G K D T ww v (pc + 1) L (.int (x / y) :: st)) : jo_G K D T ww v pc L (.int y :: .int x :: st) := by
  obtain ⟨p, l, e, R, s, m, args, below, meth, c, A, kc, n, Q⟩ := K
  obtain ⟨⟨hx, hb, hml, hown, hts⟩, hA, hlk, h1, h2, h3, h4⟩ := F
  exact fun hK H locs ls hP hD hS hl => lv_idiv hx hb hdg hne (k hK H locs ls hP hD hS hl)
theorem jo_irem (F : jo_F K cc nL own fr lo) {x y : Int32} (hdg : decode cc pc = .ok (.irem, 1)) (hne : ¬ y = 0) (k : jo_G K D T ww v (pc + 1) L (.int (x - x / y * y) :: st)) : jo_G K D T ww v pc L (.int y :: .int x :: st) := by
  obtain ⟨p, l, e, R, s, m, args, below, meth, c, A, kc, n, Q⟩ := K
  obtain ⟨⟨hx, hb, hml, hown, hts⟩, hA, hlk, h1, h2, h3, h4⟩ := F
  exact fun hK H locs ls hP hD hS hl => lv_irem hx hb hdg hne (k hK H locs ls hP hD hS hl)
theorem jo_dup (F : jo_F K cc nL own fr lo) {x : Value} (hdg : decode cc pc = .ok (.dup, 1)) (hc : x.category = 1) (k : jo_G K D T ww v (pc + 1) L (x :: x :: st)) : jo_G K D T ww v pc L (x :: st) := by
  obtain ⟨p, l, e, R, s, m, args, below, meth, c, A, kc, n, Q⟩ := K
  obtain ⟨⟨hx, hb, hml, hown, hts⟩, hA, hlk, h1, h2, h3, h4⟩ := F
  exact fun hK H locs ls hP hD hS hl => lv_dup hx hb hdg hc (k hK H locs ls hP hD hS hl)
theorem jo_goto (F : jo_F K cc nL own fr lo) {off : Int} (tgt : Nat) (hdg : decode cc pc = .ok (.goto off, 3)) (ht : (pc : Int) + off = (tgt : Int)) (k : jo_G K D T ww v tgt L st) : jo_G K D T ww v pc L st := by
  obtain ⟨p, l, e, R, s, m, args, below, meth, c, A, kc, n, Q⟩ := K
  obtain ⟨⟨hx, hb, hml, hown, hts⟩, hA, hlk, h1, h2, h3, h4⟩ := F
  exact fun hK H locs ls hP hD hS hl => lv_goto hx hb hdg ht (k hK H locs ls hP hD hS hl)
theorem jo_top {x y : Int32} (h : x = y) (k : jo_G K D T ww v pc L (.int y :: st)) : jo_G K D T ww v pc L (.int x :: st) := h ▸ k
theorem jo_forget (j : Nat) (k : jo_G K D T ww v pc (L.set j none) st) : jo_G K D T ww v pc L st := by
  obtain ⟨p, l, e, R, s, m, args, below, meth, c, A, kc, n, Q⟩ := K
  intro hK H locs ls hP hD hS hl
  refine k hK H locs ls hP hD hS ⟨by rw [List.length_set]; exact hl.1, hl.2.1, fun i x h => ?_⟩
  by_cases e : i = j
  · subst e
    by_cases hj : i < L.length
    · rw [List.getElem?_set_self hj] at h
      cases h
    · rw [List.getElem?_eq_none (by rw [List.length_set]; omega)] at h
      cases h
  · rw [List.getElem?_set_ne (fun q => e q.symm)] at h
    exact hl.2.2 i x h
theorem jo_icmp_eq (F : jo_F K cc nL own fr lo) {x y : Int32} {off : Int} (tgt : Nat) (hdg : decode cc pc = .ok (.if_icmp .eq off, 3)) (ht : (pc : Int) + off = (tgt : Int)) (kt : x = y → jo_G K D T ww v tgt L st) (kf : ¬ x = y → jo_G K D T ww v (pc + 3) L st) : jo_G K D T ww v pc L (.int y :: .int x :: st) := by
  obtain ⟨p, l, e, R, s, m, args, below, meth, c, A, kc, n, Q⟩ := K
  obtain ⟨⟨hx, hb, hml, hown, hts⟩, hA, hlk, h1, h2, h3, h4⟩ := F
  exact fun hK H locs ls hP hD hS hl => lv_icmp_eq hx hb hdg ht (fun h => kt h hK H locs ls hP hD hS hl) (fun h => kf h hK H locs ls hP hD hS hl)
theorem jo_icmp_eq_y (F : jo_F K cc nL own fr lo) {x y : Int32} {off : Int} (tgt : Nat) (hdg : decode cc pc = .ok (.if_icmp .eq off, 3)) (ht : (pc : Int) + off = (tgt : Int)) (h : x = y) (kt : jo_G K D T ww v tgt L st) : jo_G K D T ww v pc L (.int y :: .int x :: st) := jo_icmp_eq F tgt hdg ht (fun _ => kt) (fun q => absurd h q)
theorem jo_icmp_eq_n (F : jo_F K cc nL own fr lo) {x y : Int32} {off : Int} (tgt : Nat) (hdg : decode cc pc = .ok (.if_icmp .eq off, 3)) (ht : (pc : Int) + off = (tgt : Int)) (h : ¬ x = y) (kf : jo_G K D T ww v (pc + 3) L st) : jo_G K D T ww v pc L (.int y :: .int x :: st) := jo_icmp_eq F tgt hdg ht (fun q => absurd q h) (fun _ => kf)
theorem jo_if_eq (F : jo_F K cc nL own fr lo) {x : Int32} {off : Int} (tgt : Nat) (hdg : decode cc pc = .ok (.ifCond .eq off, 3)) (ht : (pc : Int) + off = (tgt : Int)) (kt : x = 0 → jo_G K D T ww v tgt L st) (kf : ¬ x = 0 → jo_G K D T ww v (pc + 3) L st) : jo_G K D T ww v pc L (.int x :: st) := by
  obtain ⟨p, l, e, R, s, m, args, below, meth, c, A, kc, n, Q⟩ := K
  obtain ⟨⟨hx, hb, hml, hown, hts⟩, hA, hlk, h1, h2, h3, h4⟩ := F
  exact fun hK H locs ls hP hD hS hl => lv_if_eq hx hb hdg ht (fun h => kt h hK H locs ls hP hD hS hl) (fun h => kf h hK H locs ls hP hD hS hl)
theorem jo_if_eq_y (F : jo_F K cc nL own fr lo) {x : Int32} {off : Int} (tgt : Nat) (hdg : decode cc pc = .ok (.ifCond .eq off, 3)) (ht : (pc : Int) + off = (tgt : Int)) (h : x = 0) (kt : jo_G K D T ww v tgt L st) : jo_G K D T ww v pc L (.int x :: st) := jo_if_eq F tgt hdg ht (fun _ => kt) (fun q => absurd h q)
theorem jo_if_eq_n (F : jo_F K cc nL own fr lo) {x : Int32} {off : Int} (tgt : Nat) (hdg : decode cc pc = .ok (.ifCond .eq off, 3)) (ht : (pc : Int) + off = (tgt : Int)) (h : ¬ x = 0) (kf : jo_G K D T ww v (pc + 3) L st) : jo_G K D T ww v pc L (.int x :: st) := jo_if_eq F tgt hdg ht (fun q => absurd q h) (fun _ => kf)
theorem jo_icmp_ne (F : jo_F K cc nL own fr lo) {x y : Int32} {off : Int} (tgt : Nat) (hdg : decode cc pc = .ok (.if_icmp .ne off, 3)) (ht : (pc : Int) + off = (tgt : Int)) (kt : ¬ x = y → jo_G K D T ww v tgt L st) (kf : x = y → jo_G K D T ww v (pc + 3) L st) : jo_G K D T ww v pc L (.int y :: .int x :: st) := by
  obtain ⟨p, l, e, R, s, m, args, below, meth, c, A, kc, n, Q⟩ := K
  obtain ⟨⟨hx, hb, hml, hown, hts⟩, hA, hlk, h1, h2, h3, h4⟩ := F
  exact fun hK H locs ls hP hD hS hl => lv_icmp_ne hx hb hdg ht (fun h => kt h hK H locs ls hP hD hS hl) (fun h => kf h hK H locs ls hP hD hS hl)
theorem jo_icmp_ne_y (F : jo_F K cc nL own fr lo) {x y : Int32} {off : Int} (tgt : Nat) (hdg : decode cc pc = .ok (.if_icmp .ne off, 3)) (ht : (pc : Int) + off = (tgt : Int)) (h : ¬ x = y) (kt : jo_G K D T ww v tgt L st) : jo_G K D T ww v pc L (.int y :: .int x :: st) := jo_icmp_ne F tgt hdg ht (fun _ => kt) (fun q => absurd h (fun z => z q))
theorem jo_icmp_ne_n (F : jo_F K cc nL own fr lo) {x y : Int32} {off : Int} (tgt : Nat) (hdg : decode cc pc = .ok (.if_icmp .ne off, 3)) (ht : (pc : Int) + off = (tgt : Int)) (h : x = y) (kf : jo_G K D T ww v (pc + 3) L st) : jo_G K D T ww v pc L (.int y :: .int x :: st) := jo_icmp_ne F tgt hdg ht (fun q => absurd h q) (fun _ => kf)
theorem jo_if_ne (F : jo_F K cc nL own fr lo) {x : Int32} {off : Int} (tgt : Nat) (hdg : decode cc pc = .ok (.ifCond .ne off, 3)) (ht : (pc : Int) + off = (tgt : Int)) (kt : ¬ x = 0 → jo_G K D T ww v tgt L st) (kf : x = 0 → jo_G K D T ww v (pc + 3) L st) : jo_G K D T ww v pc L (.int x :: st) := by
  obtain ⟨p, l, e, R, s, m, args, below, meth, c, A, kc, n, Q⟩ := K
  obtain ⟨⟨hx, hb, hml, hown, hts⟩, hA, hlk, h1, h2, h3, h4⟩ := F
  exact fun hK H locs ls hP hD hS hl => lv_if_ne hx hb hdg ht (fun h => kt h hK H locs ls hP hD hS hl) (fun h => kf h hK H locs ls hP hD hS hl)
theorem jo_if_ne_y (F : jo_F K cc nL own fr lo) {x : Int32} {off : Int} (tgt : Nat) (hdg : decode cc pc = .ok (.ifCond .ne off, 3)) (ht : (pc : Int) + off = (tgt : Int)) (h : ¬ x = 0) (kt : jo_G K D T ww v tgt L st) : jo_G K D T ww v pc L (.int x :: st) := jo_if_ne F tgt hdg ht (fun _ => kt) (fun q => absurd h (fun z => z q))
theorem jo_if_ne_n (F : jo_F K cc nL own fr lo) {x : Int32} {off : Int} (tgt : Nat) (hdg : decode cc pc = .ok (.ifCond .ne off, 3)) (ht : (pc : Int) + off = (tgt : Int)) (h : x = 0) (kf : jo_G K D T ww v (pc + 3) L st) : jo_G K D T ww v pc L (.int x :: st) := jo_if_ne F tgt hdg ht (fun q => absurd h q) (fun _ => kf)
theorem jo_icmp_lt (F : jo_F K cc nL own fr lo) {x y : Int32} {off : Int} (tgt : Nat) (hdg : decode cc pc = .ok (.if_icmp .lt off, 3)) (ht : (pc : Int) + off = (tgt : Int)) (kt : x < y → jo_G K D T ww v tgt L st) (kf : ¬ x < y → jo_G K D T ww v (pc + 3) L st) : jo_G K D T ww v pc L (.int y :: .int x :: st) := by
  obtain ⟨p, l, e, R, s, m, args, below, meth, c, A, kc, n, Q⟩ := K
  obtain ⟨⟨hx, hb, hml, hown, hts⟩, hA, hlk, h1, h2, h3, h4⟩ := F
  exact fun hK H locs ls hP hD hS hl => lv_icmp_lt hx hb hdg ht (fun h => kt h hK H locs ls hP hD hS hl) (fun h => kf h hK H locs ls hP hD hS hl)
theorem jo_icmp_lt_y (F : jo_F K cc nL own fr lo) {x y : Int32} {off : Int} (tgt : Nat) (hdg : decode cc pc = .ok (.if_icmp .lt off, 3)) (ht : (pc : Int) + off = (tgt : Int)) (h : x < y) (kt : jo_G K D T ww v tgt L st) : jo_G K D T ww v pc L (.int y :: .int x :: st) := jo_icmp_lt F tgt hdg ht (fun _ => kt) (fun q => absurd h q)
theorem jo_icmp_lt_n (F : jo_F K cc nL own fr lo) {x y : Int32} {off : Int} (tgt : Nat) (hdg : decode cc pc = .ok (.if_icmp .lt off, 3)) (ht : (pc : Int) + off = (tgt : Int)) (h : ¬ x < y) (kf : jo_G K D T ww v (pc + 3) L st) : jo_G K D T ww v pc L (.int y :: .int x :: st) := jo_icmp_lt F tgt hdg ht (fun q => absurd q h) (fun _ => kf)
theorem jo_if_lt (F : jo_F K cc nL own fr lo) {x : Int32} {off : Int} (tgt : Nat) (hdg : decode cc pc = .ok (.ifCond .lt off, 3)) (ht : (pc : Int) + off = (tgt : Int)) (kt : x < 0 → jo_G K D T ww v tgt L st) (kf : ¬ x < 0 → jo_G K D T ww v (pc + 3) L st) : jo_G K D T ww v pc L (.int x :: st) := by
  obtain ⟨p, l, e, R, s, m, args, below, meth, c, A, kc, n, Q⟩ := K
  obtain ⟨⟨hx, hb, hml, hown, hts⟩, hA, hlk, h1, h2, h3, h4⟩ := F
  exact fun hK H locs ls hP hD hS hl => lv_if_lt hx hb hdg ht (fun h => kt h hK H locs ls hP hD hS hl) (fun h => kf h hK H locs ls hP hD hS hl)
theorem jo_if_lt_y (F : jo_F K cc nL own fr lo) {x : Int32} {off : Int} (tgt : Nat) (hdg : decode cc pc = .ok (.ifCond .lt off, 3)) (ht : (pc : Int) + off = (tgt : Int)) (h : x < 0) (kt : jo_G K D T ww v tgt L st) : jo_G K D T ww v pc L (.int x :: st) := jo_if_lt F tgt hdg ht (fun _ => kt) (fun q => absurd h q)
theorem jo_if_lt_n (F : jo_F K cc nL own fr lo) {x : Int32} {off : Int} (tgt : Nat) (hdg : decode cc pc = .ok (.ifCond .lt off, 3)) (ht : (pc : Int) + off = (tgt : Int)) (h : ¬ x < 0) (kf : jo_G K D T ww v (pc + 3) L st) : jo_G K D T ww v pc L (.int x :: st) := jo_if_lt F tgt hdg ht (fun q => absurd q h) (fun _ => kf)
theorem jo_icmp_ge (F : jo_F K cc nL own fr lo) {x y : Int32} {off : Int} (tgt : Nat) (hdg : decode cc pc = .ok (.if_icmp .ge off, 3)) (ht : (pc : Int) + off = (tgt : Int)) (kt : y ≤ x → jo_G K D T ww v tgt L st) (kf : ¬ y ≤ x → jo_G K D T ww v (pc + 3) L st) : jo_G K D T ww v pc L (.int y :: .int x :: st) := by
  obtain ⟨p, l, e, R, s, m, args, below, meth, c, A, kc, n, Q⟩ := K
  obtain ⟨⟨hx, hb, hml, hown, hts⟩, hA, hlk, h1, h2, h3, h4⟩ := F
  exact fun hK H locs ls hP hD hS hl => lv_icmp_ge hx hb hdg ht (fun h => kt h hK H locs ls hP hD hS hl) (fun h => kf h hK H locs ls hP hD hS hl)
theorem jo_icmp_ge_y (F : jo_F K cc nL own fr lo) {x y : Int32} {off : Int} (tgt : Nat) (hdg : decode cc pc = .ok (.if_icmp .ge off, 3)) (ht : (pc : Int) + off = (tgt : Int)) (h : y ≤ x) (kt : jo_G K D T ww v tgt L st) : jo_G K D T ww v pc L (.int y :: .int x :: st) := jo_icmp_ge F tgt hdg ht (fun _ => kt) (fun q => absurd h q)
theorem jo_icmp_ge_n (F : jo_F K cc nL own fr lo) {x y : Int32} {off : Int} (tgt : Nat) (hdg : decode cc pc = .ok (.if_icmp .ge off, 3)) (ht : (pc : Int) + off = (tgt : Int)) (h : ¬ y ≤ x) (kf : jo_G K D T ww v (pc + 3) L st) : jo_G K D T ww v pc L (.int y :: .int x :: st) := jo_icmp_ge F tgt hdg ht (fun q => absurd q h) (fun _ => kf)
theorem jo_if_ge (F : jo_F K cc nL own fr lo) {x : Int32} {off : Int} (tgt : Nat) (hdg : decode cc pc = .ok (.ifCond .ge off, 3)) (ht : (pc : Int) + off = (tgt : Int)) (kt : 0 ≤ x → jo_G K D T ww v tgt L st) (kf : ¬ 0 ≤ x → jo_G K D T ww v (pc + 3) L st) : jo_G K D T ww v pc L (.int x :: st) := by
  obtain ⟨p, l, e, R, s, m, args, below, meth, c, A, kc, n, Q⟩ := K
  obtain ⟨⟨hx, hb, hml, hown, hts⟩, hA, hlk, h1, h2, h3, h4⟩ := F
  exact fun hK H locs ls hP hD hS hl => lv_if_ge hx hb hdg ht (fun h => kt h hK H locs ls hP hD hS hl) (fun h => kf h hK H locs ls hP hD hS hl)
theorem jo_if_ge_y (F : jo_F K cc nL own fr lo) {x : Int32} {off : Int} (tgt : Nat) (hdg : decode cc pc = .ok (.ifCond .ge off, 3)) (ht : (pc : Int) + off = (tgt : Int)) (h : 0 ≤ x) (kt : jo_G K D T ww v tgt L st) : jo_G K D T ww v pc L (.int x :: st) := jo_if_ge F tgt hdg ht (fun _ => kt) (fun q => absurd h q)
theorem jo_if_ge_n (F : jo_F K cc nL own fr lo) {x : Int32} {off : Int} (tgt : Nat) (hdg : decode cc pc = .ok (.ifCond .ge off, 3)) (ht : (pc : Int) + off = (tgt : Int)) (h : ¬ 0 ≤ x) (kf : jo_G K D T ww v (pc + 3) L st) : jo_G K D T ww v pc L (.int x :: st) := jo_if_ge F tgt hdg ht (fun q => absurd q h) (fun _ => kf)
theorem jo_icmp_gt (F : jo_F K cc nL own fr lo) {x y : Int32} {off : Int} (tgt : Nat) (hdg : decode cc pc = .ok (.if_icmp .gt off, 3)) (ht : (pc : Int) + off = (tgt : Int)) (kt : y < x → jo_G K D T ww v tgt L st) (kf : ¬ y < x → jo_G K D T ww v (pc + 3) L st) : jo_G K D T ww v pc L (.int y :: .int x :: st) := by
  obtain ⟨p, l, e, R, s, m, args, below, meth, c, A, kc, n, Q⟩ := K
  obtain ⟨⟨hx, hb, hml, hown, hts⟩, hA, hlk, h1, h2, h3, h4⟩ := F
  exact fun hK H locs ls hP hD hS hl => lv_icmp_gt hx hb hdg ht (fun h => kt h hK H locs ls hP hD hS hl) (fun h => kf h hK H locs ls hP hD hS hl)
theorem jo_icmp_gt_y (F : jo_F K cc nL own fr lo) {x y : Int32} {off : Int} (tgt : Nat) (hdg : decode cc pc = .ok (.if_icmp .gt off, 3)) (ht : (pc : Int) + off = (tgt : Int)) (h : y < x) (kt : jo_G K D T ww v tgt L st) : jo_G K D T ww v pc L (.int y :: .int x :: st) := jo_icmp_gt F tgt hdg ht (fun _ => kt) (fun q => absurd h q)
theorem jo_icmp_gt_n (F : jo_F K cc nL own fr lo) {x y : Int32} {off : Int} (tgt : Nat) (hdg : decode cc pc = .ok (.if_icmp .gt off, 3)) (ht : (pc : Int) + off = (tgt : Int)) (h : ¬ y < x) (kf : jo_G K D T ww v (pc + 3) L st) : jo_G K D T ww v pc L (.int y :: .int x :: st) := jo_icmp_gt F tgt hdg ht (fun q => absurd q h) (fun _ => kf)
theorem jo_if_gt (F : jo_F K cc nL own fr lo) {x : Int32} {off : Int} (tgt : Nat) (hdg : decode cc pc = .ok (.ifCond .gt off, 3)) (ht : (pc : Int) + off = (tgt : Int)) (kt : 0 < x → jo_G K D T ww v tgt L st) (kf : ¬ 0 < x → jo_G K D T ww v (pc + 3) L st) : jo_G K D T ww v pc L (.int x :: st) := by
  obtain ⟨p, l, e, R, s, m, args, below, meth, c, A, kc, n, Q⟩ := K
  obtain ⟨⟨hx, hb, hml, hown, hts⟩, hA, hlk, h1, h2, h3, h4⟩ := F
  exact fun hK H locs ls hP hD hS hl => lv_if_gt hx hb hdg ht (fun h => kt h hK H locs ls hP hD hS hl) (fun h => kf h hK H locs ls hP hD hS hl)
theorem jo_if_gt_y (F : jo_F K cc nL own fr lo) {x : Int32} {off : Int} (tgt : Nat) (hdg : decode cc pc = .ok (.ifCond .gt off, 3)) (ht : (pc : Int) + off = (tgt : Int)) (h : 0 < x) (kt : jo_G K D T ww v tgt L st) : jo_G K D T ww v pc L (.int x :: st) := jo_if_gt F tgt hdg ht (fun _ => kt) (fun q => absurd h q)
theorem jo_if_gt_n (F : jo_F K cc nL own fr lo) {x : Int32} {off : Int} (tgt : Nat) (hdg : decode cc pc = .ok (.ifCond .gt off, 3)) (ht : (pc : Int) + off = (tgt : Int)) (h : ¬ 0 < x) (kf : jo_G K D T ww v (pc + 3) L st) : jo_G K D T ww v pc L (.int x :: st) := jo_if_gt F tgt hdg ht (fun q => absurd q h) (fun _ => kf)
theorem jo_icmp_le (F : jo_F K cc nL own fr lo) {x y : Int32} {off : Int} (tgt : Nat) (hdg : decode cc pc = .ok (.if_icmp .le off, 3)) (ht : (pc : Int) + off = (tgt : Int)) (kt : x ≤ y → jo_G K D T ww v tgt L st) (kf : ¬ x ≤ y → jo_G K D T ww v (pc + 3) L st) : jo_G K D T ww v pc L (.int y :: .int x :: st) := by
  obtain ⟨p, l, e, R, s, m, args, below, meth, c, A, kc, n, Q⟩ := K
  obtain ⟨⟨hx, hb, hml, hown, hts⟩, hA, hlk, h1, h2, h3, h4⟩ := F
  exact fun hK H locs ls hP hD hS hl => lv_icmp_le hx hb hdg ht (fun h => kt h hK H locs ls hP hD hS hl) (fun h => kf h hK H locs ls hP hD hS hl)
theorem jo_icmp_le_y (F : jo_F K cc nL own fr lo) {x y : Int32} {off : Int} (tgt : Nat) (hdg : decode cc pc = .ok (.if_icmp .le off, 3)) (ht : (pc : Int) + off = (tgt : Int)) (h : x ≤ y) (kt : jo_G K D T ww v tgt L st) : jo_G K D T ww v pc L (.int y :: .int x :: st) := jo_icmp_le F tgt hdg ht (fun _ => kt) (fun q => absurd h q)
theorem jo_icmp_le_n (F : jo_F K cc nL own fr lo) {x y : Int32} {off : Int} (tgt : Nat) (hdg : decode cc pc = .ok (.if_icmp .le off, 3)) (ht : (pc : Int) + off = (tgt : Int)) (h : ¬ x ≤ y) (kf : jo_G K D T ww v (pc + 3) L st) : jo_G K D T ww v pc L (.int y :: .int x :: st) := jo_icmp_le F tgt hdg ht (fun q => absurd q h) (fun _ => kf)
theorem jo_if_le (F : jo_F K cc nL own fr lo) {x : Int32} {off : Int} (tgt : Nat) (hdg : decode cc pc = .ok (.ifCond .le off, 3)) (ht : (pc : Int) + off = (tgt : Int)) (kt : x ≤ 0 → jo_G K D T ww v tgt L st) (kf : ¬ x ≤ 0 → jo_G K D T ww v (pc + 3) L st) : jo_G K D T ww v pc L (.int x :: st) := by
  obtain ⟨p, l, e, R, s, m, args, below, meth, c, A, kc, n, Q⟩ := K
  obtain ⟨⟨hx, hb, hml, hown, hts⟩, hA, hlk, h1, h2, h3, h4⟩ := F
  exact fun hK H locs ls hP hD hS hl => lv_if_le hx hb hdg ht (fun h => kt h hK H locs ls hP hD hS hl) (fun h => kf h hK H locs ls hP hD hS hl)
theorem jo_if_le_y (F : jo_F K cc nL own fr lo) {x : Int32} {off : Int} (tgt : Nat) (hdg : decode cc pc = .ok (.ifCond .le off, 3)) (ht : (pc : Int) + off = (tgt : Int)) (h : x ≤ 0) (kt : jo_G K D T ww v tgt L st) : jo_G K D T ww v pc L (.int x :: st) := jo_if_le F tgt hdg ht (fun _ => kt) (fun q => absurd h q)
theorem jo_if_le_n (F : jo_F K cc nL own fr lo) {x : Int32} {off : Int} (tgt : Nat) (hdg : decode cc pc = .ok (.ifCond .le off, 3)) (ht : (pc : Int) + off = (tgt : Int)) (h : ¬ x ≤ 0) (kf : jo_G K D T ww v (pc + 3) L st) : jo_G K D T ww v pc L (.int x :: st) := jo_if_le F tgt hdg ht (fun q => absurd q h) (fun _ => kf)
theorem jo_ifb_ne (F : jo_F K cc nL own fr lo) {b : Bool} {off : Int} (tgt : Nat) (hdg : decode cc pc = .ok (.ifCond .ne off, 3)) (ht : (pc : Int) + off = (tgt : Int)) (kt : b = true → jo_G K D T ww v tgt L st) (kf : b = false → jo_G K D T ww v (pc + 3) L st) : jo_G K D T ww v pc L (.int (jo_b b) :: st) := jo_if_ne F tgt hdg ht (fun h => kt (by cases b <;> first | rfl | exact absurd h (by decide))) (fun h => kf (by cases b <;> first | rfl | exact absurd h (by decide)))
theorem jo_ifb_ne_y (F : jo_F K cc nL own fr lo) {b : Bool} {off : Int} (tgt : Nat) (hdg : decode cc pc = .ok (.ifCond .ne off, 3)) (ht : (pc : Int) + off = (tgt : Int)) (h : b = true) (kt : jo_G K D T ww v tgt L st) : jo_G K D T ww v pc L (.int (jo_b b) :: st) := jo_ifb_ne F tgt hdg ht (fun _ => kt) (fun q => absurd (h.symm.trans q) (by decide))
theorem jo_ifb_ne_n (F : jo_F K cc nL own fr lo) {b : Bool} {off : Int} (tgt : Nat) (hdg : decode cc pc = .ok (.ifCond .ne off, 3)) (ht : (pc : Int) + off = (tgt : Int)) (h : b = false) (kf : jo_G K D T ww v (pc + 3) L st) : jo_G K D T ww v pc L (.int (jo_b b) :: st) := jo_ifb_ne F tgt hdg ht (fun q => absurd (h.symm.trans q) (by decide)) (fun _ => kf)
theorem jo_ifb_eq (F : jo_F K cc nL own fr lo) {b : Bool} {off : Int} (tgt : Nat) (hdg : decode cc pc = .ok (.ifCond .eq off, 3)) (ht : (pc : Int) + off = (tgt : Int)) (kt : b = false → jo_G K D T ww v tgt L st) (kf : b = true → jo_G K D T ww v (pc + 3) L st) : jo_G K D T ww v pc L (.int (jo_b b) :: st) := jo_if_eq F tgt hdg ht (fun h => kt (by cases b <;> first | rfl | exact absurd h (by decide))) (fun h => kf (by cases b <;> first | rfl | exact absurd h (by decide)))
theorem jo_ifb_eq_y (F : jo_F K cc nL own fr lo) {b : Bool} {off : Int} (tgt : Nat) (hdg : decode cc pc = .ok (.ifCond .eq off, 3)) (ht : (pc : Int) + off = (tgt : Int)) (h : b = false) (kt : jo_G K D T ww v tgt L st) : jo_G K D T ww v pc L (.int (jo_b b) :: st) := jo_ifb_eq F tgt hdg ht (fun _ => kt) (fun q => absurd (h.symm.trans q) (by decide))
theorem jo_ifb_eq_n (F : jo_F K cc nL own fr lo) {b : Bool} {off : Int} (tgt : Nat) (hdg : decode cc pc = .ok (.ifCond .eq off, 3)) (ht : (pc : Int) + off = (tgt : Int)) (h : b = true) (kf : jo_G K D T ww v (pc + 3) L st) : jo_G K D T ww v pc L (.int (jo_b b) :: st) := jo_ifb_eq F tgt hdg ht (fun q => absurd (h.symm.trans q) (by decide)) (fun _ => kf)
theorem jo_icmpb_ne (F : jo_F K cc nL own fr lo) {b : Bool} {off : Int} (tgt : Nat) (hdg : decode cc pc = .ok (.if_icmp .ne off, 3)) (ht : (pc : Int) + off = (tgt : Int)) (kt : b = false → jo_G K D T ww v tgt L st) (kf : b = true → jo_G K D T ww v (pc + 3) L st) : jo_G K D T ww v pc L (.int (nI 1) :: .int (jo_b b) :: st) := jo_icmp_ne F tgt hdg ht (fun h => kt (by cases b <;> first | rfl | exact absurd rfl h)) (fun h => kf (by cases b <;> first | rfl | exact absurd h (by decide)))
theorem jo_icmpb_ne_y (F : jo_F K cc nL own fr lo) {b : Bool} {off : Int} (tgt : Nat) (hdg : decode cc pc = .ok (.if_icmp .ne off, 3)) (ht : (pc : Int) + off = (tgt : Int)) (h : b = false) (kt : jo_G K D T ww v tgt L st) : jo_G K D T ww v pc L (.int (nI 1) :: .int (jo_b b) :: st) := jo_icmpb_ne F tgt hdg ht (fun _ => kt) (fun q => absurd (h.symm.trans q) (by decide))
theorem jo_icmpb_ne_n (F : jo_F K cc nL own fr lo) {b : Bool} {off : Int} (tgt : Nat) (hdg : decode cc pc = .ok (.if_icmp .ne off, 3)) (ht : (pc : Int) + off = (tgt : Int)) (h : b = true) (kf : jo_G K D T ww v (pc + 3) L st) : jo_G K D T ww v pc L (.int (nI 1) :: .int (jo_b b) :: st) := jo_icmpb_ne F tgt hdg ht (fun q => absurd (h.symm.trans q) (by decide)) (fun _ => kf)
theorem jo_iald (F : jo_F K cc nL own fr lo) (q0 t0 : Nat) {a : Nat} {cA : ClassId} {n : Nat} {f : Nat → Int32} (ha : (ww v)[q0]? = some (a, .inl (cA, n, .inl f))) (ht : T[t0]? = some (cA, .int)) (hn : n ≤ 64) {x : Int32} (j : Nat) (hx : x = nI j) (hj : j < n) (hdg : decode cc pc = .ok (.iaload, 1)) (k : jo_G K D T ww v (pc + 1) L (.int (f j) :: st)) : jo_G K D T ww v pc L (.int x :: .ref a :: st) := by
  obtain ⟨p, l, e, R, s, m, args, below, meth, c, A, kc, n', Q⟩ := K
  obtain ⟨⟨hx', hb, hml, hown, hts⟩, hA, hlk, h1, h2, h3, h4⟩ := F
  subst hx
  intro hK H locs ls hP hD hS hl
  refine va_iald hx' hb hK hP q0 t0 ha ht (vp_in_nI hj (by omega)) hdg ?_
  rw [nI_clamp (by omega)]
  exact k hK H locs ls hP hD hS hl
theorem jo_zald (F : jo_F K cc nL own fr lo) (q0 t0 : Nat) {a : Nat} {cA : ClassId} {n : Nat} {f : Nat → Int32} (ha : (ww v)[q0]? = some (a, .inl (cA, n, .inl f))) (ht : T[t0]? = some (cA, .boolean)) (hn : n ≤ 64) {x : Int32} (j : Nat) (hx : x = nI j) (hj : j < n) (hdg : decode cc pc = .ok (.baload, 1)) (k : jo_G K D T ww v (pc + 1) L (.int (f j) :: st)) : jo_G K D T ww v pc L (.int x :: .ref a :: st) := by
  obtain ⟨p, l, e, R, s, m, args, below, meth, c, A, kc, n', Q⟩ := K
  obtain ⟨⟨hx', hb, hml, hown, hts⟩, hA, hlk, h1, h2, h3, h4⟩ := F
  subst hx
  intro hK H locs ls hP hD hS hl
  refine va_zald hx' hb hK hP q0 t0 ha ht (vp_in_nI hj (by omega)) hdg ?_
  rw [nI_clamp (by omega)]
  exact k hK H locs ls hP hD hS hl
theorem jo_iast (F : jo_F K cc nL own fr lo) (q0 t0 : Nat) {a : Nat} {cA : ClassId} {n : Nat} {f : Nat → Int32} (ha : (ww v)[q0]? = some (a, .inl (cA, n, .inl f))) (ht : T[t0]? = some (cA, .int)) (hn : n ≤ 64) {x y : Int32} (j : Nat) (hx : x = nI j) (hj : j < n) {v' : jo_V} (hset : (ww v).set q0 (a, .inl (cA, n, .inl (upd f j y))) = ww v') (hdg : decode cc pc = .ok (.iastore, 1)) (k : jo_G K D T ww v' (pc + 1) L st) : jo_G K D T ww v pc L (.int y :: .int x :: .ref a :: st) := by
  obtain ⟨p, l, e, R, s, m, args, below, meth, c, A, kc, n', Q⟩ := K
  obtain ⟨⟨hx', hb, hml, hown, hts⟩, hA, hlk, h1, h2, h3, h4⟩ := F
  subst hx
  intro hK H locs ls hP hD hS hl
  refine va_iast hx' hb hK hP hD hS q0 t0 ha ht (vp_in_nI hj (by omega)) hdg (fun H1 locs1 hP1 hD1 hS1 => ?_)
  rw [nI_clamp (by omega), hset] at hP1 hD1
  exact k hK H1 locs1 ls hP1 hD1 hS1 hl
theorem jo_zast (F : jo_F K cc nL own fr lo) (q0 t0 : Nat) {a : Nat} {cA : ClassId} {n : Nat} {f : Nat → Int32} (ha : (ww v)[q0]? = some (a, .inl (cA, n, .inl f))) (ht : T[t0]? = some (cA, .boolean)) (hn : n ≤ 64) {x y : Int32} (j : Nat) (hx : x = nI j) (hj : j < n) {v' : jo_V} (hset : (ww v).set q0 (a, .inl (cA, n, .inl (upd f j (vp_nar .boolean y)))) = ww v') (hdg : decode cc pc = .ok (.bastore, 1)) (k : jo_G K D T ww v' (pc + 1) L st) : jo_G K D T ww v pc L (.int y :: .int x :: .ref a :: st) := by
  obtain ⟨p, l, e, R, s, m, args, below, meth, c, A, kc, n', Q⟩ := K
  obtain ⟨⟨hx', hb, hml, hown, hts⟩, hA, hlk, h1, h2, h3, h4⟩ := F
  subst hx
  intro hK H locs ls hP hD hS hl
  refine va_zast hx' hb hK hP hD hS q0 t0 ha ht (vp_in_nI hj (by omega)) hdg (fun H1 locs1 hP1 hD1 hS1 => ?_)
  rw [nI_clamp (by omega), hset] at hP1 hD1
  exact k hK H1 locs1 ls hP1 hD1 hS1 hl
theorem jo_get (F : jo_F K cc nL own fr lo) (q0 : Nat) {a ci N index : Nat} {fs : List Value} {C : String} {T0 : u_T} (he : (ww v)[q0]? = some (a, .inr (ci, fs))) (hc : vwCl[ci]? = some (C, T0, N)) (hin : ∀ w ∈ u_ws C T0 N, w ∈ lw_all) (i : Nat) (hi : i < N) (hlink : Cond.fieldLink own index (T0 i).1 (T0 i).2.1 (T0 i).2.2.1 ∈ lw_all) {x : Value} (hv : fs[i]? = some x) (hdg : decode cc pc = .ok (.getfield index, 3)) (k : jo_G K D T ww v (pc + 3) L (x :: st)) : jo_G K D T ww v pc L (.ref a :: st) := by
  obtain ⟨p, l, e, R, s, m, args, below, meth, c, A, kc, n, Q⟩ := K
  obtain ⟨⟨hx, hb, hml, hown, hts⟩, hA, hlk, h1, h2, h3, h4⟩ := F
  intro hK H locs ls hP hD hS hl
  exact va_get (D := D) (ci := ci) (v := x) (C := C) (T := T0) (N := N) hx hb hts hin hown hK hP q0 he hc i hi (hts _ hlink) (fun _ h9 => h9) hv hdg (k hK H locs ls hP hD hS hl)
theorem jo_put (F : jo_F K cc nL own fr lo) (q0 : Nat) {a ci N index : Nat} {fs : List Value} {C : String} {T0 : u_T} (he : (ww v)[q0]? = some (a, .inr (ci, fs))) (hc : vwCl[ci]? = some (C, T0, N)) (hin : ∀ w ∈ u_ws C T0 N, w ∈ lw_all) (ty0 : Nat → FieldType) (hty : ∀ k, k < N → parseFieldDescriptor (T0 k).2.2.1 = some (ty0 k)) (hnm : ∀ a, a < N → ∀ b, b < N → a ≠ b → (T0 a).2.1 ≠ (T0 b).2.1) (i : Nat) (hi : i < N) (hlink : Cond.fieldLink own index (T0 i).1 (T0 i).2.1 (T0 i).2.2.1 ∈ lw_all) (hfin : (T0 i).2.2.2 = false) {x : Value} (hn : narrow (ty0 i) x = x) (hfit : fits (ty0 i) x = true) (hlen : i < fs.length) {v' : jo_V} (hset : (ww v).set q0 (a, .inr (ci, fs.set i x)) = ww v') (hdg : decode cc pc = .ok (.putfield index, 3)) (k : jo_G K D T ww v' (pc + 3) L st) : jo_G K D T ww v pc L (x :: .ref a :: st) := by
  obtain ⟨p, l, e, R, s, m, args, below, meth, c, A, kc, n, Q⟩ := K
  obtain ⟨⟨hx, hb, hml, hown, hts⟩, hA, hlk, h1, h2, h3, h4⟩ := F
  intro hK H locs ls hP hD hS hl
  refine va_put (D := D) (ci := ci) (v := x) (ty := ty0 i) (C := C) (T := T0) (N := N) hx hb hts hin ty0 hty hnm hown hK hP hD hS q0 he hc i hi (hts _ hlink) (fun _ h9 => h9) hfin (hty i hi) hn hfit hlen hdg (fun H1 locs1 hP1 hD1 hS1 => ?_)
  rw [hset] at hP1 hD1
  exact k hK H1 locs1 ls hP1 hD1 hS1 hl
theorem jo_iret (F : jo_F K cc nL own fr lo) {post : Int32 → jo_V → Prop} (hQ : jo_Qi K .int D T ww post) {r : Int32} (hdg : decode cc pc = .ok (.ireturn, 1)) (h : post r v) : jo_G K D T ww v pc L [.int r] := by
  obtain ⟨p, l, e, R, s, m, args, below, meth, c, A, kc, n, Q⟩ := K
  obtain ⟨⟨hx, hb, hml, hown, hts⟩, hA, hlk, h1, h2, h3, h4⟩ := F
  obtain ⟨hr, rfl⟩ := hQ
  intro hK H locs ls hP hD hS hl
  exact W.iret hx hb hr (fun t ht hW => ⟨⟨r, v, rfl, h, by rw [ht]; exact hP, va_K.moved hW.alike hK, hD⟩, hS.F ht⟩) hS.2.2 hdg hlk
theorem jo_zret (F : jo_F K cc nL own fr lo) {post : Int32 → jo_V → Prop} (hQ : jo_Qi K .boolean D T ww post) {r : Int32} (b : Bool) (hb' : r = jo_b b) (hdg : decode cc pc = .ok (.ireturn, 1)) (h : post (jo_b b) v) : jo_G K D T ww v pc L [.int r] := by
  obtain ⟨p, l, e, R, s, m, args, below, meth, c, A, kc, n, Q⟩ := K
  obtain ⟨⟨hx, hb, hml, hown, hts⟩, hA, hlk, h1, h2, h3, h4⟩ := F
  obtain ⟨hr, rfl⟩ := hQ
  subst hb'
  intro hK H locs ls hP hD hS hl
  exact W.zret hx hb hr (jo_bN b) (fun t ht hW => ⟨⟨jo_b b, v, rfl, h, by rw [ht]; exact hP, va_K.moved hW.alike hK, hD⟩, hS.F ht⟩) hS.2.2 hdg hlk
theorem jo_vret (F : jo_F K cc nL own fr lo) {post : jo_V → Prop} (hQ : jo_Qv K D T ww post) (hdg : decode cc pc = .ok (.return_, 1)) (h : post v) : jo_G K D T ww v pc L [] := by
  obtain ⟨p, l, e, R, s, m, args, below, meth, c, A, kc, n, Q⟩ := K
  obtain ⟨⟨hx, hb, hml, hown, hts⟩, hA, hlk, h1, h2, h3, h4⟩ := F
  obtain ⟨hr, rfl⟩ := hQ
  intro hK H locs ls hP hD hS hl
  exact W.vret hx hb hr (fun t ht hW => ⟨⟨v, rfl, h, by rw [ht]; exact hP, va_K.moved hW.alike hK, hD⟩, hS.F ht⟩) hS.2.2 hdg hlk
theorem jo_calli (F : jo_F K cc nL own fr lo) {y : MethodName} {bytes : ByteArray} {maxL idx b ci q0 np : Nat} {ret : Option FieldType} {rm : Room} {As fs : List Value} {cq : vw_C} {post : Int32 → jo_V → Prop} {st0 : List Value} (hM : ∀ l : Launch, jo_Mi l y (ws_ y bytes maxL ret) rm (.ref b :: As) D T ww v post) (he : (ww v)[q0]? = some (b, .inr (ci, fs))) (hc : vwCl[ci]? = some cq) (hw : GoodIn lw_all (wsV own idx cq.1 y (ws_ y bytes maxL ret))) (hd : y.cls = cq.1 ∧ y.cls ≠ "java/lang/invoke/MethodHandle" ∧ y.cls ≠ "java/lang/invoke/VarHandle" ∧ (parseMethodDescriptor y.desc).map (fun d => d.parameters.length) = some np) (hn : As.length = np) (hrc : rm.cells = 0) (hrs : rm.slots = 0) (hfr : rm.frames + 1 ≤ fr) (hlo : 8 + (maxL + 11) + rm.locals ≤ lo) (hst : st0 = As.reverse ++ .ref b :: st) (hcat : (st.map fun v => v.category).sum ≤ 8) (hlen : L.length = nL) (hdg : decode cc pc = .ok (.invokevirtual idx, 3)) (k : ∀ (r : Int32) (u : jo_V), post r u → jo_G K D T ww u (pc + 3) L (.int r :: st)) : jo_G K D T ww v pc L st0 := by
  obtain ⟨p, l, e, R, s, m, args, below, meth, c, A, kc, n, Q⟩ := K
  obtain ⟨⟨hx, hb, hml, hown, hts⟩, hA, hlk, h1, h2, h3, h4⟩ := F
  intro hK H locs ls hP hD hS hl
  have hFc : ∀ q, va_A (ww v) H.size q → A q := by
    intro q hq
    rcases hq with ⟨i, e', h⟩ | h
    · exact hD.2 i (q, e') h
    · exact hA q (Nat.le_trans hS.1 h)
  refine va_calli (va_runV (As := As) (rest := st) ⟨hx, hb, hml, hown, hts⟩ (hM l H.size) (cwV np hts hw rfl hrc hrs hd ⟨Nat.le_trans hfr h1, Nat.le_trans hlo h2⟩) ⟨fun a U g mk q => by obtain ⟨q0, q1, qP, qK, qD⟩ := q; exact ⟨q0, q1, qP, va_K.moved (u := U) (U := U.calling g mk a) (Vm.Alike.refl U.vm) qK, qD⟩, va_recv hK hP hc he, fun U hU hW => ⟨rfl, by rw [hU], by rw [hU]; exact hP, va_K.moved hW.alike hK, hD.weaken (fun _ _ _ _ => trivial)⟩⟩ rfl hn (hl.1.trans hlen) hst (lv_room hcat) hdg ⟨h3, h4⟩) hS (fun q _ h => hFc q h) hFc (fun r u t H1 locs1 ht hvm hp hB hz hk hS1 => ?_)
  obtain ⟨hP1, hK1, hD1⟩ := hB
  rw [ht] at hP1
  exact k r u hp hK H1 locs1 ls hP1 (hD1.weaken (fun _ _ _ h => hFc _ h)) hS1 hl
theorem jo_callv (F : jo_F K cc nL own fr lo) {y : MethodName} {bytes : ByteArray} {maxL idx b ci q0 np : Nat} {ret : Option FieldType} {rm : Room} {As fs : List Value} {cq : vw_C} {post : jo_V → Prop} {st0 : List Value} (hM : ∀ l : Launch, jo_Mv l y (ws_ y bytes maxL ret) rm (.ref b :: As) D T ww v post) (he : (ww v)[q0]? = some (b, .inr (ci, fs))) (hc : vwCl[ci]? = some cq) (hw : GoodIn lw_all (wsV own idx cq.1 y (ws_ y bytes maxL ret))) (hd : y.cls = cq.1 ∧ y.cls ≠ "java/lang/invoke/MethodHandle" ∧ y.cls ≠ "java/lang/invoke/VarHandle" ∧ (parseMethodDescriptor y.desc).map (fun d => d.parameters.length) = some np) (hn : As.length = np) (hrc : rm.cells = 0) (hrs : rm.slots = 0) (hfr : rm.frames + 1 ≤ fr) (hlo : 8 + (maxL + 11) + rm.locals ≤ lo) (hst : st0 = As.reverse ++ .ref b :: st) (hcat : (st.map fun v => v.category).sum ≤ 8) (hlen : L.length = nL) (hdg : decode cc pc = .ok (.invokevirtual idx, 3)) (k : ∀ (u : jo_V), post u → jo_G K D T ww u (pc + 3) L st) : jo_G K D T ww v pc L st0 := by
  obtain ⟨p, l, e, R, s, m, args, below, meth, c, A, kc, n, Q⟩ := K
  obtain ⟨⟨hx, hb, hml, hown, hts⟩, hA, hlk, h1, h2, h3, h4⟩ := F
  intro hK H locs ls hP hD hS hl
  have hFc : ∀ q, va_A (ww v) H.size q → A q := by
    intro q hq
    rcases hq with ⟨i, e', h⟩ | h
    · exact hD.2 i (q, e') h
    · exact hA q (Nat.le_trans hS.1 h)
  refine va_callv (va_runV (As := As) (rest := st) ⟨hx, hb, hml, hown, hts⟩ (hM l H.size) (cwV np hts hw rfl hrc hrs hd ⟨Nat.le_trans hfr h1, Nat.le_trans hlo h2⟩) ⟨fun a U g mk q => by obtain ⟨q0, q1, qP, qK, qD⟩ := q; exact ⟨q0, q1, qP, va_K.moved (u := U) (U := U.calling g mk a) (Vm.Alike.refl U.vm) qK, qD⟩, va_recv hK hP hc he, fun U hU hW => ⟨rfl, by rw [hU], by rw [hU]; exact hP, va_K.moved hW.alike hK, hD.weaken (fun _ _ _ _ => trivial)⟩⟩ rfl hn (hl.1.trans hlen) hst (lv_room hcat) hdg ⟨h3, h4⟩) hS (fun q _ h => hFc q h) hFc (fun u t H1 locs1 ht hvm hp hB hz hk hS1 => ?_)
  obtain ⟨hP1, hK1, hD1⟩ := hB
  rw [ht] at hP1
  exact k u hp hK H1 locs1 ls hP1 (hD1.weaken (fun _ _ _ h => hFc _ h)) hS1 hl
end JOE
/-- a loop that counts up to N -/
theorem jo_up {P : Nat → Prop} (N : Nat) (hs : ∀ i, i < N → P (i + 1) → P i) (hN : P N) : ∀ i, i ≤ N → P i := by
  intro i hi
  obtain ⟨n, hn⟩ : ∃ n, n = N - i := ⟨_, rfl⟩
  induction n generalizing i with
  | zero => rw [show i = N by omega]; exact hN
  | succ n ih => exact hs i (by omega) (ih (i + 1) (by omega) (by omega))
theorem jo_cat {As : List Value} (h : As.all (fun x => x.category == 1) = true) : ∀ x ∈ As, x.category = 1 := fun x hx => by simpa using List.all_eq_true.mp h x hx
theorem jo_inc (i : Nat) : nI i + Int32.ofInt 1 = nI (i + 1) := nI_1 i
theorem jo_dec (i : Nat) : nI (i + 1) + Int32.ofInt (-1) = nI i := pk_m1 i
def jo_u (v : jo_V) (k j : Nat) (x : Int32) : jo_V := va_up v k (upd (v k) j x)
theorem jo_u_at (v : jo_V) (k j : Nat) (x : Int32) (k' j' : Nat) : jo_u v k j x k' j' = if k' = k ∧ j' = j then x else v k' j' := by
  unfold jo_u va_up upd
  by_cases h : k' = k
  · subst h
    by_cases h2 : j' = j
    · simp [h2]
    · simp [h2]
  · simp [h]
theorem jo_u_row (v : jo_V) (k j : Nat) (x : Int32) {k' : Nat} (h : k' ≠ k) : jo_u v k j x k' = v k' := by
  unfold jo_u va_up
  simp [h]
end
section
/-! THE WORLDS: x: JoinOrderer, its object at place 3 and its arrays at the places of their fields; m: JoinOrdererModel, its object at place 4 -/
def xfs (a : Nat → Nat) (v : jo_V) : List Value := [.ref (a 0), .ref (a 1), .ref (a 2), .int (v 3 0), .ref (a 4), .ref (a 5), .ref (a 6), .ref (a 7), .ref (a 8), .ref (a 9), .ref (a 10), .ref (a 11), .ref (a 12), .ref (a 13)]
def xW (a : Nat → Nat) (d : Nat → ClassId) (v : jo_V) : va_W := [(a 0, .inl (d 0, 5, .inl (v 0))), (a 1, .inl (d 1, 25, .inl (v 1))), (a 2, .inl (d 2, 25, .inl (v 2))), (a 3, .inr (0, xfs a v)), (a 4, .inl (d 4, 32, .inl (v 4))), (a 5, .inl (d 5, 32, .inl (v 5))), (a 6, .inl (d 6, 32, .inl (v 6))), (a 7, .inl (d 7, 32, .inl (v 7))), (a 8, .inl (d 8, 32, .inl (v 8))), (a 9, .inl (d 9, 32, .inl (v 9))), (a 10, .inl (d 10, 32, .inl (v 10))), (a 11, .inl (d 11, 32, .inl (v 11))), (a 12, .inl (d 12, 32, .inl (v 12))), (a 13, .inl (d 13, 32, .inl (v 13)))]
def xT (d : Nat → ClassId) : List (ClassId × FieldType) := [(d 0, .int), (d 1, .int), (d 2, .boolean), (d 0, .int), (d 4, .int), (d 5, .int), (d 6, .int), (d 7, .int), (d 8, .int), (d 9, .int), (d 10, .int), (d 11, .int), (d 12, .int), (d 13, .int)]
section JOxW
variable {K : jo_C} {D : va_G} {a : Nat → Nat} {d : Nat → ClassId} {v : jo_V} {pc : Nat} {L : List (Option Value)} {st : List Value} {cc : ByteArray} {nL : Nat} {fr lo : Nat}
theorem xg0 (F : jo_F K cc nL RX0 fr lo) (hdg : decode cc pc = .ok (.getfield 7, 3)) (k : jo_G K D (xT d) (xW a d) v (pc + 3) L (.ref (a 0) :: st)) : jo_G K D (xT d) (xW a d) v pc L (.ref (a 3) :: st) := jo_get F 3 rfl rfl in_X0 0 (Nat.le_of_ble_eq_true rfl) q38 rfl hdg k
theorem xl0 (F : jo_F K cc nL RX0 fr lo) {x : Int32} (j : Nat) (hx : x = nI j) (hj : j < 5) (hdg : decode cc pc = .ok (.iaload, 1)) (k : jo_G K D (xT d) (xW a d) v (pc + 1) L (.int (v 0 j) :: st)) : jo_G K D (xT d) (xW a d) v pc L (.int x :: .ref (a 0) :: st) := jo_iald F 0 0 rfl rfl (Nat.le_of_ble_eq_true rfl) j hx hj hdg k
theorem xs0 (F : jo_F K cc nL RX0 fr lo) {x y : Int32} (j : Nat) (hx : x = nI j) (hj : j < 5) (hdg : decode cc pc = .ok (.iastore, 1)) (k : jo_G K D (xT d) (xW a d) (jo_u v 0 j y) (pc + 1) L st) : jo_G K D (xT d) (xW a d) v pc L (.int y :: .int x :: .ref (a 0) :: st) := jo_iast F 0 0 rfl rfl (Nat.le_of_ble_eq_true rfl) j hx hj rfl hdg k
theorem xg1 (F : jo_F K cc nL RX0 fr lo) (hdg : decode cc pc = .ok (.getfield 13, 3)) (k : jo_G K D (xT d) (xW a d) v (pc + 3) L (.ref (a 1) :: st)) : jo_G K D (xT d) (xW a d) v pc L (.ref (a 3) :: st) := jo_get F 3 rfl rfl in_X0 1 (Nat.le_of_ble_eq_true rfl) q39 rfl hdg k
theorem xl1 (F : jo_F K cc nL RX0 fr lo) {x : Int32} (j : Nat) (hx : x = nI j) (hj : j < 25) (hdg : decode cc pc = .ok (.iaload, 1)) (k : jo_G K D (xT d) (xW a d) v (pc + 1) L (.int (v 1 j) :: st)) : jo_G K D (xT d) (xW a d) v pc L (.int x :: .ref (a 1) :: st) := jo_iald F 1 1 rfl rfl (Nat.le_of_ble_eq_true rfl) j hx hj hdg k
theorem xs1 (F : jo_F K cc nL RX0 fr lo) {x y : Int32} (j : Nat) (hx : x = nI j) (hj : j < 25) (hdg : decode cc pc = .ok (.iastore, 1)) (k : jo_G K D (xT d) (xW a d) (jo_u v 1 j y) (pc + 1) L st) : jo_G K D (xT d) (xW a d) v pc L (.int y :: .int x :: .ref (a 1) :: st) := jo_iast F 1 1 rfl rfl (Nat.le_of_ble_eq_true rfl) j hx hj rfl hdg k
theorem xg2 (F : jo_F K cc nL RX0 fr lo) (hdg : decode cc pc = .ok (.getfield 16, 3)) (k : jo_G K D (xT d) (xW a d) v (pc + 3) L (.ref (a 2) :: st)) : jo_G K D (xT d) (xW a d) v pc L (.ref (a 3) :: st) := jo_get F 3 rfl rfl in_X0 2 (Nat.le_of_ble_eq_true rfl) q40 rfl hdg k
theorem xl2 (F : jo_F K cc nL RX0 fr lo) {x : Int32} (j : Nat) (hx : x = nI j) (hj : j < 25) (hdg : decode cc pc = .ok (.baload, 1)) (k : jo_G K D (xT d) (xW a d) v (pc + 1) L (.int (v 2 j) :: st)) : jo_G K D (xT d) (xW a d) v pc L (.int x :: .ref (a 2) :: st) := jo_zald F 2 2 rfl rfl (Nat.le_of_ble_eq_true rfl) j hx hj hdg k
theorem xs2 (F : jo_F K cc nL RX0 fr lo) {x y : Int32} (j : Nat) (hx : x = nI j) (hj : j < 25) (b : Bool) (hy : y = jo_b b) (hdg : decode cc pc = .ok (.bastore, 1)) (k : jo_G K D (xT d) (xW a d) (jo_u v 2 j (jo_b b)) (pc + 1) L st) : jo_G K D (xT d) (xW a d) v pc L (.int y :: .int x :: .ref (a 2) :: st) := by
  subst hy
  exact jo_zast F 2 2 rfl rfl (Nat.le_of_ble_eq_true rfl) j hx hj (by rw [show vp_nar .boolean (jo_b b) = jo_b b by cases b <;> rfl]; rfl) hdg k
theorem xg3 (F : jo_F K cc nL RX0 fr lo) (hdg : decode cc pc = .ok (.getfield 54, 3)) (k : jo_G K D (xT d) (xW a d) v (pc + 3) L (.int (v 3 0) :: st)) : jo_G K D (xT d) (xW a d) v pc L (.ref (a 3) :: st) := jo_get F 3 rfl rfl in_X0 3 (Nat.le_of_ble_eq_true rfl) q41 rfl hdg k
theorem xp3 (F : jo_F K cc nL RX0 fr lo) {y : Int32} (b : Bool) (hy : y = jo_b b) (hdg : decode cc pc = .ok (.putfield 54, 3)) (k : jo_G K D (xT d) (xW a d) (jo_u v 3 0 (jo_b b)) (pc + 3) L st) : jo_G K D (xT d) (xW a d) v pc L (.int y :: .ref (a 3) :: st) := by
  subst hy
  exact jo_put F 3 rfl rfl in_X0 tyX0 tyX0_ok nmX0 3 (Nat.le_of_ble_eq_true rfl) q41 rfl (jo_bN b) (by cases b <;> rfl) (Nat.le_of_ble_eq_true rfl) rfl hdg k
theorem xg4 (F : jo_F K cc nL RX0 fr lo) (hdg : decode cc pc = .ok (.getfield 20, 3)) (k : jo_G K D (xT d) (xW a d) v (pc + 3) L (.ref (a 4) :: st)) : jo_G K D (xT d) (xW a d) v pc L (.ref (a 3) :: st) := jo_get F 3 rfl rfl in_X0 4 (Nat.le_of_ble_eq_true rfl) q42 rfl hdg k
theorem xl4 (F : jo_F K cc nL RX0 fr lo) {x : Int32} (j : Nat) (hx : x = nI j) (hj : j < 32) (hdg : decode cc pc = .ok (.iaload, 1)) (k : jo_G K D (xT d) (xW a d) v (pc + 1) L (.int (v 4 j) :: st)) : jo_G K D (xT d) (xW a d) v pc L (.int x :: .ref (a 4) :: st) := jo_iald F 4 4 rfl rfl (Nat.le_of_ble_eq_true rfl) j hx hj hdg k
theorem xs4 (F : jo_F K cc nL RX0 fr lo) {x y : Int32} (j : Nat) (hx : x = nI j) (hj : j < 32) (hdg : decode cc pc = .ok (.iastore, 1)) (k : jo_G K D (xT d) (xW a d) (jo_u v 4 j y) (pc + 1) L st) : jo_G K D (xT d) (xW a d) v pc L (.int y :: .int x :: .ref (a 4) :: st) := jo_iast F 4 4 rfl rfl (Nat.le_of_ble_eq_true rfl) j hx hj rfl hdg k
theorem xg5 (F : jo_F K cc nL RX0 fr lo) (hdg : decode cc pc = .ok (.getfield 23, 3)) (k : jo_G K D (xT d) (xW a d) v (pc + 3) L (.ref (a 5) :: st)) : jo_G K D (xT d) (xW a d) v pc L (.ref (a 3) :: st) := jo_get F 3 rfl rfl in_X0 5 (Nat.le_of_ble_eq_true rfl) q43 rfl hdg k
theorem xl5 (F : jo_F K cc nL RX0 fr lo) {x : Int32} (j : Nat) (hx : x = nI j) (hj : j < 32) (hdg : decode cc pc = .ok (.iaload, 1)) (k : jo_G K D (xT d) (xW a d) v (pc + 1) L (.int (v 5 j) :: st)) : jo_G K D (xT d) (xW a d) v pc L (.int x :: .ref (a 5) :: st) := jo_iald F 5 5 rfl rfl (Nat.le_of_ble_eq_true rfl) j hx hj hdg k
theorem xs5 (F : jo_F K cc nL RX0 fr lo) {x y : Int32} (j : Nat) (hx : x = nI j) (hj : j < 32) (hdg : decode cc pc = .ok (.iastore, 1)) (k : jo_G K D (xT d) (xW a d) (jo_u v 5 j y) (pc + 1) L st) : jo_G K D (xT d) (xW a d) v pc L (.int y :: .int x :: .ref (a 5) :: st) := jo_iast F 5 5 rfl rfl (Nat.le_of_ble_eq_true rfl) j hx hj rfl hdg k
theorem xg6 (F : jo_F K cc nL RX0 fr lo) (hdg : decode cc pc = .ok (.getfield 26, 3)) (k : jo_G K D (xT d) (xW a d) v (pc + 3) L (.ref (a 6) :: st)) : jo_G K D (xT d) (xW a d) v pc L (.ref (a 3) :: st) := jo_get F 3 rfl rfl in_X0 6 (Nat.le_of_ble_eq_true rfl) q44 rfl hdg k
theorem xl6 (F : jo_F K cc nL RX0 fr lo) {x : Int32} (j : Nat) (hx : x = nI j) (hj : j < 32) (hdg : decode cc pc = .ok (.iaload, 1)) (k : jo_G K D (xT d) (xW a d) v (pc + 1) L (.int (v 6 j) :: st)) : jo_G K D (xT d) (xW a d) v pc L (.int x :: .ref (a 6) :: st) := jo_iald F 6 6 rfl rfl (Nat.le_of_ble_eq_true rfl) j hx hj hdg k
theorem xs6 (F : jo_F K cc nL RX0 fr lo) {x y : Int32} (j : Nat) (hx : x = nI j) (hj : j < 32) (hdg : decode cc pc = .ok (.iastore, 1)) (k : jo_G K D (xT d) (xW a d) (jo_u v 6 j y) (pc + 1) L st) : jo_G K D (xT d) (xW a d) v pc L (.int y :: .int x :: .ref (a 6) :: st) := jo_iast F 6 6 rfl rfl (Nat.le_of_ble_eq_true rfl) j hx hj rfl hdg k
theorem xg7 (F : jo_F K cc nL RX0 fr lo) (hdg : decode cc pc = .ok (.getfield 29, 3)) (k : jo_G K D (xT d) (xW a d) v (pc + 3) L (.ref (a 7) :: st)) : jo_G K D (xT d) (xW a d) v pc L (.ref (a 3) :: st) := jo_get F 3 rfl rfl in_X0 7 (Nat.le_of_ble_eq_true rfl) q45 rfl hdg k
theorem xl7 (F : jo_F K cc nL RX0 fr lo) {x : Int32} (j : Nat) (hx : x = nI j) (hj : j < 32) (hdg : decode cc pc = .ok (.iaload, 1)) (k : jo_G K D (xT d) (xW a d) v (pc + 1) L (.int (v 7 j) :: st)) : jo_G K D (xT d) (xW a d) v pc L (.int x :: .ref (a 7) :: st) := jo_iald F 7 7 rfl rfl (Nat.le_of_ble_eq_true rfl) j hx hj hdg k
theorem xs7 (F : jo_F K cc nL RX0 fr lo) {x y : Int32} (j : Nat) (hx : x = nI j) (hj : j < 32) (hdg : decode cc pc = .ok (.iastore, 1)) (k : jo_G K D (xT d) (xW a d) (jo_u v 7 j y) (pc + 1) L st) : jo_G K D (xT d) (xW a d) v pc L (.int y :: .int x :: .ref (a 7) :: st) := jo_iast F 7 7 rfl rfl (Nat.le_of_ble_eq_true rfl) j hx hj rfl hdg k
theorem xg8 (F : jo_F K cc nL RX0 fr lo) (hdg : decode cc pc = .ok (.getfield 32, 3)) (k : jo_G K D (xT d) (xW a d) v (pc + 3) L (.ref (a 8) :: st)) : jo_G K D (xT d) (xW a d) v pc L (.ref (a 3) :: st) := jo_get F 3 rfl rfl in_X0 8 (Nat.le_of_ble_eq_true rfl) q46 rfl hdg k
theorem xl8 (F : jo_F K cc nL RX0 fr lo) {x : Int32} (j : Nat) (hx : x = nI j) (hj : j < 32) (hdg : decode cc pc = .ok (.iaload, 1)) (k : jo_G K D (xT d) (xW a d) v (pc + 1) L (.int (v 8 j) :: st)) : jo_G K D (xT d) (xW a d) v pc L (.int x :: .ref (a 8) :: st) := jo_iald F 8 8 rfl rfl (Nat.le_of_ble_eq_true rfl) j hx hj hdg k
theorem xs8 (F : jo_F K cc nL RX0 fr lo) {x y : Int32} (j : Nat) (hx : x = nI j) (hj : j < 32) (hdg : decode cc pc = .ok (.iastore, 1)) (k : jo_G K D (xT d) (xW a d) (jo_u v 8 j y) (pc + 1) L st) : jo_G K D (xT d) (xW a d) v pc L (.int y :: .int x :: .ref (a 8) :: st) := jo_iast F 8 8 rfl rfl (Nat.le_of_ble_eq_true rfl) j hx hj rfl hdg k
theorem xg9 (F : jo_F K cc nL RX0 fr lo) (hdg : decode cc pc = .ok (.getfield 35, 3)) (k : jo_G K D (xT d) (xW a d) v (pc + 3) L (.ref (a 9) :: st)) : jo_G K D (xT d) (xW a d) v pc L (.ref (a 3) :: st) := jo_get F 3 rfl rfl in_X0 9 (Nat.le_of_ble_eq_true rfl) q47 rfl hdg k
theorem xl9 (F : jo_F K cc nL RX0 fr lo) {x : Int32} (j : Nat) (hx : x = nI j) (hj : j < 32) (hdg : decode cc pc = .ok (.iaload, 1)) (k : jo_G K D (xT d) (xW a d) v (pc + 1) L (.int (v 9 j) :: st)) : jo_G K D (xT d) (xW a d) v pc L (.int x :: .ref (a 9) :: st) := jo_iald F 9 9 rfl rfl (Nat.le_of_ble_eq_true rfl) j hx hj hdg k
theorem xs9 (F : jo_F K cc nL RX0 fr lo) {x y : Int32} (j : Nat) (hx : x = nI j) (hj : j < 32) (hdg : decode cc pc = .ok (.iastore, 1)) (k : jo_G K D (xT d) (xW a d) (jo_u v 9 j y) (pc + 1) L st) : jo_G K D (xT d) (xW a d) v pc L (.int y :: .int x :: .ref (a 9) :: st) := jo_iast F 9 9 rfl rfl (Nat.le_of_ble_eq_true rfl) j hx hj rfl hdg k
theorem xg10 (F : jo_F K cc nL RX0 fr lo) (hdg : decode cc pc = .ok (.getfield 38, 3)) (k : jo_G K D (xT d) (xW a d) v (pc + 3) L (.ref (a 10) :: st)) : jo_G K D (xT d) (xW a d) v pc L (.ref (a 3) :: st) := jo_get F 3 rfl rfl in_X0 10 (Nat.le_of_ble_eq_true rfl) q48 rfl hdg k
theorem xl10 (F : jo_F K cc nL RX0 fr lo) {x : Int32} (j : Nat) (hx : x = nI j) (hj : j < 32) (hdg : decode cc pc = .ok (.iaload, 1)) (k : jo_G K D (xT d) (xW a d) v (pc + 1) L (.int (v 10 j) :: st)) : jo_G K D (xT d) (xW a d) v pc L (.int x :: .ref (a 10) :: st) := jo_iald F 10 10 rfl rfl (Nat.le_of_ble_eq_true rfl) j hx hj hdg k
theorem xs10 (F : jo_F K cc nL RX0 fr lo) {x y : Int32} (j : Nat) (hx : x = nI j) (hj : j < 32) (hdg : decode cc pc = .ok (.iastore, 1)) (k : jo_G K D (xT d) (xW a d) (jo_u v 10 j y) (pc + 1) L st) : jo_G K D (xT d) (xW a d) v pc L (.int y :: .int x :: .ref (a 10) :: st) := jo_iast F 10 10 rfl rfl (Nat.le_of_ble_eq_true rfl) j hx hj rfl hdg k
theorem xg11 (F : jo_F K cc nL RX0 fr lo) (hdg : decode cc pc = .ok (.getfield 41, 3)) (k : jo_G K D (xT d) (xW a d) v (pc + 3) L (.ref (a 11) :: st)) : jo_G K D (xT d) (xW a d) v pc L (.ref (a 3) :: st) := jo_get F 3 rfl rfl in_X0 11 (Nat.le_of_ble_eq_true rfl) q49 rfl hdg k
theorem xl11 (F : jo_F K cc nL RX0 fr lo) {x : Int32} (j : Nat) (hx : x = nI j) (hj : j < 32) (hdg : decode cc pc = .ok (.iaload, 1)) (k : jo_G K D (xT d) (xW a d) v (pc + 1) L (.int (v 11 j) :: st)) : jo_G K D (xT d) (xW a d) v pc L (.int x :: .ref (a 11) :: st) := jo_iald F 11 11 rfl rfl (Nat.le_of_ble_eq_true rfl) j hx hj hdg k
theorem xs11 (F : jo_F K cc nL RX0 fr lo) {x y : Int32} (j : Nat) (hx : x = nI j) (hj : j < 32) (hdg : decode cc pc = .ok (.iastore, 1)) (k : jo_G K D (xT d) (xW a d) (jo_u v 11 j y) (pc + 1) L st) : jo_G K D (xT d) (xW a d) v pc L (.int y :: .int x :: .ref (a 11) :: st) := jo_iast F 11 11 rfl rfl (Nat.le_of_ble_eq_true rfl) j hx hj rfl hdg k
theorem xg12 (F : jo_F K cc nL RX0 fr lo) (hdg : decode cc pc = .ok (.getfield 44, 3)) (k : jo_G K D (xT d) (xW a d) v (pc + 3) L (.ref (a 12) :: st)) : jo_G K D (xT d) (xW a d) v pc L (.ref (a 3) :: st) := jo_get F 3 rfl rfl in_X0 12 (Nat.le_of_ble_eq_true rfl) q50 rfl hdg k
theorem xl12 (F : jo_F K cc nL RX0 fr lo) {x : Int32} (j : Nat) (hx : x = nI j) (hj : j < 32) (hdg : decode cc pc = .ok (.iaload, 1)) (k : jo_G K D (xT d) (xW a d) v (pc + 1) L (.int (v 12 j) :: st)) : jo_G K D (xT d) (xW a d) v pc L (.int x :: .ref (a 12) :: st) := jo_iald F 12 12 rfl rfl (Nat.le_of_ble_eq_true rfl) j hx hj hdg k
theorem xs12 (F : jo_F K cc nL RX0 fr lo) {x y : Int32} (j : Nat) (hx : x = nI j) (hj : j < 32) (hdg : decode cc pc = .ok (.iastore, 1)) (k : jo_G K D (xT d) (xW a d) (jo_u v 12 j y) (pc + 1) L st) : jo_G K D (xT d) (xW a d) v pc L (.int y :: .int x :: .ref (a 12) :: st) := jo_iast F 12 12 rfl rfl (Nat.le_of_ble_eq_true rfl) j hx hj rfl hdg k
theorem xg13 (F : jo_F K cc nL RX0 fr lo) (hdg : decode cc pc = .ok (.getfield 47, 3)) (k : jo_G K D (xT d) (xW a d) v (pc + 3) L (.ref (a 13) :: st)) : jo_G K D (xT d) (xW a d) v pc L (.ref (a 3) :: st) := jo_get F 3 rfl rfl in_X0 13 (Nat.le_of_ble_eq_true rfl) q51 rfl hdg k
theorem xl13 (F : jo_F K cc nL RX0 fr lo) {x : Int32} (j : Nat) (hx : x = nI j) (hj : j < 32) (hdg : decode cc pc = .ok (.iaload, 1)) (k : jo_G K D (xT d) (xW a d) v (pc + 1) L (.int (v 13 j) :: st)) : jo_G K D (xT d) (xW a d) v pc L (.int x :: .ref (a 13) :: st) := jo_iald F 13 13 rfl rfl (Nat.le_of_ble_eq_true rfl) j hx hj hdg k
theorem xs13 (F : jo_F K cc nL RX0 fr lo) {x y : Int32} (j : Nat) (hx : x = nI j) (hj : j < 32) (hdg : decode cc pc = .ok (.iastore, 1)) (k : jo_G K D (xT d) (xW a d) (jo_u v 13 j y) (pc + 1) L st) : jo_G K D (xT d) (xW a d) v pc L (.int y :: .int x :: .ref (a 13) :: st) := jo_iast F 13 13 rfl rfl (Nat.le_of_ble_eq_true rfl) j hx hj rfl hdg k
end JOxW
def mfs (a : Nat → Nat) (v : jo_V) : List Value := [.ref (a 0), .ref (a 1), .ref (a 2), .ref (a 3), .int (v 4 0), .ref (a 5), .ref (a 6), .int (v 7 0), .int (v 8 0), .int (v 9 0), .int (v 10 0)]
def mW (a : Nat → Nat) (d : Nat → ClassId) (v : jo_V) : va_W := [(a 0, .inl (d 0, 5, .inl (v 0))), (a 1, .inl (d 1, 25, .inl (v 1))), (a 2, .inl (d 2, 32, .inl (v 2))), (a 3, .inl (d 3, 14, .inl (v 3))), (a 4, .inr (1, mfs a v)), (a 5, .inl (d 5, 5, .inl (v 5))), (a 6, .inl (d 6, 5, .inl (v 6)))]
def mT (d : Nat → ClassId) : List (ClassId × FieldType) := [(d 0, .int), (d 1, .int), (d 2, .int), (d 3, .int), (d 0, .int), (d 5, .int), (d 6, .int)]
section JOmW
variable {K : jo_C} {D : va_G} {a : Nat → Nat} {d : Nat → ClassId} {v : jo_V} {pc : Nat} {L : List (Option Value)} {st : List Value} {cc : ByteArray} {nL : Nat} {fr lo : Nat}
theorem mg0 (F : jo_F K cc nL RX1 fr lo) (hdg : decode cc pc = .ok (.getfield 7, 3)) (k : jo_G K D (mT d) (mW a d) v (pc + 3) L (.ref (a 0) :: st)) : jo_G K D (mT d) (mW a d) v pc L (.ref (a 4) :: st) := jo_get F 4 rfl rfl in_X1 0 (Nat.le_of_ble_eq_true rfl) q198 rfl hdg k
theorem ml0 (F : jo_F K cc nL RX1 fr lo) {x : Int32} (j : Nat) (hx : x = nI j) (hj : j < 5) (hdg : decode cc pc = .ok (.iaload, 1)) (k : jo_G K D (mT d) (mW a d) v (pc + 1) L (.int (v 0 j) :: st)) : jo_G K D (mT d) (mW a d) v pc L (.int x :: .ref (a 0) :: st) := jo_iald F 0 0 rfl rfl (Nat.le_of_ble_eq_true rfl) j hx hj hdg k
theorem ms0 (F : jo_F K cc nL RX1 fr lo) {x y : Int32} (j : Nat) (hx : x = nI j) (hj : j < 5) (hdg : decode cc pc = .ok (.iastore, 1)) (k : jo_G K D (mT d) (mW a d) (jo_u v 0 j y) (pc + 1) L st) : jo_G K D (mT d) (mW a d) v pc L (.int y :: .int x :: .ref (a 0) :: st) := jo_iast F 0 0 rfl rfl (Nat.le_of_ble_eq_true rfl) j hx hj rfl hdg k
theorem mg1 (F : jo_F K cc nL RX1 fr lo) (hdg : decode cc pc = .ok (.getfield 13, 3)) (k : jo_G K D (mT d) (mW a d) v (pc + 3) L (.ref (a 1) :: st)) : jo_G K D (mT d) (mW a d) v pc L (.ref (a 4) :: st) := jo_get F 4 rfl rfl in_X1 1 (Nat.le_of_ble_eq_true rfl) q199 rfl hdg k
theorem ml1 (F : jo_F K cc nL RX1 fr lo) {x : Int32} (j : Nat) (hx : x = nI j) (hj : j < 25) (hdg : decode cc pc = .ok (.iaload, 1)) (k : jo_G K D (mT d) (mW a d) v (pc + 1) L (.int (v 1 j) :: st)) : jo_G K D (mT d) (mW a d) v pc L (.int x :: .ref (a 1) :: st) := jo_iald F 1 1 rfl rfl (Nat.le_of_ble_eq_true rfl) j hx hj hdg k
theorem ms1 (F : jo_F K cc nL RX1 fr lo) {x y : Int32} (j : Nat) (hx : x = nI j) (hj : j < 25) (hdg : decode cc pc = .ok (.iastore, 1)) (k : jo_G K D (mT d) (mW a d) (jo_u v 1 j y) (pc + 1) L st) : jo_G K D (mT d) (mW a d) v pc L (.int y :: .int x :: .ref (a 1) :: st) := jo_iast F 1 1 rfl rfl (Nat.le_of_ble_eq_true rfl) j hx hj rfl hdg k
theorem mg2 (F : jo_F K cc nL RX1 fr lo) (hdg : decode cc pc = .ok (.getfield 16, 3)) (k : jo_G K D (mT d) (mW a d) v (pc + 3) L (.ref (a 2) :: st)) : jo_G K D (mT d) (mW a d) v pc L (.ref (a 4) :: st) := jo_get F 4 rfl rfl in_X1 2 (Nat.le_of_ble_eq_true rfl) q200 rfl hdg k
theorem ml2 (F : jo_F K cc nL RX1 fr lo) {x : Int32} (j : Nat) (hx : x = nI j) (hj : j < 32) (hdg : decode cc pc = .ok (.iaload, 1)) (k : jo_G K D (mT d) (mW a d) v (pc + 1) L (.int (v 2 j) :: st)) : jo_G K D (mT d) (mW a d) v pc L (.int x :: .ref (a 2) :: st) := jo_iald F 2 2 rfl rfl (Nat.le_of_ble_eq_true rfl) j hx hj hdg k
theorem ms2 (F : jo_F K cc nL RX1 fr lo) {x y : Int32} (j : Nat) (hx : x = nI j) (hj : j < 32) (hdg : decode cc pc = .ok (.iastore, 1)) (k : jo_G K D (mT d) (mW a d) (jo_u v 2 j y) (pc + 1) L st) : jo_G K D (mT d) (mW a d) v pc L (.int y :: .int x :: .ref (a 2) :: st) := jo_iast F 2 2 rfl rfl (Nat.le_of_ble_eq_true rfl) j hx hj rfl hdg k
theorem mg3 (F : jo_F K cc nL RX1 fr lo) (hdg : decode cc pc = .ok (.getfield 19, 3)) (k : jo_G K D (mT d) (mW a d) v (pc + 3) L (.ref (a 3) :: st)) : jo_G K D (mT d) (mW a d) v pc L (.ref (a 4) :: st) := jo_get F 4 rfl rfl in_X1 3 (Nat.le_of_ble_eq_true rfl) q201 rfl hdg k
theorem ml3 (F : jo_F K cc nL RX1 fr lo) {x : Int32} (j : Nat) (hx : x = nI j) (hj : j < 14) (hdg : decode cc pc = .ok (.iaload, 1)) (k : jo_G K D (mT d) (mW a d) v (pc + 1) L (.int (v 3 j) :: st)) : jo_G K D (mT d) (mW a d) v pc L (.int x :: .ref (a 3) :: st) := jo_iald F 3 3 rfl rfl (Nat.le_of_ble_eq_true rfl) j hx hj hdg k
theorem ms3 (F : jo_F K cc nL RX1 fr lo) {x y : Int32} (j : Nat) (hx : x = nI j) (hj : j < 14) (hdg : decode cc pc = .ok (.iastore, 1)) (k : jo_G K D (mT d) (mW a d) (jo_u v 3 j y) (pc + 1) L st) : jo_G K D (mT d) (mW a d) v pc L (.int y :: .int x :: .ref (a 3) :: st) := jo_iast F 3 3 rfl rfl (Nat.le_of_ble_eq_true rfl) j hx hj rfl hdg k
theorem mg4 (F : jo_F K cc nL RX1 fr lo) (hdg : decode cc pc = .ok (.getfield 56, 3)) (k : jo_G K D (mT d) (mW a d) v (pc + 3) L (.int (v 4 0) :: st)) : jo_G K D (mT d) (mW a d) v pc L (.ref (a 4) :: st) := jo_get F 4 rfl rfl in_X1 4 (Nat.le_of_ble_eq_true rfl) q202 rfl hdg k
theorem mp4 (F : jo_F K cc nL RX1 fr lo) {y : Int32} (hdg : decode cc pc = .ok (.putfield 56, 3)) (k : jo_G K D (mT d) (mW a d) (jo_u v 4 0 y) (pc + 3) L st) : jo_G K D (mT d) (mW a d) v pc L (.int y :: .ref (a 4) :: st) := jo_put F 4 rfl rfl in_X1 tyX1 tyX1_ok nmX1 4 (Nat.le_of_ble_eq_true rfl) q202 rfl rfl rfl (Nat.le_of_ble_eq_true rfl) rfl hdg k
theorem mg5 (F : jo_F K cc nL RX1 fr lo) (hdg : decode cc pc = .ok (.getfield 22, 3)) (k : jo_G K D (mT d) (mW a d) v (pc + 3) L (.ref (a 5) :: st)) : jo_G K D (mT d) (mW a d) v pc L (.ref (a 4) :: st) := jo_get F 4 rfl rfl in_X1 5 (Nat.le_of_ble_eq_true rfl) q203 rfl hdg k
theorem ml5 (F : jo_F K cc nL RX1 fr lo) {x : Int32} (j : Nat) (hx : x = nI j) (hj : j < 5) (hdg : decode cc pc = .ok (.iaload, 1)) (k : jo_G K D (mT d) (mW a d) v (pc + 1) L (.int (v 5 j) :: st)) : jo_G K D (mT d) (mW a d) v pc L (.int x :: .ref (a 5) :: st) := jo_iald F 5 5 rfl rfl (Nat.le_of_ble_eq_true rfl) j hx hj hdg k
theorem ms5 (F : jo_F K cc nL RX1 fr lo) {x y : Int32} (j : Nat) (hx : x = nI j) (hj : j < 5) (hdg : decode cc pc = .ok (.iastore, 1)) (k : jo_G K D (mT d) (mW a d) (jo_u v 5 j y) (pc + 1) L st) : jo_G K D (mT d) (mW a d) v pc L (.int y :: .int x :: .ref (a 5) :: st) := jo_iast F 5 5 rfl rfl (Nat.le_of_ble_eq_true rfl) j hx hj rfl hdg k
theorem mg6 (F : jo_F K cc nL RX1 fr lo) (hdg : decode cc pc = .ok (.getfield 25, 3)) (k : jo_G K D (mT d) (mW a d) v (pc + 3) L (.ref (a 6) :: st)) : jo_G K D (mT d) (mW a d) v pc L (.ref (a 4) :: st) := jo_get F 4 rfl rfl in_X1 6 (Nat.le_of_ble_eq_true rfl) q204 rfl hdg k
theorem ml6 (F : jo_F K cc nL RX1 fr lo) {x : Int32} (j : Nat) (hx : x = nI j) (hj : j < 5) (hdg : decode cc pc = .ok (.iaload, 1)) (k : jo_G K D (mT d) (mW a d) v (pc + 1) L (.int (v 6 j) :: st)) : jo_G K D (mT d) (mW a d) v pc L (.int x :: .ref (a 6) :: st) := jo_iald F 6 6 rfl rfl (Nat.le_of_ble_eq_true rfl) j hx hj hdg k
theorem ms6 (F : jo_F K cc nL RX1 fr lo) {x y : Int32} (j : Nat) (hx : x = nI j) (hj : j < 5) (hdg : decode cc pc = .ok (.iastore, 1)) (k : jo_G K D (mT d) (mW a d) (jo_u v 6 j y) (pc + 1) L st) : jo_G K D (mT d) (mW a d) v pc L (.int y :: .int x :: .ref (a 6) :: st) := jo_iast F 6 6 rfl rfl (Nat.le_of_ble_eq_true rfl) j hx hj rfl hdg k
theorem mg7 (F : jo_F K cc nL RX1 fr lo) (hdg : decode cc pc = .ok (.getfield 63, 3)) (k : jo_G K D (mT d) (mW a d) v (pc + 3) L (.int (v 7 0) :: st)) : jo_G K D (mT d) (mW a d) v pc L (.ref (a 4) :: st) := jo_get F 4 rfl rfl in_X1 7 (Nat.le_of_ble_eq_true rfl) q205 rfl hdg k
theorem mp7 (F : jo_F K cc nL RX1 fr lo) {y : Int32} (hdg : decode cc pc = .ok (.putfield 63, 3)) (k : jo_G K D (mT d) (mW a d) (jo_u v 7 0 y) (pc + 3) L st) : jo_G K D (mT d) (mW a d) v pc L (.int y :: .ref (a 4) :: st) := jo_put F 4 rfl rfl in_X1 tyX1 tyX1_ok nmX1 7 (Nat.le_of_ble_eq_true rfl) q205 rfl rfl rfl (Nat.le_of_ble_eq_true rfl) rfl hdg k
theorem mg8 (F : jo_F K cc nL RX1 fr lo) (hdg : decode cc pc = .ok (.getfield 66, 3)) (k : jo_G K D (mT d) (mW a d) v (pc + 3) L (.int (v 8 0) :: st)) : jo_G K D (mT d) (mW a d) v pc L (.ref (a 4) :: st) := jo_get F 4 rfl rfl in_X1 8 (Nat.le_of_ble_eq_true rfl) q206 rfl hdg k
theorem mp8 (F : jo_F K cc nL RX1 fr lo) {y : Int32} (hdg : decode cc pc = .ok (.putfield 66, 3)) (k : jo_G K D (mT d) (mW a d) (jo_u v 8 0 y) (pc + 3) L st) : jo_G K D (mT d) (mW a d) v pc L (.int y :: .ref (a 4) :: st) := jo_put F 4 rfl rfl in_X1 tyX1 tyX1_ok nmX1 8 (Nat.le_of_ble_eq_true rfl) q206 rfl rfl rfl (Nat.le_of_ble_eq_true rfl) rfl hdg k
theorem mg9 (F : jo_F K cc nL RX1 fr lo) (hdg : decode cc pc = .ok (.getfield 69, 3)) (k : jo_G K D (mT d) (mW a d) v (pc + 3) L (.int (v 9 0) :: st)) : jo_G K D (mT d) (mW a d) v pc L (.ref (a 4) :: st) := jo_get F 4 rfl rfl in_X1 9 (Nat.le_of_ble_eq_true rfl) q207 rfl hdg k
theorem mp9 (F : jo_F K cc nL RX1 fr lo) {y : Int32} (b : Bool) (hy : y = jo_b b) (hdg : decode cc pc = .ok (.putfield 69, 3)) (k : jo_G K D (mT d) (mW a d) (jo_u v 9 0 (jo_b b)) (pc + 3) L st) : jo_G K D (mT d) (mW a d) v pc L (.int y :: .ref (a 4) :: st) := by
  subst hy
  exact jo_put F 4 rfl rfl in_X1 tyX1 tyX1_ok nmX1 9 (Nat.le_of_ble_eq_true rfl) q207 rfl (jo_bN b) (by cases b <;> rfl) (Nat.le_of_ble_eq_true rfl) rfl hdg k
theorem mg10 (F : jo_F K cc nL RX1 fr lo) (hdg : decode cc pc = .ok (.getfield 73, 3)) (k : jo_G K D (mT d) (mW a d) v (pc + 3) L (.int (v 10 0) :: st)) : jo_G K D (mT d) (mW a d) v pc L (.ref (a 4) :: st) := jo_get F 4 rfl rfl in_X1 10 (Nat.le_of_ble_eq_true rfl) q208 rfl hdg k
theorem mp10 (F : jo_F K cc nL RX1 fr lo) {y : Int32} (b : Bool) (hy : y = jo_b b) (hdg : decode cc pc = .ok (.putfield 73, 3)) (k : jo_G K D (mT d) (mW a d) (jo_u v 10 0 (jo_b b)) (pc + 3) L st) : jo_G K D (mT d) (mW a d) v pc L (.int y :: .ref (a 4) :: st) := by
  subst hy
  exact jo_put F 4 rfl rfl in_X1 tyX1 tyX1_ok nmX1 10 (Nat.le_of_ble_eq_true rfl) q208 rfl (jo_bN b) (by cases b <;> rfl) (Nat.le_of_ble_eq_true rfl) rfl hdg k
end JOmW
end
section
/-! NUMBERS: the words that the code's index and bit terms are. nx_and, nx_xor, s_l are rows of the kit's BITS text -/
theorem s_l : ∀ n, n < 32 → ((nI n &&& 31).toBitVec.smod 32).toNat = n := by decide +kernel
theorem nx_and (a b : Nat) : nI a &&& nI b = nI (a &&& b) := by
  apply Int32.toBitVec_inj.1
  show BitVec.ofNat 32 a &&& BitVec.ofNat 32 b = BitVec.ofNat 32 (a &&& b)
  apply BitVec.eq_of_getLsbD_eq
  intro i hi
  simp [hi]
theorem nx_or (a b : Nat) : nI a ||| nI b = nI (a ||| b) := by
  apply Int32.toBitVec_inj.1
  show BitVec.ofNat 32 a ||| BitVec.ofNat 32 b = BitVec.ofNat 32 (a ||| b)
  apply BitVec.eq_of_getLsbD_eq
  intro i hi
  simp [hi]
theorem jo_ixr (i j : Nat) : nI i * nI 5 + nI j = nI (i * 5 + j) := by rw [pk_mul, nI_add]
theorem jo_ixl (i j : Nat) : nI 5 * nI i + nI j = nI (i * 5 + j) := by rw [pk_mul, nI_add, Nat.mul_comm]
theorem jo_ixb {i j : Nat} (hi : i < 5) (hj : j < 5) : i * 5 + j < 25 := by omega
theorem jo_b_eq0 (b : Bool) : jo_b b = 0 ↔ b = false := by cases b <;> decide
theorem jo_b_eq1 (b : Bool) : jo_b b = nI 1 ↔ b = true := by cases b <;> decide
theorem jo_b_t {b : Bool} (h : b = true) : nI 1 = jo_b b := by rw [h]; rfl
theorem jo_b_f {b : Bool} (h : b = false) : nI 0 = jo_b b := by rw [h]; rfl
theorem jo_b_inj {a b : Bool} (h : jo_b a = jo_b b) : a = b := by
  cases a <;> cases b <;> first | rfl | exact absurd h (by decide)
/-- a bit of a number -/
theorem jo_bit {S i : Nat} (hS : S < 2 ^ 31) (hi : i < 32) : (nI S >>> (nI i &&& 31)) &&& nI 1 = jo_b (S.testBit i) := by
  rw [pk_shrN hS _ i (s_l i hi), pk_andN (Nat.lt_of_le_of_lt (Nat.div_le_self _ _) (by omega)) 1 (by decide), Nat.testBit_eq_decide_div_mod_eq]
  unfold jo_b
  by_cases h : S / 2 ^ i % 2 = 1
  · simp [h]
  · have h0 : S / 2 ^ i % 2 = 0 := by omega
    simp [h0]
theorem jo_pow {j : Nat} (hj : j < 31) : nI 1 <<< (nI j &&& 31) = nI (2 ^ j) := by
  have h : 2 ^ j < 2 ^ 32 := Nat.pow_lt_pow_right (by omega) (by omega)
  rw [pk_shlN _ j (s_l j (by omega)) (by omega), Nat.one_mul]
theorem jo_sub1 {L : Nat} (h : 0 < L) : nI L - nI 1 = nI (L - 1) := pk_sub h
/-- what is in S and not in L -/
def jo_dif (S L : Nat) : Nat := S &&& (L ^^^ 31)
theorem jo_dif_k : ∀ S, S < 32 → ∀ L, L < 32 → nI S &&& (nI L ^^^ (-1)) = nI (jo_dif S L) := by decide +kernel
theorem jo_dif_lt {S L : Nat} (hS : S < 32) : jo_dif S L < 32 := Nat.lt_of_le_of_lt Nat.and_le_left hS
/-- which ints are numbers of tables, of sets -/
def jo_badT (i : Int32) : Bool := decide (i < 0) || decide (nI 5 ≤ i)
def jo_badP (i j : Int32) : Bool := jo_badT i || jo_badT j || decide (i = j)
def jo_badS (s : Int32) : Bool := decide (s < nI 1) || decide (nI 32 ≤ s)
theorem jo_okT {i : Int32} (h : jo_badT i = false) : ∃ j : Nat, j < 5 ∧ i = nI j := by
  unfold jo_badT at h
  simp only [Bool.or_eq_false_iff, decide_eq_false_iff_not] at h
  rcases pk_ix i (n := 5) (by decide) with q | q | q
  · exact absurd q h.1
  · exact absurd q h.2
  · exact q
theorem jo_okT' {j : Nat} (h : j < 5) : jo_badT (nI j) = false := by
  unfold jo_badT
  simp only [Bool.or_eq_false_iff, decide_eq_false_iff_not]
  exact ⟨nI_pos (by omega), fun q => absurd ((nI_leI (by omega) (by omega)).mp q) (by omega)⟩
theorem jo_okS {s : Int32} (h : jo_badS s = false) : ∃ S : Nat, 1 ≤ S ∧ S < 32 ∧ s = nI S := by
  unfold jo_badS at h
  simp only [Bool.or_eq_false_iff, decide_eq_false_iff_not] at h
  rcases pk_ix s (n := 32) (by decide) with q | q | ⟨j, q1, q2⟩
  · exact absurd (Int32.lt_trans q (by decide)) h.1
  · exact absurd q h.2
  · refine ⟨j, ?_, q1, q2⟩
    rcases Nat.eq_zero_or_pos j with z | z
    · subst z
      exact absurd (by rw [q2]; decide) h.1
    · exact z
theorem jo_okP {i j : Int32} (h : jo_badP i j = false) : ∃ a b : Nat, a < 5 ∧ b < 5 ∧ a ≠ b ∧ i = nI a ∧ j = nI b := by
  unfold jo_badP at h
  simp only [Bool.or_eq_false_iff, decide_eq_false_iff_not] at h
  obtain ⟨⟨h1, h2⟩, h3⟩ := h
  obtain ⟨a, ha, rfl⟩ := jo_okT h1
  obtain ⟨b, hb, rfl⟩ := jo_okT h2
  exact ⟨a, b, ha, hb, fun e => h3 (by rw [e]), rfl, rfl⟩
end
section
set_option maxHeartbeats 4000000 in
set_option maxRecDepth 100000 in
/-- badTable(i) -/
theorem xM_badTable (l : Launch) (D : va_G) (a : Nat → Nat) (d : Nat → ClassId) (v : jo_V) (i : Int32)  : jo_Mi l yX0_badTable (ws_ yX0_badTable cX0_badTable 2 (some .boolean)) ({ frames := 0, cells := 0, slots := 0, locals := 0 } : Room) [.ref (a 3), .int i] D (xT d) (xW a d) v (fun r u => r = jo_b (jo_badT i) ∧ u = v) := by
  refine jo_Mi.of (by decide) (jo_cat rfl) (Nat.le_of_ble_eq_true rfl) (fun K F hQ => ?_)
  show jo_G K D (xT d) (xW a d) v 0 [some (.ref (a 3)), some (.int i)] []
  refine jo_iload_n F 1 dX0_badTable_0 rfl rfl ?_
  refine jo_if_lt F 9 dX0_badTable_1 (by decide) (fun h1 => ?_) (fun h1 => ?_)
  · refine jo_iconst (x := (nI 1)) F dX0_badTable_9 (by decide) ?_
    refine jo_goto F 14 dX0_badTable_10 (by decide) ?_
    exact jo_zret F hQ (jo_badT i) (by unfold jo_badT jo_b; simp [← Int32.not_lt, *]) dX0_badTable_14 ⟨rfl, rfl⟩
  · refine jo_iload_n F 1 dX0_badTable_4 rfl rfl ?_
    refine jo_iconst (x := (nI 5)) F dX0_badTable_5 (by decide) ?_
    refine jo_icmp_lt F 13 dX0_badTable_6 (by decide) (fun h6 => ?_) (fun h6 => ?_)
    · refine jo_iconst (x := (nI 0)) F dX0_badTable_13 (by decide) ?_
      exact jo_zret F hQ (jo_badT i) (by unfold jo_badT jo_b; simp [← Int32.not_lt, *]) dX0_badTable_14 ⟨rfl, rfl⟩
    · refine jo_iconst (x := (nI 1)) F dX0_badTable_9 (by decide) ?_
      refine jo_goto F 14 dX0_badTable_10 (by decide) ?_
      exact jo_zret F hQ (jo_badT i) (by unfold jo_badT jo_b; simp [← Int32.not_lt, *]) dX0_badTable_14 ⟨rfl, rfl⟩
theorem xC_badTable {K : jo_C} {D : va_G} {a : Nat → Nat} {d : Nat → ClassId} {v : jo_V} {pc : Nat} {L : List (Option Value)} {st : List Value} {cc : ByteArray} {nL : Nat} {fr lo : Nat} (F : jo_F K cc nL RX0 fr lo) {i : Int32}  (hfr : 0 + 1 ≤ fr) (hlo : 8 + (2 + 11) + 0 ≤ lo) (hcat : (st.map fun v => v.category).sum ≤ 8) (hlen : L.length = nL) (hdg : decode cc pc = .ok (.invokevirtual 50, 3)) (k : jo_G K D (xT d) (xW a d) v (pc + 3) L (.int (jo_b (jo_badT i)) :: st)) : jo_G K D (xT d) (xW a d) v pc L (.int i :: .ref (a 3) :: st) :=
  jo_calli F (q0 := 3) (np := 1) (fun l => xM_badTable l D a d v i) rfl rfl (lw_V q87 q89 qs0 q28 q90) (by decide +kernel) rfl rfl rfl hfr hlo rfl hcat hlen hdg (fun r u h => by obtain ⟨rfl, rfl⟩ := h; exact k)
set_option maxHeartbeats 4000000 in
set_option maxRecDepth 100000 in
/-- badSet(i) -/
theorem xM_badSet (l : Launch) (D : va_G) (a : Nat → Nat) (d : Nat → ClassId) (v : jo_V) (i : Int32)  : jo_Mi l yX0_badSet (ws_ yX0_badSet cX0_badSet 2 (some .boolean)) ({ frames := 0, cells := 0, slots := 0, locals := 0 } : Room) [.ref (a 3), .int i] D (xT d) (xW a d) v (fun r u => r = jo_b (jo_badS i) ∧ u = v) := by
  refine jo_Mi.of (by decide) (jo_cat rfl) (Nat.le_of_ble_eq_true rfl) (fun K F hQ => ?_)
  show jo_G K D (xT d) (xW a d) v 0 [some (.ref (a 3)), some (.int i)] []
  refine jo_iload_n F 1 dX0_badSet_0 rfl rfl ?_
  refine jo_iconst (x := (nI 1)) F dX0_badSet_1 (by decide) ?_
  refine jo_icmp_lt F 11 dX0_badSet_2 (by decide) (fun h2 => ?_) (fun h2 => ?_)
  · refine jo_iconst (x := (nI 1)) F dX0_badSet_11 (by decide) ?_
    refine jo_goto F 16 dX0_badSet_12 (by decide) ?_
    exact jo_zret F hQ (jo_badS i) (by unfold jo_badS jo_b; simp [← Int32.not_lt, *]) dX0_badSet_16 ⟨rfl, rfl⟩
  · refine jo_iload_n F 1 dX0_badSet_5 rfl rfl ?_
    refine jo_bipush (x := (nI 32)) F dX0_badSet_6 (by decide) ?_
    refine jo_icmp_lt F 15 dX0_badSet_8 (by decide) (fun h8 => ?_) (fun h8 => ?_)
    · refine jo_iconst (x := (nI 0)) F dX0_badSet_15 (by decide) ?_
      exact jo_zret F hQ (jo_badS i) (by unfold jo_badS jo_b; simp [← Int32.not_lt, *]) dX0_badSet_16 ⟨rfl, rfl⟩
    · refine jo_iconst (x := (nI 1)) F dX0_badSet_11 (by decide) ?_
      refine jo_goto F 16 dX0_badSet_12 (by decide) ?_
      exact jo_zret F hQ (jo_badS i) (by unfold jo_badS jo_b; simp [← Int32.not_lt, *]) dX0_badSet_16 ⟨rfl, rfl⟩
theorem xC_badSet {K : jo_C} {D : va_G} {a : Nat → Nat} {d : Nat → ClassId} {v : jo_V} {pc : Nat} {L : List (Option Value)} {st : List Value} {cc : ByteArray} {nL : Nat} {fr lo : Nat} (F : jo_F K cc nL RX0 fr lo) {i : Int32}  (hfr : 0 + 1 ≤ fr) (hlo : 8 + (2 + 11) + 0 ≤ lo) (hcat : (st.map fun v => v.category).sum ≤ 8) (hlen : L.length = nL) (hdg : decode cc pc = .ok (.invokevirtual 88, 3)) (k : jo_G K D (xT d) (xW a d) v (pc + 3) L (.int (jo_b (jo_badS i)) :: st)) : jo_G K D (xT d) (xW a d) v pc L (.int i :: .ref (a 3) :: st) :=
  jo_calli F (q0 := 3) (np := 1) (fun l => xM_badSet l D a d v i) rfl rfl (lw_V q111 q113 qs3 q28 q114) (by decide +kernel) rfl rfl rfl hfr hlo rfl hcat hlen hdg (fun r u h => by obtain ⟨rfl, rfl⟩ := h; exact k)
set_option maxHeartbeats 4000000 in
set_option maxRecDepth 100000 in
/-- badPair(i, j) -/
theorem xM_badPair (l : Launch) (D : va_G) (a : Nat → Nat) (d : Nat → ClassId) (v : jo_V) (i j : Int32)  : jo_Mi l yX0_badPair (ws_ yX0_badPair cX0_badPair 3 (some .boolean)) ({ frames := 1, cells := 0, slots := 0, locals := 21 } : Room) [.ref (a 3), .int i, .int j] D (xT d) (xW a d) v (fun r u => r = jo_b (jo_badP i j) ∧ u = v) := by
  refine jo_Mi.of (by decide) (jo_cat rfl) (Nat.le_of_ble_eq_true rfl) (fun K F hQ => ?_)
  show jo_G K D (xT d) (xW a d) v 0 [some (.ref (a 3)), some (.int i), some (.int j)] []
  refine jo_aload_n F 0 dX0_badPair_0 rfl rfl ?_
  refine jo_iload_n F 1 dX0_badPair_1 rfl rfl ?_
  refine xC_badTable F (Nat.le_of_ble_eq_true rfl) (Nat.le_of_ble_eq_true rfl) (Nat.le_of_ble_eq_true rfl) rfl dX0_badPair_2 ?_
  refine jo_ifb_ne F 21 dX0_badPair_5 (by decide) (fun h5 => ?_) (fun h5 => ?_)
  · refine jo_iconst (x := (nI 1)) F dX0_badPair_21 (by decide) ?_
    refine jo_goto F 26 dX0_badPair_22 (by decide) ?_
    exact jo_zret F hQ (jo_badP i j) (by unfold jo_badP jo_b; simp [*]) dX0_badPair_26 ⟨rfl, rfl⟩
  · refine jo_aload_n F 0 dX0_badPair_8 rfl rfl ?_
    refine jo_iload_n F 2 dX0_badPair_9 rfl rfl ?_
    refine xC_badTable F (Nat.le_of_ble_eq_true rfl) (Nat.le_of_ble_eq_true rfl) (Nat.le_of_ble_eq_true rfl) rfl dX0_badPair_10 ?_
    refine jo_ifb_ne F 21 dX0_badPair_13 (by decide) (fun h13 => ?_) (fun h13 => ?_)
    · refine jo_iconst (x := (nI 1)) F dX0_badPair_21 (by decide) ?_
      refine jo_goto F 26 dX0_badPair_22 (by decide) ?_
      exact jo_zret F hQ (jo_badP i j) (by unfold jo_badP jo_b; simp [*]) dX0_badPair_26 ⟨rfl, rfl⟩
    · refine jo_iload_n F 1 dX0_badPair_16 rfl rfl ?_
      refine jo_iload_n F 2 dX0_badPair_17 rfl rfl ?_
      refine jo_icmp_ne F 25 dX0_badPair_18 (by decide) (fun h18 => ?_) (fun h18 => ?_)
      · refine jo_iconst (x := (nI 0)) F dX0_badPair_25 (by decide) ?_
        exact jo_zret F hQ (jo_badP i j) (by unfold jo_badP jo_b; simp [*]) dX0_badPair_26 ⟨rfl, rfl⟩
      · refine jo_iconst (x := (nI 1)) F dX0_badPair_21 (by decide) ?_
        refine jo_goto F 26 dX0_badPair_22 (by decide) ?_
        exact jo_zret F hQ (jo_badP i j) (by unfold jo_badP jo_b; simp [*]) dX0_badPair_26 ⟨rfl, rfl⟩
theorem xC_badPair {K : jo_C} {D : va_G} {a : Nat → Nat} {d : Nat → ClassId} {v : jo_V} {pc : Nat} {L : List (Option Value)} {st : List Value} {cc : ByteArray} {nL : Nat} {fr lo : Nat} (F : jo_F K cc nL RX0 fr lo) {i j : Int32}  (hfr : 1 + 1 ≤ fr) (hlo : 8 + (3 + 11) + 21 ≤ lo) (hcat : (st.map fun v => v.category).sum ≤ 8) (hlen : L.length = nL) (hdg : decode cc pc = .ok (.invokevirtual 58, 3)) (k : jo_G K D (xT d) (xW a d) v (pc + 3) L (.int (jo_b (jo_badP i j)) :: st)) : jo_G K D (xT d) (xW a d) v pc L (.int j :: .int i :: .ref (a 3) :: st) :=
  jo_calli F (q0 := 3) (np := 2) (fun l => xM_badPair l D a d v i j) rfl rfl (lw_V q95 q97 qs1 q28 q98) (by decide +kernel) rfl rfl rfl hfr hlo rfl hcat hlen hdg (fun r u h => by obtain ⟨rfl, rfl⟩ := h; exact k)
/-- table(i, x): its answer and the table of numbers behind it -/
def jo_tab (v : jo_V) (i y : Int32) : Int32 × jo_V := if (jo_badT i || decide (y < 0) || decide (nI 6 < y)) = true then (-1, v) else (v 0 i.toNatClampNeg, jo_u (jo_u v 0 i.toNatClampNeg y) 3 0 (jo_b false))
set_option maxHeartbeats 4000000 in
set_option maxRecDepth 100000 in
/-- table(i, x) -/
theorem xM_table (l : Launch) (D : va_G) (a : Nat → Nat) (d : Nat → ClassId) (v : jo_V) (i y : Int32)  : jo_Mi l yX0_table (ws_ yX0_table cX0_table 4 (some .int)) ({ frames := 1, cells := 0, slots := 0, locals := 21 } : Room) [.ref (a 3), .int i, .int y] D (xT d) (xW a d) v (fun r u => r = (jo_tab v i y).1 ∧ u = (jo_tab v i y).2) := by
  refine jo_Mi.of (by decide) (jo_cat rfl) (Nat.le_of_ble_eq_true rfl) (fun K F hQ => ?_)
  show jo_G K D (xT d) (xW a d) v 0 [some (.ref (a 3)), some (.int i), some (.int y), none] []
  refine jo_aload_n F 0 dX0_table_0 rfl rfl ?_
  refine jo_iload_n F 1 dX0_table_1 rfl rfl ?_
  refine xC_badTable F (Nat.le_of_ble_eq_true rfl) (Nat.le_of_ble_eq_true rfl) (Nat.le_of_ble_eq_true rfl) rfl dX0_table_2 ?_
  refine jo_ifb_ne F 18 dX0_table_5 (by decide) (fun h5 => ?_) (fun h5 => ?_)
  · refine jo_iconst (x := (-1)) F dX0_table_18 (by decide) ?_
    exact jo_iret F hQ dX0_table_19 (by rw [show jo_tab v i y = (-1, v) from if_pos (by simp [← Int32.not_le, *])]; exact ⟨rfl, rfl⟩)
  · refine jo_iload_n F 2 dX0_table_8 rfl rfl ?_
    refine jo_if_lt F 18 dX0_table_9 (by decide) (fun h9 => ?_) (fun h9 => ?_)
    · refine jo_iconst (x := (-1)) F dX0_table_18 (by decide) ?_
      exact jo_iret F hQ dX0_table_19 (by rw [show jo_tab v i y = (-1, v) from if_pos (by simp [← Int32.not_le, *])]; exact ⟨rfl, rfl⟩)
    · refine jo_iload_n F 2 dX0_table_12 rfl rfl ?_
      refine jo_bipush (x := (nI 6)) F dX0_table_13 (by decide) ?_
      refine jo_icmp_le F 20 dX0_table_15 (by decide) (fun h15 => ?_) (fun h15 => ?_)
      · obtain ⟨j, hj, rfl⟩ := jo_okT h5
        have e : jo_tab v (nI j) y = (v 0 j, jo_u (jo_u v 0 j y) 3 0 (jo_b false)) := by
          unfold jo_tab
          rw [if_neg (by simp [← Int32.not_le, *]), nI_clamp (by omega)]
        refine jo_aload_n F 0 dX0_table_20 rfl rfl ?_
        refine xg0 F dX0_table_21 ?_
        refine jo_iload_n F 1 dX0_table_24 rfl rfl ?_
        refine xl0 F j rfl hj dX0_table_25 ?_
        refine jo_istore_n F 3 dX0_table_26 rfl (Nat.le_of_ble_eq_true rfl) ?_
        refine jo_aload_n F 0 dX0_table_27 rfl rfl ?_
        refine xg0 F dX0_table_28 ?_
        refine jo_iload_n F 1 dX0_table_31 rfl rfl ?_
        refine jo_iload_n F 2 dX0_table_32 rfl rfl ?_
        refine xs0 F j rfl hj dX0_table_33 ?_
        refine jo_aload_n F 0 dX0_table_34 rfl rfl ?_
        refine jo_iconst (x := (nI 0)) F dX0_table_35 (by decide) ?_
        refine xp3 F false rfl dX0_table_36 ?_
        refine jo_iload_n F 3 dX0_table_39 rfl rfl ?_
        exact jo_iret F hQ dX0_table_40 (by rw [e]; exact ⟨rfl, rfl⟩)
      · refine jo_iconst (x := (-1)) F dX0_table_18 (by decide) ?_
        exact jo_iret F hQ dX0_table_19 (by rw [show jo_tab v i y = (-1, v) from if_pos (by simp [← Int32.not_le, *])]; exact ⟨rfl, rfl⟩)
/-- put(i, j, there, x) -/
def jo_putV (v : jo_V) (i j : Nat) (b : Bool) (y : Int32) : jo_V := jo_u (jo_u (jo_u (jo_u (jo_u v 2 (i * 5 + j) (jo_b b)) 2 (j * 5 + i) (jo_b b)) 1 (i * 5 + j) y) 1 (j * 5 + i) y) 3 0 (jo_b false)
set_option maxHeartbeats 4000000 in
set_option maxRecDepth 100000 in
/-- put(i, j, there, x) -/
theorem xM_put (l : Launch) (D : va_G) (a : Nat → Nat) (d : Nat → ClassId) (v : jo_V) (i j : Nat) (b : Bool) (y : Int32) (hi : i < 5) (hj : j < 5) : jo_Mv l yX0_put (ws_ yX0_put cX0_put 5 none) ({ frames := 0, cells := 0, slots := 0, locals := 0 } : Room) [.ref (a 3), .int (nI i), .int (nI j), .int (jo_b b), .int y] D (xT d) (xW a d) v (fun u => u = jo_putV v i j b y) := by
  refine jo_Mv.of (by decide) (jo_cat rfl) (Nat.le_of_ble_eq_true rfl) (fun K F hQ => ?_)
  show jo_G K D (xT d) (xW a d) v 0 [some (.ref (a 3)), some (.int (nI i)), some (.int (nI j)), some (.int (jo_b b)), some (.int y)] []
  refine jo_aload_n F 0 dX0_put_0 rfl rfl ?_
  refine xg2 F dX0_put_1 ?_
  refine jo_iload_n F 1 dX0_put_4 rfl rfl ?_
  refine jo_iconst (x := (nI 5)) F dX0_put_5 (by decide) ?_
  refine jo_imul F dX0_put_6 ?_
  refine jo_iload_n F 2 dX0_put_7 rfl rfl ?_
  refine jo_iadd F dX0_put_8 ?_
  refine jo_iload_n F 3 dX0_put_9 rfl rfl ?_
  refine xs2 F (i * 5 + j) (jo_ixr i j) (jo_ixb hi hj) b rfl dX0_put_10 ?_
  refine jo_aload_n F 0 dX0_put_11 rfl rfl ?_
  refine xg2 F dX0_put_12 ?_
  refine jo_iload_n F 2 dX0_put_15 rfl rfl ?_
  refine jo_iconst (x := (nI 5)) F dX0_put_16 (by decide) ?_
  refine jo_imul F dX0_put_17 ?_
  refine jo_iload_n F 1 dX0_put_18 rfl rfl ?_
  refine jo_iadd F dX0_put_19 ?_
  refine jo_iload_n F 3 dX0_put_20 rfl rfl ?_
  refine xs2 F (j * 5 + i) (jo_ixr j i) (jo_ixb hj hi) b rfl dX0_put_21 ?_
  refine jo_aload_n F 0 dX0_put_22 rfl rfl ?_
  refine xg1 F dX0_put_23 ?_
  refine jo_iload_n F 1 dX0_put_26 rfl rfl ?_
  refine jo_iconst (x := (nI 5)) F dX0_put_27 (by decide) ?_
  refine jo_imul F dX0_put_28 ?_
  refine jo_iload_n F 2 dX0_put_29 rfl rfl ?_
  refine jo_iadd F dX0_put_30 ?_
  refine jo_iload F 4 dX0_put_31 rfl ?_
  refine xs1 F (i * 5 + j) (jo_ixr i j) (jo_ixb hi hj) dX0_put_33 ?_
  refine jo_aload_n F 0 dX0_put_34 rfl rfl ?_
  refine xg1 F dX0_put_35 ?_
  refine jo_iload_n F 2 dX0_put_38 rfl rfl ?_
  refine jo_iconst (x := (nI 5)) F dX0_put_39 (by decide) ?_
  refine jo_imul F dX0_put_40 ?_
  refine jo_iload_n F 1 dX0_put_41 rfl rfl ?_
  refine jo_iadd F dX0_put_42 ?_
  refine jo_iload F 4 dX0_put_43 rfl ?_
  refine xs1 F (j * 5 + i) (jo_ixr j i) (jo_ixb hj hi) dX0_put_45 ?_
  refine jo_aload_n F 0 dX0_put_46 rfl rfl ?_
  refine jo_iconst (x := (nI 0)) F dX0_put_47 (by decide) ?_
  refine xp3 F false rfl dX0_put_48 ?_
  exact jo_vret F hQ dX0_put_51 rfl
theorem xC_put {K : jo_C} {D : va_G} {a : Nat → Nat} {d : Nat → ClassId} {v : jo_V} {pc : Nat} {L : List (Option Value)} {st : List Value} {cc : ByteArray} {nL : Nat} {fr lo : Nat} (F : jo_F K cc nL RX0 fr lo) {i j : Nat} (b : Bool) {y : Int32} {z0 : Int32} (hi : i < 5) (hj : j < 5) (hz : z0 = jo_b b) (hfr : 0 + 1 ≤ fr) (hlo : 8 + (5 + 11) + 0 ≤ lo) (hcat : (st.map fun v => v.category).sum ≤ 8) (hlen : L.length = nL) (hdg : decode cc pc = .ok (.invokevirtual 62, 3)) (k : jo_G K D (xT d) (xW a d) (jo_putV v i j b y) (pc + 3) L st) : jo_G K D (xT d) (xW a d) v pc L (.int y :: .int z0 :: .int (nI j) :: .int (nI i) :: .ref (a 3) :: st) :=
  by subst hz; exact jo_callv F (q0 := 3) (np := 4) (fun l => xM_put l D a d v i j b y hi hj) rfl rfl (lw_V q99 q101 qs2 q28 q102) (by decide +kernel) rfl rfl rfl hfr hlo rfl hcat hlen hdg (fun u h => by subst h; exact k)
/-- filter(i, j, x) -/
def jo_fil (v : jo_V) (i j y : Int32) : Int32 × jo_V := if (jo_badP i j || decide (y < 0) || decide (nI 6 < y)) = true then (-1, v) else (jo_b (!decide (v 2 (i.toNatClampNeg * 5 + j.toNatClampNeg) = 0)), jo_putV v i.toNatClampNeg j.toNatClampNeg true y)
set_option maxHeartbeats 4000000 in
set_option maxRecDepth 100000 in
/-- filter(i, j, x) -/
theorem xM_filter (l : Launch) (D : va_G) (a : Nat → Nat) (d : Nat → ClassId) (v : jo_V) (i j y : Int32)  : jo_Mi l yX0_filter (ws_ yX0_filter cX0_filter 5 (some .int)) ({ frames := 2, cells := 0, slots := 0, locals := 43 } : Room) [.ref (a 3), .int i, .int j, .int y] D (xT d) (xW a d) v (fun r u => r = (jo_fil v i j y).1 ∧ u = (jo_fil v i j y).2) := by
  refine jo_Mi.of (by decide) (jo_cat rfl) (Nat.le_of_ble_eq_true rfl) (fun K F hQ => ?_)
  show jo_G K D (xT d) (xW a d) v 0 [some (.ref (a 3)), some (.int i), some (.int j), some (.int y), none] []
  refine jo_aload_n F 0 dX0_filter_0 rfl rfl ?_
  refine jo_iload_n F 1 dX0_filter_1 rfl rfl ?_
  refine jo_iload_n F 2 dX0_filter_2 rfl rfl ?_
  refine xC_badPair F (Nat.le_of_ble_eq_true rfl) (Nat.le_of_ble_eq_true rfl) (Nat.le_of_ble_eq_true rfl) rfl dX0_filter_3 ?_
  refine jo_ifb_ne F 19 dX0_filter_6 (by decide) (fun h6 => ?_) (fun h6 => ?_)
  · refine jo_iconst (x := (-1)) F dX0_filter_19 (by decide) ?_
    exact jo_iret F hQ dX0_filter_20 (by rw [show jo_fil v i j y = (-1, v) from if_pos (by simp [← Int32.not_le, *])]; exact ⟨rfl, rfl⟩)
  · refine jo_iload_n F 3 dX0_filter_9 rfl rfl ?_
    refine jo_if_lt F 19 dX0_filter_10 (by decide) (fun h10 => ?_) (fun h10 => ?_)
    · refine jo_iconst (x := (-1)) F dX0_filter_19 (by decide) ?_
      exact jo_iret F hQ dX0_filter_20 (by rw [show jo_fil v i j y = (-1, v) from if_pos (by simp [← Int32.not_le, *])]; exact ⟨rfl, rfl⟩)
    · refine jo_iload_n F 3 dX0_filter_13 rfl rfl ?_
      refine jo_bipush (x := (nI 6)) F dX0_filter_14 (by decide) ?_
      refine jo_icmp_le F 21 dX0_filter_16 (by decide) (fun h16 => ?_) (fun h16 => ?_)
      · obtain ⟨a1, b1, ha, hb, -, rfl, rfl⟩ := jo_okP h6
        have e : jo_fil v (nI a1) (nI b1) y = (jo_b (!decide (v 2 (a1 * 5 + b1) = 0)), jo_putV v a1 b1 true y) := by
          unfold jo_fil
          rw [if_neg (by simp [← Int32.not_le, *]), nI_clamp (by omega), nI_clamp (by omega)]
        refine jo_aload_n F 0 dX0_filter_21 rfl rfl ?_
        refine xg2 F dX0_filter_22 ?_
        refine jo_iload_n F 1 dX0_filter_25 rfl rfl ?_
        refine jo_iconst (x := (nI 5)) F dX0_filter_26 (by decide) ?_
        refine jo_imul F dX0_filter_27 ?_
        refine jo_iload_n F 2 dX0_filter_28 rfl rfl ?_
        refine jo_iadd F dX0_filter_29 ?_
        refine xl2 F (a1 * 5 + b1) (jo_ixr a1 b1) (jo_ixb ha hb) dX0_filter_30 ?_
        refine jo_if_eq F 38 dX0_filter_31 (by decide) (fun h31 => ?_) (fun h31 => ?_)
        · refine jo_iconst (x := (nI 0)) F dX0_filter_38 (by decide) ?_
          refine jo_istore F 4 dX0_filter_39 (Nat.le_of_ble_eq_true rfl) ?_
          refine jo_aload_n F 0 dX0_filter_41 rfl rfl ?_
          refine jo_iload_n F 1 dX0_filter_42 rfl rfl ?_
          refine jo_iload_n F 2 dX0_filter_43 rfl rfl ?_
          refine jo_iconst (x := (nI 1)) F dX0_filter_44 (by decide) ?_
          refine jo_iload_n F 3 dX0_filter_45 rfl rfl ?_
          refine xC_put F true ha hb rfl (Nat.le_of_ble_eq_true rfl) (Nat.le_of_ble_eq_true rfl) (Nat.le_of_ble_eq_true rfl) rfl dX0_filter_46 ?_
          refine jo_iload F 4 dX0_filter_49 rfl ?_
          exact jo_iret F hQ dX0_filter_51 (by rw [e]; exact ⟨by simp [jo_b, h31], rfl⟩)
        · refine jo_iconst (x := (nI 1)) F dX0_filter_34 (by decide) ?_
          refine jo_goto F 39 dX0_filter_35 (by decide) ?_
          refine jo_istore F 4 dX0_filter_39 (Nat.le_of_ble_eq_true rfl) ?_
          refine jo_aload_n F 0 dX0_filter_41 rfl rfl ?_
          refine jo_iload_n F 1 dX0_filter_42 rfl rfl ?_
          refine jo_iload_n F 2 dX0_filter_43 rfl rfl ?_
          refine jo_iconst (x := (nI 1)) F dX0_filter_44 (by decide) ?_
          refine jo_iload_n F 3 dX0_filter_45 rfl rfl ?_
          refine xC_put F true ha hb rfl (Nat.le_of_ble_eq_true rfl) (Nat.le_of_ble_eq_true rfl) (Nat.le_of_ble_eq_true rfl) rfl dX0_filter_46 ?_
          refine jo_iload F 4 dX0_filter_49 rfl ?_
          exact jo_iret F hQ dX0_filter_51 (by rw [e]; exact ⟨by simp [jo_b, h31], rfl⟩)
      · refine jo_iconst (x := (-1)) F dX0_filter_19 (by decide) ?_
        exact jo_iret F hQ dX0_filter_20 (by rw [show jo_fil v i j y = (-1, v) from if_pos (by simp [← Int32.not_le, *])]; exact ⟨rfl, rfl⟩)
/-- unfilter(i, j) -/
def jo_unf (v : jo_V) (i j : Int32) : Int32 × jo_V := if jo_badP i j = true then (-1, v) else if v 2 (i.toNatClampNeg * 5 + j.toNatClampNeg) = 0 then (-4, v) else (v 1 (i.toNatClampNeg * 5 + j.toNatClampNeg), jo_putV v i.toNatClampNeg j.toNatClampNeg false (nI 0))
set_option maxHeartbeats 4000000 in
set_option maxRecDepth 100000 in
/-- unfilter(i, j) -/
theorem xM_unfilter (l : Launch) (D : va_G) (a : Nat → Nat) (d : Nat → ClassId) (v : jo_V) (i j : Int32)  : jo_Mi l yX0_unfilter (ws_ yX0_unfilter cX0_unfilter 4 (some .int)) ({ frames := 2, cells := 0, slots := 0, locals := 43 } : Room) [.ref (a 3), .int i, .int j] D (xT d) (xW a d) v (fun r u => r = (jo_unf v i j).1 ∧ u = (jo_unf v i j).2) := by
  refine jo_Mi.of (by decide) (jo_cat rfl) (Nat.le_of_ble_eq_true rfl) (fun K F hQ => ?_)
  show jo_G K D (xT d) (xW a d) v 0 [some (.ref (a 3)), some (.int i), some (.int j), none] []
  refine jo_aload_n F 0 dX0_unfilter_0 rfl rfl ?_
  refine jo_iload_n F 1 dX0_unfilter_1 rfl rfl ?_
  refine jo_iload_n F 2 dX0_unfilter_2 rfl rfl ?_
  refine xC_badPair F (Nat.le_of_ble_eq_true rfl) (Nat.le_of_ble_eq_true rfl) (Nat.le_of_ble_eq_true rfl) rfl dX0_unfilter_3 ?_
  refine jo_ifb_eq F 11 dX0_unfilter_6 (by decide) (fun h6 => ?_) (fun h6 => ?_)
  · obtain ⟨a1, b1, ha, hb, -, rfl, rfl⟩ := jo_okP h6
    have e : jo_unf v (nI a1) (nI b1) = if v 2 (a1 * 5 + b1) = 0 then (-4, v) else (v 1 (a1 * 5 + b1), jo_putV v a1 b1 false (nI 0)) := by
      unfold jo_unf
      rw [if_neg (by rw [h6]; decide), nI_clamp (by omega), nI_clamp (by omega)]
    refine jo_aload_n F 0 dX0_unfilter_11 rfl rfl ?_
    refine xg2 F dX0_unfilter_12 ?_
    refine jo_iload_n F 1 dX0_unfilter_15 rfl rfl ?_
    refine jo_iconst (x := (nI 5)) F dX0_unfilter_16 (by decide) ?_
    refine jo_imul F dX0_unfilter_17 ?_
    refine jo_iload_n F 2 dX0_unfilter_18 rfl rfl ?_
    refine jo_iadd F dX0_unfilter_19 ?_
    refine xl2 F (a1 * 5 + b1) (jo_ixr a1 b1) (jo_ixb ha hb) dX0_unfilter_20 ?_
    refine jo_if_ne F 27 dX0_unfilter_21 (by decide) (fun h21 => ?_) (fun h21 => ?_)
    · refine jo_aload_n F 0 dX0_unfilter_27 rfl rfl ?_
      refine xg1 F dX0_unfilter_28 ?_
      refine jo_iload_n F 1 dX0_unfilter_31 rfl rfl ?_
      refine jo_iconst (x := (nI 5)) F dX0_unfilter_32 (by decide) ?_
      refine jo_imul F dX0_unfilter_33 ?_
      refine jo_iload_n F 2 dX0_unfilter_34 rfl rfl ?_
      refine jo_iadd F dX0_unfilter_35 ?_
      refine xl1 F (a1 * 5 + b1) (jo_ixr a1 b1) (jo_ixb ha hb) dX0_unfilter_36 ?_
      refine jo_istore_n F 3 dX0_unfilter_37 rfl (Nat.le_of_ble_eq_true rfl) ?_
      refine jo_aload_n F 0 dX0_unfilter_38 rfl rfl ?_
      refine jo_iload_n F 1 dX0_unfilter_39 rfl rfl ?_
      refine jo_iload_n F 2 dX0_unfilter_40 rfl rfl ?_
      refine jo_iconst (x := (nI 0)) F dX0_unfilter_41 (by decide) ?_
      refine jo_iconst (x := (nI 0)) F dX0_unfilter_42 (by decide) ?_
      refine xC_put F false ha hb rfl (Nat.le_of_ble_eq_true rfl) (Nat.le_of_ble_eq_true rfl) (Nat.le_of_ble_eq_true rfl) rfl dX0_unfilter_43 ?_
      refine jo_iload_n F 3 dX0_unfilter_46 rfl rfl ?_
      exact jo_iret F hQ dX0_unfilter_47 (by rw [e, if_neg h21]; exact ⟨rfl, rfl⟩)
    · refine jo_bipush (x := (-4)) F dX0_unfilter_24 (by decide) ?_
      exact jo_iret F hQ dX0_unfilter_26 (by rw [e, if_pos h21]; exact ⟨rfl, rfl⟩)
  · refine jo_iconst (x := (-1)) F dX0_unfilter_9 (by decide) ?_
    exact jo_iret F hQ dX0_unfilter_10 (by rw [show jo_unf v i j = (-1, v) from if_pos h6]; exact ⟨rfl, rfl⟩)
end
section
/-- sizeOf: the inner loop, the outer loop, the answer -/
def jo_szI (v : jo_V) (S i : Nat) (s0 : Int32) : Nat → Int32
  | 0 => s0
  | j + 1 => jo_szI v S i s0 j - jo_b (S.testBit j) * v 1 (i * 5 + j)
def jo_szO (v : jo_V) (S : Nat) : Nat → Int32
  | 0 => nI 0
  | i + 1 => if S.testBit i = true then jo_szI v S i (jo_szO v S i + v 0 i) i else jo_szO v S i
def jo_sz (v : jo_V) (S : Nat) : Int32 := if jo_szO v S 5 < 0 then nI 1 else nI 1 <<< (jo_szO v S 5 &&& 31)
set_option maxHeartbeats 4000000 in
set_option maxRecDepth 100000 in
/-- sizeOf(set) -/
theorem xM_sizeOf (l : Launch) (D : va_G) (a : Nat → Nat) (d : Nat → ClassId) (v : jo_V) (S : Nat) (hS : S < 32) : jo_Mi l yX0_sizeOf (ws_ yX0_sizeOf cX0_sizeOf 5 (some .int)) ({ frames := 0, cells := 0, slots := 0, locals := 0 } : Room) [.ref (a 3), .int (nI S)] D (xT d) (xW a d) v (fun r u => r = jo_sz v S ∧ u = v) := by
  refine jo_Mi.of (by decide) (jo_cat rfl) (Nat.le_of_ble_eq_true rfl) (fun K F hQ => ?_)
  show jo_G K D (xT d) (xW a d) v 0 [some (.ref (a 3)), some (.int (nI S)), none, none, none] []
  have outer : ∀ i, i ≤ 5 → jo_G K D (xT d) (xW a d) v 4 [some (.ref (a 3)), some (.int (nI S)), some (.int (jo_szO v S i)), some (.int (nI i)), none] [] := by
    refine jo_up 5 (fun i hi ih => ?_) ?_
    · refine jo_iload_n F 3 dX0_sizeOf_4 rfl rfl ?_
      refine jo_iconst (x := (nI 5)) F dX0_sizeOf_5 (by decide) ?_
      refine jo_icmp_ge_n F 69 dX0_sizeOf_6 (by decide) (nI_ge hi (by decide)) ?_
      refine jo_iload_n F 1 dX0_sizeOf_9 rfl rfl ?_
      refine jo_iload_n F 3 dX0_sizeOf_10 rfl rfl ?_
      refine jo_ishr F dX0_sizeOf_11 ?_
      refine jo_iconst (x := (nI 1)) F dX0_sizeOf_12 (by decide) ?_
      refine jo_iand F dX0_sizeOf_13 ?_
      refine jo_top (jo_bit (by omega) (by omega)) ?_
      refine jo_iconst (x := (nI 1)) F dX0_sizeOf_14 (by decide) ?_
      refine jo_icmpb_ne F 63 dX0_sizeOf_15 (by decide) (fun h15 => ?_) (fun h15 => ?_)
      · refine jo_iinc F 3 dX0_sizeOf_63 rfl (jo_inc _) ?_
        refine jo_goto F 4 dX0_sizeOf_66 (by decide) ?_
        rw [show jo_szO v S (i + 1) = jo_szO v S i from if_neg (by rw [h15]; decide)] at ih
        exact ih
      · refine jo_iload_n F 2 dX0_sizeOf_18 rfl rfl ?_
        refine jo_aload_n F 0 dX0_sizeOf_19 rfl rfl ?_
        refine xg0 F dX0_sizeOf_20 ?_
        refine jo_iload_n F 3 dX0_sizeOf_23 rfl rfl ?_
        refine xl0 F i rfl hi dX0_sizeOf_24 ?_
        refine jo_iadd F dX0_sizeOf_25 ?_
        refine jo_istore_n F 2 dX0_sizeOf_26 rfl (Nat.le_of_ble_eq_true rfl) ?_
        refine jo_iconst (x := (nI 0)) F dX0_sizeOf_27 (by decide) ?_
        refine jo_istore F 4 dX0_sizeOf_28 (Nat.le_of_ble_eq_true rfl) ?_
        have inner : ∀ j, j ≤ i → jo_G K D (xT d) (xW a d) v 30 [some (.ref (a 3)), some (.int (nI S)), some (.int (jo_szI v S i (jo_szO v S i + v 0 i) j)), some (.int (nI i)), some (.int (nI j))] [] := by
          refine jo_up i (fun j hj ih2 => ?_) ?_
          · have hj5 : j < 5 := Nat.lt_trans hj hi
            refine jo_iload F 4 dX0_sizeOf_30 rfl ?_
            refine jo_iload_n F 3 dX0_sizeOf_32 rfl rfl ?_
            refine jo_icmp_ge_n F 63 dX0_sizeOf_33 (by decide) (nI_ge hj (by omega)) ?_
            refine jo_iload_n F 2 dX0_sizeOf_36 rfl rfl ?_
            refine jo_iload_n F 1 dX0_sizeOf_37 rfl rfl ?_
            refine jo_iload F 4 dX0_sizeOf_38 rfl ?_
            refine jo_ishr F dX0_sizeOf_40 ?_
            refine jo_iconst (x := (nI 1)) F dX0_sizeOf_41 (by decide) ?_
            refine jo_iand F dX0_sizeOf_42 ?_
            refine jo_top (jo_bit (by omega) (by omega)) ?_
            refine jo_aload_n F 0 dX0_sizeOf_43 rfl rfl ?_
            refine xg1 F dX0_sizeOf_44 ?_
            refine jo_iload_n F 3 dX0_sizeOf_47 rfl rfl ?_
            refine jo_iconst (x := (nI 5)) F dX0_sizeOf_48 (by decide) ?_
            refine jo_imul F dX0_sizeOf_49 ?_
            refine jo_iload F 4 dX0_sizeOf_50 rfl ?_
            refine jo_iadd F dX0_sizeOf_52 ?_
            refine xl1 F (i * 5 + j) (jo_ixr i j) (jo_ixb hi hj5) dX0_sizeOf_53 ?_
            refine jo_imul F dX0_sizeOf_54 ?_
            refine jo_isub F dX0_sizeOf_55 ?_
            refine jo_istore_n F 2 dX0_sizeOf_56 rfl (Nat.le_of_ble_eq_true rfl) ?_
            refine jo_iinc F 4 dX0_sizeOf_57 rfl (jo_inc _) ?_
            refine jo_goto F 30 dX0_sizeOf_60 (by decide) ?_
            exact ih2
          · refine jo_iload F 4 dX0_sizeOf_30 rfl ?_
            refine jo_iload_n F 3 dX0_sizeOf_32 rfl rfl ?_
            refine jo_icmp_ge_y F 63 dX0_sizeOf_33 (by decide) (nI_le (Nat.le_refl _) (by omega)) ?_
            refine jo_iinc F 3 dX0_sizeOf_63 rfl (jo_inc _) ?_
            refine jo_goto F 4 dX0_sizeOf_66 (by decide) ?_
            refine jo_forget 4 ?_
            rw [show jo_szO v S (i + 1) = jo_szI v S i (jo_szO v S i + v 0 i) i from if_pos h15] at ih
            exact ih
        exact inner 0 (Nat.zero_le _)
    · refine jo_iload_n F 3 dX0_sizeOf_4 rfl rfl ?_
      refine jo_iconst (x := (nI 5)) F dX0_sizeOf_5 (by decide) ?_
      refine jo_icmp_ge_y F 69 dX0_sizeOf_6 (by decide) (nI_le (Nat.le_refl _) (by decide)) ?_
      refine jo_iload_n F 2 dX0_sizeOf_69 rfl rfl ?_
      refine jo_if_ge F 77 dX0_sizeOf_70 (by decide) (fun h70 => ?_) (fun h70 => ?_)
      · refine jo_iconst (x := (nI 1)) F dX0_sizeOf_77 (by decide) ?_
        refine jo_iload_n F 2 dX0_sizeOf_78 rfl rfl ?_
        refine jo_ishl F dX0_sizeOf_79 ?_
        exact jo_iret F hQ dX0_sizeOf_80 ⟨by unfold jo_sz; first | rw [if_neg (Int32.not_lt.mpr h70)] | rw [if_pos (Int32.not_le.mp h70)], rfl⟩
      · refine jo_iconst (x := (nI 1)) F dX0_sizeOf_73 (by decide) ?_
        refine jo_goto F 80 dX0_sizeOf_74 (by decide) ?_
        exact jo_iret F hQ dX0_sizeOf_80 ⟨by unfold jo_sz; first | rw [if_neg (Int32.not_lt.mpr h70)] | rw [if_pos (Int32.not_le.mp h70)], rfl⟩
  refine jo_iconst (x := (nI 0)) F dX0_sizeOf_0 (by decide) ?_
  refine jo_istore_n F 2 dX0_sizeOf_1 rfl (Nat.le_of_ble_eq_true rfl) ?_
  refine jo_iconst (x := (nI 0)) F dX0_sizeOf_2 (by decide) ?_
  refine jo_istore_n F 3 dX0_sizeOf_3 rfl (Nat.le_of_ble_eq_true rfl) ?_
  exact outer 0 (Nat.zero_le _)
theorem xC_sizeOf {K : jo_C} {D : va_G} {a : Nat → Nat} {d : Nat → ClassId} {v : jo_V} {pc : Nat} {L : List (Option Value)} {st : List Value} {cc : ByteArray} {nL : Nat} {fr lo : Nat} (F : jo_F K cc nL RX0 fr lo) {S : Nat} (hS : S < 32) (hfr : 0 + 1 ≤ fr) (hlo : 8 + (5 + 11) + 0 ≤ lo) (hcat : (st.map fun v => v.category).sum ≤ 8) (hlen : L.length = nL) (hdg : decode cc pc = .ok (.invokevirtual 78, 3)) (k : jo_G K D (xT d) (xW a d) v (pc + 3) L (.int (jo_sz v S) :: st)) : jo_G K D (xT d) (xW a d) v pc L (.int (nI S) :: .ref (a 3) :: st) :=
  jo_calli F (q0 := 3) (np := 1) (fun l => xM_sizeOf l D a d v S hS) rfl rfl (lw_V q115 q117 qs4 q28 q118) (by decide +kernel) rfl rfl rfl hfr hlo rfl hcat hlen hdg (fun r u h => by obtain ⟨rfl, rfl⟩ := h; exact k)
/-- linkedWith: the inner loop, the outer loop, the answer -/
def jo_lwJ (v : jo_V) (S i o : Nat) : Nat → Nat
  | 0 => o
  | j + 1 => if S.testBit i = true ∧ ¬ v 2 (i * 5 + j) = 0 then jo_lwJ v S i o j ||| 2 ^ j else jo_lwJ v S i o j
def jo_lwO (v : jo_V) (S : Nat) : Nat → Nat
  | 0 => 0
  | i + 1 => jo_lwJ v S i (jo_lwO v S i) 5
def jo_lw (v : jo_V) (S : Nat) : Nat := jo_lwO v S 5
set_option maxHeartbeats 4000000 in
set_option maxRecDepth 100000 in
/-- linkedWith(set) -/
theorem xM_linkedWith (l : Launch) (D : va_G) (a : Nat → Nat) (d : Nat → ClassId) (v : jo_V) (S : Nat) (hS : S < 32) : jo_Mi l yX0_linkedWith (ws_ yX0_linkedWith cX0_linkedWith 5 (some .int)) ({ frames := 0, cells := 0, slots := 0, locals := 0 } : Room) [.ref (a 3), .int (nI S)] D (xT d) (xW a d) v (fun r u => r = nI (jo_lw v S) ∧ u = v) := by
  refine jo_Mi.of (by decide) (jo_cat rfl) (Nat.le_of_ble_eq_true rfl) (fun K F hQ => ?_)
  show jo_G K D (xT d) (xW a d) v 0 [some (.ref (a 3)), some (.int (nI S)), none, none, none] []
  have outer : ∀ i, i ≤ 5 → jo_G K D (xT d) (xW a d) v 4 [some (.ref (a 3)), some (.int (nI S)), some (.int (nI (jo_lwO v S i))), some (.int (nI i)), none] [] := by
    refine jo_up 5 (fun i hi ih => ?_) ?_
    · refine jo_iload_n F 3 dX0_linkedWith_4 rfl rfl ?_
      refine jo_iconst (x := (nI 5)) F dX0_linkedWith_5 (by decide) ?_
      refine jo_icmp_ge_n F 60 dX0_linkedWith_6 (by decide) (nI_ge hi (by decide)) ?_
      refine jo_iconst (x := (nI 0)) F dX0_linkedWith_9 (by decide) ?_
      refine jo_istore F 4 dX0_linkedWith_10 (Nat.le_of_ble_eq_true rfl) ?_
      have inner : ∀ j, j ≤ 5 → jo_G K D (xT d) (xW a d) v 12 [some (.ref (a 3)), some (.int (nI S)), some (.int (nI (jo_lwJ v S i (jo_lwO v S i) j))), some (.int (nI i)), some (.int (nI j))] [] := by
        refine jo_up 5 (fun j hj ih2 => ?_) ?_
        · refine jo_iload F 4 dX0_linkedWith_12 rfl ?_
          refine jo_iconst (x := (nI 5)) F dX0_linkedWith_14 (by decide) ?_
          refine jo_icmp_ge_n F 54 dX0_linkedWith_15 (by decide) (nI_ge hj (by decide)) ?_
          refine jo_iload_n F 1 dX0_linkedWith_18 rfl rfl ?_
          refine jo_iload_n F 3 dX0_linkedWith_19 rfl rfl ?_
          refine jo_ishr F dX0_linkedWith_20 ?_
          refine jo_iconst (x := (nI 1)) F dX0_linkedWith_21 (by decide) ?_
          refine jo_iand F dX0_linkedWith_22 ?_
          refine jo_top (jo_bit (by omega) (by omega)) ?_
          refine jo_iconst (x := (nI 1)) F dX0_linkedWith_23 (by decide) ?_
          refine jo_icmpb_ne F 48 dX0_linkedWith_24 (by decide) (fun h24 => ?_) (fun h24 => ?_)
          · refine jo_iinc F 4 dX0_linkedWith_48 rfl (jo_inc _) ?_
            refine jo_goto F 12 dX0_linkedWith_51 (by decide) ?_
            rw [show jo_lwJ v S i (jo_lwO v S i) (j + 1) = _ from if_neg (by rw [h24]; rintro ⟨q, -⟩; cases q)] at ih2
            exact ih2
          · 
            refine jo_aload_n F 0 dX0_linkedWith_27 rfl rfl ?_
            refine xg2 F dX0_linkedWith_28 ?_
            refine jo_iload_n F 3 dX0_linkedWith_31 rfl rfl ?_
            refine jo_iconst (x := (nI 5)) F dX0_linkedWith_32 (by decide) ?_
            refine jo_imul F dX0_linkedWith_33 ?_
            refine jo_iload F 4 dX0_linkedWith_34 rfl ?_
            refine jo_iadd F dX0_linkedWith_36 ?_
            refine xl2 F (i * 5 + j) (jo_ixr i j) (jo_ixb hi hj) dX0_linkedWith_37 ?_
            refine jo_if_eq F 48 dX0_linkedWith_38 (by decide) (fun h38 => ?_) (fun h38 => ?_)
            · refine jo_iinc F 4 dX0_linkedWith_48 rfl (jo_inc _) ?_
              refine jo_goto F 12 dX0_linkedWith_51 (by decide) ?_
              rw [show jo_lwJ v S i (jo_lwO v S i) (j + 1) = _ from if_neg (fun q => q.2 h38)] at ih2
              exact ih2
            · refine jo_iload_n F 2 dX0_linkedWith_41 rfl rfl ?_
              refine jo_iconst (x := (nI 1)) F dX0_linkedWith_42 (by decide) ?_
              refine jo_iload F 4 dX0_linkedWith_43 rfl ?_
              refine jo_ishl F dX0_linkedWith_45 ?_
              refine jo_top (jo_pow (by omega)) ?_
              refine jo_ior F dX0_linkedWith_46 ?_
              refine jo_top (nx_or _ _) ?_
              refine jo_istore_n F 2 dX0_linkedWith_47 rfl (Nat.le_of_ble_eq_true rfl) ?_
              refine jo_iinc F 4 dX0_linkedWith_48 rfl (jo_inc _) ?_
              refine jo_goto F 12 dX0_linkedWith_51 (by decide) ?_
              rw [show jo_lwJ v S i (jo_lwO v S i) (j + 1) = _ from if_pos ⟨h24, h38⟩] at ih2
              exact ih2
        · refine jo_iload F 4 dX0_linkedWith_12 rfl ?_
          refine jo_iconst (x := (nI 5)) F dX0_linkedWith_14 (by decide) ?_
          refine jo_icmp_ge_y F 54 dX0_linkedWith_15 (by decide) (nI_le (Nat.le_refl _) (by decide)) ?_
          refine jo_iinc F 3 dX0_linkedWith_54 rfl (jo_inc _) ?_
          refine jo_goto F 4 dX0_linkedWith_57 (by decide) ?_
          refine jo_forget 4 ?_
          exact ih
      exact inner 0 (Nat.zero_le _)
    · refine jo_iload_n F 3 dX0_linkedWith_4 rfl rfl ?_
      refine jo_iconst (x := (nI 5)) F dX0_linkedWith_5 (by decide) ?_
      refine jo_icmp_ge_y F 60 dX0_linkedWith_6 (by decide) (nI_le (Nat.le_refl _) (by decide)) ?_
      refine jo_iload_n F 2 dX0_linkedWith_60 rfl rfl ?_
      exact jo_iret F hQ dX0_linkedWith_61 ⟨rfl, rfl⟩
  refine jo_iconst (x := (nI 0)) F dX0_linkedWith_0 (by decide) ?_
  refine jo_istore_n F 2 dX0_linkedWith_1 rfl (Nat.le_of_ble_eq_true rfl) ?_
  refine jo_iconst (x := (nI 0)) F dX0_linkedWith_2 (by decide) ?_
  refine jo_istore_n F 3 dX0_linkedWith_3 rfl (Nat.le_of_ble_eq_true rfl) ?_
  exact outer 0 (Nat.zero_le _)
theorem xC_linkedWith {K : jo_C} {D : va_G} {a : Nat → Nat} {d : Nat → ClassId} {v : jo_V} {pc : Nat} {L : List (Option Value)} {st : List Value} {cc : ByteArray} {nL : Nat} {fr lo : Nat} (F : jo_F K cc nL RX0 fr lo) {S : Nat} (hS : S < 32) (hfr : 0 + 1 ≤ fr) (hlo : 8 + (5 + 11) + 0 ≤ lo) (hcat : (st.map fun v => v.category).sum ≤ 8) (hlen : L.length = nL) (hdg : decode cc pc = .ok (.invokevirtual 66, 3)) (k : jo_G K D (xT d) (xW a d) v (pc + 3) L (.int (nI (jo_lw v S)) :: st)) : jo_G K D (xT d) (xW a d) v pc L (.int (nI S) :: .ref (a 3) :: st) :=
  jo_calli F (q0 := 3) (np := 1) (fun l => xM_linkedWith l D a d v S hS) rfl rfl (lw_V q123 q125 qs5 q28 q126) (by decide +kernel) rfl rfl rfl hfr hlo rfl hcat hlen hdg (fun r u h => by obtain ⟨rfl, rfl⟩ := h; exact k)
/-- single(set) -/
def jo_sin (v : jo_V) (S : Nat) : jo_V := jo_u (jo_u (jo_u (jo_u (jo_u (jo_u (jo_u (jo_u v 5 S (nI 0)) 6 S (-4)) 7 S (nI 1)) 8 S (nI 0)) 9 S (nI 0)) 10 S (nI 0)) 11 S (nI 1)) 12 S (nI 1)
set_option maxHeartbeats 4000000 in
set_option maxRecDepth 100000 in
/-- single(set) -/
theorem xM_single (l : Launch) (D : va_G) (a : Nat → Nat) (d : Nat → ClassId) (v : jo_V) (S : Nat) (hS : S < 32) : jo_Mv l yX0_single (ws_ yX0_single cX0_single 2 none) ({ frames := 0, cells := 0, slots := 0, locals := 0 } : Room) [.ref (a 3), .int (nI S)] D (xT d) (xW a d) v (fun u => u = jo_sin v S) := by
  refine jo_Mv.of (by decide) (jo_cat rfl) (Nat.le_of_ble_eq_true rfl) (fun K F hQ => ?_)
  show jo_G K D (xT d) (xW a d) v 0 [some (.ref (a 3)), some (.int (nI S))] []
  refine jo_aload_n F 0 dX0_single_0 rfl rfl ?_
  refine xg5 F dX0_single_1 ?_
  refine jo_iload_n F 1 dX0_single_4 rfl rfl ?_
  refine jo_iconst (x := (nI 0)) F dX0_single_5 (by decide) ?_
  refine xs5 F S rfl hS dX0_single_6 ?_
  refine jo_aload_n F 0 dX0_single_7 rfl rfl ?_
  refine xg6 F dX0_single_8 ?_
  refine jo_iload_n F 1 dX0_single_11 rfl rfl ?_
  refine jo_bipush (x := (-4)) F dX0_single_12 (by decide) ?_
  refine xs6 F S rfl hS dX0_single_14 ?_
  refine jo_aload_n F 0 dX0_single_15 rfl rfl ?_
  refine xg7 F dX0_single_16 ?_
  refine jo_iload_n F 1 dX0_single_19 rfl rfl ?_
  refine jo_iconst (x := (nI 1)) F dX0_single_20 (by decide) ?_
  refine xs7 F S rfl hS dX0_single_21 ?_
  refine jo_aload_n F 0 dX0_single_22 rfl rfl ?_
  refine xg8 F dX0_single_23 ?_
  refine jo_iload_n F 1 dX0_single_26 rfl rfl ?_
  refine jo_iconst (x := (nI 0)) F dX0_single_27 (by decide) ?_
  refine xs8 F S rfl hS dX0_single_28 ?_
  refine jo_aload_n F 0 dX0_single_29 rfl rfl ?_
  refine xg9 F dX0_single_30 ?_
  refine jo_iload_n F 1 dX0_single_33 rfl rfl ?_
  refine jo_iconst (x := (nI 0)) F dX0_single_34 (by decide) ?_
  refine xs9 F S rfl hS dX0_single_35 ?_
  refine jo_aload_n F 0 dX0_single_36 rfl rfl ?_
  refine xg10 F dX0_single_37 ?_
  refine jo_iload_n F 1 dX0_single_40 rfl rfl ?_
  refine jo_iconst (x := (nI 0)) F dX0_single_41 (by decide) ?_
  refine xs10 F S rfl hS dX0_single_42 ?_
  refine jo_aload_n F 0 dX0_single_43 rfl rfl ?_
  refine xg11 F dX0_single_44 ?_
  refine jo_iload_n F 1 dX0_single_47 rfl rfl ?_
  refine jo_iconst (x := (nI 1)) F dX0_single_48 (by decide) ?_
  refine xs11 F S rfl hS dX0_single_49 ?_
  refine jo_aload_n F 0 dX0_single_50 rfl rfl ?_
  refine xg12 F dX0_single_51 ?_
  refine jo_iload_n F 1 dX0_single_54 rfl rfl ?_
  refine jo_iconst (x := (nI 1)) F dX0_single_55 (by decide) ?_
  refine xs12 F S rfl hS dX0_single_56 ?_
  exact jo_vret F hQ dX0_single_57 rfl
theorem xC_single {K : jo_C} {D : va_G} {a : Nat → Nat} {d : Nat → ClassId} {v : jo_V} {pc : Nat} {L : List (Option Value)} {st : List Value} {cc : ByteArray} {nL : Nat} {fr lo : Nat} (F : jo_F K cc nL RX0 fr lo) {S : Nat} (hS : S < 32) (hfr : 0 + 1 ≤ fr) (hlo : 8 + (2 + 11) + 0 ≤ lo) (hcat : (st.map fun v => v.category).sum ≤ 8) (hlen : L.length = nL) (hdg : decode cc pc = .ok (.invokevirtual 81, 3)) (k : jo_G K D (xT d) (xW a d) (jo_sin v S) (pc + 3) L st) : jo_G K D (xT d) (xW a d) v pc L (.int (nI S) :: .ref (a 3) :: st) :=
  jo_callv F (q0 := 3) (np := 1) (fun l => xM_single l D a d v S hS) rfl rfl (lw_V q135 q137 qs7 q28 q138) (by decide +kernel) rfl rfl rfl hfr hlo rfl hcat hlen hdg (fun u h => by subst h; exact k)
def jo_FAR : Int32 := 2147483647
def jo_mn (x y : Int32) : Int32 := if y < x then y else x
def jo_mx (x y : Int32) : Int32 := if x < y then y else x
/-- partLinked(set, left, right) -/
def jo_pl1 (v : jo_V) (S L R : Nat) : jo_V := jo_u v 12 S (v 12 S + v 12 L * v 12 R)
def jo_pl2 (v : jo_V) (S L R : Nat) : jo_V := if v 9 L < jo_FAR ∧ v 9 R < jo_FAR then jo_u v 9 S (jo_mn (v 9 S) (v 9 L + v 9 R + v 4 S)) else v
def jo_pl (v : jo_V) (S L R : Nat) : jo_V := jo_pl2 (jo_pl1 v S L R) S L R
set_option maxHeartbeats 4000000 in
set_option maxRecDepth 100000 in
/-- partLinked(set, left, right) -/
theorem xM_partLinked (l : Launch) (D : va_G) (a : Nat → Nat) (d : Nat → ClassId) (v : jo_V) (S L R : Nat) (hS : S < 32) (hL : L < 32) (hR : R < 32) : jo_Mv l yX0_partLinked (ws_ yX0_partLinked cX0_partLinked 5 none) ({ frames := 0, cells := 0, slots := 0, locals := 0 } : Room) [.ref (a 3), .int (nI S), .int (nI L), .int (nI R)] D (xT d) (xW a d) v (fun u => u = jo_pl v S L R) := by
  refine jo_Mv.of (by decide) (jo_cat rfl) (Nat.le_of_ble_eq_true rfl) (fun K F hQ => ?_)
  show jo_G K D (xT d) (xW a d) v 0 [some (.ref (a 3)), some (.int (nI S)), some (.int (nI L)), some (.int (nI R)), none] []
  refine jo_aload_n F 0 dX0_partLinked_0 rfl rfl ?_
  refine xg12 F dX0_partLinked_1 ?_
  refine jo_iload_n F 1 dX0_partLinked_4 rfl rfl ?_
  refine jo_aload_n F 0 dX0_partLinked_5 rfl rfl ?_
  refine xg12 F dX0_partLinked_6 ?_
  refine jo_iload_n F 1 dX0_partLinked_9 rfl rfl ?_
  refine xl12 F S rfl hS dX0_partLinked_10 ?_
  refine jo_aload_n F 0 dX0_partLinked_11 rfl rfl ?_
  refine xg12 F dX0_partLinked_12 ?_
  refine jo_iload_n F 2 dX0_partLinked_15 rfl rfl ?_
  refine xl12 F L rfl hL dX0_partLinked_16 ?_
  refine jo_aload_n F 0 dX0_partLinked_17 rfl rfl ?_
  refine xg12 F dX0_partLinked_18 ?_
  refine jo_iload_n F 3 dX0_partLinked_21 rfl rfl ?_
  refine xl12 F R rfl hR dX0_partLinked_22 ?_
  refine jo_imul F dX0_partLinked_23 ?_
  refine jo_iadd F dX0_partLinked_24 ?_
  refine xs12 F S rfl hS dX0_partLinked_25 ?_
  show jo_G K D (xT d) (xW a d) (jo_pl1 v S L R) 26 _ _
  have e : jo_pl v S L R = jo_pl2 (jo_pl1 v S L R) S L R := rfl
  generalize jo_pl1 v S L R = v1 at e ⊢
  refine jo_aload_n F 0 dX0_partLinked_26 rfl rfl ?_
  refine xg9 F dX0_partLinked_27 ?_
  refine jo_iload_n F 2 dX0_partLinked_30 rfl rfl ?_
  refine xl9 F L rfl hL dX0_partLinked_31 ?_
  refine jo_ldc F q143 dX0_partLinked_32 ?_
  refine jo_icmp_ge F 98 dX0_partLinked_34 (by decide) (fun h34 => ?_) (fun h34 => ?_)
  · exact jo_vret F hQ dX0_partLinked_98 (by rw [e, jo_pl2, if_neg (fun q => absurd q.1 (Int32.not_lt.mpr h34))])
  · 
    refine jo_aload_n F 0 dX0_partLinked_37 rfl rfl ?_
    refine xg9 F dX0_partLinked_38 ?_
    refine jo_iload_n F 3 dX0_partLinked_41 rfl rfl ?_
    refine xl9 F R rfl hR dX0_partLinked_42 ?_
    refine jo_ldc F q143 dX0_partLinked_43 ?_
    refine jo_icmp_ge F 98 dX0_partLinked_45 (by decide) (fun h45 => ?_) (fun h45 => ?_)
    · exact jo_vret F hQ dX0_partLinked_98 (by rw [e, jo_pl2, if_neg (fun q => absurd q.2 (Int32.not_lt.mpr h45))])
    · 
      refine jo_aload_n F 0 dX0_partLinked_48 rfl rfl ?_
      refine xg9 F dX0_partLinked_49 ?_
      refine jo_iload_n F 2 dX0_partLinked_52 rfl rfl ?_
      refine xl9 F L rfl hL dX0_partLinked_53 ?_
      refine jo_aload_n F 0 dX0_partLinked_54 rfl rfl ?_
      refine xg9 F dX0_partLinked_55 ?_
      refine jo_iload_n F 3 dX0_partLinked_58 rfl rfl ?_
      refine xl9 F R rfl hR dX0_partLinked_59 ?_
      refine jo_iadd F dX0_partLinked_60 ?_
      refine jo_aload_n F 0 dX0_partLinked_61 rfl rfl ?_
      refine xg4 F dX0_partLinked_62 ?_
      refine jo_iload_n F 1 dX0_partLinked_65 rfl rfl ?_
      refine xl4 F S rfl hS dX0_partLinked_66 ?_
      refine jo_iadd F dX0_partLinked_67 ?_
      refine jo_istore F 4 dX0_partLinked_68 (Nat.le_of_ble_eq_true rfl) ?_
      refine jo_aload_n F 0 dX0_partLinked_70 rfl rfl ?_
      refine xg9 F dX0_partLinked_71 ?_
      refine jo_iload_n F 1 dX0_partLinked_74 rfl rfl ?_
      refine jo_iload F 4 dX0_partLinked_75 rfl ?_
      refine jo_aload_n F 0 dX0_partLinked_77 rfl rfl ?_
      refine xg9 F dX0_partLinked_78 ?_
      refine jo_iload_n F 1 dX0_partLinked_81 rfl rfl ?_
      refine xl9 F S rfl hS dX0_partLinked_82 ?_
      refine jo_icmp_ge F 91 dX0_partLinked_83 (by decide) (fun h83 => ?_) (fun h83 => ?_)
      · refine jo_aload_n F 0 dX0_partLinked_91 rfl rfl ?_
        refine xg9 F dX0_partLinked_92 ?_
        refine jo_iload_n F 1 dX0_partLinked_95 rfl rfl ?_
        refine xl9 F S rfl hS dX0_partLinked_96 ?_
        refine xs9 F S rfl hS dX0_partLinked_97 ?_
        exact jo_vret F hQ dX0_partLinked_98 (by rw [e, jo_pl2, if_pos ⟨Int32.not_le.mp h34, Int32.not_le.mp h45⟩, jo_mn, if_neg (Int32.not_lt.mpr h83)])
      · refine jo_iload F 4 dX0_partLinked_86 rfl ?_
        refine jo_goto F 97 dX0_partLinked_88 (by decide) ?_
        refine xs9 F S rfl hS dX0_partLinked_97 ?_
        exact jo_vret F hQ dX0_partLinked_98 (by rw [e, jo_pl2, if_pos ⟨Int32.not_le.mp h34, Int32.not_le.mp h45⟩, jo_mn, if_pos (Int32.not_le.mp h83)])
theorem xC_partLinked {K : jo_C} {D : va_G} {a : Nat → Nat} {d : Nat → ClassId} {v : jo_V} {pc : Nat} {L : List (Option Value)} {st : List Value} {cc : ByteArray} {nL : Nat} {fr lo : Nat} (F : jo_F K cc nL RX0 fr lo) {S Z R : Nat} (hS : S < 32) (hL : Z < 32) (hR : R < 32) (hfr : 0 + 1 ≤ fr) (hlo : 8 + (5 + 11) + 0 ≤ lo) (hcat : (st.map fun v => v.category).sum ≤ 8) (hlen : L.length = nL) (hdg : decode cc pc = .ok (.invokevirtual 70, 3)) (k : jo_G K D (xT d) (xW a d) (jo_pl v S Z R) (pc + 3) L st) : jo_G K D (xT d) (xW a d) v pc L (.int (nI R) :: .int (nI Z) :: .int (nI S) :: .ref (a 3) :: st) :=
  jo_callv F (q0 := 3) (np := 3) (fun l => xM_partLinked l D a d v S Z R hS hL hR) rfl rfl (lw_V q148 q150 qs10 q28 q151) (by decide +kernel) rfl rfl rfl hfr hlo rfl hcat hlen hdg (fun u h => by subst h; exact k)
/-- part(set, left, right), by its four parts -/
def jo_pA (v : jo_V) (S L R : Nat) : jo_V := if v 5 L + v 5 R + v 4 S < v 5 S then jo_u (jo_u (jo_u v 5 S (v 5 L + v 5 R + v 4 S)) 6 S (nI L)) 7 S (v 7 L * v 7 R) else if v 5 L + v 5 R + v 4 S = v 5 S then jo_u (jo_u v 7 S (v 7 S + v 7 L * v 7 R)) 6 S (jo_mn (v 6 S) (nI L)) else v
def jo_pB (v : jo_V) (S L R : Nat) : jo_V := jo_u (jo_u v 10 S (jo_mx (v 10 S) (v 10 L + v 10 R + v 4 S))) 11 S (v 11 S + v 11 L * v 11 R)
def jo_pC (v : jo_V) (S L R : Nat) : jo_V := if R &&& (R - 1) = 0 then jo_u v 8 S (jo_mn (v 8 S) (v 8 L + v 4 S)) else v
def jo_pD (v : jo_V) (S L R : Nat) : jo_V := if jo_lw v L &&& R = 0 then v else jo_pl v S L R
def jo_part (v : jo_V) (S L R : Nat) : jo_V := jo_pD (jo_pC (jo_pB (jo_pA v S L R) S L R) S L R) S L R
theorem jo_nI0 {k : Nat} (h : k < 2 ^ 31) : nI k = 0 ↔ k = 0 := by rw [← nI_0, nI_eq h (by decide)]
set_option maxHeartbeats 4000000 in
set_option maxRecDepth 100000 in
theorem xB_part_0 {K : jo_C} {D : va_G} {a : Nat → Nat} {d : Nat → ClassId} {v : jo_V} {S L R fr lo : Nat} (F : jo_F K cX0_part 8 RX0 fr lo) (hS : S < 32) (hL : L < 32) (hR : R < 32) (k : jo_G K D (xT d) (xW a d) (jo_pA v S L R) 126 [some (.ref (a 3)), some (.int (nI S)), some (.int (nI L)), some (.int (nI R)), none, none, none, none] []) : jo_G K D (xT d) (xW a d) v 0 [some (.ref (a 3)), some (.int (nI S)), some (.int (nI L)), some (.int (nI R)), none, none, none, none] [] := by
  refine jo_aload_n F 0 dX0_part_0 rfl rfl ?_
  refine xg5 F dX0_part_1 ?_
  refine jo_iload_n F 2 dX0_part_4 rfl rfl ?_
  refine xl5 F L rfl hL dX0_part_5 ?_
  refine jo_aload_n F 0 dX0_part_6 rfl rfl ?_
  refine xg5 F dX0_part_7 ?_
  refine jo_iload_n F 3 dX0_part_10 rfl rfl ?_
  refine xl5 F R rfl hR dX0_part_11 ?_
  refine jo_iadd F dX0_part_12 ?_
  refine jo_aload_n F 0 dX0_part_13 rfl rfl ?_
  refine xg4 F dX0_part_14 ?_
  refine jo_iload_n F 1 dX0_part_17 rfl rfl ?_
  refine xl4 F S rfl hS dX0_part_18 ?_
  refine jo_iadd F dX0_part_19 ?_
  refine jo_istore F 4 dX0_part_20 (Nat.le_of_ble_eq_true rfl) ?_
  refine jo_aload_n F 0 dX0_part_22 rfl rfl ?_
  refine xg7 F dX0_part_23 ?_
  refine jo_iload_n F 2 dX0_part_26 rfl rfl ?_
  refine xl7 F L rfl hL dX0_part_27 ?_
  refine jo_aload_n F 0 dX0_part_28 rfl rfl ?_
  refine xg7 F dX0_part_29 ?_
  refine jo_iload_n F 3 dX0_part_32 rfl rfl ?_
  refine xl7 F R rfl hR dX0_part_33 ?_
  refine jo_imul F dX0_part_34 ?_
  refine jo_istore F 5 dX0_part_35 (Nat.le_of_ble_eq_true rfl) ?_
  refine jo_iload F 4 dX0_part_37 rfl ?_
  refine jo_aload_n F 0 dX0_part_39 rfl rfl ?_
  refine xg5 F dX0_part_40 ?_
  refine jo_iload_n F 1 dX0_part_43 rfl rfl ?_
  refine xl5 F S rfl hS dX0_part_44 ?_
  refine jo_icmp_ge F 74 dX0_part_45 (by decide) (fun h45 => ?_) (fun h45 => ?_)
  · 
    refine jo_iload F 4 dX0_part_74 rfl ?_
    refine jo_aload_n F 0 dX0_part_76 rfl rfl ?_
    refine xg5 F dX0_part_77 ?_
    refine jo_iload_n F 1 dX0_part_80 rfl rfl ?_
    refine xl5 F S rfl hS dX0_part_81 ?_
    refine jo_icmp_ne F 126 dX0_part_82 (by decide) (fun h82 => ?_) (fun h82 => ?_)
    · refine jo_forget 4 ?_
      refine jo_forget 5 ?_
      refine jo_forget 6 ?_
      refine jo_forget 7 ?_
      rw [jo_pA, if_neg (Int32.not_lt.mpr h45), if_neg h82] at k
      exact k
    · 
      refine jo_aload_n F 0 dX0_part_85 rfl rfl ?_
      refine xg7 F dX0_part_86 ?_
      refine jo_iload_n F 1 dX0_part_89 rfl rfl ?_
      refine jo_aload_n F 0 dX0_part_90 rfl rfl ?_
      refine xg7 F dX0_part_91 ?_
      refine jo_iload_n F 1 dX0_part_94 rfl rfl ?_
      refine xl7 F S rfl hS dX0_part_95 ?_
      refine jo_iload F 5 dX0_part_96 rfl ?_
      refine jo_iadd F dX0_part_98 ?_
      refine xs7 F S rfl hS dX0_part_99 ?_
      refine jo_aload_n F 0 dX0_part_100 rfl rfl ?_
      refine xg6 F dX0_part_101 ?_
      refine jo_iload_n F 1 dX0_part_104 rfl rfl ?_
      refine jo_iload_n F 2 dX0_part_105 rfl rfl ?_
      refine jo_aload_n F 0 dX0_part_106 rfl rfl ?_
      refine xg6 F dX0_part_107 ?_
      refine jo_iload_n F 1 dX0_part_110 rfl rfl ?_
      refine xl6 F S rfl hS dX0_part_111 ?_
      refine jo_icmp_ge F 119 dX0_part_112 (by decide) (fun h112 => ?_) (fun h112 => ?_)
      · have h112 : v 6 S ≤ nI L := h112
        refine jo_aload_n F 0 dX0_part_119 rfl rfl ?_
        refine xg6 F dX0_part_120 ?_
        refine jo_iload_n F 1 dX0_part_123 rfl rfl ?_
        refine xl6 F S rfl hS dX0_part_124 ?_
        refine xs6 F S rfl hS dX0_part_125 ?_
        refine jo_forget 4 ?_
        refine jo_forget 5 ?_
        refine jo_forget 6 ?_
        refine jo_forget 7 ?_
        rw [jo_pA, if_neg (Int32.not_lt.mpr h45), if_pos h82, jo_mn, if_neg (Int32.not_lt.mpr h112)] at k
        exact k
      · have h112 : ¬ v 6 S ≤ nI L := h112
        refine jo_iload_n F 2 dX0_part_115 rfl rfl ?_
        refine jo_goto F 125 dX0_part_116 (by decide) ?_
        refine xs6 F S rfl hS dX0_part_125 ?_
        refine jo_forget 4 ?_
        refine jo_forget 5 ?_
        refine jo_forget 6 ?_
        refine jo_forget 7 ?_
        rw [jo_pA, if_neg (Int32.not_lt.mpr h45), if_pos h82, jo_mn, if_pos (Int32.not_le.mp h112)] at k
        exact k
  · refine jo_aload_n F 0 dX0_part_48 rfl rfl ?_
    refine xg5 F dX0_part_49 ?_
    refine jo_iload_n F 1 dX0_part_52 rfl rfl ?_
    refine jo_iload F 4 dX0_part_53 rfl ?_
    refine xs5 F S rfl hS dX0_part_55 ?_
    refine jo_aload_n F 0 dX0_part_56 rfl rfl ?_
    refine xg6 F dX0_part_57 ?_
    refine jo_iload_n F 1 dX0_part_60 rfl rfl ?_
    refine jo_iload_n F 2 dX0_part_61 rfl rfl ?_
    refine xs6 F S rfl hS dX0_part_62 ?_
    refine jo_aload_n F 0 dX0_part_63 rfl rfl ?_
    refine xg7 F dX0_part_64 ?_
    refine jo_iload_n F 1 dX0_part_67 rfl rfl ?_
    refine jo_iload F 5 dX0_part_68 rfl ?_
    refine xs7 F S rfl hS dX0_part_70 ?_
    refine jo_goto F 126 dX0_part_71 (by decide) ?_
    refine jo_forget 4 ?_
    refine jo_forget 5 ?_
    refine jo_forget 6 ?_
    refine jo_forget 7 ?_
    rw [jo_pA, if_pos (Int32.not_le.mp h45)] at k
    exact k
set_option maxHeartbeats 4000000 in
set_option maxRecDepth 100000 in
theorem xB_part_126 {K : jo_C} {D : va_G} {a : Nat → Nat} {d : Nat → ClassId} {v : jo_V} {S L R fr lo : Nat} (F : jo_F K cX0_part 8 RX0 fr lo) (hS : S < 32) (hL : L < 32) (hR : R < 32) (k : jo_G K D (xT d) (xW a d) (jo_pB v S L R) 202 [some (.ref (a 3)), some (.int (nI S)), some (.int (nI L)), some (.int (nI R)), none, none, none, none] []) : jo_G K D (xT d) (xW a d) v 126 [some (.ref (a 3)), some (.int (nI S)), some (.int (nI L)), some (.int (nI R)), none, none, none, none] [] := by
  refine jo_aload_n F 0 dX0_part_126 rfl rfl ?_
  refine xg10 F dX0_part_127 ?_
  refine jo_iload_n F 2 dX0_part_130 rfl rfl ?_
  refine xl10 F L rfl hL dX0_part_131 ?_
  refine jo_aload_n F 0 dX0_part_132 rfl rfl ?_
  refine xg10 F dX0_part_133 ?_
  refine jo_iload_n F 3 dX0_part_136 rfl rfl ?_
  refine xl10 F R rfl hR dX0_part_137 ?_
  refine jo_iadd F dX0_part_138 ?_
  refine jo_aload_n F 0 dX0_part_139 rfl rfl ?_
  refine xg4 F dX0_part_140 ?_
  refine jo_iload_n F 1 dX0_part_143 rfl rfl ?_
  refine xl4 F S rfl hS dX0_part_144 ?_
  refine jo_iadd F dX0_part_145 ?_
  refine jo_istore F 6 dX0_part_146 (Nat.le_of_ble_eq_true rfl) ?_
  refine jo_aload_n F 0 dX0_part_148 rfl rfl ?_
  refine xg10 F dX0_part_149 ?_
  refine jo_iload_n F 1 dX0_part_152 rfl rfl ?_
  refine jo_iload F 6 dX0_part_153 rfl ?_
  refine jo_aload_n F 0 dX0_part_155 rfl rfl ?_
  refine xg10 F dX0_part_156 ?_
  refine jo_iload_n F 1 dX0_part_159 rfl rfl ?_
  refine xl10 F S rfl hS dX0_part_160 ?_
  refine jo_icmp_le F 169 dX0_part_161 (by decide) (fun h161 => ?_) (fun h161 => ?_)
  · refine jo_aload_n F 0 dX0_part_169 rfl rfl ?_
    refine xg10 F dX0_part_170 ?_
    refine jo_iload_n F 1 dX0_part_173 rfl rfl ?_
    refine xl10 F S rfl hS dX0_part_174 ?_
    refine xs10 F S rfl hS dX0_part_175 ?_
    refine jo_aload_n F 0 dX0_part_176 rfl rfl ?_
    refine xg11 F dX0_part_177 ?_
    refine jo_iload_n F 1 dX0_part_180 rfl rfl ?_
    refine jo_aload_n F 0 dX0_part_181 rfl rfl ?_
    refine xg11 F dX0_part_182 ?_
    refine jo_iload_n F 1 dX0_part_185 rfl rfl ?_
    refine xl11 F S rfl hS dX0_part_186 ?_
    refine jo_aload_n F 0 dX0_part_187 rfl rfl ?_
    refine xg11 F dX0_part_188 ?_
    refine jo_iload_n F 2 dX0_part_191 rfl rfl ?_
    refine xl11 F L rfl hL dX0_part_192 ?_
    refine jo_aload_n F 0 dX0_part_193 rfl rfl ?_
    refine xg11 F dX0_part_194 ?_
    refine jo_iload_n F 3 dX0_part_197 rfl rfl ?_
    refine xl11 F R rfl hR dX0_part_198 ?_
    refine jo_imul F dX0_part_199 ?_
    refine jo_iadd F dX0_part_200 ?_
    refine xs11 F S rfl hS dX0_part_201 ?_
    refine jo_forget 4 ?_
    refine jo_forget 5 ?_
    refine jo_forget 6 ?_
    refine jo_forget 7 ?_
    rw [jo_pB, jo_mx, if_neg (Int32.not_lt.mpr h161)] at k
    exact k
  · refine jo_iload F 6 dX0_part_164 rfl ?_
    refine jo_goto F 175 dX0_part_166 (by decide) ?_
    refine xs10 F S rfl hS dX0_part_175 ?_
    refine jo_aload_n F 0 dX0_part_176 rfl rfl ?_
    refine xg11 F dX0_part_177 ?_
    refine jo_iload_n F 1 dX0_part_180 rfl rfl ?_
    refine jo_aload_n F 0 dX0_part_181 rfl rfl ?_
    refine xg11 F dX0_part_182 ?_
    refine jo_iload_n F 1 dX0_part_185 rfl rfl ?_
    refine xl11 F S rfl hS dX0_part_186 ?_
    refine jo_aload_n F 0 dX0_part_187 rfl rfl ?_
    refine xg11 F dX0_part_188 ?_
    refine jo_iload_n F 2 dX0_part_191 rfl rfl ?_
    refine xl11 F L rfl hL dX0_part_192 ?_
    refine jo_aload_n F 0 dX0_part_193 rfl rfl ?_
    refine xg11 F dX0_part_194 ?_
    refine jo_iload_n F 3 dX0_part_197 rfl rfl ?_
    refine xl11 F R rfl hR dX0_part_198 ?_
    refine jo_imul F dX0_part_199 ?_
    refine jo_iadd F dX0_part_200 ?_
    refine xs11 F S rfl hS dX0_part_201 ?_
    refine jo_forget 4 ?_
    refine jo_forget 5 ?_
    refine jo_forget 6 ?_
    refine jo_forget 7 ?_
    rw [jo_pB, jo_mx, if_pos (Int32.not_le.mp h161)] at k
    exact k
set_option maxHeartbeats 4000000 in
set_option maxRecDepth 100000 in
theorem xB_part_202 {K : jo_C} {D : va_G} {a : Nat → Nat} {d : Nat → ClassId} {v : jo_V} {S L R fr lo : Nat} (F : jo_F K cX0_part 8 RX0 fr lo) (hS : S < 32) (hL : L < 32) (hR : R < 32) (hR0 : 0 < R) (k : jo_G K D (xT d) (xW a d) (jo_pC v S L R) 253 [some (.ref (a 3)), some (.int (nI S)), some (.int (nI L)), some (.int (nI R)), none, none, none, none] []) : jo_G K D (xT d) (xW a d) v 202 [some (.ref (a 3)), some (.int (nI S)), some (.int (nI L)), some (.int (nI R)), none, none, none, none] [] := by
  refine jo_iload_n F 3 dX0_part_202 rfl rfl ?_
  refine jo_iload_n F 3 dX0_part_203 rfl rfl ?_
  refine jo_iconst (x := (nI 1)) F dX0_part_204 (by decide) ?_
  refine jo_isub F dX0_part_205 ?_
  refine jo_top (jo_sub1 hR0) ?_
  refine jo_iand F dX0_part_206 ?_
  refine jo_top (nx_and _ _) ?_
  refine jo_if_ne F 253 dX0_part_207 (by decide) (fun h207 => ?_) (fun h207 => ?_)
  · rw [jo_pC, if_neg (fun q => h207 (by rw [q]; rfl))] at k
    exact k
  · have h207 := (jo_nI0 (Nat.lt_of_le_of_lt Nat.and_le_left (by omega))).mp h207
    refine jo_aload_n F 0 dX0_part_210 rfl rfl ?_
    refine xg8 F dX0_part_211 ?_
    refine jo_iload_n F 2 dX0_part_214 rfl rfl ?_
    refine xl8 F L rfl hL dX0_part_215 ?_
    refine jo_aload_n F 0 dX0_part_216 rfl rfl ?_
    refine xg4 F dX0_part_217 ?_
    refine jo_iload_n F 1 dX0_part_220 rfl rfl ?_
    refine xl4 F S rfl hS dX0_part_221 ?_
    refine jo_iadd F dX0_part_222 ?_
    refine jo_istore F 7 dX0_part_223 (Nat.le_of_ble_eq_true rfl) ?_
    refine jo_aload_n F 0 dX0_part_225 rfl rfl ?_
    refine xg8 F dX0_part_226 ?_
    refine jo_iload_n F 1 dX0_part_229 rfl rfl ?_
    refine jo_iload F 7 dX0_part_230 rfl ?_
    refine jo_aload_n F 0 dX0_part_232 rfl rfl ?_
    refine xg8 F dX0_part_233 ?_
    refine jo_iload_n F 1 dX0_part_236 rfl rfl ?_
    refine xl8 F S rfl hS dX0_part_237 ?_
    refine jo_icmp_ge F 246 dX0_part_238 (by decide) (fun h238 => ?_) (fun h238 => ?_)
    · refine jo_aload_n F 0 dX0_part_246 rfl rfl ?_
      refine xg8 F dX0_part_247 ?_
      refine jo_iload_n F 1 dX0_part_250 rfl rfl ?_
      refine xl8 F S rfl hS dX0_part_251 ?_
      refine xs8 F S rfl hS dX0_part_252 ?_
      refine jo_forget 4 ?_
      refine jo_forget 5 ?_
      refine jo_forget 6 ?_
      refine jo_forget 7 ?_
      rw [jo_pC, if_pos h207, jo_mn, if_neg (Int32.not_lt.mpr h238)] at k
      exact k
    · refine jo_iload F 7 dX0_part_241 rfl ?_
      refine jo_goto F 252 dX0_part_243 (by decide) ?_
      refine xs8 F S rfl hS dX0_part_252 ?_
      refine jo_forget 4 ?_
      refine jo_forget 5 ?_
      refine jo_forget 6 ?_
      refine jo_forget 7 ?_
      rw [jo_pC, if_pos h207, jo_mn, if_pos (Int32.not_le.mp h238)] at k
      exact k
set_option maxHeartbeats 4000000 in
set_option maxRecDepth 100000 in
/-- part(set, left, right) -/
theorem xM_part (l : Launch) (D : va_G) (a : Nat → Nat) (d : Nat → ClassId) (v : jo_V) (S L R : Nat) (hS : S < 32) (hL : L < 32) (hR : R < 32) (hR0 : 0 < R) : jo_Mv l yX0_part (ws_ yX0_part cX0_part 8 none) ({ frames := 1, cells := 0, slots := 0, locals := 24 } : Room) [.ref (a 3), .int (nI S), .int (nI L), .int (nI R)] D (xT d) (xW a d) v (fun u => u = jo_part v S L R) := by
  refine jo_Mv.of (by decide) (jo_cat rfl) (Nat.le_of_ble_eq_true rfl) (fun K F hQ => ?_)
  show jo_G K D (xT d) (xW a d) v 0 [some (.ref (a 3)), some (.int (nI S)), some (.int (nI L)), some (.int (nI R)), none, none, none, none] []
  refine xB_part_0 F hS hL hR ?_
  refine xB_part_126 F hS hL hR ?_
  refine xB_part_202 F hS hL hR hR0 ?_
  have e : jo_part v S L R = jo_pD (jo_pC (jo_pB (jo_pA v S L R) S L R) S L R) S L R := rfl
  generalize jo_pC (jo_pB (jo_pA v S L R) S L R) S L R = v1 at e ⊢
  refine jo_aload_n F 0 dX0_part_253 rfl rfl ?_
  refine jo_iload_n F 2 dX0_part_254 rfl rfl ?_
  refine xC_linkedWith F hL (Nat.le_of_ble_eq_true rfl) (Nat.le_of_ble_eq_true rfl) (Nat.le_of_ble_eq_true rfl) rfl dX0_part_255 ?_
  refine jo_istore F 7 dX0_part_258 (Nat.le_of_ble_eq_true rfl) ?_
  refine jo_iload F 7 dX0_part_260 rfl ?_
  refine jo_iload_n F 3 dX0_part_262 rfl rfl ?_
  refine jo_iand F dX0_part_263 ?_
  refine jo_top (nx_and _ _) ?_
  refine jo_if_eq F 274 dX0_part_264 (by decide) (fun h264 => ?_) (fun h264 => ?_)
  · have h264 := (jo_nI0 (Nat.lt_of_le_of_lt Nat.and_le_right (by omega))).mp h264
    exact jo_vret F hQ dX0_part_274 (by rw [e, jo_pD, if_pos h264])
  · refine jo_aload_n F 0 dX0_part_267 rfl rfl ?_
    refine jo_iload_n F 1 dX0_part_268 rfl rfl ?_
    refine jo_iload_n F 2 dX0_part_269 rfl rfl ?_
    refine jo_iload_n F 3 dX0_part_270 rfl rfl ?_
    refine xC_partLinked F hS hL hR (Nat.le_of_ble_eq_true rfl) (Nat.le_of_ble_eq_true rfl) (Nat.le_of_ble_eq_true rfl) rfl dX0_part_271 ?_
    exact jo_vret F hQ dX0_part_274 (by rw [e, jo_pD, if_neg (fun q => h264 (by rw [q]; rfl))])
theorem xC_part {K : jo_C} {D : va_G} {a : Nat → Nat} {d : Nat → ClassId} {v : jo_V} {pc : Nat} {L : List (Option Value)} {st : List Value} {cc : ByteArray} {nL : Nat} {fr lo : Nat} (F : jo_F K cc nL RX0 fr lo) {S Z R : Nat} (hS : S < 32) (hL : Z < 32) (hR : R < 32) (hR0 : 0 < R) (hfr : 1 + 1 ≤ fr) (hlo : 8 + (8 + 11) + 24 ≤ lo) (hcat : (st.map fun v => v.category).sum ≤ 8) (hlen : L.length = nL) (hdg : decode cc pc = .ok (.invokevirtual 75, 3)) (k : jo_G K D (xT d) (xW a d) (jo_part v S Z R) (pc + 3) L st) : jo_G K D (xT d) (xW a d) v pc L (.int (nI R) :: .int (nI Z) :: .int (nI S) :: .ref (a 3) :: st) :=
  jo_callv F (q0 := 3) (np := 3) (fun l => xM_part l D a d v S Z R hS hL hR hR0) rfl rfl (lw_V q144 q146 qs9 q28 q147) (by decide +kernel) rfl rfl rfl hfr hlo rfl hcat hlen hdg (fun u h => by subst h; exact k)
/-- several(set) -/
def jo_sev0 (v : jo_V) (S : Nat) : jo_V := jo_u (jo_u (jo_u (jo_u (jo_u (jo_u (jo_u (jo_u v 5 S jo_FAR) 6 S (nI 32)) 7 S (nI 0)) 8 S jo_FAR) 9 S jo_FAR) 10 S (nI 0)) 11 S (nI 0)) 12 S (nI 0)
def jo_sevL (S : Nat) : Nat → Nat → jo_V → jo_V
  | 0, _, v => v
  | n + 1, L, v => if L = 0 then v else jo_sevL S n ((L - 1) &&& S) (jo_part v S L (jo_dif S L))
def jo_sev (v : jo_V) (S : Nat) : jo_V := jo_sevL S 32 ((S - 1) &&& S) (jo_sev0 v S)
theorem jo_dif_pos : ∀ S, S < 32 → ∀ L, L < 32 → L < S → L &&& S = L → 0 < jo_dif S L := by decide +kernel
set_option maxHeartbeats 4000000 in
set_option maxRecDepth 100000 in
/-- several(set) -/
theorem xM_several (l : Launch) (D : va_G) (a : Nat → Nat) (d : Nat → ClassId) (v : jo_V) (S : Nat) (hS : S < 32) (hS0 : 0 < S) : jo_Mv l yX0_several (ws_ yX0_several cX0_several 3 none) ({ frames := 2, cells := 0, slots := 0, locals := 51 } : Room) [.ref (a 3), .int (nI S)] D (xT d) (xW a d) v (fun u => u = jo_sev v S) := by
  refine jo_Mv.of (by decide) (jo_cat rfl) (Nat.le_of_ble_eq_true rfl) (fun K F hQ => ?_)
  show jo_G K D (xT d) (xW a d) v 0 [some (.ref (a 3)), some (.int (nI S)), none] []
  have lp : ∀ (n L : Nat) (v1 : jo_V), L < n → L < S → L &&& S = L → jo_sevL S n L v1 = jo_sev v S → jo_G K D (xT d) (xW a d) v1 66 [some (.ref (a 3)), some (.int (nI S)), some (.int (nI L))] [] := by
    intro n
    induction n with
    | zero => intro L v1 h; exact absurd h (Nat.not_lt_zero _)
    | succ n ih =>
      intro L v1 h1 h2 h3 h4
      have hL : L < 32 := Nat.lt_trans h2 hS
      rcases Nat.eq_zero_or_pos L with z | z
      · subst z
        have h5 : v1 = jo_sev v S := h4
        refine jo_iload_n F 2 dX0_several_66 rfl rfl ?_
        refine jo_if_le_y F 90 dX0_several_67 (by decide) (by rw [nI_0]; exact Int32.le_refl _) ?_
        exact jo_vret F hQ dX0_several_90 h5
      · have h5 : jo_sevL S n ((L - 1) &&& S) (jo_part v1 S L (jo_dif S L)) = jo_sev v S := by rw [← h4, jo_sevL, if_neg (by omega)]
        have h6 : (L - 1) &&& S ≤ L - 1 := Nat.and_le_left
        refine jo_iload_n F 2 dX0_several_66 rfl rfl ?_
        refine jo_if_le_n F 90 dX0_several_67 (by decide) (nI_nle z (by omega)) ?_
        refine jo_aload_n F 0 dX0_several_70 rfl rfl ?_
        refine jo_iload_n F 1 dX0_several_71 rfl rfl ?_
        refine jo_iload_n F 2 dX0_several_72 rfl rfl ?_
        refine jo_iload_n F 1 dX0_several_73 rfl rfl ?_
        refine jo_iload_n F 2 dX0_several_74 rfl rfl ?_
        refine jo_iconst (x := (-1)) F dX0_several_75 (by decide) ?_
        refine jo_ixor F dX0_several_76 ?_
        refine jo_iand F dX0_several_77 ?_
        refine jo_top (jo_dif_k S hS L hL) ?_
        refine xC_part F hS hL (jo_dif_lt hS) (jo_dif_pos S hS L hL h2 h3) (Nat.le_of_ble_eq_true rfl) (Nat.le_of_ble_eq_true rfl) (Nat.le_of_ble_eq_true rfl) rfl dX0_several_78 ?_
        refine jo_iload_n F 2 dX0_several_81 rfl rfl ?_
        refine jo_iconst (x := (nI 1)) F dX0_several_82 (by decide) ?_
        refine jo_isub F dX0_several_83 ?_
        refine jo_top (jo_sub1 z) ?_
        refine jo_iload_n F 1 dX0_several_84 rfl rfl ?_
        refine jo_iand F dX0_several_85 ?_
        refine jo_top (nx_and _ _) ?_
        refine jo_istore_n F 2 dX0_several_86 rfl (Nat.le_of_ble_eq_true rfl) ?_
        refine jo_goto F 66 dX0_several_87 (by decide) ?_
        exact ih _ _ (by omega) (by omega) (by rw [Nat.and_assoc, Nat.and_self]) h5
  refine jo_aload_n F 0 dX0_several_0 rfl rfl ?_
  refine xg5 F dX0_several_1 ?_
  refine jo_iload_n F 1 dX0_several_4 rfl rfl ?_
  refine jo_ldc F q143 dX0_several_5 ?_
  refine xs5 F S rfl hS dX0_several_7 ?_
  refine jo_aload_n F 0 dX0_several_8 rfl rfl ?_
  refine xg6 F dX0_several_9 ?_
  refine jo_iload_n F 1 dX0_several_12 rfl rfl ?_
  refine jo_bipush (x := (nI 32)) F dX0_several_13 (by decide) ?_
  refine xs6 F S rfl hS dX0_several_15 ?_
  refine jo_aload_n F 0 dX0_several_16 rfl rfl ?_
  refine xg7 F dX0_several_17 ?_
  refine jo_iload_n F 1 dX0_several_20 rfl rfl ?_
  refine jo_iconst (x := (nI 0)) F dX0_several_21 (by decide) ?_
  refine xs7 F S rfl hS dX0_several_22 ?_
  refine jo_aload_n F 0 dX0_several_23 rfl rfl ?_
  refine xg8 F dX0_several_24 ?_
  refine jo_iload_n F 1 dX0_several_27 rfl rfl ?_
  refine jo_ldc F q143 dX0_several_28 ?_
  refine xs8 F S rfl hS dX0_several_30 ?_
  refine jo_aload_n F 0 dX0_several_31 rfl rfl ?_
  refine xg9 F dX0_several_32 ?_
  refine jo_iload_n F 1 dX0_several_35 rfl rfl ?_
  refine jo_ldc F q143 dX0_several_36 ?_
  refine xs9 F S rfl hS dX0_several_38 ?_
  refine jo_aload_n F 0 dX0_several_39 rfl rfl ?_
  refine xg10 F dX0_several_40 ?_
  refine jo_iload_n F 1 dX0_several_43 rfl rfl ?_
  refine jo_iconst (x := (nI 0)) F dX0_several_44 (by decide) ?_
  refine xs10 F S rfl hS dX0_several_45 ?_
  refine jo_aload_n F 0 dX0_several_46 rfl rfl ?_
  refine xg11 F dX0_several_47 ?_
  refine jo_iload_n F 1 dX0_several_50 rfl rfl ?_
  refine jo_iconst (x := (nI 0)) F dX0_several_51 (by decide) ?_
  refine xs11 F S rfl hS dX0_several_52 ?_
  refine jo_aload_n F 0 dX0_several_53 rfl rfl ?_
  refine xg12 F dX0_several_54 ?_
  refine jo_iload_n F 1 dX0_several_57 rfl rfl ?_
  refine jo_iconst (x := (nI 0)) F dX0_several_58 (by decide) ?_
  refine xs12 F S rfl hS dX0_several_59 ?_
  refine jo_iload_n F 1 dX0_several_60 rfl rfl ?_
  refine jo_iconst (x := (nI 1)) F dX0_several_61 (by decide) ?_
  refine jo_isub F dX0_several_62 ?_
  refine jo_top (jo_sub1 hS0) ?_
  refine jo_iload_n F 1 dX0_several_63 rfl rfl ?_
  refine jo_iand F dX0_several_64 ?_
  refine jo_top (nx_and _ _) ?_
  refine jo_istore_n F 2 dX0_several_65 rfl (Nat.le_of_ble_eq_true rfl) ?_
  have h6 : (S - 1) &&& S ≤ S - 1 := Nat.and_le_left
  exact lp 32 _ _ (by omega) (by omega) (by rw [Nat.and_assoc, Nat.and_self]) rfl
theorem xC_several {K : jo_C} {D : va_G} {a : Nat → Nat} {d : Nat → ClassId} {v : jo_V} {pc : Nat} {L : List (Option Value)} {st : List Value} {cc : ByteArray} {nL : Nat} {fr lo : Nat} (F : jo_F K cc nL RX0 fr lo) {S : Nat} (hS : S < 32) (hS0 : 0 < S) (hfr : 2 + 1 ≤ fr) (hlo : 8 + (3 + 11) + 51 ≤ lo) (hcat : (st.map fun v => v.category).sum ≤ 8) (hlen : L.length = nL) (hdg : decode cc pc = .ok (.invokevirtual 85, 3)) (k : jo_G K D (xT d) (xW a d) (jo_sev v S) (pc + 3) L st) : jo_G K D (xT d) (xW a d) v pc L (.int (nI S) :: .ref (a 3) :: st) :=
  jo_callv F (q0 := 3) (np := 1) (fun l => xM_several l D a d v S hS hS0) rfl rfl (lw_V q139 q141 qs8 q28 q142) (by decide +kernel) rfl rfl rfl hfr hlo rfl hcat hlen hdg (fun u h => by subst h; exact k)
/-- fill() -/
def jo_fi1 (v : jo_V) (S : Nat) : jo_V := if S &&& (S - 1) = 0 then jo_sin (jo_u v 4 S (jo_sz v S)) S else jo_sev (jo_u v 4 S (jo_sz v S)) S
def jo_fiL (v : jo_V) : Nat → jo_V
  | 0 => v
  | n + 1 => jo_fi1 (jo_fiL v n) (n + 1)
def jo_fill (v : jo_V) : jo_V := if v 3 0 = 0 then jo_u (jo_fiL v 31) 3 0 (jo_b true) else v
set_option maxHeartbeats 4000000 in
set_option maxRecDepth 100000 in
/-- fill() -/
theorem xM_fill (l : Launch) (D : va_G) (a : Nat → Nat) (d : Nat → ClassId) (v : jo_V)   : jo_Mv l yX0_fill (ws_ yX0_fill cX0_fill 2 none) ({ frames := 3, cells := 0, slots := 0, locals := 73 } : Room) [.ref (a 3)] D (xT d) (xW a d) v (fun u => u = jo_fill v) := by
  refine jo_Mv.of (by decide) (jo_cat rfl) (Nat.le_of_ble_eq_true rfl) (fun K F hQ => ?_)
  show jo_G K D (xT d) (xW a d) v 0 [some (.ref (a 3)), none] []
  have lp : v 3 0 = 0 → ∀ i, i ≤ 31 → jo_G K D (xT d) (xW a d) (jo_fiL v i) 10 [some (.ref (a 3)), some (.int (nI (i + 1)))] [] := by
    intro hz
    refine jo_up 31 (fun i hi ih => ?_) ?_
    · have e : jo_fiL v (i + 1) = jo_fi1 (jo_fiL v i) (i + 1) := rfl
      rw [e] at ih
      generalize jo_fiL v i = v1 at ih ⊢
      have hS : i + 1 < 32 := by omega
      refine jo_iload_n F 1 dX0_fill_10 rfl rfl ?_
      refine jo_bipush (x := (nI 32)) F dX0_fill_11 (by decide) ?_
      refine jo_icmp_ge_n F 54 dX0_fill_13 (by decide) (nI_ge hS (by decide)) ?_
      refine jo_aload_n F 0 dX0_fill_16 rfl rfl ?_
      refine xg4 F dX0_fill_17 ?_
      refine jo_iload_n F 1 dX0_fill_20 rfl rfl ?_
      refine jo_aload_n F 0 dX0_fill_21 rfl rfl ?_
      refine jo_iload_n F 1 dX0_fill_22 rfl rfl ?_
      refine xC_sizeOf F hS (Nat.le_of_ble_eq_true rfl) (Nat.le_of_ble_eq_true rfl) (Nat.le_of_ble_eq_true rfl) rfl dX0_fill_23 ?_
      refine xs4 F (i + 1) rfl hS dX0_fill_26 ?_
      refine jo_iload_n F 1 dX0_fill_27 rfl rfl ?_
      refine jo_iload_n F 1 dX0_fill_28 rfl rfl ?_
      refine jo_iconst (x := (nI 1)) F dX0_fill_29 (by decide) ?_
      refine jo_isub F dX0_fill_30 ?_
      refine jo_top (jo_sub1 (Nat.succ_pos _)) ?_
      refine jo_iand F dX0_fill_31 ?_
      refine jo_top (nx_and _ _) ?_
      refine jo_if_ne F 43 dX0_fill_32 (by decide) (fun h32 => ?_) (fun h32 => ?_)
      · refine jo_aload_n F 0 dX0_fill_43 rfl rfl ?_
        refine jo_iload_n F 1 dX0_fill_44 rfl rfl ?_
        refine xC_several F hS (Nat.succ_pos _) (Nat.le_of_ble_eq_true rfl) (Nat.le_of_ble_eq_true rfl) (Nat.le_of_ble_eq_true rfl) rfl dX0_fill_45 ?_
        refine jo_iinc F 1 dX0_fill_48 rfl (jo_inc _) ?_
        refine jo_goto F 10 dX0_fill_51 (by decide) ?_
        rw [jo_fi1, if_neg (fun q => h32 (by rw [q]; rfl))] at ih
        exact ih
      · have h32 := (jo_nI0 (Nat.lt_of_le_of_lt Nat.and_le_left (by omega))).mp h32
        refine jo_aload_n F 0 dX0_fill_35 rfl rfl ?_
        refine jo_iload_n F 1 dX0_fill_36 rfl rfl ?_
        refine xC_single F hS (Nat.le_of_ble_eq_true rfl) (Nat.le_of_ble_eq_true rfl) (Nat.le_of_ble_eq_true rfl) rfl dX0_fill_37 ?_
        refine jo_goto F 48 dX0_fill_40 (by decide) ?_
        refine jo_iinc F 1 dX0_fill_48 rfl (jo_inc _) ?_
        refine jo_goto F 10 dX0_fill_51 (by decide) ?_
        rw [jo_fi1, if_pos h32] at ih
        exact ih
    · refine jo_iload_n F 1 dX0_fill_10 rfl rfl ?_
      refine jo_bipush (x := (nI 32)) F dX0_fill_11 (by decide) ?_
      refine jo_icmp_ge_y F 54 dX0_fill_13 (by decide) (nI_le (Nat.le_refl _) (by decide)) ?_
      refine jo_aload_n F 0 dX0_fill_54 rfl rfl ?_
      refine jo_iconst (x := (nI 1)) F dX0_fill_55 (by decide) ?_
      refine xp3 F true rfl dX0_fill_56 ?_
      exact jo_vret F hQ dX0_fill_59 (by rw [jo_fill, if_pos hz])
  refine jo_aload_n F 0 dX0_fill_0 rfl rfl ?_
  refine xg3 F dX0_fill_1 ?_
  refine jo_if_eq F 8 dX0_fill_4 (by decide) (fun h4 => ?_) (fun h4 => ?_)
  · 
    refine jo_iconst (x := (nI 1)) F dX0_fill_8 (by decide) ?_
    refine jo_istore_n F 1 dX0_fill_9 rfl (Nat.le_of_ble_eq_true rfl) ?_
    exact lp h4 0 (Nat.zero_le _)
  · 
    exact jo_vret F hQ dX0_fill_7 (by rw [jo_fill, if_neg h4])
theorem xC_fill {K : jo_C} {D : va_G} {a : Nat → Nat} {d : Nat → ClassId} {v : jo_V} {pc : Nat} {L : List (Option Value)} {st : List Value} {cc : ByteArray} {nL : Nat} {fr lo : Nat} (F : jo_F K cc nL RX0 fr lo)   (hfr : 3 + 1 ≤ fr) (hlo : 8 + (2 + 11) + 73 ≤ lo) (hcat : (st.map fun v => v.category).sum ≤ 8) (hlen : L.length = nL) (hdg : decode cc pc = .ok (.invokevirtual 91, 3)) (k : jo_G K D (xT d) (xW a d) (jo_fill v) (pc + 3) L st) : jo_G K D (xT d) (xW a d) v pc L (.ref (a 3) :: st) :=
  jo_callv F (q0 := 3) (np := 0) (fun l => xM_fill l D a d v ) rfl rfl (lw_V q131 q133 qs6 q28 q134) (by decide +kernel) rfl rfl rfl hfr hlo rfl hcat hlen hdg (fun u h => by subst h; exact k)
end
section
set_option maxHeartbeats 4000000 in
set_option maxRecDepth 100000 in
/-- size(set) -/
theorem xM_size (l : Launch) (D : va_G) (a : Nat → Nat) (d : Nat → ClassId) (v : jo_V) (i : Int32)  : jo_Mi l yX0_size (ws_ yX0_size cX0_size 2 (some .int)) ({ frames := 1, cells := 0, slots := 0, locals := 24 } : Room) [.ref (a 3), .int i] D (xT d) (xW a d) v (fun r u => r = (if jo_badS i = true then -1 else jo_sz v i.toNatClampNeg) ∧ u = v) := by
  refine jo_Mi.of (by decide) (jo_cat rfl) (Nat.le_of_ble_eq_true rfl) (fun K F hQ => ?_)
  show jo_G K D (xT d) (xW a d) v 0 [some (.ref (a 3)), some (.int i)] []
  refine jo_aload_n F 0 dX0_size_0 rfl rfl ?_
  refine jo_iload_n F 1 dX0_size_1 rfl rfl ?_
  refine xC_badSet F (Nat.le_of_ble_eq_true rfl) (Nat.le_of_ble_eq_true rfl) (Nat.le_of_ble_eq_true rfl) rfl dX0_size_2 ?_
  refine jo_ifb_eq F 12 dX0_size_5 (by decide) (fun h5 => ?_) (fun h5 => ?_)
  · obtain ⟨S, hS0, hS, rfl⟩ := jo_okS h5
    have hg : ¬ jo_badS (nI S) = true := by rw [h5]; decide
    refine jo_aload_n F 0 dX0_size_12 rfl rfl ?_
    refine jo_iload_n F 1 dX0_size_13 rfl rfl ?_
    refine xC_sizeOf F hS (Nat.le_of_ble_eq_true rfl) (Nat.le_of_ble_eq_true rfl) (Nat.le_of_ble_eq_true rfl) rfl dX0_size_14 ?_
    exact jo_iret F hQ dX0_size_17 (by first | (rw [if_pos h5]; exact ⟨rfl, rfl⟩) | (rw [if_neg hg, nI_clamp (show S < 2 ^ 31 by omega)]; exact ⟨rfl, rfl⟩))
  · refine jo_iconst (x := (-1)) F dX0_size_8 (by decide) ?_
    refine jo_goto F 17 dX0_size_9 (by decide) ?_
    exact jo_iret F hQ dX0_size_17 (by first | (rw [if_pos h5]; exact ⟨rfl, rfl⟩) | (rw [if_neg hg, nI_clamp (show S < 2 ^ 31 by omega)]; exact ⟨rfl, rfl⟩))
/-- connected: the first table of a set, what is seen after n rounds -/
def jo_low (S : Nat) : Nat := S &&& (32 - S)
theorem jo_low_k : ∀ S, S < 32 → nI S &&& (-nI S) = nI (jo_low S) := by decide +kernel
def jo_seen (v : jo_V) (S : Nat) : Nat → Nat
  | 0 => jo_low S
  | n + 1 => jo_seen v S n ||| (jo_lw v (jo_seen v S n) &&& S)
theorem jo_seen_lt (v : jo_V) {S : Nat} (hS : S < 32) : ∀ n, jo_seen v S n < 32
  | 0 => Nat.lt_of_le_of_lt Nat.and_le_left hS
  | n + 1 => Nat.or_lt_two_pow (n := 5) (jo_seen_lt v hS n) (Nat.lt_of_le_of_lt Nat.and_le_right hS)
def jo_con (v : jo_V) (i : Int32) : Bool := !jo_badS i && decide (jo_seen v i.toNatClampNeg 5 = i.toNatClampNeg)
set_option maxHeartbeats 4000000 in
set_option maxRecDepth 100000 in
/-- connected(set) -/
theorem xM_connected (l : Launch) (D : va_G) (a : Nat → Nat) (d : Nat → ClassId) (v : jo_V) (i : Int32)  : jo_Mi l yX0_connected (ws_ yX0_connected cX0_connected 4 (some .boolean)) ({ frames := 1, cells := 0, slots := 0, locals := 24 } : Room) [.ref (a 3), .int i] D (xT d) (xW a d) v (fun r u => r = jo_b (jo_con v i) ∧ u = v) := by
  refine jo_Mi.of (by decide) (jo_cat rfl) (Nat.le_of_ble_eq_true rfl) (fun K F hQ => ?_)
  show jo_G K D (xT d) (xW a d) v 0 [some (.ref (a 3)), some (.int i), none, none] []
  refine jo_aload_n F 0 dX0_connected_0 rfl rfl ?_
  refine jo_iload_n F 1 dX0_connected_1 rfl rfl ?_
  refine xC_badSet F (Nat.le_of_ble_eq_true rfl) (Nat.le_of_ble_eq_true rfl) (Nat.le_of_ble_eq_true rfl) rfl dX0_connected_2 ?_
  refine jo_ifb_eq F 10 dX0_connected_5 (by decide) (fun h5 => ?_) (fun h5 => ?_)
  · obtain ⟨S, hS0, hS, rfl⟩ := jo_okS h5
    have hg : ¬ jo_badS (nI S) = true := by rw [h5]; decide
    refine jo_iload_n F 1 dX0_connected_10 rfl rfl ?_
    refine jo_iload_n F 1 dX0_connected_11 rfl rfl ?_
    refine jo_ineg F dX0_connected_12 ?_
    refine jo_iand F dX0_connected_13 ?_
    refine jo_top (jo_low_k S hS) ?_
    refine jo_istore_n F 2 dX0_connected_14 rfl (Nat.le_of_ble_eq_true rfl) ?_
    refine jo_iconst (x := (nI 0)) F dX0_connected_15 (by decide) ?_
    refine jo_istore_n F 3 dX0_connected_16 rfl (Nat.le_of_ble_eq_true rfl) ?_
    have lp : ∀ n, n ≤ 5 → jo_G K D (xT d) (xW a d) v 17 [some (.ref (a 3)), some (.int (nI S)), some (.int (nI (jo_seen v S n))), some (.int (nI n))] [] := by
      refine jo_up 5 (fun n hn ih => ?_) ?_
      · refine jo_iload_n F 3 dX0_connected_17 rfl rfl ?_
        refine jo_iconst (x := (nI 5)) F dX0_connected_18 (by decide) ?_
        refine jo_icmp_ge_n F 38 dX0_connected_19 (by decide) (nI_ge hn (by decide)) ?_
        refine jo_iload_n F 2 dX0_connected_22 rfl rfl ?_
        refine jo_aload_n F 0 dX0_connected_23 rfl rfl ?_
        refine jo_iload_n F 2 dX0_connected_24 rfl rfl ?_
        refine xC_linkedWith F (jo_seen_lt v hS n) (Nat.le_of_ble_eq_true rfl) (Nat.le_of_ble_eq_true rfl) (Nat.le_of_ble_eq_true rfl) rfl dX0_connected_25 ?_
        refine jo_iload_n F 1 dX0_connected_28 rfl rfl ?_
        refine jo_iand F dX0_connected_29 ?_
        refine jo_top (nx_and _ _) ?_
        refine jo_ior F dX0_connected_30 ?_
        refine jo_top (nx_or _ _) ?_
        refine jo_istore_n F 2 dX0_connected_31 rfl (Nat.le_of_ble_eq_true rfl) ?_
        refine jo_iinc F 3 dX0_connected_32 rfl (jo_inc _) ?_
        refine jo_goto F 17 dX0_connected_35 (by decide) ?_
        exact ih
      · refine jo_iload_n F 3 dX0_connected_17 rfl rfl ?_
        refine jo_iconst (x := (nI 5)) F dX0_connected_18 (by decide) ?_
        refine jo_icmp_ge_y F 38 dX0_connected_19 (by decide) (nI_le (Nat.le_refl _) (by decide)) ?_
        refine jo_iload_n F 2 dX0_connected_38 rfl rfl ?_
        refine jo_iload_n F 1 dX0_connected_39 rfl rfl ?_
        refine jo_icmp_ne F 47 dX0_connected_40 (by decide) (fun h40 => ?_) (fun h40 => ?_)
        · have h40 : ¬ jo_seen v S 5 = S := fun q => h40 (by rw [q])
          refine jo_iconst (x := (nI 0)) F dX0_connected_47 (by decide) ?_
          exact jo_zret F hQ (jo_con v (nI S)) (by unfold jo_con jo_b; rw [h5, nI_clamp (show S < 2 ^ 31 by omega)]; simp [h40]) dX0_connected_48 ⟨rfl, rfl⟩
        · have h40 : jo_seen v S 5 = S := (nI_eq (Nat.lt_trans (jo_seen_lt v hS 5) (by decide)) (by omega)).mp h40
          refine jo_iconst (x := (nI 1)) F dX0_connected_43 (by decide) ?_
          refine jo_goto F 48 dX0_connected_44 (by decide) ?_
          exact jo_zret F hQ (jo_con v (nI S)) (by unfold jo_con jo_b; rw [h5, nI_clamp (show S < 2 ^ 31 by omega)]; simp [h40]) dX0_connected_48 ⟨rfl, rfl⟩
    exact lp 0 (Nat.zero_le _)
  · refine jo_iconst (x := (nI 0)) F dX0_connected_8 (by decide) ?_
    exact jo_zret F hQ (jo_con v i) (by unfold jo_con jo_b; rw [h5]; rfl) dX0_connected_9 ⟨rfl, rfl⟩
set_option maxHeartbeats 4000000 in
set_option maxRecDepth 100000 in
/-- cost(set) -/
theorem xM_cost (l : Launch) (D : va_G) (a : Nat → Nat) (d : Nat → ClassId) (v : jo_V) (i : Int32)  : jo_Mi l yX0_cost (ws_ yX0_cost cX0_cost 2 (some .int)) ({ frames := 4, cells := 0, slots := 0, locals := 94 } : Room) [.ref (a 3), .int i] D (xT d) (xW a d) v (fun r u => r = (if jo_badS i = true then -1 else jo_fill v 5 i.toNatClampNeg) ∧ u = (if jo_badS i = true then v else jo_fill v)) := by
  refine jo_Mi.of (by decide) (jo_cat rfl) (Nat.le_of_ble_eq_true rfl) (fun K F hQ => ?_)
  show jo_G K D (xT d) (xW a d) v 0 [some (.ref (a 3)), some (.int i)] []
  refine jo_aload_n F 0 dX0_cost_0 rfl rfl ?_
  refine jo_iload_n F 1 dX0_cost_1 rfl rfl ?_
  refine xC_badSet F (Nat.le_of_ble_eq_true rfl) (Nat.le_of_ble_eq_true rfl) (Nat.le_of_ble_eq_true rfl) rfl dX0_cost_2 ?_
  refine jo_ifb_eq F 10 dX0_cost_5 (by decide) (fun h5 => ?_) (fun h5 => ?_)
  · obtain ⟨S, hS0, hS, rfl⟩ := jo_okS h5
    have hg : ¬ jo_badS (nI S) = true := by rw [h5]; decide
    refine jo_aload_n F 0 dX0_cost_10 rfl rfl ?_
    refine xC_fill F (Nat.le_of_ble_eq_true rfl) (Nat.le_of_ble_eq_true rfl) (Nat.le_of_ble_eq_true rfl) rfl dX0_cost_11 ?_
    refine jo_aload_n F 0 dX0_cost_14 rfl rfl ?_
    refine xg5 F dX0_cost_15 ?_
    refine jo_iload_n F 1 dX0_cost_18 rfl rfl ?_
    refine xl5 F S rfl hS dX0_cost_19 ?_
    exact jo_iret F hQ dX0_cost_20 (by rw [if_neg hg, if_neg hg, nI_clamp (show S < 2 ^ 31 by omega)]; exact ⟨rfl, rfl⟩)
  · refine jo_iconst (x := (-1)) F dX0_cost_8 (by decide) ?_
    exact jo_iret F hQ dX0_cost_9 (by rw [if_pos h5, if_pos h5]; exact ⟨rfl, rfl⟩)
set_option maxHeartbeats 4000000 in
set_option maxRecDepth 100000 in
/-- linearCost(set) -/
theorem xM_linearCost (l : Launch) (D : va_G) (a : Nat → Nat) (d : Nat → ClassId) (v : jo_V) (i : Int32)  : jo_Mi l yX0_linearCost (ws_ yX0_linearCost cX0_linearCost 2 (some .int)) ({ frames := 4, cells := 0, slots := 0, locals := 94 } : Room) [.ref (a 3), .int i] D (xT d) (xW a d) v (fun r u => r = (if jo_badS i = true then -1 else jo_fill v 8 i.toNatClampNeg) ∧ u = (if jo_badS i = true then v else jo_fill v)) := by
  refine jo_Mi.of (by decide) (jo_cat rfl) (Nat.le_of_ble_eq_true rfl) (fun K F hQ => ?_)
  show jo_G K D (xT d) (xW a d) v 0 [some (.ref (a 3)), some (.int i)] []
  refine jo_aload_n F 0 dX0_linearCost_0 rfl rfl ?_
  refine jo_iload_n F 1 dX0_linearCost_1 rfl rfl ?_
  refine xC_badSet F (Nat.le_of_ble_eq_true rfl) (Nat.le_of_ble_eq_true rfl) (Nat.le_of_ble_eq_true rfl) rfl dX0_linearCost_2 ?_
  refine jo_ifb_eq F 10 dX0_linearCost_5 (by decide) (fun h5 => ?_) (fun h5 => ?_)
  · obtain ⟨S, hS0, hS, rfl⟩ := jo_okS h5
    have hg : ¬ jo_badS (nI S) = true := by rw [h5]; decide
    refine jo_aload_n F 0 dX0_linearCost_10 rfl rfl ?_
    refine xC_fill F (Nat.le_of_ble_eq_true rfl) (Nat.le_of_ble_eq_true rfl) (Nat.le_of_ble_eq_true rfl) rfl dX0_linearCost_11 ?_
    refine jo_aload_n F 0 dX0_linearCost_14 rfl rfl ?_
    refine xg8 F dX0_linearCost_15 ?_
    refine jo_iload_n F 1 dX0_linearCost_18 rfl rfl ?_
    refine xl8 F S rfl hS dX0_linearCost_19 ?_
    exact jo_iret F hQ dX0_linearCost_20 (by rw [if_neg hg, if_neg hg, nI_clamp (show S < 2 ^ 31 by omega)]; exact ⟨rfl, rfl⟩)
  · refine jo_iconst (x := (-1)) F dX0_linearCost_8 (by decide) ?_
    exact jo_iret F hQ dX0_linearCost_9 (by rw [if_pos h5, if_pos h5]; exact ⟨rfl, rfl⟩)
set_option maxHeartbeats 4000000 in
set_option maxRecDepth 100000 in
/-- worst(set) -/
theorem xM_worst (l : Launch) (D : va_G) (a : Nat → Nat) (d : Nat → ClassId) (v : jo_V) (i : Int32)  : jo_Mi l yX0_worst (ws_ yX0_worst cX0_worst 2 (some .int)) ({ frames := 4, cells := 0, slots := 0, locals := 94 } : Room) [.ref (a 3), .int i] D (xT d) (xW a d) v (fun r u => r = (if jo_badS i = true then -1 else jo_fill v 10 i.toNatClampNeg) ∧ u = (if jo_badS i = true then v else jo_fill v)) := by
  refine jo_Mi.of (by decide) (jo_cat rfl) (Nat.le_of_ble_eq_true rfl) (fun K F hQ => ?_)
  show jo_G K D (xT d) (xW a d) v 0 [some (.ref (a 3)), some (.int i)] []
  refine jo_aload_n F 0 dX0_worst_0 rfl rfl ?_
  refine jo_iload_n F 1 dX0_worst_1 rfl rfl ?_
  refine xC_badSet F (Nat.le_of_ble_eq_true rfl) (Nat.le_of_ble_eq_true rfl) (Nat.le_of_ble_eq_true rfl) rfl dX0_worst_2 ?_
  refine jo_ifb_eq F 10 dX0_worst_5 (by decide) (fun h5 => ?_) (fun h5 => ?_)
  · obtain ⟨S, hS0, hS, rfl⟩ := jo_okS h5
    have hg : ¬ jo_badS (nI S) = true := by rw [h5]; decide
    refine jo_aload_n F 0 dX0_worst_10 rfl rfl ?_
    refine xC_fill F (Nat.le_of_ble_eq_true rfl) (Nat.le_of_ble_eq_true rfl) (Nat.le_of_ble_eq_true rfl) rfl dX0_worst_11 ?_
    refine jo_aload_n F 0 dX0_worst_14 rfl rfl ?_
    refine xg10 F dX0_worst_15 ?_
    refine jo_iload_n F 1 dX0_worst_18 rfl rfl ?_
    refine xl10 F S rfl hS dX0_worst_19 ?_
    exact jo_iret F hQ dX0_worst_20 (by rw [if_neg hg, if_neg hg, nI_clamp (show S < 2 ^ 31 by omega)]; exact ⟨rfl, rfl⟩)
  · refine jo_iconst (x := (-1)) F dX0_worst_8 (by decide) ?_
    exact jo_iret F hQ dX0_worst_9 (by rw [if_pos h5, if_pos h5]; exact ⟨rfl, rfl⟩)
set_option maxHeartbeats 4000000 in
set_option maxRecDepth 100000 in
/-- left(set) -/
theorem xM_left (l : Launch) (D : va_G) (a : Nat → Nat) (d : Nat → ClassId) (v : jo_V) (i : Int32)  : jo_Mi l yX0_left (ws_ yX0_left cX0_left 2 (some .int)) ({ frames := 4, cells := 0, slots := 0, locals := 94 } : Room) [.ref (a 3), .int i] D (xT d) (xW a d) v (fun r u => r = (if jo_badS i = true then -1 else jo_fill v 6 i.toNatClampNeg) ∧ u = (if jo_badS i = true then v else jo_fill v)) := by
  refine jo_Mi.of (by decide) (jo_cat rfl) (Nat.le_of_ble_eq_true rfl) (fun K F hQ => ?_)
  show jo_G K D (xT d) (xW a d) v 0 [some (.ref (a 3)), some (.int i)] []
  refine jo_aload_n F 0 dX0_left_0 rfl rfl ?_
  refine jo_iload_n F 1 dX0_left_1 rfl rfl ?_
  refine xC_badSet F (Nat.le_of_ble_eq_true rfl) (Nat.le_of_ble_eq_true rfl) (Nat.le_of_ble_eq_true rfl) rfl dX0_left_2 ?_
  refine jo_ifb_eq F 10 dX0_left_5 (by decide) (fun h5 => ?_) (fun h5 => ?_)
  · obtain ⟨S, hS0, hS, rfl⟩ := jo_okS h5
    have hg : ¬ jo_badS (nI S) = true := by rw [h5]; decide
    refine jo_aload_n F 0 dX0_left_10 rfl rfl ?_
    refine xC_fill F (Nat.le_of_ble_eq_true rfl) (Nat.le_of_ble_eq_true rfl) (Nat.le_of_ble_eq_true rfl) rfl dX0_left_11 ?_
    refine jo_aload_n F 0 dX0_left_14 rfl rfl ?_
    refine xg6 F dX0_left_15 ?_
    refine jo_iload_n F 1 dX0_left_18 rfl rfl ?_
    refine xl6 F S rfl hS dX0_left_19 ?_
    exact jo_iret F hQ dX0_left_20 (by rw [if_neg hg, if_neg hg, nI_clamp (show S < 2 ^ 31 by omega)]; exact ⟨rfl, rfl⟩)
  · refine jo_iconst (x := (-1)) F dX0_left_8 (by decide) ?_
    exact jo_iret F hQ dX0_left_9 (by rw [if_pos h5, if_pos h5]; exact ⟨rfl, rfl⟩)
set_option maxHeartbeats 4000000 in
set_option maxRecDepth 100000 in
/-- plans(set) -/
theorem xM_plans (l : Launch) (D : va_G) (a : Nat → Nat) (d : Nat → ClassId) (v : jo_V) (i : Int32)  : jo_Mi l yX0_plans (ws_ yX0_plans cX0_plans 2 (some .int)) ({ frames := 4, cells := 0, slots := 0, locals := 94 } : Room) [.ref (a 3), .int i] D (xT d) (xW a d) v (fun r u => r = (if jo_badS i = true then -1 else jo_fill v 11 i.toNatClampNeg) ∧ u = (if jo_badS i = true then v else jo_fill v)) := by
  refine jo_Mi.of (by decide) (jo_cat rfl) (Nat.le_of_ble_eq_true rfl) (fun K F hQ => ?_)
  show jo_G K D (xT d) (xW a d) v 0 [some (.ref (a 3)), some (.int i)] []
  refine jo_aload_n F 0 dX0_plans_0 rfl rfl ?_
  refine jo_iload_n F 1 dX0_plans_1 rfl rfl ?_
  refine xC_badSet F (Nat.le_of_ble_eq_true rfl) (Nat.le_of_ble_eq_true rfl) (Nat.le_of_ble_eq_true rfl) rfl dX0_plans_2 ?_
  refine jo_ifb_eq F 10 dX0_plans_5 (by decide) (fun h5 => ?_) (fun h5 => ?_)
  · obtain ⟨S, hS0, hS, rfl⟩ := jo_okS h5
    have hg : ¬ jo_badS (nI S) = true := by rw [h5]; decide
    refine jo_aload_n F 0 dX0_plans_10 rfl rfl ?_
    refine xC_fill F (Nat.le_of_ble_eq_true rfl) (Nat.le_of_ble_eq_true rfl) (Nat.le_of_ble_eq_true rfl) rfl dX0_plans_11 ?_
    refine jo_aload_n F 0 dX0_plans_14 rfl rfl ?_
    refine xg11 F dX0_plans_15 ?_
    refine jo_iload_n F 1 dX0_plans_18 rfl rfl ?_
    refine xl11 F S rfl hS dX0_plans_19 ?_
    exact jo_iret F hQ dX0_plans_20 (by rw [if_neg hg, if_neg hg, nI_clamp (show S < 2 ^ 31 by omega)]; exact ⟨rfl, rfl⟩)
  · refine jo_iconst (x := (-1)) F dX0_plans_8 (by decide) ?_
    exact jo_iret F hQ dX0_plans_9 (by rw [if_pos h5, if_pos h5]; exact ⟨rfl, rfl⟩)
set_option maxHeartbeats 4000000 in
set_option maxRecDepth 100000 in
/-- linkedPlans(set) -/
theorem xM_linkedPlans (l : Launch) (D : va_G) (a : Nat → Nat) (d : Nat → ClassId) (v : jo_V) (i : Int32)  : jo_Mi l yX0_linkedPlans (ws_ yX0_linkedPlans cX0_linkedPlans 2 (some .int)) ({ frames := 4, cells := 0, slots := 0, locals := 94 } : Room) [.ref (a 3), .int i] D (xT d) (xW a d) v (fun r u => r = (if jo_badS i = true then -1 else jo_fill v 12 i.toNatClampNeg) ∧ u = (if jo_badS i = true then v else jo_fill v)) := by
  refine jo_Mi.of (by decide) (jo_cat rfl) (Nat.le_of_ble_eq_true rfl) (fun K F hQ => ?_)
  show jo_G K D (xT d) (xW a d) v 0 [some (.ref (a 3)), some (.int i)] []
  refine jo_aload_n F 0 dX0_linkedPlans_0 rfl rfl ?_
  refine jo_iload_n F 1 dX0_linkedPlans_1 rfl rfl ?_
  refine xC_badSet F (Nat.le_of_ble_eq_true rfl) (Nat.le_of_ble_eq_true rfl) (Nat.le_of_ble_eq_true rfl) rfl dX0_linkedPlans_2 ?_
  refine jo_ifb_eq F 10 dX0_linkedPlans_5 (by decide) (fun h5 => ?_) (fun h5 => ?_)
  · obtain ⟨S, hS0, hS, rfl⟩ := jo_okS h5
    have hg : ¬ jo_badS (nI S) = true := by rw [h5]; decide
    refine jo_aload_n F 0 dX0_linkedPlans_10 rfl rfl ?_
    refine xC_fill F (Nat.le_of_ble_eq_true rfl) (Nat.le_of_ble_eq_true rfl) (Nat.le_of_ble_eq_true rfl) rfl dX0_linkedPlans_11 ?_
    refine jo_aload_n F 0 dX0_linkedPlans_14 rfl rfl ?_
    refine xg12 F dX0_linkedPlans_15 ?_
    refine jo_iload_n F 1 dX0_linkedPlans_18 rfl rfl ?_
    refine xl12 F S rfl hS dX0_linkedPlans_19 ?_
    exact jo_iret F hQ dX0_linkedPlans_20 (by rw [if_neg hg, if_neg hg, nI_clamp (show S < 2 ^ 31 by omega)]; exact ⟨rfl, rfl⟩)
  · refine jo_iconst (x := (-1)) F dX0_linkedPlans_8 (by decide) ?_
    exact jo_iret F hQ dX0_linkedPlans_9 (by rw [if_pos h5, if_pos h5]; exact ⟨rfl, rfl⟩)
set_option maxHeartbeats 4000000 in
set_option maxRecDepth 100000 in
/-- cheapest(set) -/
theorem xM_cheapest (l : Launch) (D : va_G) (a : Nat → Nat) (d : Nat → ClassId) (v : jo_V) (i : Int32)  : jo_Mi l yX0_cheapest (ws_ yX0_cheapest cX0_cheapest 2 (some .int)) ({ frames := 4, cells := 0, slots := 0, locals := 94 } : Room) [.ref (a 3), .int i] D (xT d) (xW a d) v (fun r u => r = (if jo_badS i = true then -1 else jo_fill v 7 i.toNatClampNeg) ∧ u = (if jo_badS i = true then v else jo_fill v)) := by
  refine jo_Mi.of (by decide) (jo_cat rfl) (Nat.le_of_ble_eq_true rfl) (fun K F hQ => ?_)
  show jo_G K D (xT d) (xW a d) v 0 [some (.ref (a 3)), some (.int i)] []
  refine jo_aload_n F 0 dX0_cheapest_0 rfl rfl ?_
  refine jo_iload_n F 1 dX0_cheapest_1 rfl rfl ?_
  refine xC_badSet F (Nat.le_of_ble_eq_true rfl) (Nat.le_of_ble_eq_true rfl) (Nat.le_of_ble_eq_true rfl) rfl dX0_cheapest_2 ?_
  refine jo_ifb_eq F 10 dX0_cheapest_5 (by decide) (fun h5 => ?_) (fun h5 => ?_)
  · obtain ⟨S, hS0, hS, rfl⟩ := jo_okS h5
    have hg : ¬ jo_badS (nI S) = true := by rw [h5]; decide
    refine jo_aload_n F 0 dX0_cheapest_10 rfl rfl ?_
    refine xC_fill F (Nat.le_of_ble_eq_true rfl) (Nat.le_of_ble_eq_true rfl) (Nat.le_of_ble_eq_true rfl) rfl dX0_cheapest_11 ?_
    refine jo_aload_n F 0 dX0_cheapest_14 rfl rfl ?_
    refine xg7 F dX0_cheapest_15 ?_
    refine jo_iload_n F 1 dX0_cheapest_18 rfl rfl ?_
    refine xl7 F S rfl hS dX0_cheapest_19 ?_
    exact jo_iret F hQ dX0_cheapest_20 (by rw [if_neg hg, if_neg hg, nI_clamp (show S < 2 ^ 31 by omega)]; exact ⟨rfl, rfl⟩)
  · refine jo_iconst (x := (-1)) F dX0_cheapest_8 (by decide) ?_
    exact jo_iret F hQ dX0_cheapest_9 (by rw [if_pos h5, if_pos h5]; exact ⟨rfl, rfl⟩)
set_option maxHeartbeats 4000000 in
set_option maxRecDepth 100000 in
/-- linkedCost(set) -/
theorem xM_linkedCost (l : Launch) (D : va_G) (a : Nat → Nat) (d : Nat → ClassId) (v : jo_V) (i : Int32)  : jo_Mi l yX0_linkedCost (ws_ yX0_linkedCost cX0_linkedCost 2 (some .int)) ({ frames := 4, cells := 0, slots := 0, locals := 94 } : Room) [.ref (a 3), .int i] D (xT d) (xW a d) v (fun r u => r = (if jo_badS i = true then -1 else if jo_fill v 9 i.toNatClampNeg = jo_FAR then -4 else jo_fill v 9 i.toNatClampNeg) ∧ u = (if jo_badS i = true then v else jo_fill v)) := by
  refine jo_Mi.of (by decide) (jo_cat rfl) (Nat.le_of_ble_eq_true rfl) (fun K F hQ => ?_)
  show jo_G K D (xT d) (xW a d) v 0 [some (.ref (a 3)), some (.int i)] []
  refine jo_aload_n F 0 dX0_linkedCost_0 rfl rfl ?_
  refine jo_iload_n F 1 dX0_linkedCost_1 rfl rfl ?_
  refine xC_badSet F (Nat.le_of_ble_eq_true rfl) (Nat.le_of_ble_eq_true rfl) (Nat.le_of_ble_eq_true rfl) rfl dX0_linkedCost_2 ?_
  refine jo_ifb_eq F 10 dX0_linkedCost_5 (by decide) (fun h5 => ?_) (fun h5 => ?_)
  · obtain ⟨S, hS0, hS, rfl⟩ := jo_okS h5
    have hg : ¬ jo_badS (nI S) = true := by rw [h5]; decide
    refine jo_aload_n F 0 dX0_linkedCost_10 rfl rfl ?_
    refine xC_fill F (Nat.le_of_ble_eq_true rfl) (Nat.le_of_ble_eq_true rfl) (Nat.le_of_ble_eq_true rfl) rfl dX0_linkedCost_11 ?_
    refine jo_aload_n F 0 dX0_linkedCost_14 rfl rfl ?_
    refine xg9 F dX0_linkedCost_15 ?_
    refine jo_iload_n F 1 dX0_linkedCost_18 rfl rfl ?_
    refine xl9 F S rfl hS dX0_linkedCost_19 ?_
    refine jo_ldc F q143 dX0_linkedCost_20 ?_
    refine jo_icmp_ne F 30 dX0_linkedCost_22 (by decide) (fun h22 => ?_) (fun h22 => ?_)
    · refine jo_aload_n F 0 dX0_linkedCost_30 rfl rfl ?_
      refine xg9 F dX0_linkedCost_31 ?_
      refine jo_iload_n F 1 dX0_linkedCost_34 rfl rfl ?_
      refine xl9 F S rfl hS dX0_linkedCost_35 ?_
      exact jo_iret F hQ dX0_linkedCost_36 (by rw [if_neg hg, if_neg hg, nI_clamp (show S < 2 ^ 31 by omega)]; first | (rw [if_pos (show jo_fill v 9 S = jo_FAR from h22)]; exact ⟨rfl, rfl⟩) | (rw [if_neg (show ¬ jo_fill v 9 S = jo_FAR from h22)]; exact ⟨rfl, rfl⟩))
    · refine jo_bipush (x := (-4)) F dX0_linkedCost_25 (by decide) ?_
      refine jo_goto F 36 dX0_linkedCost_27 (by decide) ?_
      exact jo_iret F hQ dX0_linkedCost_36 (by rw [if_neg hg, if_neg hg, nI_clamp (show S < 2 ^ 31 by omega)]; first | (rw [if_pos (show jo_fill v 9 S = jo_FAR from h22)]; exact ⟨rfl, rfl⟩) | (rw [if_neg (show ¬ jo_fill v 9 S = jo_FAR from h22)]; exact ⟨rfl, rfl⟩))
  · refine jo_iconst (x := (-1)) F dX0_linkedCost_8 (by decide) ?_
    exact jo_iret F hQ dX0_linkedCost_9 (by rw [if_pos h5, if_pos h5]; exact ⟨rfl, rfl⟩)
/-- fillAhead(whole) -/
def jo_ahI (v : jo_V) (U S : Nat) : Nat → jo_V
  | 0 => v
  | i + 1 => if U.testBit i = true ∧ ¬ S ||| 2 ^ i = S ∧ jo_ahI v U S i 13 (S ||| 2 ^ i) + jo_ahI v U S i 4 (S ||| 2 ^ i) < jo_ahI v U S i 13 S then jo_u (jo_ahI v U S i) 13 S (jo_ahI v U S i 13 (S ||| 2 ^ i) + jo_ahI v U S i 4 (S ||| 2 ^ i)) else jo_ahI v U S i
def jo_ahL (U : Nat) : Nat → Nat → jo_V → jo_V
  | 0, _, v => v
  | n + 1, S, v => if S = 0 then v else jo_ahL U n ((S - 1) &&& U) (jo_ahI (jo_u v 13 S (if S = U then nI 0 else jo_FAR)) U S 5)
def jo_ah (v : jo_V) (U : Nat) : jo_V := jo_ahL U 32 U v
theorem jo_or_lt {S i : Nat} (hS : S < 32) (hi : i < 5) : S ||| 2 ^ i < 32 := Nat.or_lt_two_pow (n := 5) hS (Nat.pow_lt_pow_right (by omega) hi)
set_option maxHeartbeats 4000000 in
set_option maxRecDepth 100000 in
/-- fillAhead(whole) -/
theorem xM_fillAhead (l : Launch) (D : va_G) (a : Nat → Nat) (d : Nat → ClassId) (v : jo_V) (U : Nat) (hU : U < 32) : jo_Mv l yX0_fillAhead (ws_ yX0_fillAhead cX0_fillAhead 5 none) ({ frames := 0, cells := 0, slots := 0, locals := 0 } : Room) [.ref (a 3), .int (nI U)] D (xT d) (xW a d) v (fun u => u = jo_ah v U) := by
  refine jo_Mv.of (by decide) (jo_cat rfl) (Nat.le_of_ble_eq_true rfl) (fun K F hQ => ?_)
  show jo_G K D (xT d) (xW a d) v 0 [some (.ref (a 3)), some (.int (nI U)), none, none, none] []
  have lp : ∀ (n S : Nat) (v1 : jo_V), S < n → S < 32 → jo_ahL U n S v1 = jo_ah v U → jo_G K D (xT d) (xW a d) v1 2 [some (.ref (a 3)), some (.int (nI U)), some (.int (nI S)), none, none] [] := by
    intro n
    induction n with
    | zero => intro S v1 h; exact absurd h (Nat.not_lt_zero _)
    | succ n ih =>
      intro S v1 h1 hS h4
      rcases Nat.eq_zero_or_pos S with z | z
      · subst z
        have h5 : v1 = jo_ah v U := h4
        refine jo_iload_n F 2 dX0_fillAhead_2 rfl rfl ?_
        refine jo_if_le_y F 112 dX0_fillAhead_3 (by decide) (by rw [nI_0]; exact Int32.le_refl _) ?_
        exact jo_vret F hQ dX0_fillAhead_112 h5
      · have h5 : jo_ahL U n ((S - 1) &&& U) (jo_ahI (jo_u v1 13 S (if S = U then nI 0 else jo_FAR)) U S 5) = jo_ah v U := by rw [← h4, jo_ahL, if_neg (show ¬ S = 0 by omega)]
        have h6 : (S - 1) &&& U ≤ S - 1 := Nat.and_le_left
        have inner : ∀ v2, jo_ahL U n ((S - 1) &&& U) (jo_ahI v2 U S 5) = jo_ah v U → jo_G K D (xT d) (xW a d) v2 25 [some (.ref (a 3)), some (.int (nI U)), some (.int (nI S)), some (.int (nI 0)), none] [] := by
          intro v2 hv2
          have inn : ∀ i, i ≤ 5 → jo_G K D (xT d) (xW a d) (jo_ahI v2 U S i) 25 [some (.ref (a 3)), some (.int (nI U)), some (.int (nI S)), some (.int (nI i)), none] [] := by
            refine jo_up 5 (fun i hi ih2 => ?_) ?_
            · have hm : S ||| 2 ^ i < 32 := jo_or_lt hS hi
              have e : jo_ahI v2 U S (i + 1) = if U.testBit i = true ∧ ¬ S ||| 2 ^ i = S ∧ jo_ahI v2 U S i 13 (S ||| 2 ^ i) + jo_ahI v2 U S i 4 (S ||| 2 ^ i) < jo_ahI v2 U S i 13 S then jo_u (jo_ahI v2 U S i) 13 S (jo_ahI v2 U S i 13 (S ||| 2 ^ i) + jo_ahI v2 U S i 4 (S ||| 2 ^ i)) else jo_ahI v2 U S i := rfl
              rw [e] at ih2
              generalize jo_ahI v2 U S i = v3 at ih2 ⊢
              refine jo_iload_n F 3 dX0_fillAhead_25 rfl rfl ?_
              refine jo_iconst (x := (nI 5)) F dX0_fillAhead_26 (by decide) ?_
              refine jo_icmp_ge_n F 103 dX0_fillAhead_27 (by decide) (nI_ge hi (by decide)) ?_
              refine jo_iload_n F 2 dX0_fillAhead_30 rfl rfl ?_
              refine jo_iconst (x := (nI 1)) F dX0_fillAhead_31 (by decide) ?_
              refine jo_iload_n F 3 dX0_fillAhead_32 rfl rfl ?_
              refine jo_ishl F dX0_fillAhead_33 ?_
              refine jo_top (jo_pow (by omega)) ?_
              refine jo_ior F dX0_fillAhead_34 ?_
              refine jo_top (nx_or _ _) ?_
              refine jo_istore F 4 dX0_fillAhead_35 (Nat.le_of_ble_eq_true rfl) ?_
              refine jo_iload_n F 1 dX0_fillAhead_37 rfl rfl ?_
              refine jo_iload_n F 3 dX0_fillAhead_38 rfl rfl ?_
              refine jo_ishr F dX0_fillAhead_39 ?_
              refine jo_iconst (x := (nI 1)) F dX0_fillAhead_40 (by decide) ?_
              refine jo_iand F dX0_fillAhead_41 ?_
              refine jo_top (jo_bit (by omega) (by omega)) ?_
              refine jo_iconst (x := (nI 1)) F dX0_fillAhead_42 (by decide) ?_
              refine jo_icmpb_ne F 97 dX0_fillAhead_43 (by decide) (fun h43 => ?_) (fun h43 => ?_)
              · refine jo_iinc F 3 dX0_fillAhead_97 rfl (jo_inc _) ?_
                refine jo_goto F 25 dX0_fillAhead_100 (by decide) ?_
                refine jo_forget 4 ?_
                rw [if_neg (by rw [h43]; rintro ⟨q, -⟩; cases q)] at ih2
                exact ih2
              · 
                refine jo_iload F 4 dX0_fillAhead_46 rfl ?_
                refine jo_iload_n F 2 dX0_fillAhead_48 rfl rfl ?_
                refine jo_icmp_eq F 97 dX0_fillAhead_49 (by decide) (fun h49 => ?_) (fun h49 => ?_)
                · have h49 := (nI_eq (by omega) (by omega)).mp h49
                  refine jo_iinc F 3 dX0_fillAhead_97 rfl (jo_inc _) ?_
                  refine jo_goto F 25 dX0_fillAhead_100 (by decide) ?_
                  refine jo_forget 4 ?_
                  rw [if_neg (fun q => q.2.1 h49)] at ih2
                  exact ih2
                · have h49 : ¬ S ||| 2 ^ i = S := fun q => h49 (by rw [q])
                  refine jo_aload_n F 0 dX0_fillAhead_52 rfl rfl ?_
                  refine xg13 F dX0_fillAhead_53 ?_
                  refine jo_iload F 4 dX0_fillAhead_56 rfl ?_
                  refine xl13 F (S ||| 2 ^ i) rfl hm dX0_fillAhead_58 ?_
                  refine jo_aload_n F 0 dX0_fillAhead_59 rfl rfl ?_
                  refine xg4 F dX0_fillAhead_60 ?_
                  refine jo_iload F 4 dX0_fillAhead_63 rfl ?_
                  refine xl4 F (S ||| 2 ^ i) rfl hm dX0_fillAhead_65 ?_
                  refine jo_iadd F dX0_fillAhead_66 ?_
                  refine jo_aload_n F 0 dX0_fillAhead_67 rfl rfl ?_
                  refine xg13 F dX0_fillAhead_68 ?_
                  refine jo_iload_n F 2 dX0_fillAhead_71 rfl rfl ?_
                  refine xl13 F S rfl hS dX0_fillAhead_72 ?_
                  refine jo_icmp_ge F 97 dX0_fillAhead_73 (by decide) (fun h73 => ?_) (fun h73 => ?_)
                  · refine jo_iinc F 3 dX0_fillAhead_97 rfl (jo_inc _) ?_
                    refine jo_goto F 25 dX0_fillAhead_100 (by decide) ?_
                    refine jo_forget 4 ?_
                    rw [if_neg (fun q => absurd q.2.2 (Int32.not_lt.mpr h73))] at ih2
                    exact ih2
                  · refine jo_aload_n F 0 dX0_fillAhead_76 rfl rfl ?_
                    refine xg13 F dX0_fillAhead_77 ?_
                    refine jo_iload_n F 2 dX0_fillAhead_80 rfl rfl ?_
                    refine jo_aload_n F 0 dX0_fillAhead_81 rfl rfl ?_
                    refine xg13 F dX0_fillAhead_82 ?_
                    refine jo_iload F 4 dX0_fillAhead_85 rfl ?_
                    refine xl13 F (S ||| 2 ^ i) rfl hm dX0_fillAhead_87 ?_
                    refine jo_aload_n F 0 dX0_fillAhead_88 rfl rfl ?_
                    refine xg4 F dX0_fillAhead_89 ?_
                    refine jo_iload F 4 dX0_fillAhead_92 rfl ?_
                    refine xl4 F (S ||| 2 ^ i) rfl hm dX0_fillAhead_94 ?_
                    refine jo_iadd F dX0_fillAhead_95 ?_
                    refine xs13 F S rfl hS dX0_fillAhead_96 ?_
                    refine jo_iinc F 3 dX0_fillAhead_97 rfl (jo_inc _) ?_
                    refine jo_goto F 25 dX0_fillAhead_100 (by decide) ?_
                    refine jo_forget 4 ?_
                    rw [if_pos ⟨h43, h49, Int32.not_le.mp h73⟩] at ih2
                    exact ih2
            · refine jo_iload_n F 3 dX0_fillAhead_25 rfl rfl ?_
              refine jo_iconst (x := (nI 5)) F dX0_fillAhead_26 (by decide) ?_
              refine jo_icmp_ge_y F 103 dX0_fillAhead_27 (by decide) (nI_le (Nat.le_refl _) (by decide)) ?_
              refine jo_iload_n F 2 dX0_fillAhead_103 rfl rfl ?_
              refine jo_iconst (x := (nI 1)) F dX0_fillAhead_104 (by decide) ?_
              refine jo_isub F dX0_fillAhead_105 ?_
              refine jo_top (jo_sub1 z) ?_
              refine jo_iload_n F 1 dX0_fillAhead_106 rfl rfl ?_
              refine jo_iand F dX0_fillAhead_107 ?_
              refine jo_top (nx_and _ _) ?_
              refine jo_istore_n F 2 dX0_fillAhead_108 rfl (Nat.le_of_ble_eq_true rfl) ?_
              refine jo_goto F 2 dX0_fillAhead_109 (by decide) ?_
              refine jo_forget 3 ?_
              exact ih _ _ (by omega) (by omega) hv2
          exact inn 0 (Nat.zero_le _)
        refine jo_iload_n F 2 dX0_fillAhead_2 rfl rfl ?_
        refine jo_if_le_n F 112 dX0_fillAhead_3 (by decide) (nI_nle z (by omega)) ?_
        refine jo_aload_n F 0 dX0_fillAhead_6 rfl rfl ?_
        refine xg13 F dX0_fillAhead_7 ?_
        refine jo_iload_n F 2 dX0_fillAhead_10 rfl rfl ?_
        refine jo_iload_n F 2 dX0_fillAhead_11 rfl rfl ?_
        refine jo_iload_n F 1 dX0_fillAhead_12 rfl rfl ?_
        refine jo_icmp_ne F 20 dX0_fillAhead_13 (by decide) (fun h13 => ?_) (fun h13 => ?_)
        · have h13 : ¬ S = U := fun q => h13 (by rw [q])
          rw [if_neg h13] at h5
          refine jo_ldc F q143 dX0_fillAhead_20 ?_
          refine xs13 F S rfl hS dX0_fillAhead_22 ?_
          refine jo_iconst (x := (nI 0)) F dX0_fillAhead_23 (by decide) ?_
          refine jo_istore_n F 3 dX0_fillAhead_24 rfl (Nat.le_of_ble_eq_true rfl) ?_
          exact inner _ h5
        · have h13 := (nI_eq (by omega) (by omega)).mp h13
          rw [if_pos h13] at h5
          refine jo_iconst (x := (nI 0)) F dX0_fillAhead_16 (by decide) ?_
          refine jo_goto F 22 dX0_fillAhead_17 (by decide) ?_
          refine xs13 F S rfl hS dX0_fillAhead_22 ?_
          refine jo_iconst (x := (nI 0)) F dX0_fillAhead_23 (by decide) ?_
          refine jo_istore_n F 3 dX0_fillAhead_24 rfl (Nat.le_of_ble_eq_true rfl) ?_
          exact inner _ h5
  refine jo_iload_n F 1 dX0_fillAhead_0 rfl rfl ?_
  refine jo_istore_n F 2 dX0_fillAhead_1 rfl (Nat.le_of_ble_eq_true rfl) ?_
  exact lp 32 U v hU hU rfl
theorem xC_fillAhead {K : jo_C} {D : va_G} {a : Nat → Nat} {d : Nat → ClassId} {v : jo_V} {pc : Nat} {L : List (Option Value)} {st : List Value} {cc : ByteArray} {nL : Nat} {fr lo : Nat} (F : jo_F K cc nL RX0 fr lo) {U : Nat} (hU : U < 32) (hfr : 0 + 1 ≤ fr) (hlo : 8 + (5 + 11) + 0 ≤ lo) (hcat : (st.map fun v => v.category).sum ≤ 8) (hlen : L.length = nL) (hdg : decode cc pc = .ok (.invokevirtual 94, 3)) (k : jo_G K D (xT d) (xW a d) (jo_ah v U) (pc + 3) L st) : jo_G K D (xT d) (xW a d) v pc L (.int (nI U) :: .ref (a 3) :: st) :=
  jo_callv F (q0 := 3) (np := 1) (fun l => xM_fillAhead l D a d v U hU) rfl rfl (lw_V q172 q174 qs11 q28 q175) (by decide +kernel) rfl rfl rfl hfr hlo rfl hcat hlen hdg (fun u h => by subst h; exact k)
/-- linearTable: the least table that keeps the cost; n tables looked at, from table 4 down -/
def jo_pay (v : jo_V) (h i : Nat) : Int32 := if h = 0 then nI 0 else v 4 (h ||| 2 ^ i)
def jo_ltI (v : jo_V) (S h : Nat) (c : Int32) : Nat → Option Nat
  | 0 => none
  | n + 1 => if S.testBit (4 - n) = true ∧ ¬ h ||| 2 ^ (4 - n) = h ∧ jo_pay v h (4 - n) + v 13 (h ||| 2 ^ (4 - n)) = c then some (4 - n) else jo_ltI v S h c n
def jo_on (o : Option Nat) : Int32 := match o with
  | none => -4
  | some i => nI i
/-- the way of a linear plan: n tables r, the sets had, the costs left -/
def jo_way (v : jo_V) (S n : Nat) (r hs : Nat → Nat) (cs : Nat → Int32) : Prop := n ≤ 5 ∧ hs 0 = 0 ∧ cs 0 = v 8 S ∧ hs n = S ∧ ∀ t, t < n → hs t < 32 ∧ ¬ hs t = S ∧ r t < 5 ∧ jo_ltI v S (hs t) (cs t) 5 = some (r t) ∧ hs (t + 1) = hs t ||| 2 ^ r t ∧ cs (t + 1) = cs t - jo_pay v (hs t) (r t)
set_option maxHeartbeats 4000000 in
set_option maxRecDepth 100000 in
theorem xB_linearTable_54 {K : jo_C} {D : va_G} {a : Nat → Nat} {d : Nat → ClassId} {v : jo_V} {S h fr lo : Nat} {kk c nn : Int32} (F : jo_F K cX0_linearTable 10 RX0 fr lo) (hS : S < 32) (hh : h < 32) (k : jo_G K D (xT d) (xW a d) v 125 [some (.ref (a 3)), some (.int (nI S)), some (.int kk), some (.int (nI h)), some (.int c), some (.int (jo_on (jo_ltI v S h c 5))), some (.int nn), none, none, none] []) : jo_G K D (xT d) (xW a d) v 54 [some (.ref (a 3)), some (.int (nI S)), some (.int kk), some (.int (nI h)), some (.int c), some (.int (-4)), some (.int nn), some (.int (nI 4)), none, none] [] := by
  have lp : ∀ n, n ≤ 5 → jo_G K D (xT d) (xW a d) v 54 [some (.ref (a 3)), some (.int (nI S)), some (.int kk), some (.int (nI h)), some (.int c), some (.int (jo_on (jo_ltI v S h c n))), some (.int nn), some (.int (nI (5 - n) + Int32.ofInt (-1))), none, none] [] := by
    refine jo_up 5 (fun n hn ih => ?_) ?_
    · have e1 : nI (5 - n) + Int32.ofInt (-1) = nI (4 - n) := by rw [show 5 - n = (4 - n) + 1 by omega]; exact jo_dec _
      rw [e1]
      have e2 : nI (5 - (n + 1)) = nI (4 - n) := by rw [show 5 - (n + 1) = 4 - n by omega]
      rw [e2] at ih
      have e3 : jo_ltI v S h c (n + 1) = if S.testBit (4 - n) = true ∧ ¬ h ||| 2 ^ (4 - n) = h ∧ jo_pay v h (4 - n) + v 13 (h ||| 2 ^ (4 - n)) = c then some (4 - n) else jo_ltI v S h c n := rfl
      have hi : 4 - n < 5 := by omega
      rw [e3] at ih
      generalize jo_ltI v S h c n = f at ih ⊢
      generalize 4 - n = i at ih hi ⊢
      have hm : h ||| 2 ^ i < 32 := jo_or_lt hh hi
      have J : ∀ x : Int32, x = jo_pay v h i → jo_G K D (xT d) (xW a d) v 84 [some (.ref (a 3)), some (.int (nI S)), some (.int kk), some (.int (nI h)), some (.int c), some (.int (jo_on f)), some (.int nn), some (.int (nI i)), some (.int (nI (h ||| 2 ^ i))), some (.int x)] [] := by
        rintro x rfl
        refine jo_iload_n F 1 dX0_linearTable_84 rfl rfl ?_
        refine jo_iload F 7 dX0_linearTable_85 rfl ?_
        refine jo_ishr F dX0_linearTable_87 ?_
        refine jo_iconst (x := (nI 1)) F dX0_linearTable_88 (by decide) ?_
        refine jo_iand F dX0_linearTable_89 ?_
        refine jo_top (jo_bit (by omega) (by omega)) ?_
        refine jo_iconst (x := (nI 1)) F dX0_linearTable_90 (by decide) ?_
        refine jo_icmpb_ne F 119 dX0_linearTable_91 (by decide) (fun h91 => ?_) (fun h91 => ?_)
        · refine jo_iinc F 7 dX0_linearTable_119 rfl rfl ?_
          refine jo_goto F 54 dX0_linearTable_122 (by decide) ?_
          refine jo_forget 8 ?_
          refine jo_forget 9 ?_
          rw [if_neg (by rw [h91]; rintro ⟨q, -⟩; cases q)] at ih
          exact ih
        · 
          refine jo_iload F 8 dX0_linearTable_94 rfl ?_
          refine jo_iload_n F 3 dX0_linearTable_96 rfl rfl ?_
          refine jo_icmp_eq F 119 dX0_linearTable_97 (by decide) (fun h97 => ?_) (fun h97 => ?_)
          · have h97 := (nI_eq (by omega) (by omega)).mp h97
            refine jo_iinc F 7 dX0_linearTable_119 rfl rfl ?_
            refine jo_goto F 54 dX0_linearTable_122 (by decide) ?_
            refine jo_forget 8 ?_
            refine jo_forget 9 ?_
            rw [if_neg (fun q => q.2.1 h97)] at ih
            exact ih
          · have h97 : ¬ h ||| 2 ^ i = h := fun q => h97 (by rw [q])
            refine jo_iload F 9 dX0_linearTable_100 rfl ?_
            refine jo_aload_n F 0 dX0_linearTable_102 rfl rfl ?_
            refine xg13 F dX0_linearTable_103 ?_
            refine jo_iload F 8 dX0_linearTable_106 rfl ?_
            refine xl13 F (h ||| 2 ^ i) rfl hm dX0_linearTable_108 ?_
            refine jo_iadd F dX0_linearTable_109 ?_
            refine jo_iload F 4 dX0_linearTable_110 rfl ?_
            refine jo_icmp_ne F 119 dX0_linearTable_112 (by decide) (fun h112 => ?_) (fun h112 => ?_)
            · refine jo_iinc F 7 dX0_linearTable_119 rfl rfl ?_
              refine jo_goto F 54 dX0_linearTable_122 (by decide) ?_
              refine jo_forget 8 ?_
              refine jo_forget 9 ?_
              rw [if_neg (fun q => h112 q.2.2)] at ih
              exact ih
            · refine jo_iload F 7 dX0_linearTable_115 rfl ?_
              refine jo_istore F 5 dX0_linearTable_117 (Nat.le_of_ble_eq_true rfl) ?_
              refine jo_iinc F 7 dX0_linearTable_119 rfl rfl ?_
              refine jo_goto F 54 dX0_linearTable_122 (by decide) ?_
              refine jo_forget 8 ?_
              refine jo_forget 9 ?_
              rw [if_pos ⟨h91, h97, h112⟩] at ih
              exact ih
      refine jo_iload F 7 dX0_linearTable_54 rfl ?_
      refine jo_if_lt_n F 125 dX0_linearTable_56 (by decide) (nI_pos (by omega)) ?_
      refine jo_iload_n F 3 dX0_linearTable_59 rfl rfl ?_
      refine jo_iconst (x := (nI 1)) F dX0_linearTable_60 (by decide) ?_
      refine jo_iload F 7 dX0_linearTable_61 rfl ?_
      refine jo_ishl F dX0_linearTable_63 ?_
      refine jo_top (jo_pow (by omega)) ?_
      refine jo_ior F dX0_linearTable_64 ?_
      refine jo_top (nx_or _ _) ?_
      refine jo_istore F 8 dX0_linearTable_65 (Nat.le_of_ble_eq_true rfl) ?_
      refine jo_iload_n F 3 dX0_linearTable_67 rfl rfl ?_
      refine jo_if_ne F 75 dX0_linearTable_68 (by decide) (fun h68 => ?_) (fun h68 => ?_)
      · refine jo_aload_n F 0 dX0_linearTable_75 rfl rfl ?_
        refine xg4 F dX0_linearTable_76 ?_
        refine jo_iload F 8 dX0_linearTable_79 rfl ?_
        refine xl4 F (h ||| 2 ^ i) rfl hm dX0_linearTable_81 ?_
        refine jo_istore F 9 dX0_linearTable_82 (Nat.le_of_ble_eq_true rfl) ?_
        exact J _ (by rw [jo_pay, if_neg (fun q => h68 (by rw [q]; rfl))])
      · have h68 := (jo_nI0 (by omega)).mp h68
        refine jo_iconst (x := (nI 0)) F dX0_linearTable_71 (by decide) ?_
        refine jo_goto F 82 dX0_linearTable_72 (by decide) ?_
        refine jo_istore F 9 dX0_linearTable_82 (Nat.le_of_ble_eq_true rfl) ?_
        exact J _ (by rw [jo_pay, if_pos h68])
    · refine jo_iload F 7 dX0_linearTable_54 rfl ?_
      refine jo_if_lt_y F 125 dX0_linearTable_56 (by decide) (by decide) ?_
      refine jo_forget 7 ?_
      exact k
  exact lp 0 (Nat.zero_le _)
theorem jo_lt_a {kk : Int32} {t : Nat} {P : Prop} (hk : ∀ t', t' < t → ¬ nI t' = kk) (h : kk < nI t) (ht : t ≤ 5) : ¬ (0 ≤ kk ∧ P) := by
  rintro ⟨q, -⟩
  obtain ⟨j, hj, rfl⟩ := nI_of (Int32.not_lt.mpr q)
  exact hk j ((nI_ltI hj (by omega)).mp h) rfl
set_option maxHeartbeats 4000000 in
set_option maxRecDepth 100000 in
/-- linearTable(set, k) -/
theorem xM_linearTable (l : Launch) (D : va_G) (a : Nat → Nat) (d : Nat → ClassId) (v : jo_V) (s0 kk : Int32) (n : Nat) (r hs : Nat → Nat) (cs : Nat → Int32) (hw : jo_badS s0 = false → jo_way (jo_ah (jo_fill v) s0.toNatClampNeg) s0.toNatClampNeg n r hs cs) : jo_Mi l yX0_linearTable (ws_ yX0_linearTable cX0_linearTable 10 (some .int)) ({ frames := 4, cells := 0, slots := 0, locals := 94 } : Room) [.ref (a 3), .int s0, .int kk] D (xT d) (xW a d) v (fun r0 u => r0 = (if jo_badS s0 = true then -1 else if 0 ≤ kk ∧ kk < nI n then nI (r kk.toNatClampNeg) else -4) ∧ u = (if jo_badS s0 = true then v else jo_ah (jo_fill v) s0.toNatClampNeg)) := by
  refine jo_Mi.of (by decide) (jo_cat rfl) (Nat.le_of_ble_eq_true rfl) (fun K F hQ => ?_)
  show jo_G K D (xT d) (xW a d) v 0 [some (.ref (a 3)), some (.int s0), some (.int kk), none, none, none, none, none, none, none] []
  refine jo_aload_n F 0 dX0_linearTable_0 rfl rfl ?_
  refine jo_iload_n F 1 dX0_linearTable_1 rfl rfl ?_
  refine xC_badSet F (Nat.le_of_ble_eq_true rfl) (Nat.le_of_ble_eq_true rfl) (Nat.le_of_ble_eq_true rfl) rfl dX0_linearTable_2 ?_
  refine jo_ifb_eq F 10 dX0_linearTable_5 (by decide) (fun h5 => ?_) (fun h5 => ?_)
  · obtain ⟨S, hS0, hS, rfl⟩ := jo_okS h5
    have hg : ¬ jo_badS (nI S) = true := by rw [h5]; decide
    have hw := hw h5
    rw [nI_clamp (show S < 2 ^ 31 by omega)] at hw
    refine jo_aload_n F 0 dX0_linearTable_10 rfl rfl ?_
    refine xC_fill F (Nat.le_of_ble_eq_true rfl) (Nat.le_of_ble_eq_true rfl) (Nat.le_of_ble_eq_true rfl) rfl dX0_linearTable_11 ?_
    refine jo_aload_n F 0 dX0_linearTable_14 rfl rfl ?_
    refine jo_iload_n F 1 dX0_linearTable_15 rfl rfl ?_
    refine xC_fillAhead F hS (Nat.le_of_ble_eq_true rfl) (Nat.le_of_ble_eq_true rfl) (Nat.le_of_ble_eq_true rfl) rfl dX0_linearTable_16 ?_
    have ev : jo_ah (jo_fill v) S = jo_ah (jo_fill v) S := rfl
    generalize hv1 : jo_ah (jo_fill v) S = v1 at hw ⊢
    refine jo_iconst (x := (nI 0)) F dX0_linearTable_19 (by decide) ?_
    refine jo_istore_n F 3 dX0_linearTable_20 rfl (Nat.le_of_ble_eq_true rfl) ?_
    refine jo_aload_n F 0 dX0_linearTable_21 rfl rfl ?_
    refine xg8 F dX0_linearTable_22 ?_
    refine jo_iload_n F 1 dX0_linearTable_25 rfl rfl ?_
    refine xl8 F S rfl hS dX0_linearTable_26 ?_
    refine jo_istore F 4 dX0_linearTable_27 (Nat.le_of_ble_eq_true rfl) ?_
    refine jo_bipush (x := (-4)) F dX0_linearTable_29 (by decide) ?_
    refine jo_istore F 5 dX0_linearTable_31 (Nat.le_of_ble_eq_true rfl) ?_
    refine jo_iconst (x := (nI 0)) F dX0_linearTable_33 (by decide) ?_
    refine jo_istore F 6 dX0_linearTable_34 (Nat.le_of_ble_eq_true rfl) ?_
    obtain ⟨hn5, hs0, hc0, hsn, hst⟩ := hw
    have lp : ∀ (z t : Nat), t + z = n → (∀ t', t' < t → ¬ nI t' = kk) → jo_G K D (xT d) (xW a d) v1 36 [some (.ref (a 3)), some (.int (nI S)), some (.int kk), some (.int (nI (hs t))), some (.int (cs t)), none, some (.int (nI t)), none, none, none] [] := by
      intro z
      induction z with
      | zero =>
        intro t ht hk
        rw [Nat.add_zero] at ht
        subst ht
        refine jo_iload F 6 dX0_linearTable_36 rfl ?_
        refine jo_iload_n F 2 dX0_linearTable_38 rfl rfl ?_
        refine jo_icmp_gt F 171 dX0_linearTable_39 (by decide) (fun h39 => ?_) (fun h39 => ?_)
        · refine jo_bipush (x := (-4)) F dX0_linearTable_171 (by decide) ?_
          exact jo_iret F hQ dX0_linearTable_173 ⟨by rw [if_neg hg, if_neg (jo_lt_a hk h39 (by omega))], by rw [if_neg hg, nI_clamp (show S < 2 ^ 31 by omega), hv1]⟩
        · have h39' : ¬ kk < nI t := h39
          refine jo_iload_n F 3 dX0_linearTable_42 rfl rfl ?_
          refine jo_iload_n F 1 dX0_linearTable_43 rfl rfl ?_
          refine jo_icmp_eq_y F 171 dX0_linearTable_44 (by decide) (by rw [hsn]) ?_
          refine jo_bipush (x := (-4)) F dX0_linearTable_171 (by decide) ?_
          exact jo_iret F hQ dX0_linearTable_173 ⟨by rw [if_neg hg, if_neg (fun q => absurd q.2 h39')], by rw [if_neg hg, nI_clamp (show S < 2 ^ 31 by omega), hv1]⟩
      | succ z ih =>
        intro t ht hk
        obtain ⟨g1, g2, g3, g4, g5, g6⟩ := hst t (by omega)
        refine jo_iload F 6 dX0_linearTable_36 rfl ?_
        refine jo_iload_n F 2 dX0_linearTable_38 rfl rfl ?_
        refine jo_icmp_gt F 171 dX0_linearTable_39 (by decide) (fun h39 => ?_) (fun h39 => ?_)
        · refine jo_bipush (x := (-4)) F dX0_linearTable_171 (by decide) ?_
          exact jo_iret F hQ dX0_linearTable_173 ⟨by rw [if_neg hg, if_neg (jo_lt_a hk h39 (by omega))], by rw [if_neg hg, nI_clamp (show S < 2 ^ 31 by omega), hv1]⟩
        · 
          refine jo_iload_n F 3 dX0_linearTable_42 rfl rfl ?_
          refine jo_iload_n F 1 dX0_linearTable_43 rfl rfl ?_
          refine jo_icmp_eq_n F 171 dX0_linearTable_44 (by decide) (fun q => g2 ((nI_eq (by omega) (by omega)).mp q)) ?_
          refine jo_bipush (x := (-4)) F dX0_linearTable_47 (by decide) ?_
          refine jo_istore F 5 dX0_linearTable_49 (Nat.le_of_ble_eq_true rfl) ?_
          refine jo_iconst (x := (nI 4)) F dX0_linearTable_51 (by decide) ?_
          refine jo_istore F 7 dX0_linearTable_52 (Nat.le_of_ble_eq_true rfl) ?_
          refine xB_linearTable_54 F hS g1 ?_
          rw [g4]
          show jo_G K D (xT d) (xW a d) v1 125 [some (.ref (a 3)), some (.int (nI S)), some (.int kk), some (.int (nI (hs t))), some (.int (cs t)), some (.int (nI (r t))), some (.int (nI t)), none, none, none] []
          have hm : hs t ||| 2 ^ r t < 32 := jo_or_lt g1 g3
          have J : ∀ x : Int32, x = jo_pay v1 (hs t) (r t) → jo_G K D (xT d) (xW a d) v1 146 [some (.ref (a 3)), some (.int (nI S)), some (.int kk), some (.int (nI (hs t))), some (.int (cs t)), some (.int (nI (r t))), some (.int (nI t)), none, none, none] [.int x, .int (cs t)] := by
            rintro x rfl
            refine jo_isub F dX0_linearTable_146 ?_
            refine jo_istore F 4 dX0_linearTable_147 (Nat.le_of_ble_eq_true rfl) ?_
            refine jo_iload_n F 3 dX0_linearTable_149 rfl rfl ?_
            refine jo_iconst (x := (nI 1)) F dX0_linearTable_150 (by decide) ?_
            refine jo_iload F 5 dX0_linearTable_151 rfl ?_
            refine jo_ishl F dX0_linearTable_153 ?_
            refine jo_top (jo_pow (by omega)) ?_
            refine jo_ior F dX0_linearTable_154 ?_
            refine jo_top (nx_or _ _) ?_
            refine jo_istore_n F 3 dX0_linearTable_155 rfl (Nat.le_of_ble_eq_true rfl) ?_
            refine jo_iload F 6 dX0_linearTable_156 rfl ?_
            refine jo_iload_n F 2 dX0_linearTable_158 rfl rfl ?_
            refine jo_icmp_ne F 165 dX0_linearTable_159 (by decide) (fun h159 => ?_) (fun h159 => ?_)
            · refine jo_iinc F 6 dX0_linearTable_165 rfl (jo_inc _) ?_
              refine jo_goto F 36 dX0_linearTable_168 (by decide) ?_
              refine jo_forget 5 ?_
              rw [← g5, ← g6]
              exact ih (t + 1) (by omega) (fun t' h' => (Nat.lt_or_ge t' t).elim (hk t') (fun q => by rw [show t' = t by omega]; exact h159))
            · refine jo_iload F 5 dX0_linearTable_162 rfl ?_
              exact jo_iret F hQ dX0_linearTable_164 ⟨by rw [if_neg hg, if_pos ⟨by rw [← h159]; exact nI_pos' (by omega), by rw [← h159]; exact nI_lt (by omega) (by omega)⟩, ← h159, nI_clamp (by omega)], by rw [if_neg hg, nI_clamp (show S < 2 ^ 31 by omega), hv1]⟩
          refine jo_iload F 4 dX0_linearTable_125 rfl ?_
          refine jo_iload_n F 3 dX0_linearTable_127 rfl rfl ?_
          refine jo_if_ne F 135 dX0_linearTable_128 (by decide) (fun h128 => ?_) (fun h128 => ?_)
          · refine jo_aload_n F 0 dX0_linearTable_135 rfl rfl ?_
            refine xg4 F dX0_linearTable_136 ?_
            refine jo_iload_n F 3 dX0_linearTable_139 rfl rfl ?_
            refine jo_iconst (x := (nI 1)) F dX0_linearTable_140 (by decide) ?_
            refine jo_iload F 5 dX0_linearTable_141 rfl ?_
            refine jo_ishl F dX0_linearTable_143 ?_
            refine jo_top (jo_pow (by omega)) ?_
            refine jo_ior F dX0_linearTable_144 ?_
            refine jo_top (nx_or _ _) ?_
            refine xl4 F (hs t ||| 2 ^ r t) rfl hm dX0_linearTable_145 ?_
            exact J _ (by rw [jo_pay, if_neg (fun q => h128 (by rw [q]; rfl))])
          · have h128 := (jo_nI0 (by omega)).mp h128
            refine jo_iconst (x := (nI 0)) F dX0_linearTable_131 (by decide) ?_
            refine jo_goto F 146 dX0_linearTable_132 (by decide) ?_
            exact J _ (by rw [jo_pay, if_pos h128])
    have h0 := lp n 0 (by omega) (fun t' h' => absurd h' (Nat.not_lt_zero _))
    rw [hs0, hc0] at h0
    refine jo_forget 5 ?_
    exact h0
  · refine jo_iconst (x := (-1)) F dX0_linearTable_8 (by decide) ?_
    exact jo_iret F hQ dX0_linearTable_9 ⟨by rw [if_pos h5], by rw [if_pos h5]⟩
/-- gain(i, j) -/
def jo_gn1 (v : jo_V) (i j : Nat) : jo_V := jo_fill (jo_putV (jo_fill v) i j true (nI 6))
def jo_gnR (v : jo_V) (i j : Nat) : Int32 := jo_fill v 5 31 - jo_gn1 v i j 5 31
def jo_gnV (v : jo_V) (i j : Nat) (b : Bool) : jo_V := jo_putV (jo_gn1 v i j) i j b (jo_fill v 1 (i * 5 + j))
set_option maxHeartbeats 4000000 in
set_option maxRecDepth 100000 in
/-- gain(i, j) -/
theorem xM_gain (l : Launch) (D : va_G) (a : Nat → Nat) (d : Nat → ClassId) (v : jo_V) (i j : Int32) (b : Bool) (hb2 : jo_badP i j = false → jo_fill v 2 (i.toNatClampNeg * 5 + j.toNatClampNeg) = jo_b b) : jo_Mi l yX0_gain (ws_ yX0_gain cX0_gain 7 (some .int)) ({ frames := 4, cells := 0, slots := 0, locals := 94 } : Room) [.ref (a 3), .int i, .int j] D (xT d) (xW a d) v (fun r u => r = (if jo_badP i j = true then -1 else jo_gnR v i.toNatClampNeg j.toNatClampNeg) ∧ u = (if jo_badP i j = true then v else jo_gnV v i.toNatClampNeg j.toNatClampNeg b)) := by
  refine jo_Mi.of (by decide) (jo_cat rfl) (Nat.le_of_ble_eq_true rfl) (fun K F hQ => ?_)
  show jo_G K D (xT d) (xW a d) v 0 [some (.ref (a 3)), some (.int i), some (.int j), none, none, none, none] []
  refine jo_aload_n F 0 dX0_gain_0 rfl rfl ?_
  refine jo_iload_n F 1 dX0_gain_1 rfl rfl ?_
  refine jo_iload_n F 2 dX0_gain_2 rfl rfl ?_
  refine xC_badPair F (Nat.le_of_ble_eq_true rfl) (Nat.le_of_ble_eq_true rfl) (Nat.le_of_ble_eq_true rfl) rfl dX0_gain_3 ?_
  refine jo_ifb_eq F 11 dX0_gain_6 (by decide) (fun h6 => ?_) (fun h6 => ?_)
  · obtain ⟨a1, b1, ha, hb, -, rfl, rfl⟩ := jo_okP h6
    have hb2 := hb2 h6
    rw [nI_clamp (show a1 < 2 ^ 31 by omega), nI_clamp (show b1 < 2 ^ 31 by omega)] at hb2
    refine jo_aload_n F 0 dX0_gain_11 rfl rfl ?_
    refine xC_fill F (Nat.le_of_ble_eq_true rfl) (Nat.le_of_ble_eq_true rfl) (Nat.le_of_ble_eq_true rfl) rfl dX0_gain_12 ?_
    refine jo_aload_n F 0 dX0_gain_15 rfl rfl ?_
    refine xg5 F dX0_gain_16 ?_
    refine jo_bipush (x := (nI 31)) F dX0_gain_19 (by decide) ?_
    refine xl5 F 31 rfl (by decide) dX0_gain_21 ?_
    refine jo_istore_n F 3 dX0_gain_22 rfl (Nat.le_of_ble_eq_true rfl) ?_
    refine jo_aload_n F 0 dX0_gain_23 rfl rfl ?_
    refine xg2 F dX0_gain_24 ?_
    refine jo_iload_n F 1 dX0_gain_27 rfl rfl ?_
    refine jo_iconst (x := (nI 5)) F dX0_gain_28 (by decide) ?_
    refine jo_imul F dX0_gain_29 ?_
    refine jo_iload_n F 2 dX0_gain_30 rfl rfl ?_
    refine jo_iadd F dX0_gain_31 ?_
    refine xl2 F (a1 * 5 + b1) (jo_ixr a1 b1) (jo_ixb ha hb) dX0_gain_32 ?_
    refine jo_istore F 4 dX0_gain_33 (Nat.le_of_ble_eq_true rfl) ?_
    refine jo_aload_n F 0 dX0_gain_35 rfl rfl ?_
    refine xg1 F dX0_gain_36 ?_
    refine jo_iload_n F 1 dX0_gain_39 rfl rfl ?_
    refine jo_iconst (x := (nI 5)) F dX0_gain_40 (by decide) ?_
    refine jo_imul F dX0_gain_41 ?_
    refine jo_iload_n F 2 dX0_gain_42 rfl rfl ?_
    refine jo_iadd F dX0_gain_43 ?_
    refine xl1 F (a1 * 5 + b1) (jo_ixr a1 b1) (jo_ixb ha hb) dX0_gain_44 ?_
    refine jo_istore F 5 dX0_gain_45 (Nat.le_of_ble_eq_true rfl) ?_
    refine jo_aload_n F 0 dX0_gain_47 rfl rfl ?_
    refine jo_iload_n F 1 dX0_gain_48 rfl rfl ?_
    refine jo_iload_n F 2 dX0_gain_49 rfl rfl ?_
    refine jo_iconst (x := (nI 1)) F dX0_gain_50 (by decide) ?_
    refine jo_bipush (x := (nI 6)) F dX0_gain_51 (by decide) ?_
    refine xC_put F true ha hb rfl (Nat.le_of_ble_eq_true rfl) (Nat.le_of_ble_eq_true rfl) (Nat.le_of_ble_eq_true rfl) rfl dX0_gain_53 ?_
    refine jo_aload_n F 0 dX0_gain_56 rfl rfl ?_
    refine xC_fill F (Nat.le_of_ble_eq_true rfl) (Nat.le_of_ble_eq_true rfl) (Nat.le_of_ble_eq_true rfl) rfl dX0_gain_57 ?_
    refine jo_aload_n F 0 dX0_gain_60 rfl rfl ?_
    refine xg5 F dX0_gain_61 ?_
    refine jo_bipush (x := (nI 31)) F dX0_gain_64 (by decide) ?_
    refine xl5 F 31 rfl (by decide) dX0_gain_66 ?_
    refine jo_istore F 6 dX0_gain_67 (Nat.le_of_ble_eq_true rfl) ?_
    refine jo_aload_n F 0 dX0_gain_69 rfl rfl ?_
    refine jo_iload_n F 1 dX0_gain_70 rfl rfl ?_
    refine jo_iload_n F 2 dX0_gain_71 rfl rfl ?_
    refine jo_iload F 4 dX0_gain_72 rfl ?_
    refine jo_iload F 5 dX0_gain_74 rfl ?_
    refine xC_put F b ha hb hb2 (Nat.le_of_ble_eq_true rfl) (Nat.le_of_ble_eq_true rfl) (Nat.le_of_ble_eq_true rfl) rfl dX0_gain_76 ?_
    refine jo_iload_n F 3 dX0_gain_79 rfl rfl ?_
    refine jo_iload F 6 dX0_gain_80 rfl ?_
    refine jo_isub F dX0_gain_82 ?_
    exact jo_iret F hQ dX0_gain_83 (by rw [if_neg (by rw [h6]; decide), if_neg (by rw [h6]; decide), nI_clamp (show a1 < 2 ^ 31 by omega), nI_clamp (show b1 < 2 ^ 31 by omega)]; exact ⟨rfl, rfl⟩)
  · refine jo_iconst (x := (-1)) F dX0_gain_9 (by decide) ?_
    exact jo_iret F hQ dX0_gain_10 ⟨by rw [if_pos h6], by rw [if_pos h6]⟩
end
section
theorem jo_45 (i : Int32) : nI 4 < i ↔ nI 5 ≤ i := by
  rw [Int32.lt_iff_toInt_lt, Int32.le_iff_toInt_le, nI_toInt (by decide), nI_toInt (by decide)]
  omega
theorem jo_3132 (i : Int32) : nI 31 < i ↔ nI 32 ≤ i := by
  rw [Int32.lt_iff_toInt_lt, Int32.le_iff_toInt_le, nI_toInt (by decide), nI_toInt (by decide)]
  omega
set_option maxHeartbeats 4000000 in
set_option maxRecDepth 100000 in
/-- isTable(i) -/
theorem mM_isTable (l : Launch) (D : va_G) (a : Nat → Nat) (d : Nat → ClassId) (v : jo_V) (i : Int32)  : jo_Mi l yX1_isTable (ws_ yX1_isTable cX1_isTable 2 (some .boolean)) ({ frames := 0, cells := 0, slots := 0, locals := 0 } : Room) [.ref (a 4), .int i] D (mT d) (mW a d) v (fun r u => r = jo_b (!jo_badT i) ∧ u = v) := by
  refine jo_Mi.of (by decide) (jo_cat rfl) (Nat.le_of_ble_eq_true rfl) (fun K F hQ => ?_)
  show jo_G K D (mT d) (mW a d) v 0 [some (.ref (a 4)), some (.int i)] []
  refine jo_iload_n F 1 dX1_isTable_0 rfl rfl ?_
  refine jo_if_lt F 13 dX1_isTable_1 (by decide) (fun h1 => ?_) (fun h1 => ?_)
  · refine jo_iconst (x := (nI 0)) F dX1_isTable_13 (by decide) ?_
    exact jo_zret F hQ (!jo_badT i) (by unfold jo_badT jo_b; simp [*]) dX1_isTable_14 ⟨rfl, rfl⟩
  · 
    refine jo_iload_n F 1 dX1_isTable_4 rfl rfl ?_
    refine jo_iconst (x := (nI 4)) F dX1_isTable_5 (by decide) ?_
    refine jo_icmp_gt F 13 dX1_isTable_6 (by decide) (fun h6 => ?_) (fun h6 => ?_)
    · rw [jo_45] at h6
      refine jo_iconst (x := (nI 0)) F dX1_isTable_13 (by decide) ?_
      exact jo_zret F hQ (!jo_badT i) (by unfold jo_badT jo_b; simp [*]) dX1_isTable_14 ⟨rfl, rfl⟩
    · rw [jo_45] at h6
      refine jo_iconst (x := (nI 1)) F dX1_isTable_9 (by decide) ?_
      refine jo_goto F 14 dX1_isTable_10 (by decide) ?_
      exact jo_zret F hQ (!jo_badT i) (by unfold jo_badT jo_b; simp [*]) dX1_isTable_14 ⟨rfl, rfl⟩
theorem mC_isTable {K : jo_C} {D : va_G} {a : Nat → Nat} {d : Nat → ClassId} {v : jo_V} {pc : Nat} {L : List (Option Value)} {st : List Value} {cc : ByteArray} {nL : Nat} {fr lo : Nat} (F : jo_F K cc nL RX1 fr lo) {i : Int32}  (hfr : 0 + 1 ≤ fr) (hlo : 8 + (2 + 11) + 0 ≤ lo) (hcat : (st.map fun v => v.category).sum ≤ 8) (hlen : L.length = nL) (hdg : decode cc pc = .ok (.invokevirtual 28, 3)) (k : jo_G K D (mT d) (mW a d) v (pc + 3) L (.int (jo_b (!jo_badT i)) :: st)) : jo_G K D (mT d) (mW a d) v pc L (.int i :: .ref (a 4) :: st) :=
  jo_calli F (q0 := 4) (np := 1) (fun l => mM_isTable l D a d v i) rfl rfl (lw_V q236 q238 qs12 q29 q239) (by decide +kernel) rfl rfl rfl hfr hlo rfl hcat hlen hdg (fun r u h => by obtain ⟨rfl, rfl⟩ := h; exact k)
set_option maxHeartbeats 4000000 in
set_option maxRecDepth 100000 in
/-- isSet(i) -/
theorem mM_isSet (l : Launch) (D : va_G) (a : Nat → Nat) (d : Nat → ClassId) (v : jo_V) (i : Int32)  : jo_Mi l yX1_isSet (ws_ yX1_isSet cX1_isSet 2 (some .boolean)) ({ frames := 0, cells := 0, slots := 0, locals := 0 } : Room) [.ref (a 4), .int i] D (mT d) (mW a d) v (fun r u => r = jo_b (!jo_badS i) ∧ u = v) := by
  refine jo_Mi.of (by decide) (jo_cat rfl) (Nat.le_of_ble_eq_true rfl) (fun K F hQ => ?_)
  show jo_G K D (mT d) (mW a d) v 0 [some (.ref (a 4)), some (.int i)] []
  refine jo_iload_n F 1 dX1_isSet_0 rfl rfl ?_
  refine jo_iconst (x := (nI 1)) F dX1_isSet_1 (by decide) ?_
  refine jo_icmp_lt F 15 dX1_isSet_2 (by decide) (fun h2 => ?_) (fun h2 => ?_)
  · refine jo_iconst (x := (nI 0)) F dX1_isSet_15 (by decide) ?_
    exact jo_zret F hQ (!jo_badS i) (by unfold jo_badS jo_b; simp [*]) dX1_isSet_16 ⟨rfl, rfl⟩
  · refine jo_iload_n F 1 dX1_isSet_5 rfl rfl ?_
    refine jo_bipush (x := (nI 31)) F dX1_isSet_6 (by decide) ?_
    refine jo_icmp_gt F 15 dX1_isSet_8 (by decide) (fun h8 => ?_) (fun h8 => ?_)
    · rw [jo_3132] at h8
      refine jo_iconst (x := (nI 0)) F dX1_isSet_15 (by decide) ?_
      exact jo_zret F hQ (!jo_badS i) (by unfold jo_badS jo_b; simp [*]) dX1_isSet_16 ⟨rfl, rfl⟩
    · rw [jo_3132] at h8
      refine jo_iconst (x := (nI 1)) F dX1_isSet_11 (by decide) ?_
      refine jo_goto F 16 dX1_isSet_12 (by decide) ?_
      exact jo_zret F hQ (!jo_badS i) (by unfold jo_badS jo_b; simp [*]) dX1_isSet_16 ⟨rfl, rfl⟩
theorem mC_isSet {K : jo_C} {D : va_G} {a : Nat → Nat} {d : Nat → ClassId} {v : jo_V} {pc : Nat} {L : List (Option Value)} {st : List Value} {cc : ByteArray} {nL : Nat} {fr lo : Nat} (F : jo_F K cc nL RX1 fr lo) {i : Int32}  (hfr : 0 + 1 ≤ fr) (hlo : 8 + (2 + 11) + 0 ≤ lo) (hcat : (st.map fun v => v.category).sum ≤ 8) (hlen : L.length = nL) (hdg : decode cc pc = .ok (.invokevirtual 43, 3)) (k : jo_G K D (mT d) (mW a d) v (pc + 3) L (.int (jo_b (!jo_badS i)) :: st)) : jo_G K D (mT d) (mW a d) v pc L (.int i :: .ref (a 4) :: st) :=
  jo_calli F (q0 := 4) (np := 1) (fun l => mM_isSet l D a d v i) rfl rfl (lw_V q260 q262 qs15 q29 q263) (by decide +kernel) rfl rfl rfl hfr hlo rfl hcat hlen hdg (fun r u h => by obtain ⟨rfl, rfl⟩ := h; exact k)
set_option maxHeartbeats 4000000 in
set_option maxRecDepth 100000 in
/-- isPair(i, j) -/
theorem mM_isPair (l : Launch) (D : va_G) (a : Nat → Nat) (d : Nat → ClassId) (v : jo_V) (i j : Int32)  : jo_Mi l yX1_isPair (ws_ yX1_isPair cX1_isPair 3 (some .boolean)) ({ frames := 1, cells := 0, slots := 0, locals := 21 } : Room) [.ref (a 4), .int i, .int j] D (mT d) (mW a d) v (fun r u => r = jo_b (!jo_badP i j) ∧ u = v) := by
  refine jo_Mi.of (by decide) (jo_cat rfl) (Nat.le_of_ble_eq_true rfl) (fun K F hQ => ?_)
  show jo_G K D (mT d) (mW a d) v 0 [some (.ref (a 4)), some (.int i), some (.int j)] []
  refine jo_aload_n F 0 dX1_isPair_0 rfl rfl ?_
  refine jo_iload_n F 1 dX1_isPair_1 rfl rfl ?_
  refine mC_isTable F (Nat.le_of_ble_eq_true rfl) (Nat.le_of_ble_eq_true rfl) (Nat.le_of_ble_eq_true rfl) rfl dX1_isPair_2 ?_
  refine jo_ifb_eq F 25 dX1_isPair_5 (by decide) (fun h5 => ?_) (fun h5 => ?_)
  · refine jo_iconst (x := (nI 0)) F dX1_isPair_25 (by decide) ?_
    exact jo_zret F hQ (!jo_badP i j) (by unfold jo_badP jo_b; simp_all) dX1_isPair_26 ⟨rfl, rfl⟩
  · refine jo_aload_n F 0 dX1_isPair_8 rfl rfl ?_
    refine jo_iload_n F 2 dX1_isPair_9 rfl rfl ?_
    refine mC_isTable F (Nat.le_of_ble_eq_true rfl) (Nat.le_of_ble_eq_true rfl) (Nat.le_of_ble_eq_true rfl) rfl dX1_isPair_10 ?_
    refine jo_ifb_eq F 25 dX1_isPair_13 (by decide) (fun h13 => ?_) (fun h13 => ?_)
    · refine jo_iconst (x := (nI 0)) F dX1_isPair_25 (by decide) ?_
      exact jo_zret F hQ (!jo_badP i j) (by unfold jo_badP jo_b; simp_all) dX1_isPair_26 ⟨rfl, rfl⟩
    · refine jo_iload_n F 1 dX1_isPair_16 rfl rfl ?_
      refine jo_iload_n F 2 dX1_isPair_17 rfl rfl ?_
      refine jo_icmp_eq F 25 dX1_isPair_18 (by decide) (fun h18 => ?_) (fun h18 => ?_)
      · refine jo_iconst (x := (nI 0)) F dX1_isPair_25 (by decide) ?_
        exact jo_zret F hQ (!jo_badP i j) (by unfold jo_badP jo_b; simp_all) dX1_isPair_26 ⟨rfl, rfl⟩
      · refine jo_iconst (x := (nI 1)) F dX1_isPair_21 (by decide) ?_
        refine jo_goto F 26 dX1_isPair_22 (by decide) ?_
        exact jo_zret F hQ (!jo_badP i j) (by unfold jo_badP jo_b; simp_all) dX1_isPair_26 ⟨rfl, rfl⟩
theorem mC_isPair {K : jo_C} {D : va_G} {a : Nat → Nat} {d : Nat → ClassId} {v : jo_V} {pc : Nat} {L : List (Option Value)} {st : List Value} {cc : ByteArray} {nL : Nat} {fr lo : Nat} (F : jo_F K cc nL RX1 fr lo) {i j : Int32}  (hfr : 1 + 1 ≤ fr) (hlo : 8 + (3 + 11) + 21 ≤ lo) (hcat : (st.map fun v => v.category).sum ≤ 8) (hlen : L.length = nL) (hdg : decode cc pc = .ok (.invokevirtual 32, 3)) (k : jo_G K D (mT d) (mW a d) v (pc + 3) L (.int (jo_b (!jo_badP i j)) :: st)) : jo_G K D (mT d) (mW a d) v pc L (.int j :: .int i :: .ref (a 4) :: st) :=
  jo_calli F (q0 := 4) (np := 2) (fun l => mM_isPair l D a d v i j) rfl rfl (lw_V q244 q246 qs13 q29 q247) (by decide +kernel) rfl rfl rfl hfr hlo rfl hcat hlen hdg (fun r u h => by obtain ⟨rfl, rfl⟩ := h; exact k)
/-- table(i, x) of the reference -/
def jo_mtab (v : jo_V) (i y : Int32) : Int32 × jo_V := if (jo_badT i || decide (y < 0) || decide (nI 6 < y)) = true then (-1, v) else (v 0 i.toNatClampNeg, jo_u v 0 i.toNatClampNeg y)
set_option maxHeartbeats 4000000 in
set_option maxRecDepth 100000 in
/-- table(i, x) -/
theorem mM_table (l : Launch) (D : va_G) (a : Nat → Nat) (d : Nat → ClassId) (v : jo_V) (i y : Int32)  : jo_Mi l yX1_table (ws_ yX1_table cX1_table 4 (some .int)) ({ frames := 1, cells := 0, slots := 0, locals := 21 } : Room) [.ref (a 4), .int i, .int y] D (mT d) (mW a d) v (fun r u => r = (jo_mtab v i y).1 ∧ u = (jo_mtab v i y).2) := by
  refine jo_Mi.of (by decide) (jo_cat rfl) (Nat.le_of_ble_eq_true rfl) (fun K F hQ => ?_)
  show jo_G K D (mT d) (mW a d) v 0 [some (.ref (a 4)), some (.int i), some (.int y), none] []
  refine jo_aload_n F 0 dX1_table_0 rfl rfl ?_
  refine jo_iload_n F 1 dX1_table_1 rfl rfl ?_
  refine mC_isTable F (Nat.le_of_ble_eq_true rfl) (Nat.le_of_ble_eq_true rfl) (Nat.le_of_ble_eq_true rfl) rfl dX1_table_2 ?_
  refine jo_ifb_eq F 18 dX1_table_5 (by decide) (fun h5 => ?_) (fun h5 => ?_)
  · have h5 : jo_badT i = true := by simpa using h5
    refine jo_iconst (x := (-1)) F dX1_table_18 (by decide) ?_
    exact jo_iret F hQ dX1_table_19 (by rw [show jo_mtab v i y = (-1, v) from if_pos (by simp [← Int32.not_le, *])]; exact ⟨rfl, rfl⟩)
  · have h5 : jo_badT i = false := by simpa using h5
    refine jo_iload_n F 2 dX1_table_8 rfl rfl ?_
    refine jo_if_lt F 18 dX1_table_9 (by decide) (fun h9 => ?_) (fun h9 => ?_)
    · refine jo_iconst (x := (-1)) F dX1_table_18 (by decide) ?_
      exact jo_iret F hQ dX1_table_19 (by rw [show jo_mtab v i y = (-1, v) from if_pos (by simp [← Int32.not_le, *])]; exact ⟨rfl, rfl⟩)
    · refine jo_iload_n F 2 dX1_table_12 rfl rfl ?_
      refine jo_bipush (x := (nI 6)) F dX1_table_13 (by decide) ?_
      refine jo_icmp_le F 20 dX1_table_15 (by decide) (fun h15 => ?_) (fun h15 => ?_)
      · obtain ⟨j, hj, rfl⟩ := jo_okT h5
        have e : jo_mtab v (nI j) y = (v 0 j, jo_u v 0 j y) := by
          unfold jo_mtab
          rw [if_neg (by simp [← Int32.not_le, *]), nI_clamp (by omega)]
        refine jo_aload_n F 0 dX1_table_20 rfl rfl ?_
        refine mg0 F dX1_table_21 ?_
        refine jo_iload_n F 1 dX1_table_24 rfl rfl ?_
        refine ml0 F j rfl hj dX1_table_25 ?_
        refine jo_istore_n F 3 dX1_table_26 rfl (Nat.le_of_ble_eq_true rfl) ?_
        refine jo_aload_n F 0 dX1_table_27 rfl rfl ?_
        refine mg0 F dX1_table_28 ?_
        refine jo_iload_n F 1 dX1_table_31 rfl rfl ?_
        refine jo_iload_n F 2 dX1_table_32 rfl rfl ?_
        refine ms0 F j rfl hj dX1_table_33 ?_
        refine jo_iload_n F 3 dX1_table_34 rfl rfl ?_
        exact jo_iret F hQ dX1_table_35 (by rw [e]; exact ⟨rfl, rfl⟩)
      · refine jo_iconst (x := (-1)) F dX1_table_18 (by decide) ?_
        exact jo_iret F hQ dX1_table_19 (by rw [show jo_mtab v i y = (-1, v) from if_pos (by simp [← Int32.not_le, *])]; exact ⟨rfl, rfl⟩)
/-- setFilter(i, j, x) -/
def jo_mset (v : jo_V) (i j : Nat) (y : Int32) : jo_V := jo_u (jo_u v 1 (i * 5 + j) y) 1 (j * 5 + i) y
set_option maxHeartbeats 4000000 in
set_option maxRecDepth 100000 in
/-- setFilter(i, j, x) -/
theorem mM_setFilter (l : Launch) (D : va_G) (a : Nat → Nat) (d : Nat → ClassId) (v : jo_V) (i j : Nat) (y : Int32) (hi : i < 5) (hj : j < 5) : jo_Mv l yX1_setFilter (ws_ yX1_setFilter cX1_setFilter 4 none) ({ frames := 0, cells := 0, slots := 0, locals := 0 } : Room) [.ref (a 4), .int (nI i), .int (nI j), .int y] D (mT d) (mW a d) v (fun u => u = jo_mset v i j y) := by
  refine jo_Mv.of (by decide) (jo_cat rfl) (Nat.le_of_ble_eq_true rfl) (fun K F hQ => ?_)
  show jo_G K D (mT d) (mW a d) v 0 [some (.ref (a 4)), some (.int (nI i)), some (.int (nI j)), some (.int y)] []
  refine jo_aload_n F 0 dX1_setFilter_0 rfl rfl ?_
  refine mg1 F dX1_setFilter_1 ?_
  refine jo_iconst (x := (nI 5)) F dX1_setFilter_4 (by decide) ?_
  refine jo_iload_n F 1 dX1_setFilter_5 rfl rfl ?_
  refine jo_imul F dX1_setFilter_6 ?_
  refine jo_iload_n F 2 dX1_setFilter_7 rfl rfl ?_
  refine jo_iadd F dX1_setFilter_8 ?_
  refine jo_iload_n F 3 dX1_setFilter_9 rfl rfl ?_
  refine ms1 F (i * 5 + j) (jo_ixl i j) (jo_ixb hi hj) dX1_setFilter_10 ?_
  refine jo_aload_n F 0 dX1_setFilter_11 rfl rfl ?_
  refine mg1 F dX1_setFilter_12 ?_
  refine jo_iconst (x := (nI 5)) F dX1_setFilter_15 (by decide) ?_
  refine jo_iload_n F 2 dX1_setFilter_16 rfl rfl ?_
  refine jo_imul F dX1_setFilter_17 ?_
  refine jo_iload_n F 1 dX1_setFilter_18 rfl rfl ?_
  refine jo_iadd F dX1_setFilter_19 ?_
  refine jo_iload_n F 3 dX1_setFilter_20 rfl rfl ?_
  refine ms1 F (j * 5 + i) (jo_ixl j i) (jo_ixb hj hi) dX1_setFilter_21 ?_
  exact jo_vret F hQ dX1_setFilter_22 rfl
theorem mC_setFilter {K : jo_C} {D : va_G} {a : Nat → Nat} {d : Nat → ClassId} {v : jo_V} {pc : Nat} {L : List (Option Value)} {st : List Value} {cc : ByteArray} {nL : Nat} {fr lo : Nat} (F : jo_F K cc nL RX1 fr lo) {i j : Nat} {y : Int32} (hi : i < 5) (hj : j < 5) (hfr : 0 + 1 ≤ fr) (hlo : 8 + (4 + 11) + 0 ≤ lo) (hcat : (st.map fun v => v.category).sum ≤ 8) (hlen : L.length = nL) (hdg : decode cc pc = .ok (.invokevirtual 36, 3)) (k : jo_G K D (mT d) (mW a d) (jo_mset v i j y) (pc + 3) L st) : jo_G K D (mT d) (mW a d) v pc L (.int y :: .int (nI j) :: .int (nI i) :: .ref (a 4) :: st) :=
  jo_callv F (q0 := 4) (np := 3) (fun l => mM_setFilter l D a d v i j y hi hj) rfl rfl (lw_V q248 q250 qs14 q29 q251) (by decide +kernel) rfl rfl rfl hfr hlo rfl hcat hlen hdg (fun u h => by subst h; exact k)
/-- filter(i, j, x) of the reference -/
def jo_mfil (v : jo_V) (i j y : Int32) : Int32 × jo_V := if (jo_badP i j || decide (y < 0) || decide (nI 6 < y)) = true then (-1, v) else (jo_b (decide (0 ≤ v 1 (i.toNatClampNeg * 5 + j.toNatClampNeg))), jo_mset v i.toNatClampNeg j.toNatClampNeg y)
set_option maxHeartbeats 4000000 in
set_option maxRecDepth 100000 in
/-- filter(i, j, x) -/
theorem mM_filter (l : Launch) (D : va_G) (a : Nat → Nat) (d : Nat → ClassId) (v : jo_V) (i j y : Int32)  : jo_Mi l yX1_filter (ws_ yX1_filter cX1_filter 5 (some .int)) ({ frames := 2, cells := 0, slots := 0, locals := 43 } : Room) [.ref (a 4), .int i, .int j, .int y] D (mT d) (mW a d) v (fun r u => r = (jo_mfil v i j y).1 ∧ u = (jo_mfil v i j y).2) := by
  refine jo_Mi.of (by decide) (jo_cat rfl) (Nat.le_of_ble_eq_true rfl) (fun K F hQ => ?_)
  show jo_G K D (mT d) (mW a d) v 0 [some (.ref (a 4)), some (.int i), some (.int j), some (.int y), none] []
  refine jo_aload_n F 0 dX1_filter_0 rfl rfl ?_
  refine jo_iload_n F 1 dX1_filter_1 rfl rfl ?_
  refine jo_iload_n F 2 dX1_filter_2 rfl rfl ?_
  refine mC_isPair F (Nat.le_of_ble_eq_true rfl) (Nat.le_of_ble_eq_true rfl) (Nat.le_of_ble_eq_true rfl) rfl dX1_filter_3 ?_
  refine jo_ifb_eq F 19 dX1_filter_6 (by decide) (fun h6 => ?_) (fun h6 => ?_)
  · have h6 : jo_badP i j = true := by simpa using h6
    refine jo_iconst (x := (-1)) F dX1_filter_19 (by decide) ?_
    exact jo_iret F hQ dX1_filter_20 (by rw [show jo_mfil v i j y = (-1, v) from if_pos (by simp [← Int32.not_le, *])]; exact ⟨rfl, rfl⟩)
  · have h6 : jo_badP i j = false := by simpa using h6
    refine jo_iload_n F 3 dX1_filter_9 rfl rfl ?_
    refine jo_if_lt F 19 dX1_filter_10 (by decide) (fun h10 => ?_) (fun h10 => ?_)
    · refine jo_iconst (x := (-1)) F dX1_filter_19 (by decide) ?_
      exact jo_iret F hQ dX1_filter_20 (by rw [show jo_mfil v i j y = (-1, v) from if_pos (by simp [← Int32.not_le, *])]; exact ⟨rfl, rfl⟩)
    · refine jo_iload_n F 3 dX1_filter_13 rfl rfl ?_
      refine jo_bipush (x := (nI 6)) F dX1_filter_14 (by decide) ?_
      refine jo_icmp_le F 21 dX1_filter_16 (by decide) (fun h16 => ?_) (fun h16 => ?_)
      · obtain ⟨a1, b1, ha, hb, -, rfl, rfl⟩ := jo_okP h6
        have e : jo_mfil v (nI a1) (nI b1) y = (jo_b (decide (0 ≤ v 1 (a1 * 5 + b1))), jo_mset v a1 b1 y) := by
          unfold jo_mfil
          rw [if_neg (by simp [← Int32.not_le, *]), nI_clamp (by omega), nI_clamp (by omega)]
        refine jo_aload_n F 0 dX1_filter_21 rfl rfl ?_
        refine mg1 F dX1_filter_22 ?_
        refine jo_iconst (x := (nI 5)) F dX1_filter_25 (by decide) ?_
        refine jo_iload_n F 1 dX1_filter_26 rfl rfl ?_
        refine jo_imul F dX1_filter_27 ?_
        refine jo_iload_n F 2 dX1_filter_28 rfl rfl ?_
        refine jo_iadd F dX1_filter_29 ?_
        refine ml1 F (a1 * 5 + b1) (jo_ixl a1 b1) (jo_ixb ha hb) dX1_filter_30 ?_
        refine jo_if_ge F 38 dX1_filter_31 (by decide) (fun h31 => ?_) (fun h31 => ?_)
        · refine jo_iconst (x := (nI 1)) F dX1_filter_38 (by decide) ?_
          refine jo_istore F 4 dX1_filter_39 (Nat.le_of_ble_eq_true rfl) ?_
          refine jo_aload_n F 0 dX1_filter_41 rfl rfl ?_
          refine jo_iload_n F 1 dX1_filter_42 rfl rfl ?_
          refine jo_iload_n F 2 dX1_filter_43 rfl rfl ?_
          refine jo_iload_n F 3 dX1_filter_44 rfl rfl ?_
          refine mC_setFilter F ha hb (Nat.le_of_ble_eq_true rfl) (Nat.le_of_ble_eq_true rfl) (Nat.le_of_ble_eq_true rfl) rfl dX1_filter_45 ?_
          refine jo_iload F 4 dX1_filter_48 rfl ?_
          exact jo_iret F hQ dX1_filter_50 (by rw [e]; exact ⟨by simp [jo_b, h31], rfl⟩)
        · refine jo_iconst (x := (nI 0)) F dX1_filter_34 (by decide) ?_
          refine jo_goto F 39 dX1_filter_35 (by decide) ?_
          refine jo_istore F 4 dX1_filter_39 (Nat.le_of_ble_eq_true rfl) ?_
          refine jo_aload_n F 0 dX1_filter_41 rfl rfl ?_
          refine jo_iload_n F 1 dX1_filter_42 rfl rfl ?_
          refine jo_iload_n F 2 dX1_filter_43 rfl rfl ?_
          refine jo_iload_n F 3 dX1_filter_44 rfl rfl ?_
          refine mC_setFilter F ha hb (Nat.le_of_ble_eq_true rfl) (Nat.le_of_ble_eq_true rfl) (Nat.le_of_ble_eq_true rfl) rfl dX1_filter_45 ?_
          refine jo_iload F 4 dX1_filter_48 rfl ?_
          exact jo_iret F hQ dX1_filter_50 (by rw [e]; exact ⟨by simp [jo_b, h31], rfl⟩)
      · refine jo_iconst (x := (-1)) F dX1_filter_19 (by decide) ?_
        exact jo_iret F hQ dX1_filter_20 (by rw [show jo_mfil v i j y = (-1, v) from if_pos (by simp [← Int32.not_le, *])]; exact ⟨rfl, rfl⟩)
/-- unfilter(i, j) of the reference -/
def jo_munf (v : jo_V) (i j : Int32) : Int32 × jo_V := if jo_badP i j = true then (-1, v) else (if 0 ≤ v 1 (i.toNatClampNeg * 5 + j.toNatClampNeg) then v 1 (i.toNatClampNeg * 5 + j.toNatClampNeg) else -4, jo_mset v i.toNatClampNeg j.toNatClampNeg (-1))
set_option maxHeartbeats 4000000 in
set_option maxRecDepth 100000 in
/-- unfilter(i, j) -/
theorem mM_unfilter (l : Launch) (D : va_G) (a : Nat → Nat) (d : Nat → ClassId) (v : jo_V) (i j : Int32)  : jo_Mi l yX1_unfilter (ws_ yX1_unfilter cX1_unfilter 4 (some .int)) ({ frames := 2, cells := 0, slots := 0, locals := 43 } : Room) [.ref (a 4), .int i, .int j] D (mT d) (mW a d) v (fun r u => r = (jo_munf v i j).1 ∧ u = (jo_munf v i j).2) := by
  refine jo_Mi.of (by decide) (jo_cat rfl) (Nat.le_of_ble_eq_true rfl) (fun K F hQ => ?_)
  show jo_G K D (mT d) (mW a d) v 0 [some (.ref (a 4)), some (.int i), some (.int j), none] []
  refine jo_aload_n F 0 dX1_unfilter_0 rfl rfl ?_
  refine jo_iload_n F 1 dX1_unfilter_1 rfl rfl ?_
  refine jo_iload_n F 2 dX1_unfilter_2 rfl rfl ?_
  refine mC_isPair F (Nat.le_of_ble_eq_true rfl) (Nat.le_of_ble_eq_true rfl) (Nat.le_of_ble_eq_true rfl) rfl dX1_unfilter_3 ?_
  refine jo_ifb_ne F 11 dX1_unfilter_6 (by decide) (fun h6 => ?_) (fun h6 => ?_)
  · have h6 : jo_badP i j = false := by simpa using h6
    obtain ⟨a1, b1, ha, hb, -, rfl, rfl⟩ := jo_okP h6
    have e : jo_munf v (nI a1) (nI b1) = (if 0 ≤ v 1 (a1 * 5 + b1) then v 1 (a1 * 5 + b1) else -4, jo_mset v a1 b1 (-1)) := by
      unfold jo_munf
      rw [if_neg (by rw [h6]; decide), nI_clamp (by omega), nI_clamp (by omega)]
    refine jo_aload_n F 0 dX1_unfilter_11 rfl rfl ?_
    refine mg1 F dX1_unfilter_12 ?_
    refine jo_iconst (x := (nI 5)) F dX1_unfilter_15 (by decide) ?_
    refine jo_iload_n F 1 dX1_unfilter_16 rfl rfl ?_
    refine jo_imul F dX1_unfilter_17 ?_
    refine jo_iload_n F 2 dX1_unfilter_18 rfl rfl ?_
    refine jo_iadd F dX1_unfilter_19 ?_
    refine ml1 F (a1 * 5 + b1) (jo_ixl a1 b1) (jo_ixb ha hb) dX1_unfilter_20 ?_
    refine jo_istore_n F 3 dX1_unfilter_21 rfl (Nat.le_of_ble_eq_true rfl) ?_
    refine jo_aload_n F 0 dX1_unfilter_22 rfl rfl ?_
    refine jo_iload_n F 1 dX1_unfilter_23 rfl rfl ?_
    refine jo_iload_n F 2 dX1_unfilter_24 rfl rfl ?_
    refine jo_iconst (x := (-1)) F dX1_unfilter_25 (by decide) ?_
    refine mC_setFilter F ha hb (Nat.le_of_ble_eq_true rfl) (Nat.le_of_ble_eq_true rfl) (Nat.le_of_ble_eq_true rfl) rfl dX1_unfilter_26 ?_
    refine jo_iload_n F 3 dX1_unfilter_29 rfl rfl ?_
    refine jo_if_ge F 38 dX1_unfilter_30 (by decide) (fun h30 => ?_) (fun h30 => ?_)
    · refine jo_iload_n F 3 dX1_unfilter_38 rfl rfl ?_
      exact jo_iret F hQ dX1_unfilter_39 (by rw [e]; first | (rw [if_pos h30]; exact ⟨rfl, rfl⟩) | (rw [if_neg h30]; exact ⟨rfl, rfl⟩))
    · refine jo_bipush (x := (-4)) F dX1_unfilter_33 (by decide) ?_
      refine jo_goto F 39 dX1_unfilter_35 (by decide) ?_
      exact jo_iret F hQ dX1_unfilter_39 (by rw [e]; first | (rw [if_pos h30]; exact ⟨rfl, rfl⟩) | (rw [if_neg h30]; exact ⟨rfl, rfl⟩))
  · have h6 : jo_badP i j = true := by simpa using h6
    refine jo_iconst (x := (-1)) F dX1_unfilter_9 (by decide) ?_
    exact jo_iret F hQ dX1_unfilter_10 (by rw [show jo_munf v i j = (-1, v) from if_pos h6]; exact ⟨rfl, rfl⟩)
set_option maxHeartbeats 4000000 in
set_option maxRecDepth 100000 in
/-- has(set, i) -/
theorem mM_has (l : Launch) (D : va_G) (a : Nat → Nat) (d : Nat → ClassId) (v : jo_V) (S i : Nat) (hS : S < 2 ^ 31) (hi : i < 32) : jo_Mi l yX1_has (ws_ yX1_has cX1_has 3 (some .boolean)) ({ frames := 0, cells := 0, slots := 0, locals := 0 } : Room) [.ref (a 4), .int (nI S), .int (nI i)] D (mT d) (mW a d) v (fun r u => r = jo_b (S.testBit i) ∧ u = v) := by
  refine jo_Mi.of (by decide) (jo_cat rfl) (Nat.le_of_ble_eq_true rfl) (fun K F hQ => ?_)
  show jo_G K D (mT d) (mW a d) v 0 [some (.ref (a 4)), some (.int (nI S)), some (.int (nI i))] []
  refine jo_iload_n F 1 dX1_has_0 rfl rfl ?_
  refine jo_iload_n F 2 dX1_has_1 rfl rfl ?_
  refine jo_ishr F dX1_has_2 ?_
  refine jo_iconst (x := (nI 1)) F dX1_has_3 (by decide) ?_
  refine jo_iand F dX1_has_4 ?_
  refine jo_top (jo_bit hS hi) ?_
  refine jo_iconst (x := (nI 1)) F dX1_has_5 (by decide) ?_
  refine jo_icmpb_ne F 13 dX1_has_6 (by decide) (fun h6 => ?_) (fun h6 => ?_)
  · refine jo_iconst (x := (nI 0)) F dX1_has_13 (by decide) ?_
    exact jo_zret F hQ (S.testBit i) (by rw [h6]; rfl) dX1_has_14 ⟨rfl, rfl⟩
  · refine jo_iconst (x := (nI 1)) F dX1_has_9 (by decide) ?_
    refine jo_goto F 14 dX1_has_10 (by decide) ?_
    exact jo_zret F hQ (S.testBit i) (by rw [h6]; rfl) dX1_has_14 ⟨rfl, rfl⟩
theorem mC_has {K : jo_C} {D : va_G} {a : Nat → Nat} {d : Nat → ClassId} {v : jo_V} {pc : Nat} {L : List (Option Value)} {st : List Value} {cc : ByteArray} {nL : Nat} {fr lo : Nat} (F : jo_F K cc nL RX1 fr lo) {S i : Nat} (hS : S < 2 ^ 31) (hi : i < 32) (hfr : 0 + 1 ≤ fr) (hlo : 8 + (3 + 11) + 0 ≤ lo) (hcat : (st.map fun v => v.category).sum ≤ 8) (hlen : L.length = nL) (hdg : decode cc pc = .ok (.invokevirtual 40, 3)) (k : jo_G K D (mT d) (mW a d) v (pc + 3) L (.int (jo_b (S.testBit i)) :: st)) : jo_G K D (mT d) (mW a d) v pc L (.int (nI i) :: .int (nI S) :: .ref (a 4) :: st) :=
  jo_calli F (q0 := 4) (np := 2) (fun l => mM_has l D a d v S i hS hi) rfl rfl (lw_V q268 q270 qs17 q29 q271) (by decide +kernel) rfl rfl rfl hfr hlo rfl hcat hlen hdg (fun r u h => by obtain ⟨rfl, rfl⟩ := h; exact k)
/-- sizeOf of the reference -/
def jo_mzI (v : jo_V) (S i : Nat) (s0 : Int32) : Nat → Int32
  | 0 => s0
  | j + 1 => if S.testBit i = true ∧ S.testBit j = true ∧ 0 < v 1 (i * 5 + j) then jo_mzI v S i s0 j - v 1 (i * 5 + j) else jo_mzI v S i s0 j
def jo_mzO (v : jo_V) (S : Nat) : Nat → Int32
  | 0 => nI 0
  | i + 1 => jo_mzI v S i (if S.testBit i = true then jo_mzO v S i + v 0 i else jo_mzO v S i) i
def jo_mz (v : jo_V) (S : Nat) : Int32 := if jo_mzO v S 5 < 0 then nI 1 else nI 1 <<< (jo_mzO v S 5 &&& 31)
set_option maxHeartbeats 4000000 in
set_option maxRecDepth 100000 in
/-- sizeOf(set) -/
theorem mM_sizeOf (l : Launch) (D : va_G) (a : Nat → Nat) (d : Nat → ClassId) (v : jo_V) (S : Nat) (hS : S < 32) : jo_Mi l yX1_sizeOf (ws_ yX1_sizeOf cX1_sizeOf 5 (some .int)) ({ frames := 1, cells := 0, slots := 0, locals := 22 } : Room) [.ref (a 4), .int (nI S)] D (mT d) (mW a d) v (fun r u => r = jo_mz v S ∧ u = v) := by
  refine jo_Mi.of (by decide) (jo_cat rfl) (Nat.le_of_ble_eq_true rfl) (fun K F hQ => ?_)
  show jo_G K D (mT d) (mW a d) v 0 [some (.ref (a 4)), some (.int (nI S)), none, none, none] []
  have outer : ∀ i, i ≤ 5 → jo_G K D (mT d) (mW a d) v 4 [some (.ref (a 4)), some (.int (nI S)), some (.int (jo_mzO v S i)), some (.int (nI i)), none] [] := by
    refine jo_up 5 (fun i hi ih => ?_) ?_
    · have mid : ∀ s0 : Int32, s0 = (if S.testBit i = true then jo_mzO v S i + v 0 i else jo_mzO v S i) → jo_G K D (mT d) (mW a d) v 31 [some (.ref (a 4)), some (.int (nI S)), some (.int s0), some (.int (nI i)), none] [] := by
        intro s0 es0
        have inner : ∀ j, j ≤ i → jo_G K D (mT d) (mW a d) v 34 [some (.ref (a 4)), some (.int (nI S)), some (.int (jo_mzI v S i s0 j)), some (.int (nI i)), some (.int (nI j))] [] := by
          refine jo_up i (fun j hj ih2 => ?_) ?_
          · have hj5 : j < 5 := Nat.lt_trans hj hi
            refine jo_iload F 4 dX1_sizeOf_34 rfl ?_
            refine jo_iload_n F 3 dX1_sizeOf_36 rfl rfl ?_
            refine jo_icmp_ge_n F 97 dX1_sizeOf_37 (by decide) (nI_ge hj (by omega)) ?_
            refine jo_aload_n F 0 dX1_sizeOf_40 rfl rfl ?_
            refine jo_iload_n F 1 dX1_sizeOf_41 rfl rfl ?_
            refine jo_iload_n F 3 dX1_sizeOf_42 rfl rfl ?_
            refine mC_has F (by omega) (by omega) (Nat.le_of_ble_eq_true rfl) (Nat.le_of_ble_eq_true rfl) (Nat.le_of_ble_eq_true rfl) rfl dX1_sizeOf_43 ?_
            refine jo_ifb_eq F 89 dX1_sizeOf_46 (by decide) (fun h46 => ?_) (fun h46 => ?_)
            · refine jo_iload_n F 2 dX1_sizeOf_89 rfl rfl ?_
              refine jo_istore_n F 2 dX1_sizeOf_90 rfl (Nat.le_of_ble_eq_true rfl) ?_
              refine jo_iinc F 4 dX1_sizeOf_91 rfl (jo_inc _) ?_
              refine jo_goto F 34 dX1_sizeOf_94 (by decide) ?_
              rw [show jo_mzI v S i s0 (j + 1) = _ from if_neg (by rw [h46]; rintro ⟨q, -⟩; cases q)] at ih2
              exact ih2
            · 
              refine jo_aload_n F 0 dX1_sizeOf_49 rfl rfl ?_
              refine jo_iload_n F 1 dX1_sizeOf_50 rfl rfl ?_
              refine jo_iload F 4 dX1_sizeOf_51 rfl ?_
              refine mC_has F (by omega) (by omega) (Nat.le_of_ble_eq_true rfl) (Nat.le_of_ble_eq_true rfl) (Nat.le_of_ble_eq_true rfl) rfl dX1_sizeOf_53 ?_
              refine jo_ifb_eq F 89 dX1_sizeOf_56 (by decide) (fun h56 => ?_) (fun h56 => ?_)
              · refine jo_iload_n F 2 dX1_sizeOf_89 rfl rfl ?_
                refine jo_istore_n F 2 dX1_sizeOf_90 rfl (Nat.le_of_ble_eq_true rfl) ?_
                refine jo_iinc F 4 dX1_sizeOf_91 rfl (jo_inc _) ?_
                refine jo_goto F 34 dX1_sizeOf_94 (by decide) ?_
                rw [show jo_mzI v S i s0 (j + 1) = _ from if_neg (by rw [h56]; rintro ⟨-, q, -⟩; cases q)] at ih2
                exact ih2
              · 
                refine jo_aload_n F 0 dX1_sizeOf_59 rfl rfl ?_
                refine mg1 F dX1_sizeOf_60 ?_
                refine jo_iconst (x := (nI 5)) F dX1_sizeOf_63 (by decide) ?_
                refine jo_iload_n F 3 dX1_sizeOf_64 rfl rfl ?_
                refine jo_imul F dX1_sizeOf_65 ?_
                refine jo_iload F 4 dX1_sizeOf_66 rfl ?_
                refine jo_iadd F dX1_sizeOf_68 ?_
                refine ml1 F (i * 5 + j) (jo_ixl i j) (jo_ixb hi hj5) dX1_sizeOf_69 ?_
                refine jo_if_le F 89 dX1_sizeOf_70 (by decide) (fun h70 => ?_) (fun h70 => ?_)
                · refine jo_iload_n F 2 dX1_sizeOf_89 rfl rfl ?_
                  refine jo_istore_n F 2 dX1_sizeOf_90 rfl (Nat.le_of_ble_eq_true rfl) ?_
                  refine jo_iinc F 4 dX1_sizeOf_91 rfl (jo_inc _) ?_
                  refine jo_goto F 34 dX1_sizeOf_94 (by decide) ?_
                  rw [show jo_mzI v S i s0 (j + 1) = _ from if_neg (fun q => absurd q.2.2 (Int32.not_lt.mpr h70))] at ih2
                  exact ih2
                · refine jo_iload_n F 2 dX1_sizeOf_73 rfl rfl ?_
                  refine jo_aload_n F 0 dX1_sizeOf_74 rfl rfl ?_
                  refine mg1 F dX1_sizeOf_75 ?_
                  refine jo_iconst (x := (nI 5)) F dX1_sizeOf_78 (by decide) ?_
                  refine jo_iload_n F 3 dX1_sizeOf_79 rfl rfl ?_
                  refine jo_imul F dX1_sizeOf_80 ?_
                  refine jo_iload F 4 dX1_sizeOf_81 rfl ?_
                  refine jo_iadd F dX1_sizeOf_83 ?_
                  refine ml1 F (i * 5 + j) (jo_ixl i j) (jo_ixb hi hj5) dX1_sizeOf_84 ?_
                  refine jo_isub F dX1_sizeOf_85 ?_
                  refine jo_goto F 90 dX1_sizeOf_86 (by decide) ?_
                  refine jo_istore_n F 2 dX1_sizeOf_90 rfl (Nat.le_of_ble_eq_true rfl) ?_
                  refine jo_iinc F 4 dX1_sizeOf_91 rfl (jo_inc _) ?_
                  refine jo_goto F 34 dX1_sizeOf_94 (by decide) ?_
                  rw [show jo_mzI v S i s0 (j + 1) = _ from if_pos ⟨h46, h56, Int32.not_le.mp h70⟩] at ih2
                  exact ih2
          · refine jo_iload F 4 dX1_sizeOf_34 rfl ?_
            refine jo_iload_n F 3 dX1_sizeOf_36 rfl rfl ?_
            refine jo_icmp_ge_y F 97 dX1_sizeOf_37 (by decide) (nI_le (Nat.le_refl _) (by omega)) ?_
            refine jo_iinc F 3 dX1_sizeOf_97 rfl (jo_inc _) ?_
            refine jo_goto F 4 dX1_sizeOf_100 (by decide) ?_
            refine jo_forget 4 ?_
            rw [show jo_mzO v S (i + 1) = jo_mzI v S i s0 i by rw [es0]; rfl] at ih
            exact ih
        refine jo_iconst (x := (nI 0)) F dX1_sizeOf_31 (by decide) ?_
        refine jo_istore F 4 dX1_sizeOf_32 (Nat.le_of_ble_eq_true rfl) ?_
        exact inner 0 (Nat.zero_le _)
      refine jo_iload_n F 3 dX1_sizeOf_4 rfl rfl ?_
      refine jo_iconst (x := (nI 5)) F dX1_sizeOf_5 (by decide) ?_
      refine jo_icmp_ge_n F 103 dX1_sizeOf_6 (by decide) (nI_ge hi (by decide)) ?_
      refine jo_aload_n F 0 dX1_sizeOf_9 rfl rfl ?_
      refine jo_iload_n F 1 dX1_sizeOf_10 rfl rfl ?_
      refine jo_iload_n F 3 dX1_sizeOf_11 rfl rfl ?_
      refine mC_has F (by omega) (by omega) (Nat.le_of_ble_eq_true rfl) (Nat.le_of_ble_eq_true rfl) (Nat.le_of_ble_eq_true rfl) rfl dX1_sizeOf_12 ?_
      refine jo_ifb_eq F 29 dX1_sizeOf_15 (by decide) (fun h15 => ?_) (fun h15 => ?_)
      · refine jo_iload_n F 2 dX1_sizeOf_29 rfl rfl ?_
        refine jo_istore_n F 2 dX1_sizeOf_30 rfl (Nat.le_of_ble_eq_true rfl) ?_
        exact mid _ (by rw [if_neg (by rw [h15]; decide)])
      · refine jo_iload_n F 2 dX1_sizeOf_18 rfl rfl ?_
        refine jo_aload_n F 0 dX1_sizeOf_19 rfl rfl ?_
        refine mg0 F dX1_sizeOf_20 ?_
        refine jo_iload_n F 3 dX1_sizeOf_23 rfl rfl ?_
        refine ml0 F i rfl hi dX1_sizeOf_24 ?_
        refine jo_iadd F dX1_sizeOf_25 ?_
        refine jo_goto F 30 dX1_sizeOf_26 (by decide) ?_
        refine jo_istore_n F 2 dX1_sizeOf_30 rfl (Nat.le_of_ble_eq_true rfl) ?_
        exact mid _ (by rw [if_pos h15])
    · refine jo_iload_n F 3 dX1_sizeOf_4 rfl rfl ?_
      refine jo_iconst (x := (nI 5)) F dX1_sizeOf_5 (by decide) ?_
      refine jo_icmp_ge_y F 103 dX1_sizeOf_6 (by decide) (nI_le (Nat.le_refl _) (by decide)) ?_
      refine jo_iload_n F 2 dX1_sizeOf_103 rfl rfl ?_
      refine jo_if_ge F 111 dX1_sizeOf_104 (by decide) (fun h104 => ?_) (fun h104 => ?_)
      · refine jo_iconst (x := (nI 1)) F dX1_sizeOf_111 (by decide) ?_
        refine jo_iload_n F 2 dX1_sizeOf_112 rfl rfl ?_
        refine jo_ishl F dX1_sizeOf_113 ?_
        exact jo_iret F hQ dX1_sizeOf_114 ⟨by unfold jo_mz; first | rw [if_neg (Int32.not_lt.mpr h104)] | rw [if_pos (Int32.not_le.mp h104)], rfl⟩
      · refine jo_iconst (x := (nI 1)) F dX1_sizeOf_107 (by decide) ?_
        refine jo_goto F 114 dX1_sizeOf_108 (by decide) ?_
        exact jo_iret F hQ dX1_sizeOf_114 ⟨by unfold jo_mz; first | rw [if_neg (Int32.not_lt.mpr h104)] | rw [if_pos (Int32.not_le.mp h104)], rfl⟩
  refine jo_iconst (x := (nI 0)) F dX1_sizeOf_0 (by decide) ?_
  refine jo_istore_n F 2 dX1_sizeOf_1 rfl (Nat.le_of_ble_eq_true rfl) ?_
  refine jo_iconst (x := (nI 0)) F dX1_sizeOf_2 (by decide) ?_
  refine jo_istore_n F 3 dX1_sizeOf_3 rfl (Nat.le_of_ble_eq_true rfl) ?_
  exact outer 0 (Nat.zero_le _)
theorem mC_sizeOf {K : jo_C} {D : va_G} {a : Nat → Nat} {d : Nat → ClassId} {v : jo_V} {pc : Nat} {L : List (Option Value)} {st : List Value} {cc : ByteArray} {nL : Nat} {fr lo : Nat} (F : jo_F K cc nL RX1 fr lo) {S : Nat} (hS : S < 32) (hfr : 1 + 1 ≤ fr) (hlo : 8 + (5 + 11) + 22 ≤ lo) (hcat : (st.map fun v => v.category).sum ≤ 8) (hlen : L.length = nL) (hdg : decode cc pc = .ok (.invokevirtual 46, 3)) (k : jo_G K D (mT d) (mW a d) v (pc + 3) L (.int (jo_mz v S) :: st)) : jo_G K D (mT d) (mW a d) v pc L (.int (nI S) :: .ref (a 4) :: st) :=
  jo_calli F (q0 := 4) (np := 1) (fun l => mM_sizeOf l D a d v S hS) rfl rfl (lw_V q264 q266 qs16 q29 q267) (by decide +kernel) rfl rfl rfl hfr hlo rfl hcat hlen hdg (fun r u h => by obtain ⟨rfl, rfl⟩ := h; exact k)
set_option maxHeartbeats 4000000 in
set_option maxRecDepth 100000 in
/-- size(set) -/
theorem mM_size (l : Launch) (D : va_G) (a : Nat → Nat) (d : Nat → ClassId) (v : jo_V) (i : Int32)  : jo_Mi l yX1_size (ws_ yX1_size cX1_size 2 (some .int)) ({ frames := 2, cells := 0, slots := 0, locals := 46 } : Room) [.ref (a 4), .int i] D (mT d) (mW a d) v (fun r u => r = (if jo_badS i = true then -1 else jo_mz v i.toNatClampNeg) ∧ u = v) := by
  refine jo_Mi.of (by decide) (jo_cat rfl) (Nat.le_of_ble_eq_true rfl) (fun K F hQ => ?_)
  show jo_G K D (mT d) (mW a d) v 0 [some (.ref (a 4)), some (.int i)] []
  refine jo_aload_n F 0 dX1_size_0 rfl rfl ?_
  refine jo_iload_n F 1 dX1_size_1 rfl rfl ?_
  refine mC_isSet F (Nat.le_of_ble_eq_true rfl) (Nat.le_of_ble_eq_true rfl) (Nat.le_of_ble_eq_true rfl) rfl dX1_size_2 ?_
  refine jo_ifb_eq F 16 dX1_size_5 (by decide) (fun h5 => ?_) (fun h5 => ?_)
  · have h5 : jo_badS i = true := by simpa using h5
    refine jo_iconst (x := (-1)) F dX1_size_16 (by decide) ?_
    exact jo_iret F hQ dX1_size_17 (by first | (rw [if_pos h5]; exact ⟨rfl, rfl⟩) | (rw [if_neg hg, nI_clamp (show S < 2 ^ 31 by omega)]; exact ⟨rfl, rfl⟩))
  · have h5 : jo_badS i = false := by simpa using h5
    obtain ⟨S, hS0, hS, rfl⟩ := jo_okS h5
    have hg : ¬ jo_badS (nI S) = true := by rw [h5]; decide
    refine jo_aload_n F 0 dX1_size_8 rfl rfl ?_
    refine jo_iload_n F 1 dX1_size_9 rfl rfl ?_
    refine mC_sizeOf F hS (Nat.le_of_ble_eq_true rfl) (Nat.le_of_ble_eq_true rfl) (Nat.le_of_ble_eq_true rfl) rfl dX1_size_10 ?_
    refine jo_goto F 17 dX1_size_13 (by decide) ?_
    exact jo_iret F hQ dX1_size_17 (by first | (rw [if_pos h5]; exact ⟨rfl, rfl⟩) | (rw [if_neg hg, nI_clamp (show S < 2 ^ 31 by omega)]; exact ⟨rfl, rfl⟩))
/-- isLinked: a filter at place i joins the sets -/
def jo_hit (v : jo_V) (A B i : Nat) : Bool := !decide (v 1 i < 0) && A.testBit (i / 5) && B.testBit (i % 5)
def jo_mlk (v : jo_V) (A B : Nat) : Bool := (List.range 25).any (jo_hit v A B)
set_option maxHeartbeats 4000000 in
set_option maxRecDepth 100000 in
/-- isLinked(a, b) -/
theorem mM_isLinked (l : Launch) (D : va_G) (a : Nat → Nat) (d : Nat → ClassId) (v : jo_V) (A B : Nat) (hA : A < 32) (hB : B < 32) : jo_Mi l yX1_isLinked (ws_ yX1_isLinked cX1_isLinked 4 (some .boolean)) ({ frames := 1, cells := 0, slots := 0, locals := 22 } : Room) [.ref (a 4), .int (nI A), .int (nI B)] D (mT d) (mW a d) v (fun r u => r = jo_b (jo_mlk v A B) ∧ u = v) := by
  refine jo_Mi.of (by decide) (jo_cat rfl) (Nat.le_of_ble_eq_true rfl) (fun K F hQ => ?_)
  show jo_G K D (mT d) (mW a d) v 0 [some (.ref (a 4)), some (.int (nI A)), some (.int (nI B)), none] []
  have lp : ∀ n i, i + n = 25 → (∀ j, j < i → jo_hit v A B j = false) → jo_G K D (mT d) (mW a d) v 2 [some (.ref (a 4)), some (.int (nI A)), some (.int (nI B)), some (.int (nI i))] [] := by
    intro n
    induction n with
    | zero =>
      intro i hi hj
      obtain rfl : i = 25 := by omega
      have e : jo_mlk v A B = false := by
        unfold jo_mlk
        rw [List.any_eq_false]
        intro j hj'
        rw [hj j (List.mem_range.mp hj')]
        decide
      refine jo_iload_n F 3 dX1_isLinked_2 rfl rfl ?_
      refine jo_bipush (x := (nI 25)) F dX1_isLinked_3 (by decide) ?_
      refine jo_icmp_ge_y F 47 dX1_isLinked_5 (by decide) (nI_le (Nat.le_refl _) (by decide)) ?_
      refine jo_iconst (x := (nI 0)) F dX1_isLinked_47 (by decide) ?_
      exact jo_zret F hQ _ (jo_b_f e) dX1_isLinked_48 ⟨rfl, rfl⟩
    | succ n ih =>
      intro i hi hj
      have hi' : i < 25 := by omega
      have nx : jo_hit v A B i = false → jo_G K D (mT d) (mW a d) v 2 [some (.ref (a 4)), some (.int (nI A)), some (.int (nI B)), some (.int (nI (i + 1)))] [] := fun e => ih (i + 1) (by omega) (fun j h => (Nat.lt_or_ge j i).elim (hj j) (fun q => by rw [show j = i by omega]; exact e))
      refine jo_iload_n F 3 dX1_isLinked_2 rfl rfl ?_
      refine jo_bipush (x := (nI 25)) F dX1_isLinked_3 (by decide) ?_
      refine jo_icmp_ge_n F 47 dX1_isLinked_5 (by decide) (nI_ge hi' (by decide)) ?_
      refine jo_aload_n F 0 dX1_isLinked_8 rfl rfl ?_
      refine mg1 F dX1_isLinked_9 ?_
      refine jo_iload_n F 3 dX1_isLinked_12 rfl rfl ?_
      refine ml1 F i rfl hi' dX1_isLinked_13 ?_
      refine jo_if_lt F 41 dX1_isLinked_14 (by decide) (fun h14 => ?_) (fun h14 => ?_)
      · refine jo_iinc F 3 dX1_isLinked_41 rfl (jo_inc _) ?_
        refine jo_goto F 2 dX1_isLinked_44 (by decide) ?_
        exact nx (by simp [jo_hit, h14])
      · 
        refine jo_aload_n F 0 dX1_isLinked_17 rfl rfl ?_
        refine jo_iload_n F 1 dX1_isLinked_18 rfl rfl ?_
        refine jo_iload_n F 3 dX1_isLinked_19 rfl rfl ?_
        refine jo_iconst (x := (nI 5)) F dX1_isLinked_20 (by decide) ?_
        refine jo_idiv F dX1_isLinked_21 (by decide) ?_
        refine jo_top (pk_div (by omega) (by decide) (by decide)) ?_
        refine mC_has F (by omega) (by omega) (Nat.le_of_ble_eq_true rfl) (Nat.le_of_ble_eq_true rfl) (Nat.le_of_ble_eq_true rfl) rfl dX1_isLinked_22 ?_
        refine jo_ifb_eq F 41 dX1_isLinked_25 (by decide) (fun h25 => ?_) (fun h25 => ?_)
        · refine jo_iinc F 3 dX1_isLinked_41 rfl (jo_inc _) ?_
          refine jo_goto F 2 dX1_isLinked_44 (by decide) ?_
          exact nx (by simp [jo_hit, h25])
        · 
          refine jo_aload_n F 0 dX1_isLinked_28 rfl rfl ?_
          refine jo_iload_n F 2 dX1_isLinked_29 rfl rfl ?_
          refine jo_iload_n F 3 dX1_isLinked_30 rfl rfl ?_
          refine jo_iconst (x := (nI 5)) F dX1_isLinked_31 (by decide) ?_
          refine jo_irem F dX1_isLinked_32 (by decide) ?_
          refine jo_top (pk_rem (by omega) (by decide) (by decide)) ?_
          refine mC_has F (by omega) (by omega) (Nat.le_of_ble_eq_true rfl) (Nat.le_of_ble_eq_true rfl) (Nat.le_of_ble_eq_true rfl) rfl dX1_isLinked_33 ?_
          refine jo_ifb_eq F 41 dX1_isLinked_36 (by decide) (fun h36 => ?_) (fun h36 => ?_)
          · refine jo_iinc F 3 dX1_isLinked_41 rfl (jo_inc _) ?_
            refine jo_goto F 2 dX1_isLinked_44 (by decide) ?_
            exact nx (by simp [jo_hit, h36])
          · 
            refine jo_iconst (x := (nI 1)) F dX1_isLinked_39 (by decide) ?_
            exact jo_zret F hQ _ (jo_b_t (by unfold jo_mlk; rw [List.any_eq_true]; exact ⟨i, List.mem_range.mpr hi', by simp [jo_hit, h14, h25, h36]⟩)) dX1_isLinked_40 ⟨rfl, rfl⟩
  refine jo_iconst (x := (nI 0)) F dX1_isLinked_0 (by decide) ?_
  refine jo_istore_n F 3 dX1_isLinked_1 rfl (Nat.le_of_ble_eq_true rfl) ?_
  exact lp 25 0 rfl (fun j h => absurd h (Nat.not_lt_zero _))
theorem mC_isLinked {K : jo_C} {D : va_G} {a : Nat → Nat} {d : Nat → ClassId} {v : jo_V} {pc : Nat} {L : List (Option Value)} {st : List Value} {cc : ByteArray} {nL : Nat} {fr lo : Nat} (F : jo_F K cc nL RX1 fr lo) {A B : Nat} (hA : A < 32) (hB : B < 32) (hfr : 1 + 1 ≤ fr) (hlo : 8 + (4 + 11) + 22 ≤ lo) (hcat : (st.map fun v => v.category).sum ≤ 8) (hlen : L.length = nL) (hdg : decode cc pc = .ok (.invokevirtual 50, 3)) (k : jo_G K D (mT d) (mW a d) v (pc + 3) L (.int (jo_b (jo_mlk v A B)) :: st)) : jo_G K D (mT d) (mW a d) v pc L (.int (nI B) :: .int (nI A) :: .ref (a 4) :: st) :=
  jo_calli F (q0 := 4) (np := 2) (fun l => mM_isLinked l D a d v A B hA hB) rfl rfl (lw_V q276 q278 qs18 q29 q279) (by decide +kernel) rfl rfl rfl hfr hlo rfl hcat hlen hdg (fun r u h => by obtain ⟨rfl, rfl⟩ := h; exact k)
/-- connected of the reference: a part without a link to the rest -/
def jo_cut (v : jo_V) (S P : Nat) : Bool := decide (0 < P) && decide (jo_dif P S = 0) && !jo_mlk v P (jo_dif S P)
def jo_mcon (v : jo_V) (i : Int32) : Bool := !jo_badS i && !(List.range i.toNatClampNeg).any (jo_cut v i.toNatClampNeg)
set_option maxHeartbeats 4000000 in
set_option maxRecDepth 100000 in
/-- connected(set) -/
theorem mM_connected (l : Launch) (D : va_G) (a : Nat → Nat) (d : Nat → ClassId) (v : jo_V) (i : Int32)  : jo_Mi l yX1_connected (ws_ yX1_connected cX1_connected 3 (some .boolean)) ({ frames := 2, cells := 0, slots := 0, locals := 45 } : Room) [.ref (a 4), .int i] D (mT d) (mW a d) v (fun r u => r = jo_b (jo_mcon v i) ∧ u = v) := by
  refine jo_Mi.of (by decide) (jo_cat rfl) (Nat.le_of_ble_eq_true rfl) (fun K F hQ => ?_)
  show jo_G K D (mT d) (mW a d) v 0 [some (.ref (a 4)), some (.int i), none] []
  refine jo_aload_n F 0 dX1_connected_0 rfl rfl ?_
  refine jo_iload_n F 1 dX1_connected_1 rfl rfl ?_
  refine mC_isSet F (Nat.le_of_ble_eq_true rfl) (Nat.le_of_ble_eq_true rfl) (Nat.le_of_ble_eq_true rfl) rfl dX1_connected_2 ?_
  refine jo_ifb_ne F 10 dX1_connected_5 (by decide) (fun h5 => ?_) (fun h5 => ?_)
  · have h5 : jo_badS i = false := by simpa using h5
    obtain ⟨S, hS0, hS, rfl⟩ := jo_okS h5
    have hg : ¬ jo_badS (nI S) = true := by rw [h5]; decide
    refine jo_iconst (x := (nI 1)) F dX1_connected_10 (by decide) ?_
    refine jo_istore_n F 2 dX1_connected_11 rfl (Nat.le_of_ble_eq_true rfl) ?_
    have lp : ∀ n P, 0 < P → P + n = S → (∀ j, j < P → jo_cut v S j = false) → jo_G K D (mT d) (mW a d) v 12 [some (.ref (a 4)), some (.int (nI S)), some (.int (nI P))] [] := by
      intro n
      induction n with
      | zero =>
        intro P hP0 hP hj
        obtain rfl : P = S := by omega
        have e : jo_mcon v (nI P) = true := by
          unfold jo_mcon
          rw [h5, nI_clamp (show P < 2 ^ 31 by omega), show (List.range P).any (jo_cut v P) = false from List.any_eq_false.mpr (fun j hj' => by rw [hj j (List.mem_range.mp hj')]; decide)]
          rfl
        refine jo_iload_n F 2 dX1_connected_12 rfl rfl ?_
        refine jo_iload_n F 1 dX1_connected_13 rfl rfl ?_
        refine jo_icmp_ge_y F 46 dX1_connected_14 (by decide) (nI_le (Nat.le_refl _) (by omega)) ?_
        refine jo_iconst (x := (nI 1)) F dX1_connected_46 (by decide) ?_
        exact jo_zret F hQ _ (jo_b_t e) dX1_connected_47 ⟨rfl, rfl⟩
      | succ n ih =>
        intro P hP0 hP hj
        have hPS : P < S := by omega
        have nx : jo_cut v S P = false → jo_G K D (mT d) (mW a d) v 12 [some (.ref (a 4)), some (.int (nI S)), some (.int (nI (P + 1)))] [] := fun e => ih (P + 1) (by omega) (by omega) (fun j h => (Nat.lt_or_ge j P).elim (hj j) (fun q => by rw [show j = P by omega]; exact e))
        refine jo_iload_n F 2 dX1_connected_12 rfl rfl ?_
        refine jo_iload_n F 1 dX1_connected_13 rfl rfl ?_
        refine jo_icmp_ge_n F 46 dX1_connected_14 (by decide) (nI_ge hPS (by omega)) ?_
        refine jo_iload_n F 2 dX1_connected_17 rfl rfl ?_
        refine jo_iload_n F 1 dX1_connected_18 rfl rfl ?_
        refine jo_iconst (x := (-1)) F dX1_connected_19 (by decide) ?_
        refine jo_ixor F dX1_connected_20 ?_
        refine jo_iand F dX1_connected_21 ?_
        refine jo_top (jo_dif_k P (by omega) S hS) ?_
        refine jo_if_ne F 40 dX1_connected_22 (by decide) (fun h22 => ?_) (fun h22 => ?_)
        · refine jo_iinc F 2 dX1_connected_40 rfl (jo_inc _) ?_
          refine jo_goto F 12 dX1_connected_43 (by decide) ?_
          exact nx (by unfold jo_cut; rw [show decide (jo_dif P S = 0) = false from decide_eq_false (fun q => h22 (by rw [q]; rfl))]; simp)
        · have h22 := (jo_nI0 (Nat.lt_trans (jo_dif_lt (show P < 32 by omega)) (by decide))).mp h22
          refine jo_aload_n F 0 dX1_connected_25 rfl rfl ?_
          refine jo_iload_n F 2 dX1_connected_26 rfl rfl ?_
          refine jo_iload_n F 1 dX1_connected_27 rfl rfl ?_
          refine jo_iload_n F 2 dX1_connected_28 rfl rfl ?_
          refine jo_iconst (x := (-1)) F dX1_connected_29 (by decide) ?_
          refine jo_ixor F dX1_connected_30 ?_
          refine jo_iand F dX1_connected_31 ?_
          refine jo_top (jo_dif_k S hS P (by omega)) ?_
          refine mC_isLinked F (by omega) (jo_dif_lt hS) (Nat.le_of_ble_eq_true rfl) (Nat.le_of_ble_eq_true rfl) (Nat.le_of_ble_eq_true rfl) rfl dX1_connected_32 ?_
          refine jo_ifb_ne F 40 dX1_connected_35 (by decide) (fun h35 => ?_) (fun h35 => ?_)
          · refine jo_iinc F 2 dX1_connected_40 rfl (jo_inc _) ?_
            refine jo_goto F 12 dX1_connected_43 (by decide) ?_
            exact nx (by unfold jo_cut; rw [h35]; simp)
          · 
            refine jo_iconst (x := (nI 0)) F dX1_connected_38 (by decide) ?_
            exact jo_zret F hQ _ (jo_b_f (by unfold jo_mcon; rw [nI_clamp (show S < 2 ^ 31 by omega), show (List.range S).any (jo_cut v S) = true from List.any_eq_true.mpr ⟨P, List.mem_range.mpr hPS, by unfold jo_cut; rw [h35]; simp [h22, hP0]⟩]; simp)) dX1_connected_39 ⟨rfl, rfl⟩
    exact lp (S - 1) 1 (by decide) (by omega) (fun j h => by rw [show j = 0 by omega]; rfl)
  · have h5 : jo_badS i = true := by simpa using h5
    refine jo_iconst (x := (nI 0)) F dX1_connected_8 (by decide) ?_
    exact jo_zret F hQ (jo_mcon v i) (by unfold jo_mcon jo_b; rw [h5]; rfl) dX1_connected_9 ⟨rfl, rfl⟩
/-- count(set) -/
def jo_cnN (S : Nat) : Nat → Nat
  | 0 => 0
  | i + 1 => if S.testBit i = true then jo_cnN S i + 1 else jo_cnN S i
def jo_cn (S : Nat) : Nat := jo_cnN S 5
set_option maxHeartbeats 4000000 in
set_option maxRecDepth 100000 in
/-- count(set) -/
theorem mM_count (l : Launch) (D : va_G) (a : Nat → Nat) (d : Nat → ClassId) (v : jo_V) (S : Nat) (hS : S < 32) : jo_Mi l yX1_count (ws_ yX1_count cX1_count 4 (some .int)) ({ frames := 1, cells := 0, slots := 0, locals := 22 } : Room) [.ref (a 4), .int (nI S)] D (mT d) (mW a d) v (fun r u => r = nI (jo_cn S) ∧ u = v) := by
  refine jo_Mi.of (by decide) (jo_cat rfl) (Nat.le_of_ble_eq_true rfl) (fun K F hQ => ?_)
  show jo_G K D (mT d) (mW a d) v 0 [some (.ref (a 4)), some (.int (nI S)), none, none] []
  have lp : ∀ i, i ≤ 5 → jo_G K D (mT d) (mW a d) v 4 [some (.ref (a 4)), some (.int (nI S)), some (.int (nI (jo_cnN S i))), some (.int (nI i))] [] := by
    refine jo_up 5 (fun i hi ih => ?_) ?_
    · refine jo_iload_n F 3 dX1_count_4 rfl rfl ?_
      refine jo_iconst (x := (nI 5)) F dX1_count_5 (by decide) ?_
      refine jo_icmp_ge_n F 32 dX1_count_6 (by decide) (nI_ge hi (by decide)) ?_
      refine jo_aload_n F 0 dX1_count_9 rfl rfl ?_
      refine jo_iload_n F 1 dX1_count_10 rfl rfl ?_
      refine jo_iload_n F 3 dX1_count_11 rfl rfl ?_
      refine mC_has F (by omega) (by omega) (Nat.le_of_ble_eq_true rfl) (Nat.le_of_ble_eq_true rfl) (Nat.le_of_ble_eq_true rfl) rfl dX1_count_12 ?_
      refine jo_ifb_eq F 24 dX1_count_15 (by decide) (fun h15 => ?_) (fun h15 => ?_)
      · refine jo_iload_n F 2 dX1_count_24 rfl rfl ?_
        refine jo_istore_n F 2 dX1_count_25 rfl (Nat.le_of_ble_eq_true rfl) ?_
        refine jo_iinc F 3 dX1_count_26 rfl (jo_inc _) ?_
        refine jo_goto F 4 dX1_count_29 (by decide) ?_
        rw [show jo_cnN S (i + 1) = jo_cnN S i from if_neg (by rw [h15]; decide)] at ih
        exact ih
      · refine jo_iload_n F 2 dX1_count_18 rfl rfl ?_
        refine jo_iconst (x := (nI 1)) F dX1_count_19 (by decide) ?_
        refine jo_iadd F dX1_count_20 ?_
        refine jo_top (nI_1 _) ?_
        refine jo_goto F 25 dX1_count_21 (by decide) ?_
        refine jo_istore_n F 2 dX1_count_25 rfl (Nat.le_of_ble_eq_true rfl) ?_
        refine jo_iinc F 3 dX1_count_26 rfl (jo_inc _) ?_
        refine jo_goto F 4 dX1_count_29 (by decide) ?_
        rw [show jo_cnN S (i + 1) = jo_cnN S i + 1 from if_pos h15] at ih
        exact ih
    · refine jo_iload_n F 3 dX1_count_4 rfl rfl ?_
      refine jo_iconst (x := (nI 5)) F dX1_count_5 (by decide) ?_
      refine jo_icmp_ge_y F 32 dX1_count_6 (by decide) (nI_le (Nat.le_refl _) (by decide)) ?_
      refine jo_iload_n F 2 dX1_count_32 rfl rfl ?_
      exact jo_iret F hQ dX1_count_33 ⟨rfl, rfl⟩
  refine jo_iconst (x := (nI 0)) F dX1_count_0 (by decide) ?_
  refine jo_istore_n F 2 dX1_count_1 rfl (Nat.le_of_ble_eq_true rfl) ?_
  refine jo_iconst (x := (nI 0)) F dX1_count_2 (by decide) ?_
  refine jo_istore_n F 3 dX1_count_3 rfl (Nat.le_of_ble_eq_true rfl) ?_
  exact lp 0 (Nat.zero_le _)
theorem mC_count {K : jo_C} {D : va_G} {a : Nat → Nat} {d : Nat → ClassId} {v : jo_V} {pc : Nat} {L : List (Option Value)} {st : List Value} {cc : ByteArray} {nL : Nat} {fr lo : Nat} (F : jo_F K cc nL RX1 fr lo) {S : Nat} (hS : S < 32) (hfr : 1 + 1 ≤ fr) (hlo : 8 + (4 + 11) + 22 ≤ lo) (hcat : (st.map fun v => v.category).sum ≤ 8) (hlen : L.length = nL) (hdg : decode cc pc = .ok (.invokevirtual 53, 3)) (k : jo_G K D (mT d) (mW a d) v (pc + 3) L (.int (nI (jo_cn S)) :: st)) : jo_G K D (mT d) (mW a d) v pc L (.int (nI S) :: .ref (a 4) :: st) :=
  jo_calli F (q0 := 4) (np := 1) (fun l => mM_count l D a d v S hS) rfl rfl (lw_V q292 q294 qs21 q29 q295) (by decide +kernel) rfl rfl rfl hfr hlo rfl hcat hlen hdg (fun r u h => by obtain ⟨rfl, rfl⟩ := h; exact k)
/-- isForm(form, many): what is held after i things -/
def jo_hI (f : Nat) : Nat → Int32
  | 0 => nI 0
  | i + 1 => if f.testBit i = true then jo_hI f i + nI 1 else jo_hI f i - nI 1
def jo_isF (f n : Nat) : Bool := (List.range (2 * n - 1)).all (fun i => decide (nI 1 ≤ jo_hI f (i + 1))) && decide (jo_hI f (2 * n - 1) = nI 1)
set_option maxHeartbeats 4000000 in
set_option maxRecDepth 100000 in
/-- isForm(form, many) -/
theorem mM_isForm (l : Launch) (D : va_G) (a : Nat → Nat) (d : Nat → ClassId) (v : jo_V) (f n : Nat) (hf : f < 512) (hn0 : 0 < n) (hn : n ≤ 5) : jo_Mi l yX1_isForm (ws_ yX1_isForm cX1_isForm 5 (some .boolean)) ({ frames := 0, cells := 0, slots := 0, locals := 0 } : Room) [.ref (a 4), .int (nI f), .int (nI n)] D (mT d) (mW a d) v (fun r u => r = jo_b (jo_isF f n) ∧ u = v) := by
  refine jo_Mi.of (by decide) (jo_cat rfl) (Nat.le_of_ble_eq_true rfl) (fun K F hQ => ?_)
  show jo_G K D (mT d) (mW a d) v 0 [some (.ref (a 4)), some (.int (nI f)), some (.int (nI n)), none, none] []
  have e2 : nI 2 * nI n - nI 1 = nI (2 * n - 1) := by rw [pk_mul, jo_sub1 (by omega)]
  have lp : ∀ z i, i + z = 2 * n - 1 → (∀ j, j < i → nI 1 ≤ jo_hI f (j + 1)) → jo_G K D (mT d) (mW a d) v 5 [some (.ref (a 4)), some (.int (nI f)), some (.int (nI n)), some (.int (jo_hI f i)), some (.int (nI i))] [] := by
    intro z
    induction z with
    | zero =>
      intro i hi hj
      obtain rfl : i = 2 * n - 1 := by omega
      have e : jo_isF f n = decide (jo_hI f (2 * n - 1) = nI 1) := by
        unfold jo_isF
        rw [show (List.range (2 * n - 1)).all (fun i => decide (nI 1 ≤ jo_hI f (i + 1))) = true from List.all_eq_true.mpr (fun j hj' => decide_eq_true (hj j (List.mem_range.mp hj')))]
        rfl
      refine jo_iload F 4 dX1_isForm_5 rfl ?_
      refine jo_iconst (x := (nI 2)) F dX1_isForm_7 (by decide) ?_
      refine jo_iload_n F 2 dX1_isForm_8 rfl rfl ?_
      refine jo_imul F dX1_isForm_9 ?_
      refine jo_iconst (x := (nI 1)) F dX1_isForm_10 (by decide) ?_
      refine jo_isub F dX1_isForm_11 ?_
      refine jo_top e2 ?_
      refine jo_icmp_ge_y F 48 dX1_isForm_12 (by decide) (nI_le (Nat.le_refl _) (by omega)) ?_
      refine jo_iload_n F 3 dX1_isForm_48 rfl rfl ?_
      refine jo_iconst (x := (nI 1)) F dX1_isForm_49 (by decide) ?_
      refine jo_icmp_ne F 57 dX1_isForm_50 (by decide) (fun h50 => ?_) (fun h50 => ?_)
      · refine jo_iconst (x := (nI 0)) F dX1_isForm_57 (by decide) ?_
        exact jo_zret F hQ (jo_isF f n) (by rw [e]; simp [jo_b, h50]) dX1_isForm_58 ⟨rfl, rfl⟩
      · refine jo_iconst (x := (nI 1)) F dX1_isForm_53 (by decide) ?_
        refine jo_goto F 58 dX1_isForm_54 (by decide) ?_
        exact jo_zret F hQ (jo_isF f n) (by rw [e]; simp [jo_b, h50]) dX1_isForm_58 ⟨rfl, rfl⟩
    | succ z ih =>
      intro i hi hj
      have hi' : i < 2 * n - 1 := by omega
      have nx : nI 1 ≤ jo_hI f (i + 1) → jo_G K D (mT d) (mW a d) v 5 [some (.ref (a 4)), some (.int (nI f)), some (.int (nI n)), some (.int (jo_hI f (i + 1))), some (.int (nI (i + 1)))] [] := fun e => ih (i + 1) (by omega) (fun j h => (Nat.lt_or_ge j i).elim (hj j) (fun q => by rw [show j = i by omega]; exact e))
      have J : ∀ x : Int32, x = jo_hI f (i + 1) → jo_G K D (mT d) (mW a d) v 35 [some (.ref (a 4)), some (.int (nI f)), some (.int (nI n)), some (.int x), some (.int (nI i))] [] := by
        rintro x rfl
        refine jo_iload_n F 3 dX1_isForm_35 rfl rfl ?_
        refine jo_iconst (x := (nI 1)) F dX1_isForm_36 (by decide) ?_
        refine jo_icmp_ge F 42 dX1_isForm_37 (by decide) (fun h37 => ?_) (fun h37 => ?_)
        · refine jo_iinc F 4 dX1_isForm_42 rfl (jo_inc _) ?_
          refine jo_goto F 5 dX1_isForm_45 (by decide) ?_
          exact nx h37
        · 
          refine jo_iconst (x := (nI 0)) F dX1_isForm_40 (by decide) ?_
          exact jo_zret F hQ _ (jo_b_f (by unfold jo_isF; rw [show (List.range (2 * n - 1)).all (fun i => decide (nI 1 ≤ jo_hI f (i + 1))) = false from List.all_eq_false.mpr ⟨i, List.mem_range.mpr hi', by simpa using h37⟩]; rfl)) dX1_isForm_41 ⟨rfl, rfl⟩
      refine jo_iload F 4 dX1_isForm_5 rfl ?_
      refine jo_iconst (x := (nI 2)) F dX1_isForm_7 (by decide) ?_
      refine jo_iload_n F 2 dX1_isForm_8 rfl rfl ?_
      refine jo_imul F dX1_isForm_9 ?_
      refine jo_iconst (x := (nI 1)) F dX1_isForm_10 (by decide) ?_
      refine jo_isub F dX1_isForm_11 ?_
      refine jo_top e2 ?_
      refine jo_icmp_ge_n F 48 dX1_isForm_12 (by decide) (nI_ge hi' (by omega)) ?_
      refine jo_iload_n F 1 dX1_isForm_15 rfl rfl ?_
      refine jo_iload F 4 dX1_isForm_16 rfl ?_
      refine jo_ishr F dX1_isForm_18 ?_
      refine jo_iconst (x := (nI 1)) F dX1_isForm_19 (by decide) ?_
      refine jo_iand F dX1_isForm_20 ?_
      refine jo_top (jo_bit (by omega) (by omega)) ?_
      refine jo_iconst (x := (nI 1)) F dX1_isForm_21 (by decide) ?_
      refine jo_icmpb_ne F 31 dX1_isForm_22 (by decide) (fun h22 => ?_) (fun h22 => ?_)
      · refine jo_iload_n F 3 dX1_isForm_31 rfl rfl ?_
        refine jo_iconst (x := (nI 1)) F dX1_isForm_32 (by decide) ?_
        refine jo_isub F dX1_isForm_33 ?_
        refine jo_istore_n F 3 dX1_isForm_34 rfl (Nat.le_of_ble_eq_true rfl) ?_
        exact J _ (by rw [jo_hI, if_neg (by rw [h22]; decide)])
      · refine jo_iload_n F 3 dX1_isForm_25 rfl rfl ?_
        refine jo_iconst (x := (nI 1)) F dX1_isForm_26 (by decide) ?_
        refine jo_iadd F dX1_isForm_27 ?_
        refine jo_goto F 34 dX1_isForm_28 (by decide) ?_
        refine jo_istore_n F 3 dX1_isForm_34 rfl (Nat.le_of_ble_eq_true rfl) ?_
        exact J _ (by rw [jo_hI, if_pos h22])
  refine jo_iconst (x := (nI 0)) F dX1_isForm_0 (by decide) ?_
  refine jo_istore_n F 3 dX1_isForm_1 rfl (Nat.le_of_ble_eq_true rfl) ?_
  refine jo_iconst (x := (nI 0)) F dX1_isForm_2 (by decide) ?_
  refine jo_istore F 4 dX1_isForm_3 (Nat.le_of_ble_eq_true rfl) ?_
  exact lp _ 0 (Nat.zero_add _) (fun j h => absurd h (Nat.not_lt_zero _))
theorem mC_isForm {K : jo_C} {D : va_G} {a : Nat → Nat} {d : Nat → ClassId} {v : jo_V} {pc : Nat} {L : List (Option Value)} {st : List Value} {cc : ByteArray} {nL : Nat} {fr lo : Nat} (F : jo_F K cc nL RX1 fr lo) {f n : Nat} (hf : f < 512) (hn0 : 0 < n) (hn : n ≤ 5) (hfr : 0 + 1 ≤ fr) (hlo : 8 + (5 + 11) + 0 ≤ lo) (hcat : (st.map fun v => v.category).sum ≤ 8) (hlen : L.length = nL) (hdg : decode cc pc = .ok (.invokevirtual 60, 3)) (k : jo_G K D (mT d) (mW a d) v (pc + 3) L (.int (jo_b (jo_isF f n)) :: st)) : jo_G K D (mT d) (mW a d) v pc L (.int (nI n) :: .int (nI f) :: .ref (a 4) :: st) :=
  jo_calli F (q0 := 4) (np := 2) (fun l => mM_isForm l D a d v f n hf hn0 hn) rfl rfl (lw_V q296 q298 qs22 q29 q299) (by decide +kernel) rfl rfl rfl hfr hlo rfl hcat hlen hdg (fun r u h => by obtain ⟨rfl, rfl⟩ := h; exact k)
end
section
/-- prepare: the forms, the number of orders -/
def jo_fc : Nat → Nat
  | 0 => 1
  | n + 1 => jo_fc n * (n + 1)
def jo_fmL (n k : Nat) : List Nat := (List.range k).filter (fun f => decide (f < 2 ^ (2 * n - 1)) && jo_isF f n)
def jo_fm (n : Nat) : List Nat := jo_fmL n 512
theorem jo_fm_1 : jo_fm 1 = [1] := by decide +kernel
theorem jo_fm_2 : jo_fm 2 = [3] := by decide +kernel
theorem jo_fm_3 : jo_fm 3 = [7, 11] := by decide +kernel
theorem jo_fm_4 : jo_fm 4 = [15, 23, 27, 39, 43] := by decide +kernel
theorem jo_fm_5 : jo_fm 5 = [31, 47, 55, 59, 79, 87, 91, 103, 107, 143, 151, 155, 167, 171] := by decide +kernel
theorem jo_fm_len {n : Nat} (h0 : 0 < n) (h : n ≤ 5) : 0 < (jo_fm n).length ∧ (jo_fm n).length ≤ 14 := by
  rcases (show n = 1 ∨ n = 2 ∨ n = 3 ∨ n = 4 ∨ n = 5 by omega) with rfl | rfl | rfl | rfl | rfl
  · rw [jo_fm_1]; decide
  · rw [jo_fm_2]; decide
  · rw [jo_fm_3]; decide
  · rw [jo_fm_4]; decide
  · rw [jo_fm_5]; decide
theorem jo_fmL_succ (n k : Nat) : jo_fmL n (k + 1) = jo_fmL n k ++ (if (decide (k < 2 ^ (2 * n - 1)) && jo_isF k n) = true then [k] else []) := by
  unfold jo_fmL
  rw [List.range_succ, List.filter_append]
  congr 1
  rw [List.filter_cons]
  rfl
theorem jo_fmL_mono (n k m : Nat) : (jo_fmL n k).length ≤ (jo_fmL n (k + m)).length := by
  induction m with
  | zero => exact Nat.le_refl _
  | succ m ih =>
    rw [show k + (m + 1) = k + m + 1 by omega, jo_fmL_succ, List.length_append]
    omega
theorem jo_cn_in : ∀ S, S < 32 → 0 < S → 0 < jo_cn S ∧ jo_cn S ≤ 5 := by decide +kernel
theorem jo_fc_pos : ∀ n, 0 < jo_fc n
  | 0 => by decide
  | n + 1 => Nat.mul_pos (jo_fc_pos n) (Nat.succ_pos n)
theorem jo_mzI_c {u v : jo_V} (h1 : u 1 = v 1) (S i : Nat) (s0 : Int32) : ∀ j, jo_mzI u S i s0 j = jo_mzI v S i s0 j
  | 0 => rfl
  | j + 1 => by unfold jo_mzI; rw [jo_mzI_c h1 S i s0 j, h1]
theorem jo_mzO_c {u v : jo_V} (h0 : u 0 = v 0) (h1 : u 1 = v 1) (S : Nat) : ∀ i, jo_mzO u S i = jo_mzO v S i
  | 0 => rfl
  | i + 1 => by unfold jo_mzO; rw [jo_mzO_c h0 h1 S i, h0, jo_mzI_c h1]
theorem jo_mz_c {u v : jo_V} (h0 : u 0 = v 0) (h1 : u 1 = v 1) (S : Nat) : jo_mz u S = jo_mz v S := by unfold jo_mz; rw [jo_mzO_c h0 h1]
theorem jo_mlk_c {u v : jo_V} (h1 : u 1 = v 1) (A B : Nat) : jo_mlk u A B = jo_mlk v A B := by unfold jo_mlk jo_hit; rw [h1]
/-- made ready for n tables out of v -/
def jo_PL (v u : jo_V) (n k : Nat) : Prop := u 0 = v 0 ∧ u 1 = v 1 ∧ (∀ q, q < 32 → u 2 q = jo_mz v q) ∧ u 4 0 = nI (jo_fmL n k).length ∧ ∀ i, i < (jo_fmL n k).length → u 3 i = nI ((jo_fmL n k).getD i 0)
def jo_PR (v u : jo_V) (n : Nat) : Prop := jo_PL v u n 512
theorem jo_PR.keep {v u u' : jo_V} {n : Nat} (h : jo_PR v u n) (k : ∀ q, q < 5 → u' q = u q) : jo_PR v u' n := by
  obtain ⟨h0, h1, h2, h3, h4⟩ := h
  refine ⟨by rw [k 0 (by decide)]; exact h0, by rw [k 1 (by decide)]; exact h1, fun q hq => by rw [k 2 (by decide)]; exact h2 q hq, by rw [k 4 (by decide)]; exact h3, fun i hi => by rw [k 3 (by decide)]; exact h4 i hi⟩
theorem jo_PL.same {v u : jo_V} {n k : Nat} (h : jo_PL v u n k) (e : (decide (k < 2 ^ (2 * n - 1)) && jo_isF k n) = false) : jo_PL v u n (k + 1) := by
  have e2 : jo_fmL n (k + 1) = jo_fmL n k := by rw [jo_fmL_succ, e]; simp
  unfold jo_PL
  rw [e2]
  exact h
theorem jo_PL.more {v u : jo_V} {n k : Nat} (h : jo_PL v u n k) (e : (decide (k < 2 ^ (2 * n - 1)) && jo_isF k n) = true) : jo_PL v (jo_u (jo_u u 3 (jo_fmL n k).length (nI k)) 4 0 (nI ((jo_fmL n k).length + 1))) n (k + 1) := by
  have e2 : jo_fmL n (k + 1) = jo_fmL n k ++ [k] := by rw [jo_fmL_succ, e]; simp
  obtain ⟨h0, h1, h2, h3, h4⟩ := h
  refine ⟨h0, h1, h2, ?_, fun i hi => ?_⟩
  · rw [e2, List.length_append]
    rfl
  · rw [e2] at hi ⊢
    rw [jo_u_row _ _ _ _ (by decide), jo_u_at]
    rw [List.length_append] at hi
    by_cases q : i = (jo_fmL n k).length
    · rw [if_pos ⟨rfl, q⟩, q]
      simp
    · rw [if_neg (fun z => q z.2), h4 i (by simp at hi; omega)]
      congr 1
      simp only [List.getD_eq_getElem?_getD]
      rw [List.getElem?_append_left (by simp at hi; omega)]
set_option maxHeartbeats 4000000 in
set_option maxRecDepth 100000 in
/-- prepare(set) -/
theorem mM_prepare (l : Launch) (D : va_G) (a : Nat → Nat) (d : Nat → ClassId) (v : jo_V) (S : Nat) (hS : S < 32) (hS0 : 0 < S) : jo_Mi l yX1_prepare (ws_ yX1_prepare cX1_prepare 5 (some .int)) ({ frames := 2, cells := 0, slots := 0, locals := 46 } : Room) [.ref (a 4), .int (nI S)] D (mT d) (mW a d) v (fun r u => r = nI (jo_fc (jo_cn S)) ∧ jo_PR v u (jo_cn S)) := by
  refine jo_Mi.of (by decide) (jo_cat rfl) (Nat.le_of_ble_eq_true rfl) (fun K F hQ => ?_)
  show jo_G K D (mT d) (mW a d) v 0 [some (.ref (a 4)), some (.int (nI S)), none, none, none] []
  obtain ⟨hn0, hn⟩ := jo_cn_in S hS hS0
  have l3 := jo_fm_len hn0 hn
  generalize hcn : jo_cn S = n at hn0 hn l3 hQ
  have lp3 : ∀ u, jo_PR v u n → ∀ j, j ≤ n - 1 → jo_G K D (mT d) (mW a d) u 96 [some (.ref (a 4)), some (.int (nI S)), some (.int (nI n)), some (.int (nI (jo_fc (j + 1)))), some (.int (nI (j + 2)))] [] := by
    intro u hu
    refine jo_up (n - 1) (fun j hj ih => ?_) ?_
    · refine jo_iload F 4 dX1_prepare_96 rfl ?_
      refine jo_iload_n F 2 dX1_prepare_98 rfl rfl ?_
      refine jo_icmp_gt_n F 113 dX1_prepare_99 (by decide) (nI_nlt (by omega) (by omega)) ?_
      refine jo_iload_n F 3 dX1_prepare_102 rfl rfl ?_
      refine jo_iload F 4 dX1_prepare_103 rfl ?_
      refine jo_imul F dX1_prepare_105 ?_
      refine jo_top (pk_mul _ _) ?_
      refine jo_istore_n F 3 dX1_prepare_106 rfl (Nat.le_of_ble_eq_true rfl) ?_
      refine jo_iinc F 4 dX1_prepare_107 rfl (jo_inc _) ?_
      refine jo_goto F 96 dX1_prepare_110 (by decide) ?_
      exact ih
    · have e : n - 1 + 1 = n := by omega
      refine jo_iload F 4 dX1_prepare_96 rfl ?_
      refine jo_iload_n F 2 dX1_prepare_98 rfl rfl ?_
      refine jo_icmp_gt_y F 113 dX1_prepare_99 (by decide) (nI_lt (by omega) (by omega)) ?_
      refine jo_iload_n F 3 dX1_prepare_113 rfl rfl ?_
      exact jo_iret F hQ dX1_prepare_114 ⟨by rw [e], hu⟩
  have lp2 : ∀ k, k ≤ 512 → ∀ u, jo_PL v u n k → jo_G K D (mT d) (mW a d) u 38 [some (.ref (a 4)), some (.int (nI S)), some (.int (nI n)), some (.int (nI k)), none] [] := by
    refine jo_up 512 (fun k hk ih => ?_) ?_
    · intro u hu
      have e1 : nI 1 <<< ((nI 2 * nI n - nI 1) &&& 31) = nI (2 ^ (2 * n - 1)) := by rw [pk_mul, jo_sub1 (by omega), jo_pow (by omega)]
      have hp : 2 ^ (2 * n - 1) < 2 ^ 31 := Nat.pow_lt_pow_right (by decide) (by omega)
      have hu4 := hu.2.2.2.1
      refine jo_iload_n F 3 dX1_prepare_38 rfl rfl ?_
      refine jo_sipush (x := (nI 512)) F dX1_prepare_39 (by decide) ?_
      refine jo_icmp_ge_n F 91 dX1_prepare_42 (by decide) (nI_ge hk (by decide)) ?_
      refine jo_iload_n F 3 dX1_prepare_45 rfl rfl ?_
      refine jo_iconst (x := (nI 1)) F dX1_prepare_46 (by decide) ?_
      refine jo_iconst (x := (nI 2)) F dX1_prepare_47 (by decide) ?_
      refine jo_iload_n F 2 dX1_prepare_48 rfl rfl ?_
      refine jo_imul F dX1_prepare_49 ?_
      refine jo_iconst (x := (nI 1)) F dX1_prepare_50 (by decide) ?_
      refine jo_isub F dX1_prepare_51 ?_
      refine jo_ishl F dX1_prepare_52 ?_
      refine jo_top e1 ?_
      refine jo_icmp_ge F 85 dX1_prepare_53 (by decide) (fun h53 => ?_) (fun h53 => ?_)
      · have h53 : ¬ k < 2 ^ (2 * n - 1) := fun q => absurd h53 (nI_ge q hp)
        refine jo_iinc F 3 dX1_prepare_85 rfl (jo_inc _) ?_
        refine jo_goto F 38 dX1_prepare_88 (by decide) ?_
        exact ih u (hu.same (by simp [h53]))
      · have h53 : k < 2 ^ (2 * n - 1) := by
          rcases Nat.lt_or_ge k (2 ^ (2 * n - 1)) with q | q
          · exact q
          · exact absurd (nI_le q (by omega)) h53
        refine jo_aload_n F 0 dX1_prepare_56 rfl rfl ?_
        refine jo_iload_n F 3 dX1_prepare_57 rfl rfl ?_
        refine jo_iload_n F 2 dX1_prepare_58 rfl rfl ?_
        refine mC_isForm F hk hn0 hn (Nat.le_of_ble_eq_true rfl) (Nat.le_of_ble_eq_true rfl) (Nat.le_of_ble_eq_true rfl) rfl dX1_prepare_59 ?_
        refine jo_ifb_eq F 85 dX1_prepare_62 (by decide) (fun h62 => ?_) (fun h62 => ?_)
        · refine jo_iinc F 3 dX1_prepare_85 rfl (jo_inc _) ?_
          refine jo_goto F 38 dX1_prepare_88 (by decide) ?_
          exact ih u (hu.same (by simp [h62]))
        · have e2 : (decide (k < 2 ^ (2 * n - 1)) && jo_isF k n) = true := by simp [h53, h62]
          have hl : (jo_fmL n k).length < 14 := by
            have h9 := jo_fmL_mono n (k + 1) (512 - (k + 1))
            rw [show k + 1 + (512 - (k + 1)) = 512 by omega, jo_fmL_succ, e2, List.length_append] at h9
            have h8 : (jo_fmL n 512).length ≤ 14 := l3.2
            simp at h9
            omega
          refine jo_aload_n F 0 dX1_prepare_65 rfl rfl ?_
          refine mg3 F dX1_prepare_66 ?_
          refine jo_aload_n F 0 dX1_prepare_69 rfl rfl ?_
          refine mg4 F dX1_prepare_70 ?_
          refine jo_iload_n F 3 dX1_prepare_73 rfl rfl ?_
          refine ms3 F (jo_fmL n k).length hu4 hl dX1_prepare_74 ?_
          refine jo_aload_n F 0 dX1_prepare_75 rfl rfl ?_
          refine jo_dup F dX1_prepare_76 rfl ?_
          refine mg4 F dX1_prepare_77 ?_
          refine jo_top (show _ = nI (jo_fmL n k).length from hu4) ?_
          refine jo_iconst (x := (nI 1)) F dX1_prepare_80 (by decide) ?_
          refine jo_iadd F dX1_prepare_81 ?_
          refine jo_top (nI_1 _) ?_
          refine mp4 F dX1_prepare_82 ?_
          refine jo_iinc F 3 dX1_prepare_85 rfl (jo_inc _) ?_
          refine jo_goto F 38 dX1_prepare_88 (by decide) ?_
          exact ih _ (hu.more e2)
    · intro u hu
      refine jo_iload_n F 3 dX1_prepare_38 rfl rfl ?_
      refine jo_sipush (x := (nI 512)) F dX1_prepare_39 (by decide) ?_
      refine jo_icmp_ge_y F 91 dX1_prepare_42 (by decide) (nI_le (Nat.le_refl _) (by decide)) ?_
      refine jo_iconst (x := (nI 1)) F dX1_prepare_91 (by decide) ?_
      refine jo_istore_n F 3 dX1_prepare_92 rfl (Nat.le_of_ble_eq_true rfl) ?_
      refine jo_iconst (x := (nI 2)) F dX1_prepare_93 (by decide) ?_
      refine jo_istore F 4 dX1_prepare_94 (Nat.le_of_ble_eq_true rfl) ?_
      exact lp3 u hu 0 (Nat.zero_le _)
  have lp1 : ∀ i, i ≤ 32 → ∀ u, (u 0 = v 0 ∧ u 1 = v 1 ∧ ∀ q, q < i → u 2 q = jo_mz v q) → jo_G K D (mT d) (mW a d) u 2 [some (.ref (a 4)), some (.int (nI S)), some (.int (nI i)), none, none] [] := by
    refine jo_up 32 (fun i hi ih => ?_) ?_
    · rintro u ⟨h0, h1, h2⟩
      refine jo_iload_n F 2 dX1_prepare_2 rfl rfl ?_
      refine jo_bipush (x := (nI 32)) F dX1_prepare_3 (by decide) ?_
      refine jo_icmp_ge_n F 25 dX1_prepare_5 (by decide) (nI_ge hi (by decide)) ?_
      refine jo_aload_n F 0 dX1_prepare_8 rfl rfl ?_
      refine mg2 F dX1_prepare_9 ?_
      refine jo_iload_n F 2 dX1_prepare_12 rfl rfl ?_
      refine jo_aload_n F 0 dX1_prepare_13 rfl rfl ?_
      refine jo_iload_n F 2 dX1_prepare_14 rfl rfl ?_
      refine mC_sizeOf F hi (Nat.le_of_ble_eq_true rfl) (Nat.le_of_ble_eq_true rfl) (Nat.le_of_ble_eq_true rfl) rfl dX1_prepare_15 ?_
      refine ms2 F i rfl hi dX1_prepare_18 ?_
      refine jo_iinc F 2 dX1_prepare_19 rfl (jo_inc _) ?_
      refine jo_goto F 2 dX1_prepare_22 (by decide) ?_
      refine ih _ ⟨h0, h1, fun q hq => ?_⟩
      rw [jo_u_at]
      by_cases z : q = i
      · rw [if_pos ⟨rfl, z⟩, z]; exact jo_mz_c h0 h1 i
      · rw [if_neg (fun y => z y.2)]; exact h2 q (by omega)
    · rintro u ⟨h0, h1, h2⟩
      refine jo_iload_n F 2 dX1_prepare_2 rfl rfl ?_
      refine jo_bipush (x := (nI 32)) F dX1_prepare_3 (by decide) ?_
      refine jo_icmp_ge_y F 25 dX1_prepare_5 (by decide) (nI_le (Nat.le_refl _) (by decide)) ?_
      refine jo_aload_n F 0 dX1_prepare_25 rfl rfl ?_
      refine jo_iload_n F 1 dX1_prepare_26 rfl rfl ?_
      refine mC_count F hS (Nat.le_of_ble_eq_true rfl) (Nat.le_of_ble_eq_true rfl) (Nat.le_of_ble_eq_true rfl) rfl dX1_prepare_27 ?_
      rw [hcn]
      refine jo_istore_n F 2 dX1_prepare_30 rfl (Nat.le_of_ble_eq_true rfl) ?_
      refine jo_aload_n F 0 dX1_prepare_31 rfl rfl ?_
      refine jo_iconst (x := (nI 0)) F dX1_prepare_32 (by decide) ?_
      refine mp4 F dX1_prepare_33 ?_
      refine jo_iconst (x := (nI 0)) F dX1_prepare_36 (by decide) ?_
      refine jo_istore_n F 3 dX1_prepare_37 rfl (Nat.le_of_ble_eq_true rfl) ?_
      exact lp2 0 (Nat.zero_le _) _ ⟨h0, h1, h2, rfl, fun i hi => absurd hi (Nat.not_lt_zero _)⟩
  refine jo_iconst (x := (nI 0)) F dX1_prepare_0 (by decide) ?_
  refine jo_istore_n F 2 dX1_prepare_1 rfl (Nat.le_of_ble_eq_true rfl) ?_
  exact lp1 0 (Nat.zero_le _) v ⟨rfl, rfl, fun q hq => absurd hq (Nat.not_lt_zero _)⟩

theorem mC_prepare {K : jo_C} {D : va_G} {a : Nat → Nat} {d : Nat → ClassId} {v : jo_V} {pc : Nat} {L : List (Option Value)} {st : List Value} {cc : ByteArray} {nL : Nat} {fr lo : Nat} (F : jo_F K cc nL RX1 fr lo) {S : Nat} (hS : S < 32) (hS0 : 0 < S) (hfr : 2 + 1 ≤ fr) (hlo : 8 + (5 + 11) + 46 ≤ lo) (hcat : (st.map fun v => v.category).sum ≤ 8) (hlen : L.length = nL) (hdg : decode cc pc = .ok (.invokevirtual 76, 3)) (k : ∀ (u : jo_V), jo_PR v u (jo_cn S) → jo_G K D (mT d) (mW a d) u (pc + 3) L (.int (nI (jo_fc (jo_cn S))) :: st)) : jo_G K D (mT d) (mW a d) v pc L (.int (nI S) :: .ref (a 4) :: st) :=
  jo_calli F (q0 := 4) (np := 1) (fun l => mM_prepare l D a d v S hS hS0) rfl rfl (lw_V q288 q290 qs20 q29 q291) (by decide +kernel) rfl rfl rfl hfr hlo rfl hcat hlen hdg (fun r u h => by obtain ⟨rfl, h⟩ := h; exact k u h)
/-- order: the k-th table of a set; what is left to skip at table t -/
def jo_sel (l k : Nat) : Nat := ((List.range 5).filter (fun i => l.testBit i)).getD k 0
def jo_skp (l k t : Nat) : Nat := k - ((List.range t).filter (fun i => l.testBit i)).length
theorem jo_sel_k : ∀ l, l < 32 → ∀ k, k < jo_cn l → jo_sel l k < 5 ∧ l.testBit (jo_sel l k) = true ∧ jo_skp l k (jo_sel l k) = 0 ∧ jo_cn (jo_dif l (2 ^ jo_sel l k)) = jo_cn l - 1 := by decide +kernel
theorem jo_skp_k : ∀ l, l < 32 → ∀ k, k < jo_cn l → ∀ t, t < jo_sel l k → (l.testBit t = true → 0 < jo_skp l k t) ∧ jo_skp l k (t + 1) = (if l.testBit t = true then jo_skp l k t - 1 else jo_skp l k t) := by decide +kernel
theorem jo_sel_lt (l k : Nat) : jo_sel l k < 5 := by
  unfold jo_sel
  rw [List.getD_eq_getElem?_getD]
  cases h : ((List.range 5).filter (fun i => l.testBit i))[k]? with
  | none => exact (by decide : 0 < 5)
  | some x =>
    have := List.mem_of_getElem? h
    exact List.mem_range.mp (List.mem_filter.mp this).1
/-- what is over, the unit and the tables left before the i-th place is filled -/
def jo_os (S k : Nat) : Nat → Nat × Nat × Nat
  | 0 => (k, jo_fc (jo_cn S), S)
  | i + 1 => ((jo_os S k i).1 % ((jo_os S k i).2.1 / (jo_cn S - i)), (jo_os S k i).2.1 / (jo_cn S - i), jo_dif (jo_os S k i).2.2 (2 ^ jo_sel (jo_os S k i).2.2 ((jo_os S k i).1 / ((jo_os S k i).2.1 / (jo_cn S - i)))))
def jo_row (S k i : Nat) : Nat := jo_sel (jo_os S k i).2.2 ((jo_os S k i).1 / ((jo_os S k i).2.1 / (jo_cn S - i)))
theorem jo_os_ok {S k : Nat} (hS : S < 32) (hk : k < jo_fc (jo_cn S)) : ∀ i, i ≤ jo_cn S → (jo_os S k i).2.1 = jo_fc (jo_cn S - i) ∧ (jo_os S k i).1 < jo_fc (jo_cn S - i) ∧ (jo_os S k i).2.2 < 32 ∧ jo_cn (jo_os S k i).2.2 = jo_cn S - i
  | 0, _ => ⟨rfl, hk, hS, rfl⟩
  | i + 1, hi => by
    obtain ⟨h1, h2, h3, h4⟩ := jo_os_ok hS hk i (by omega)
    obtain ⟨m, hm⟩ : ∃ m, jo_cn S - i = m + 1 := ⟨jo_cn S - i - 1, by omega⟩
    have e : jo_cn S - (i + 1) = m := by omega
    have eu : (jo_os S k i).2.1 / (jo_cn S - i) = jo_fc m := by rw [h1, hm]; exact Nat.mul_div_cancel _ (Nat.succ_pos m)
    have hsk : (jo_os S k i).1 / jo_fc m < jo_cn (jo_os S k i).2.2 := by
      rw [h4, hm]
      rw [hm] at h2
      exact Nat.div_lt_of_lt_mul h2
    obtain ⟨g1, g2, g3, g4⟩ := jo_sel_k _ h3 _ hsk
    unfold jo_os
    dsimp only
    rw [eu, e]
    refine ⟨rfl, Nat.mod_lt _ (jo_fc_pos m), jo_dif_lt h3, ?_⟩
    rw [g4, h4, hm]
    rfl
theorem jo_os_at {S k : Nat} (hS : S < 32) (hk : k < jo_fc (jo_cn S)) {i : Nat} (hi : i < jo_cn S) : 0 < (jo_os S k i).2.1 / (jo_cn S - i) ∧ (jo_os S k i).1 / ((jo_os S k i).2.1 / (jo_cn S - i)) < jo_cn (jo_os S k i).2.2 := by
  obtain ⟨h1, h2, h3, h4⟩ := jo_os_ok hS hk i (by omega)
  obtain ⟨m, hm⟩ : ∃ m, jo_cn S - i = m + 1 := ⟨jo_cn S - i - 1, by omega⟩
  have eu : (jo_os S k i).2.1 / (jo_cn S - i) = jo_fc m := by rw [h1, hm]; exact Nat.mul_div_cancel _ (Nat.succ_pos m)
  rw [eu]
  refine ⟨jo_fc_pos m, ?_⟩
  rw [h4, hm]
  rw [hm] at h2
  exact Nat.div_lt_of_lt_mul h2
theorem jo_fc_le : ∀ n, n ≤ 5 → jo_fc n ≤ 120 := by decide
set_option maxHeartbeats 4000000 in
set_option maxRecDepth 100000 in
/-- order(set, number, orders) -/
theorem mM_order (l : Launch) (D : va_G) (a : Nat → Nat) (d : Nat → ClassId) (v : jo_V) (S k : Nat) (hS : S < 32) (hS0 : 0 < S) (hk : k < jo_fc (jo_cn S)) : jo_Mv l yX1_order (ws_ yX1_order cX1_order 11 none) ({ frames := 2, cells := 0, slots := 0, locals := 45 } : Room) [.ref (a 4), .int (nI S), .int (nI k), .int (nI (jo_fc (jo_cn S)))] D (mT d) (mW a d) v (fun u => (∀ q, ¬ q = 5 → u q = v q) ∧ ∀ j, j < jo_cn S → u 5 j = nI (jo_row S k j)) := by
  refine jo_Mv.of (by decide) (jo_cat rfl) (Nat.le_of_ble_eq_true rfl) (fun K F hQ => ?_)
  show jo_G K D (mT d) (mW a d) v 0 [some (.ref (a 4)), some (.int (nI S)), some (.int (nI k)), some (.int (nI (jo_fc (jo_cn S)))), none, none, none, none, none, none, none] []
  obtain ⟨hn0, hn⟩ := jo_cn_in S hS hS0
  have lp : ∀ i, i ≤ jo_cn S → ∀ u, ((∀ q, ¬ q = 5 → u q = v q) ∧ ∀ j, j < i → u 5 j = nI (jo_row S k j)) → jo_G K D (mT d) (mW a d) u 19 [some (.ref (a 4)), some (.int (nI S)), some (.int (nI k)), some (.int (nI (jo_fc (jo_cn S)))), some (.int (nI (jo_os S k i).1)), some (.int (nI (jo_os S k i).2.1)), some (.int (nI (jo_os S k i).2.2)), some (.int (nI (jo_cn S))), some (.int (nI i)), none, none] [] := by
    refine jo_up (jo_cn S) (fun i hi ih => ?_) ?_
    · rintro u ⟨hu1, hu2⟩
      obtain ⟨o1, o2, o3, o4⟩ := jo_os_ok hS hk i (by omega)
      obtain ⟨p1, p2⟩ := jo_os_at hS hk hi
      have e1 : jo_row S k i = jo_sel (jo_os S k i).2.2 ((jo_os S k i).1 / ((jo_os S k i).2.1 / (jo_cn S - i))) := rfl
      have e2 : jo_os S k (i + 1) = ((jo_os S k i).1 % ((jo_os S k i).2.1 / (jo_cn S - i)), (jo_os S k i).2.1 / (jo_cn S - i), jo_dif (jo_os S k i).2.2 (2 ^ jo_row S k i)) := rfl
      rw [e2] at ih
      have b1 : (jo_os S k i).2.1 ≤ 120 := by rw [o1]; exact jo_fc_le _ (by omega)
      have b2 : (jo_os S k i).1 ≤ 120 := by have := jo_fc_le (jo_cn S - i) (by omega); omega
      generalize jo_os S k i = o at *
      obtain ⟨r0, u0, l0⟩ := o
      dsimp only at *
      have b3 : u0 / (jo_cn S - i) ≤ u0 := Nat.div_le_self _ _
      have hrow : jo_row S k i < 5 := by rw [e1]; exact jo_sel_lt _ _
      generalize hz : jo_row S k i = z at *
      have b4 : 2 ^ z < 32 := Nat.pow_lt_pow_right (n := 5) (by decide) hrow
      obtain ⟨s1, s2, s3, -⟩ := jo_sel_k l0 o3 _ p2
      have sk := jo_skp_k l0 o3 _ p2
      rw [← e1] at s1 s2 s3 sk
      generalize hu' : u0 / (jo_cn S - i) = u' at *
      generalize hr' : r0 / u' = k' at *
      have b5 : k' ≤ r0 := by rw [← hr']; exact Nat.div_le_self _ _
      have b6 : r0 % u' ≤ r0 := Nat.mod_le _ _
      have inner : ∀ t, t ≤ z → jo_G K D (mT d) (mW a d) u 53 [some (.ref (a 4)), some (.int (nI S)), some (.int (nI k)), some (.int (nI (jo_fc (jo_cn S)))), some (.int (nI (r0 % u'))), some (.int (nI u')), some (.int (nI l0)), some (.int (nI (jo_cn S))), some (.int (nI i)), some (.int (nI (jo_skp l0 k' t))), some (.int (nI t))] [] := by
        have hsk : ∀ t, jo_skp l0 k' t ≤ k' := fun t => Nat.sub_le _ _
        refine jo_up z (fun t ht ih2 => ?_) ?_
        · obtain ⟨t1, t2⟩ := sk t ht
          have hk9 := hsk t
          have J : ∀ y : Int32, y = nI (jo_skp l0 k' (t + 1)) → jo_G K D (mT d) (mW a d) u 89 [some (.ref (a 4)), some (.int (nI S)), some (.int (nI k)), some (.int (nI (jo_fc (jo_cn S)))), some (.int (nI (r0 % u'))), some (.int (nI u')), some (.int (nI l0)), some (.int (nI (jo_cn S))), some (.int (nI i)), some (.int (nI (jo_skp l0 k' t))), some (.int (nI t))] [.int y] := by
            rintro y rfl
            refine jo_istore F 9 dX1_order_89 (Nat.le_of_ble_eq_true rfl) ?_
            refine jo_iinc F 10 dX1_order_91 rfl (jo_inc _) ?_
            refine jo_goto F 53 dX1_order_94 (by decide) ?_
            exact ih2
          refine jo_aload_n F 0 dX1_order_53 rfl rfl ?_
          refine jo_iload F 6 dX1_order_54 rfl ?_
          refine jo_iload F 10 dX1_order_56 rfl ?_
          refine mC_has F (by omega) (by omega) (Nat.le_of_ble_eq_true rfl) (Nat.le_of_ble_eq_true rfl) (Nat.le_of_ble_eq_true rfl) rfl dX1_order_58 ?_
          refine jo_ifb_eq F 69 dX1_order_61 (by decide) (fun h61 => ?_) (fun h61 => ?_)
          · refine jo_aload_n F 0 dX1_order_69 rfl rfl ?_
            refine jo_iload F 6 dX1_order_70 rfl ?_
            refine jo_iload F 10 dX1_order_72 rfl ?_
            refine mC_has F (by omega) (by omega) (Nat.le_of_ble_eq_true rfl) (Nat.le_of_ble_eq_true rfl) (Nat.le_of_ble_eq_true rfl) rfl dX1_order_74 ?_
            refine jo_ifb_eq F 87 dX1_order_77 (by decide) (fun h77 => ?_) (fun h77 => ?_)
            · refine jo_iload F 9 dX1_order_87 rfl ?_
              exact J _ (by rw [t2, if_neg (by rw [h77]; decide)])
            · refine jo_iload F 9 dX1_order_80 rfl ?_
              refine jo_iconst (x := (nI 1)) F dX1_order_82 (by decide) ?_
              refine jo_isub F dX1_order_83 ?_
              refine jo_goto F 89 dX1_order_84 (by decide) ?_
              exact J _ (by rw [t2, if_pos h77, jo_sub1 (t1 h77)])
          · 
            refine jo_iload F 9 dX1_order_64 rfl ?_
            refine jo_if_le_n F 97 dX1_order_66 (by decide) (nI_nle (t1 h61) (by omega)) ?_
            refine jo_aload_n F 0 dX1_order_69 rfl rfl ?_
            refine jo_iload F 6 dX1_order_70 rfl ?_
            refine jo_iload F 10 dX1_order_72 rfl ?_
            refine mC_has F (by omega) (by omega) (Nat.le_of_ble_eq_true rfl) (Nat.le_of_ble_eq_true rfl) (Nat.le_of_ble_eq_true rfl) rfl dX1_order_74 ?_
            refine jo_ifb_eq F 87 dX1_order_77 (by decide) (fun h77 => ?_) (fun h77 => ?_)
            · refine jo_iload F 9 dX1_order_87 rfl ?_
              exact J _ (by rw [t2, if_neg (by rw [h77]; decide)])
            · refine jo_iload F 9 dX1_order_80 rfl ?_
              refine jo_iconst (x := (nI 1)) F dX1_order_82 (by decide) ?_
              refine jo_isub F dX1_order_83 ?_
              refine jo_goto F 89 dX1_order_84 (by decide) ?_
              exact J _ (by rw [t2, if_pos h77, jo_sub1 (t1 h77)])
        · rw [s3]
          refine jo_aload_n F 0 dX1_order_53 rfl rfl ?_
          refine jo_iload F 6 dX1_order_54 rfl ?_
          refine jo_iload F 10 dX1_order_56 rfl ?_
          refine mC_has F (by omega) (by omega) (Nat.le_of_ble_eq_true rfl) (Nat.le_of_ble_eq_true rfl) (Nat.le_of_ble_eq_true rfl) rfl dX1_order_58 ?_
          refine jo_ifb_eq_n F 69 dX1_order_61 (by decide) s2 ?_
          refine jo_iload F 9 dX1_order_64 rfl ?_
          refine jo_if_le_y F 97 dX1_order_66 (by decide) (by rw [nI_0]; exact Int32.le_refl _) ?_
          refine jo_aload_n F 0 dX1_order_97 rfl rfl ?_
          refine mg5 F dX1_order_98 ?_
          refine jo_iload F 8 dX1_order_101 rfl ?_
          refine jo_iload F 10 dX1_order_103 rfl ?_
          refine ms5 F i rfl (by omega) dX1_order_105 ?_
          refine jo_iload F 6 dX1_order_106 rfl ?_
          refine jo_iconst (x := (nI 1)) F dX1_order_108 (by decide) ?_
          refine jo_iload F 10 dX1_order_109 rfl ?_
          refine jo_ishl F dX1_order_111 ?_
          refine jo_top (jo_pow (by omega)) ?_
          refine jo_iconst (x := (-1)) F dX1_order_112 (by decide) ?_
          refine jo_ixor F dX1_order_113 ?_
          refine jo_iand F dX1_order_114 ?_
          refine jo_top (jo_dif_k _ (by omega) _ (by omega)) ?_
          refine jo_istore F 6 dX1_order_115 (Nat.le_of_ble_eq_true rfl) ?_
          refine jo_iinc F 8 dX1_order_117 rfl (jo_inc _) ?_
          refine jo_goto F 19 dX1_order_120 (by decide) ?_
          refine jo_forget 9 ?_
          refine jo_forget 10 ?_
          refine ih _ ⟨fun q hq => by rw [jo_u_row _ _ _ _ hq]; exact hu1 q hq, fun j hj => ?_⟩
          rw [jo_u_at]
          by_cases y : j = i
          · rw [if_pos ⟨rfl, y⟩, y, hz]
          · rw [if_neg (fun x => y x.2)]; exact hu2 j (by omega)
      have e9 : jo_skp l0 k' 0 = k' := Nat.sub_zero _
      have i0 := inner 0 (Nat.zero_le _)
      rw [e9] at i0
      refine jo_iload F 8 dX1_order_19 rfl ?_
      refine jo_iload F 7 dX1_order_21 rfl ?_
      refine jo_icmp_ge_n F 123 dX1_order_23 (by decide) (nI_ge hi (by omega)) ?_
      refine jo_iload F 5 dX1_order_26 rfl ?_
      refine jo_iload F 7 dX1_order_28 rfl ?_
      refine jo_iload F 8 dX1_order_30 rfl ?_
      refine jo_isub F dX1_order_32 ?_
      refine jo_top (pk_sub (by omega)) ?_
      refine jo_idiv F dX1_order_33 (nI_ne0 (by omega) (by omega)) ?_
      refine jo_top (pk_div (by omega) (by omega) (by omega)) ?_
      refine jo_top (show _ = nI u' by rw [hu']) ?_
      refine jo_istore F 5 dX1_order_34 (Nat.le_of_ble_eq_true rfl) ?_
      refine jo_iload F 4 dX1_order_36 rfl ?_
      refine jo_iload F 5 dX1_order_38 rfl ?_
      refine jo_idiv F dX1_order_40 (nI_ne0 p1 (by omega)) ?_
      refine jo_top (pk_div (by omega) p1 (by omega)) ?_
      refine jo_top (show _ = nI k' by rw [hr']) ?_
      refine jo_istore F 9 dX1_order_41 (Nat.le_of_ble_eq_true rfl) ?_
      refine jo_iload F 4 dX1_order_43 rfl ?_
      refine jo_iload F 5 dX1_order_45 rfl ?_
      refine jo_irem F dX1_order_47 (nI_ne0 p1 (by omega)) ?_
      refine jo_top (pk_rem (by omega) p1 (by omega)) ?_
      refine jo_istore F 4 dX1_order_48 (Nat.le_of_ble_eq_true rfl) ?_
      refine jo_iconst (x := (nI 0)) F dX1_order_50 (by decide) ?_
      refine jo_istore F 10 dX1_order_51 (Nat.le_of_ble_eq_true rfl) ?_
      exact i0
    · rintro u ⟨hu1, hu2⟩
      refine jo_iload F 8 dX1_order_19 rfl ?_
      refine jo_iload F 7 dX1_order_21 rfl ?_
      refine jo_icmp_ge_y F 123 dX1_order_23 (by decide) (nI_le (Nat.le_refl _) (by omega)) ?_
      exact jo_vret F hQ dX1_order_123 ⟨hu1, hu2⟩
  refine jo_iload_n F 2 dX1_order_0 rfl rfl ?_
  refine jo_istore F 4 dX1_order_1 (Nat.le_of_ble_eq_true rfl) ?_
  refine jo_iload_n F 3 dX1_order_3 rfl rfl ?_
  refine jo_istore F 5 dX1_order_4 (Nat.le_of_ble_eq_true rfl) ?_
  refine jo_iload_n F 1 dX1_order_6 rfl rfl ?_
  refine jo_istore F 6 dX1_order_7 (Nat.le_of_ble_eq_true rfl) ?_
  refine jo_aload_n F 0 dX1_order_9 rfl rfl ?_
  refine jo_iload_n F 1 dX1_order_10 rfl rfl ?_
  refine mC_count F hS (Nat.le_of_ble_eq_true rfl) (Nat.le_of_ble_eq_true rfl) (Nat.le_of_ble_eq_true rfl) rfl dX1_order_11 ?_
  refine jo_istore F 7 dX1_order_14 (Nat.le_of_ble_eq_true rfl) ?_
  refine jo_iconst (x := (nI 0)) F dX1_order_16 (by decide) ?_
  refine jo_istore F 8 dX1_order_17 (Nat.le_of_ble_eq_true rfl) ?_
  exact lp 0 (Nat.zero_le _) v ⟨fun q hq => rfl, fun j hj => absurd hj (Nat.not_lt_zero _)⟩
theorem mC_order {K : jo_C} {D : va_G} {a : Nat → Nat} {d : Nat → ClassId} {v : jo_V} {pc : Nat} {L : List (Option Value)} {st : List Value} {cc : ByteArray} {nL : Nat} {fr lo : Nat} (F : jo_F K cc nL RX1 fr lo) {S k : Nat} (hS : S < 32) (hS0 : 0 < S) (hk : k < jo_fc (jo_cn S)) (hfr : 2 + 1 ≤ fr) (hlo : 8 + (11 + 11) + 45 ≤ lo) (hcat : (st.map fun v => v.category).sum ≤ 8) (hlen : L.length = nL) (hdg : decode cc pc = .ok (.invokevirtual 79, 3)) (k_ : ∀ (u : jo_V), ((∀ q, ¬ q = 5 → u q = v q) ∧ ∀ j, j < jo_cn S → u 5 j = nI (jo_row S k j)) → jo_G K D (mT d) (mW a d) u (pc + 3) L st) : jo_G K D (mT d) (mW a d) v pc L (.int (nI (jo_fc (jo_cn S))) :: .int (nI k) :: .int (nI S) :: .ref (a 4) :: st) :=
  jo_callv F (q0 := 4) (np := 3) (fun l => mM_order l D a d v S k hS hS0 hk) rfl rfl (lw_V q300 q302 qs23 q29 q303) (by decide +kernel) rfl rfl rfl hfr hlo rfl hcat hlen hdg (fun u h => by exact k_ u h)
end
section
/-- follow: what is held and taken after i things; the sets held; the joins done -/
def jo_hd (f : Nat) : Nat → Nat
  | 0 => 0
  | i + 1 => if f.testBit i = true then jo_hd f i + 1 else jo_hd f i - 1
def jo_tk (f : Nat) : Nat → Nat
  | 0 => 0
  | i + 1 => if f.testBit i = true then jo_tk f i + 1 else jo_tk f i
def jo_sk (r : Nat → Nat) (f : Nat) : Nat → Nat → Nat
  | 0, _ => 0
  | i + 1, j => if f.testBit i = true then (if j = jo_hd f i then 2 ^ r (jo_tk f i) else jo_sk r f i j) else (if j = jo_hd f i - 2 then jo_sk r f i (jo_hd f i - 2) ||| jo_sk r f i (jo_hd f i - 1) else jo_sk r f i j)
def jo_jn (r : Nat → Nat) (f : Nat) : Nat → List (Nat × Nat)
  | 0 => []
  | i + 1 => if f.testBit i = true then jo_jn r f i else jo_jn r f i ++ [(jo_sk r f i (jo_hd f i - 2), jo_sk r f i (jo_hd f i - 1))]
/-- of a list of joins: its cost, its last left set, whether all are linked, whether all are linear -/
def jo_pc (z : Nat → Int32) (js : List (Nat × Nat)) : Int32 := js.foldl (fun c q => c + z (q.1 ||| q.2)) (nI 0)
def jo_pf (js : List (Nat × Nat)) : Int32 := match js.getLast? with
  | none => -4
  | some q => nI q.1
def jo_pk (v : jo_V) (js : List (Nat × Nat)) : Bool := js.all (fun q => jo_mlk v q.1 q.2)
def jo_pn (js : List (Nat × Nat)) : Bool := js.all (fun q => decide (q.2 &&& (q.2 - 1) = 0))
theorem jo_pc_add (z : Nat → Int32) (js : List (Nat × Nat)) (q : Nat × Nat) : jo_pc z (js ++ [q]) = jo_pc z js + z (q.1 ||| q.2) := by simp [jo_pc]
theorem jo_pf_add (js : List (Nat × Nat)) (q : Nat × Nat) : jo_pf (js ++ [q]) = nI q.1 := by simp [jo_pf]
theorem jo_pk_add (v : jo_V) (js : List (Nat × Nat)) (q : Nat × Nat) : jo_pk v (js ++ [q]) = (jo_pk v js && jo_mlk v q.1 q.2) := by simp [jo_pk]
theorem jo_pn_add (js : List (Nat × Nat)) (q : Nat × Nat) : jo_pn (js ++ [q]) = (jo_pn js && decide (q.2 &&& (q.2 - 1) = 0)) := by simp [jo_pn]
def jo_fmOk (n f : Nat) : Bool := decide (f < 512) && (List.range (2 * n - 1)).all (fun i => if f.testBit i = true then decide (jo_hd f i < 5) && decide (jo_tk f i < n) else decide (2 ≤ jo_hd f i) && decide (jo_hd f i ≤ 5))
theorem jo_fm_ok {n f : Nat} (h0 : 0 < n) (h : n ≤ 5) (hf : f ∈ jo_fm n) : jo_fmOk n f = true := by
  rcases (show n = 1 ∨ n = 2 ∨ n = 3 ∨ n = 4 ∨ n = 5 by omega) with rfl | rfl | rfl | rfl | rfl
  · rw [jo_fm_1] at hf; exact (by decide +kernel : ∀ f ∈ _, jo_fmOk 1 f = true) f hf
  · rw [jo_fm_2] at hf; exact (by decide +kernel : ∀ f ∈ _, jo_fmOk 2 f = true) f hf
  · rw [jo_fm_3] at hf; exact (by decide +kernel : ∀ f ∈ _, jo_fmOk 3 f = true) f hf
  · rw [jo_fm_4] at hf; exact (by decide +kernel : ∀ f ∈ _, jo_fmOk 4 f = true) f hf
  · rw [jo_fm_5] at hf; exact (by decide +kernel : ∀ f ∈ _, jo_fmOk 5 f = true) f hf
theorem jo_sk_lt {r : Nat → Nat} (hr : ∀ j, r j < 5) (f : Nat) : ∀ i j, jo_sk r f i j < 32
  | 0, _ => by unfold jo_sk; decide
  | i + 1, j => by
    unfold jo_sk
    have h2 : 2 ^ r (jo_tk f i) < 32 := Nat.pow_lt_pow_right (n := 5) (by decide) (hr _)
    split
    · split
      · exact h2
      · exact jo_sk_lt hr f i j
    · split
      · exact Nat.or_lt_two_pow (n := 5) (jo_sk_lt hr f i _) (jo_sk_lt hr f i _)
      · exact jo_sk_lt hr f i j
theorem jo_jn_lt {r : Nat → Nat} (hr : ∀ j, r j < 5) (f : Nat) : ∀ i, ∀ q ∈ jo_jn r f i, q.1 < 32 ∧ q.2 < 32
  | 0, q, h => by cases h
  | i + 1, q, h => by
    unfold jo_jn at h
    split at h
    · exact jo_jn_lt hr f i q h
    · rcases List.mem_append.mp h with g | g
      · exact jo_jn_lt hr f i q g
      · rw [List.mem_singleton.mp g]
        exact ⟨jo_sk_lt hr f i _, jo_sk_lt hr f i _⟩
theorem jo_dd : ∀ R, R < 32 → nI R &&& (nI R - nI 1) = nI (R &&& (R - 1)) := by decide +kernel
/-- the cells of a plan that is followed -/
def jo_FW (v u : jo_V) (c l : Int32) (k n : Bool) (h : Nat) (s : Nat → Nat) : Prop := (∀ q, q < 6 → u q = v q) ∧ u 7 0 = c ∧ u 8 0 = l ∧ u 9 0 = jo_b k ∧ u 10 0 = jo_b n ∧ ∀ j, j < h → u 6 j = nI (s j)
theorem jo_FW.p7 {v u : jo_V} {c l : Int32} {k n : Bool} {h : Nat} {s : Nat → Nat} (H : jo_FW v u c l k n h s) (x : Int32) : jo_FW v (jo_u u 7 0 x) x l k n h s :=
  ⟨fun q hq => by rw [jo_u_row _ _ _ _ (by omega)]; exact H.1 q hq, rfl, H.2.2.1, H.2.2.2.1, H.2.2.2.2.1, H.2.2.2.2.2⟩
theorem jo_FW.p8 {v u : jo_V} {c l : Int32} {k n : Bool} {h : Nat} {s : Nat → Nat} (H : jo_FW v u c l k n h s) (x : Int32) : jo_FW v (jo_u u 8 0 x) c x k n h s :=
  ⟨fun q hq => by rw [jo_u_row _ _ _ _ (by omega)]; exact H.1 q hq, H.2.1, rfl, H.2.2.2.1, H.2.2.2.2.1, H.2.2.2.2.2⟩
theorem jo_FW.p9 {v u : jo_V} {c l : Int32} {k n : Bool} {h : Nat} {s : Nat → Nat} (H : jo_FW v u c l k n h s) (b : Bool) : jo_FW v (jo_u u 9 0 (jo_b b)) c l b n h s :=
  ⟨fun q hq => by rw [jo_u_row _ _ _ _ (by omega)]; exact H.1 q hq, H.2.1, H.2.2.1, rfl, H.2.2.2.2.1, H.2.2.2.2.2⟩
theorem jo_FW.p10 {v u : jo_V} {c l : Int32} {k n : Bool} {h : Nat} {s : Nat → Nat} (H : jo_FW v u c l k n h s) (b : Bool) : jo_FW v (jo_u u 10 0 (jo_b b)) c l k b h s :=
  ⟨fun q hq => by rw [jo_u_row _ _ _ _ (by omega)]; exact H.1 q hq, H.2.1, H.2.2.1, H.2.2.2.1, rfl, H.2.2.2.2.2⟩
theorem jo_FW.s6 {v u : jo_V} {c l : Int32} {k n : Bool} {h : Nat} {s : Nat → Nat} (H : jo_FW v u c l k n h s) (j y h' : Nat) (s' : Nat → Nat) (hs : ∀ i, i < h' → s' i = if i = j then y else s i) (hh : ∀ i, i < h' → i = j ∨ i < h) : jo_FW v (jo_u u 6 j (nI y)) c l k n h' s' := by
  refine ⟨fun q hq => by rw [jo_u_row _ _ _ _ (by omega)]; exact H.1 q hq, H.2.1, H.2.2.1, H.2.2.2.1, H.2.2.2.2.1, fun i hi => ?_⟩
  rw [jo_u_at, hs i hi]
  by_cases q : i = j
  · rw [if_pos ⟨rfl, q⟩, if_pos q]
  · rw [if_neg (fun z => q z.2), if_neg q]
    exact H.2.2.2.2.2 i ((hh i hi).resolve_left q)
set_option maxHeartbeats 4000000 in
set_option maxRecDepth 100000 in
/-- follow(form, many) -/
theorem mM_follow (l : Launch) (D : va_G) (a : Nat → Nat) (d : Nat → ClassId) (v : jo_V) (f n : Nat) (r : Nat → Nat) (z : Nat → Int32) (hn0 : 0 < n) (hn : n ≤ 5) (hf : f ∈ jo_fm n) (hr : ∀ j, r j < 5) (hv5 : ∀ j, j < n → v 5 j = nI (r j)) (hz : ∀ q, q < 32 → v 2 q = z q) : jo_Mv l yX1_follow (ws_ yX1_follow cX1_follow 7 none) ({ frames := 2, cells := 0, slots := 0, locals := 45 } : Room) [.ref (a 4), .int (nI f), .int (nI n)] D (mT d) (mW a d) v (fun u => jo_FW v u (jo_pc z (jo_jn r f (2 * n - 1))) (jo_pf (jo_jn r f (2 * n - 1))) (jo_pk v (jo_jn r f (2 * n - 1))) (jo_pn (jo_jn r f (2 * n - 1))) 0 (fun _ => 0)) := by
  refine jo_Mv.of (by decide) (jo_cat rfl) (Nat.le_of_ble_eq_true rfl) (fun K F hQ => ?_)
  show jo_G K D (mT d) (mW a d) v 0 [some (.ref (a 4)), some (.int (nI f)), some (.int (nI n)), none, none, none, none] []
  have hok := jo_fm_ok hn0 hn hf
  unfold jo_fmOk at hok
  rw [Bool.and_eq_true, List.all_eq_true] at hok
  have hf9 : f < 512 := of_decide_eq_true hok.1
  have hok := fun i (hi : i < 2 * n - 1) => hok.2 i (List.mem_range.mpr hi)
  have e2 : nI 2 * nI n - nI 1 = nI (2 * n - 1) := by rw [pk_mul, jo_sub1 (by omega)]
  have lp : ∀ i, i ≤ 2 * n - 1 → ∀ u, jo_FW v u (jo_pc z (jo_jn r f i)) (jo_pf (jo_jn r f i)) (jo_pk v (jo_jn r f i)) (jo_pn (jo_jn r f i)) (jo_hd f i) (jo_sk r f i) → jo_G K D (mT d) (mW a d) u 29 [some (.ref (a 4)), some (.int (nI f)), some (.int (nI n)), some (.int (nI (jo_hd f i))), some (.int (nI (jo_tk f i))), some (.int (nI i)), none] [] := by
    refine jo_up (2 * n - 1) (fun i hi ih => ?_) ?_
    · intro u H
      have hoki := hok i hi
      have eh : jo_hd f (i + 1) = if f.testBit i = true then jo_hd f i + 1 else jo_hd f i - 1 := rfl
      have et : jo_tk f (i + 1) = if f.testBit i = true then jo_tk f i + 1 else jo_tk f i := rfl
      have ej : jo_jn r f (i + 1) = if f.testBit i = true then jo_jn r f i else jo_jn r f i ++ [(jo_sk r f i (jo_hd f i - 2), jo_sk r f i (jo_hd f i - 1))] := rfl
      have es : ∀ j, jo_sk r f (i + 1) j = if f.testBit i = true then (if j = jo_hd f i then 2 ^ r (jo_tk f i) else jo_sk r f i j) else (if j = jo_hd f i - 2 then jo_sk r f i (jo_hd f i - 2) ||| jo_sk r f i (jo_hd f i - 1) else jo_sk r f i j) := fun j => rfl
      refine jo_iload F 5 dX1_follow_29 rfl ?_
      refine jo_iconst (x := (nI 2)) F dX1_follow_31 (by decide) ?_
      refine jo_iload_n F 2 dX1_follow_32 rfl rfl ?_
      refine jo_imul F dX1_follow_33 ?_
      refine jo_iconst (x := (nI 1)) F dX1_follow_34 (by decide) ?_
      refine jo_isub F dX1_follow_35 ?_
      refine jo_top e2 ?_
      refine jo_icmp_ge_n F 193 dX1_follow_36 (by decide) (nI_ge hi (by omega)) ?_
      refine jo_iload_n F 1 dX1_follow_39 rfl rfl ?_
      refine jo_iload F 5 dX1_follow_40 rfl ?_
      refine jo_ishr F dX1_follow_42 ?_
      refine jo_iconst (x := (nI 1)) F dX1_follow_43 (by decide) ?_
      refine jo_iand F dX1_follow_44 ?_
      refine jo_top (jo_bit (by omega) (by omega)) ?_
      refine jo_iconst (x := (nI 1)) F dX1_follow_45 (by decide) ?_
      refine jo_icmpb_ne F 73 dX1_follow_46 (by decide) (fun h46 => ?_) (fun h46 => ?_)
      · 
        have hnb : ¬ f.testBit i = true := by rw [h46]; decide
        rw [if_neg hnb] at hoki
        rw [if_neg hnb] at eh et ej
        have es : ∀ j, jo_sk r f (i + 1) j = if j = jo_hd f i - 2 then jo_sk r f i (jo_hd f i - 2) ||| jo_sk r f i (jo_hd f i - 1) else jo_sk r f i j := fun j => by rw [es j, if_neg hnb]
        rw [Bool.and_eq_true] at hoki
        have hh2 : 2 ≤ jo_hd f i := of_decide_eq_true hoki.1
        have hh5 : jo_hd f i ≤ 5 := of_decide_eq_true hoki.2
        rw [ej, jo_pc_add, jo_pf_add, jo_pk_add, jo_pn_add, eh, et] at ih
        have hL := jo_sk_lt hr f i (jo_hd f i - 2)
        have hR := jo_sk_lt hr f i (jo_hd f i - 1)
        have eR : u 6 (jo_hd f i - 1) = nI (jo_sk r f i (jo_hd f i - 1)) := H.2.2.2.2.2 _ (by omega)
        have eL : u 6 (jo_hd f i - 1 - 1) = nI (jo_sk r f i (jo_hd f i - 2)) := H.2.2.2.2.2 _ (by omega)
        have eh1 : nI (jo_hd f i) + Int32.ofInt (-1) = nI (jo_hd f i - 1) := by
          have := jo_dec (jo_hd f i - 1)
          rw [show jo_hd f i - 1 + 1 = jo_hd f i by omega] at this
          exact this
        have hst : ∀ q, q < jo_hd f i → u 6 q = nI (jo_sk r f i q) := H.2.2.2.2.2
        generalize jo_pc z (jo_jn r f i) = c0 at *
        generalize jo_pk v (jo_jn r f i) = k0 at *
        generalize jo_pn (jo_jn r f i) = n0 at *
        generalize jo_pf (jo_jn r f i) = l0 at *
        generalize hRe : jo_sk r f i (jo_hd f i - 1) = Rr at *
        generalize hLe : jo_sk r f i (jo_hd f i - 2) = Lr at *
        have J151 : ∀ u3, jo_FW v u3 c0 (nI Lr) (k0 && jo_mlk v Lr Rr) (n0 && decide (Rr &&& (Rr - 1) = 0)) (jo_hd f i) (jo_sk r f i) → jo_G K D (mT d) (mW a d) u3 151 [some (.ref (a 4)), some (.int (nI f)), some (.int (nI n)), some (.int (nI (jo_hd f i - 1))), some (.int (nI (jo_tk f i))), some (.int (nI i)), some (.int (nI Rr))] [] := by
          intro u3 H3
          have hor : Lr ||| Rr < 32 := Nat.or_lt_two_pow (n := 5) hL hR
          have e8 : u3 8 0 = nI Lr := H3.2.2.1
          have e7 : u3 7 0 = c0 := H3.2.1
          have e29 : u3 2 (Lr ||| Rr) = z (Lr ||| Rr) := by rw [H3.1 2 (by decide)]; exact hz _ hor
          refine jo_aload_n F 0 dX1_follow_151 rfl rfl ?_
          refine mg6 F dX1_follow_152 ?_
          refine jo_iload_n F 3 dX1_follow_155 rfl rfl ?_
          refine jo_iconst (x := (nI 1)) F dX1_follow_156 (by decide) ?_
          refine jo_isub F dX1_follow_157 ?_
          refine jo_top (jo_sub1 (by omega)) ?_
          refine jo_aload_n F 0 dX1_follow_158 rfl rfl ?_
          refine mg8 F dX1_follow_159 ?_
          refine jo_top e8 ?_
          refine jo_iload F 6 dX1_follow_162 rfl ?_
          refine jo_ior F dX1_follow_164 ?_
          refine jo_top (nx_or _ _) ?_
          refine ms6 F (jo_hd f i - 1 - 1) rfl (by omega) dX1_follow_165 ?_
          refine jo_aload_n F 0 dX1_follow_166 rfl rfl ?_
          refine jo_aload_n F 0 dX1_follow_167 rfl rfl ?_
          refine mg7 F dX1_follow_168 ?_
          refine jo_top (show _ = c0 from e7) ?_
          refine jo_aload_n F 0 dX1_follow_171 rfl rfl ?_
          refine mg2 F dX1_follow_172 ?_
          refine jo_aload_n F 0 dX1_follow_175 rfl rfl ?_
          refine mg8 F dX1_follow_176 ?_
          refine jo_top (show _ = nI Lr from e8) ?_
          refine jo_iload F 6 dX1_follow_179 rfl ?_
          refine jo_ior F dX1_follow_181 ?_
          refine jo_top (nx_or _ _) ?_
          refine ml2 F (Lr ||| Rr) rfl hor dX1_follow_182 ?_
          refine jo_top (show _ = z (Lr ||| Rr) from e29) ?_
          refine jo_iadd F dX1_follow_183 ?_
          refine mp7 F dX1_follow_184 ?_
          refine jo_iinc F 5 dX1_follow_187 rfl (jo_inc _) ?_
          refine jo_goto F 29 dX1_follow_190 (by decide) ?_
          refine jo_forget 6 ?_
          refine ih _ ?_
          refine jo_FW.p7 (jo_FW.s6 H3 (jo_hd f i - 1 - 1) (Lr ||| Rr) _ _ (fun q hq => ?_) (fun q hq => Or.inr (by omega))) _
          rw [es q, show jo_hd f i - 1 - 1 = jo_hd f i - 2 by omega]
        have J125 : ∀ u2, jo_FW v u2 c0 (nI Lr) (k0 && jo_mlk v Lr Rr) n0 (jo_hd f i) (jo_sk r f i) → jo_G K D (mT d) (mW a d) u2 125 [some (.ref (a 4)), some (.int (nI f)), some (.int (nI n)), some (.int (nI (jo_hd f i - 1))), some (.int (nI (jo_tk f i))), some (.int (nI i)), some (.int (nI Rr))] [] := by
          intro u2 H2
          have e10 : u2 10 0 = jo_b n0 := H2.2.2.2.2.1
          refine jo_aload_n F 0 dX1_follow_125 rfl rfl ?_
          refine jo_aload_n F 0 dX1_follow_126 rfl rfl ?_
          refine mg10 F dX1_follow_127 ?_
          refine jo_top e10 ?_
          refine jo_ifb_eq F 147 dX1_follow_130 (by decide) (fun h130 => ?_) (fun h130 => ?_)
          · refine jo_iconst (x := (nI 0)) F dX1_follow_147 (by decide) ?_
            refine mp10 F false rfl dX1_follow_148 ?_
            refine J151 _ ?_
            rw [show (n0 && decide (Rr &&& (Rr - 1) = 0)) = false by simp [h130]]
            exact H2.p10 _
          · 
            refine jo_iload F 6 dX1_follow_133 rfl ?_
            refine jo_iload F 6 dX1_follow_135 rfl ?_
            refine jo_iconst (x := (nI 1)) F dX1_follow_137 (by decide) ?_
            refine jo_isub F dX1_follow_138 ?_
            refine jo_iand F dX1_follow_139 ?_
            refine jo_top (jo_dd Rr hR) ?_
            refine jo_if_ne F 147 dX1_follow_140 (by decide) (fun h140 => ?_) (fun h140 => ?_)
            · have h140 : ¬ Rr &&& (Rr - 1) = 0 := fun q => h140 (by rw [q]; rfl)
              refine jo_iconst (x := (nI 0)) F dX1_follow_147 (by decide) ?_
              refine mp10 F false rfl dX1_follow_148 ?_
              refine J151 _ ?_
              rw [show (n0 && decide (Rr &&& (Rr - 1) = 0)) = false by simp [h140]]
              exact H2.p10 _
            · have h140 := (jo_nI0 (Nat.lt_of_le_of_lt Nat.and_le_left (by omega))).mp h140
              refine jo_iconst (x := (nI 1)) F dX1_follow_143 (by decide) ?_
              refine jo_goto F 148 dX1_follow_144 (by decide) ?_
              refine mp10 F true rfl dX1_follow_148 ?_
              refine J151 _ ?_
              rw [show (n0 && decide (Rr &&& (Rr - 1) = 0)) = true by simp [h130, h140]]
              exact H2.p10 _
        refine jo_iinc F 3 dX1_follow_73 rfl eh1 ?_
        refine jo_aload_n F 0 dX1_follow_76 rfl rfl ?_
        refine mg6 F dX1_follow_77 ?_
        refine jo_iload_n F 3 dX1_follow_80 rfl rfl ?_
        refine ml6 F (jo_hd f i - 1) rfl (by omega) dX1_follow_81 ?_
        refine jo_top eR ?_
        refine jo_istore F 6 dX1_follow_82 (Nat.le_of_ble_eq_true rfl) ?_
        refine jo_aload_n F 0 dX1_follow_84 rfl rfl ?_
        refine jo_aload_n F 0 dX1_follow_85 rfl rfl ?_
        refine mg6 F dX1_follow_86 ?_
        refine jo_iload_n F 3 dX1_follow_89 rfl rfl ?_
        refine jo_iconst (x := (nI 1)) F dX1_follow_90 (by decide) ?_
        refine jo_isub F dX1_follow_91 ?_
        refine jo_top (jo_sub1 (by omega)) ?_
        refine ml6 F (jo_hd f i - 1 - 1) rfl (by omega) dX1_follow_92 ?_
        refine jo_top eL ?_
        refine mp8 F dX1_follow_93 ?_
        refine jo_aload_n F 0 dX1_follow_96 rfl rfl ?_
        refine jo_aload_n F 0 dX1_follow_97 rfl rfl ?_
        refine mg9 F dX1_follow_98 ?_
        refine jo_top (show _ = jo_b k0 from H.2.2.2.1) ?_
        refine jo_ifb_eq F 121 dX1_follow_101 (by decide) (fun h101 => ?_) (fun h101 => ?_)
        · refine jo_iconst (x := (nI 0)) F dX1_follow_121 (by decide) ?_
          refine mp9 F false rfl dX1_follow_122 ?_
          refine J125 _ ?_
          rw [show (k0 && jo_mlk v Lr Rr) = false by simp [h101]]
          exact (H.p8 (nI Lr)).p9 _
        · 
          refine jo_aload_n F 0 dX1_follow_104 rfl rfl ?_
          refine jo_aload_n F 0 dX1_follow_105 rfl rfl ?_
          refine mg8 F dX1_follow_106 ?_
          refine jo_top (show _ = nI Lr from rfl) ?_
          refine jo_iload F 6 dX1_follow_109 rfl ?_
          refine mC_isLinked F hL hR (Nat.le_of_ble_eq_true rfl) (Nat.le_of_ble_eq_true rfl) (Nat.le_of_ble_eq_true rfl) rfl dX1_follow_111 ?_
          rw [jo_mlk_c (u := jo_u u 8 0 (nI Lr)) (v := v) (H.1 1 (by decide))]
          refine jo_ifb_eq F 121 dX1_follow_114 (by decide) (fun h114 => ?_) (fun h114 => ?_)
          · refine jo_iconst (x := (nI 0)) F dX1_follow_121 (by decide) ?_
            refine mp9 F false rfl dX1_follow_122 ?_
            refine J125 _ ?_
            rw [show (k0 && jo_mlk v Lr Rr) = false by simp [h114]]
            exact (H.p8 (nI Lr)).p9 _
          · refine jo_iconst (x := (nI 1)) F dX1_follow_117 (by decide) ?_
            refine jo_goto F 122 dX1_follow_118 (by decide) ?_
            refine mp9 F true rfl dX1_follow_122 ?_
            refine J125 _ ?_
            rw [show (k0 && jo_mlk v Lr Rr) = true by simp [h101, h114]]
            exact (H.p8 (nI Lr)).p9 _
      · rw [if_pos h46] at hoki
        rw [if_pos h46] at eh et ej
        have es : ∀ j, jo_sk r f (i + 1) j = if j = jo_hd f i then 2 ^ r (jo_tk f i) else jo_sk r f i j := fun j => by rw [es j, if_pos h46]
        rw [Bool.and_eq_true] at hoki
        have hh : jo_hd f i < 5 := of_decide_eq_true hoki.1
        have ht : jo_tk f i < n := of_decide_eq_true hoki.2
        have ht5 : jo_tk f i < 5 := by omega
        have e5 : u 5 (jo_tk f i) = nI (r (jo_tk f i)) := by rw [H.1 5 (by decide)]; exact hv5 _ ht
        have hrt := hr (jo_tk f i)
        refine jo_aload_n F 0 dX1_follow_49 rfl rfl ?_
        refine mg6 F dX1_follow_50 ?_
        refine jo_iload_n F 3 dX1_follow_53 rfl rfl ?_
        refine jo_iconst (x := (nI 1)) F dX1_follow_54 (by decide) ?_
        refine jo_aload_n F 0 dX1_follow_55 rfl rfl ?_
        refine mg5 F dX1_follow_56 ?_
        refine jo_iload F 4 dX1_follow_59 rfl ?_
        refine ml5 F (jo_tk f i) rfl ht5 dX1_follow_61 ?_
        refine jo_top e5 ?_
        refine jo_ishl F dX1_follow_62 ?_
        refine jo_top (jo_pow (by omega)) ?_
        refine ms6 F (jo_hd f i) rfl hh dX1_follow_63 ?_
        refine jo_iinc F 3 dX1_follow_64 rfl (jo_inc _) ?_
        refine jo_iinc F 4 dX1_follow_67 rfl (jo_inc _) ?_
        refine jo_goto F 187 dX1_follow_70 (by decide) ?_
        refine jo_iinc F 5 dX1_follow_187 rfl (jo_inc _) ?_
        refine jo_goto F 29 dX1_follow_190 (by decide) ?_
        rw [ej, eh, et] at ih
        exact ih _ (jo_FW.s6 H _ _ _ _ (fun q hq => es q) (fun q hq => by omega))
    · intro u H
      refine jo_iload F 5 dX1_follow_29 rfl ?_
      refine jo_iconst (x := (nI 2)) F dX1_follow_31 (by decide) ?_
      refine jo_iload_n F 2 dX1_follow_32 rfl rfl ?_
      refine jo_imul F dX1_follow_33 ?_
      refine jo_iconst (x := (nI 1)) F dX1_follow_34 (by decide) ?_
      refine jo_isub F dX1_follow_35 ?_
      refine jo_top e2 ?_
      refine jo_icmp_ge_y F 193 dX1_follow_36 (by decide) (nI_le (Nat.le_refl _) (by omega)) ?_
      exact jo_vret F hQ dX1_follow_193 ⟨H.1, H.2.1, H.2.2.1, H.2.2.2.1, H.2.2.2.2.1, fun j hj => absurd hj (Nat.not_lt_zero _)⟩
  refine jo_iconst (x := (nI 0)) F dX1_follow_0 (by decide) ?_
  refine jo_istore_n F 3 dX1_follow_1 rfl (Nat.le_of_ble_eq_true rfl) ?_
  refine jo_iconst (x := (nI 0)) F dX1_follow_2 (by decide) ?_
  refine jo_istore F 4 dX1_follow_3 (Nat.le_of_ble_eq_true rfl) ?_
  refine jo_aload_n F 0 dX1_follow_5 rfl rfl ?_
  refine jo_iconst (x := (nI 0)) F dX1_follow_6 (by decide) ?_
  refine mp7 F dX1_follow_7 ?_
  refine jo_aload_n F 0 dX1_follow_10 rfl rfl ?_
  refine jo_bipush (x := (-4)) F dX1_follow_11 (by decide) ?_
  refine mp8 F dX1_follow_13 ?_
  refine jo_aload_n F 0 dX1_follow_16 rfl rfl ?_
  refine jo_iconst (x := (nI 1)) F dX1_follow_17 (by decide) ?_
  refine mp9 F true rfl dX1_follow_18 ?_
  refine jo_aload_n F 0 dX1_follow_21 rfl rfl ?_
  refine jo_iconst (x := (nI 1)) F dX1_follow_22 (by decide) ?_
  refine mp10 F true rfl dX1_follow_23 ?_
  refine jo_iconst (x := (nI 0)) F dX1_follow_26 (by decide) ?_
  refine jo_istore F 5 dX1_follow_27 (Nat.le_of_ble_eq_true rfl) ?_
  exact lp 0 (Nat.zero_le _) _ ⟨fun q hq => by rw [jo_u_row _ _ _ _ (by omega), jo_u_row _ _ _ _ (by omega), jo_u_row _ _ _ _ (by omega), jo_u_row _ _ _ _ (by omega)], rfl, rfl, rfl, rfl, fun j hj => absurd hj (Nat.not_lt_zero _)⟩
theorem mC_follow {K : jo_C} {D : va_G} {a : Nat → Nat} {d : Nat → ClassId} {v : jo_V} {pc : Nat} {L : List (Option Value)} {st : List Value} {cc : ByteArray} {nL : Nat} {fr lo : Nat} (F : jo_F K cc nL RX1 fr lo) {f n : Nat} (r : Nat → Nat) (z : Nat → Int32) (hn0 : 0 < n) (hn : n ≤ 5) (hf : f ∈ jo_fm n) (hr : ∀ j, r j < 5) (hv5 : ∀ j, j < n → v 5 j = nI (r j)) (hz : ∀ q, q < 32 → v 2 q = z q) (hfr : 2 + 1 ≤ fr) (hlo : 8 + (7 + 11) + 45 ≤ lo) (hcat : (st.map fun v => v.category).sum ≤ 8) (hlen : L.length = nL) (hdg : decode cc pc = .ok (.invokevirtual 82, 3)) (k : ∀ (u : jo_V), jo_FW v u (jo_pc z (jo_jn r f (2 * n - 1))) (jo_pf (jo_jn r f (2 * n - 1))) (jo_pk v (jo_jn r f (2 * n - 1))) (jo_pn (jo_jn r f (2 * n - 1))) 0 (fun _ => 0) → jo_G K D (mT d) (mW a d) u (pc + 3) L st) : jo_G K D (mT d) (mW a d) v pc L (.int (nI n) :: .int (nI f) :: .ref (a 4) :: st) :=
  jo_callv F (q0 := 4) (np := 2) (fun l => mM_follow l D a d v f n r z hn0 hn hf hr hv5 hz) rfl rfl (lw_V q304 q306 qs24 q29 q307) (by decide +kernel) rfl rfl rfl hfr hlo rfl hcat hlen hdg (fun u h => by exact k u h)
/-- isKind(kind) -/
def jo_kd (kd : Nat) (k n : Bool) : Bool := decide (kd = 0) || (if kd = 1 then n else k)
set_option maxHeartbeats 4000000 in
set_option maxRecDepth 100000 in
/-- isKind(kind) -/
theorem mM_isKind (l : Launch) (D : va_G) (a : Nat → Nat) (d : Nat → ClassId) (v : jo_V) (kd : Nat) (k n : Bool) (hkd : kd < 3) (h9 : v 9 0 = jo_b k) (h10 : v 10 0 = jo_b n) : jo_Mi l yX1_isKind (ws_ yX1_isKind cX1_isKind 2 (some .boolean)) ({ frames := 0, cells := 0, slots := 0, locals := 0 } : Room) [.ref (a 4), .int (nI kd)] D (mT d) (mW a d) v (fun r u => r = jo_b (jo_kd kd k n) ∧ u = v) := by
  refine jo_Mi.of (by decide) (jo_cat rfl) (Nat.le_of_ble_eq_true rfl) (fun K F hQ => ?_)
  show jo_G K D (mT d) (mW a d) v 0 [some (.ref (a 4)), some (.int (nI kd))] []
  refine jo_iload_n F 1 dX1_isKind_0 rfl rfl ?_
  refine jo_if_eq F 26 dX1_isKind_1 (by decide) (fun h1 => ?_) (fun h1 => ?_)
  · have h1 := (jo_nI0 (by omega)).mp h1
    refine jo_iconst (x := (nI 1)) F dX1_isKind_26 (by decide) ?_
    refine jo_goto F 31 dX1_isKind_27 (by decide) ?_
    exact jo_zret F hQ (jo_kd kd k n) (by unfold jo_kd jo_b; simp [*]) dX1_isKind_31 ⟨rfl, rfl⟩
  · have h1 : ¬ kd = 0 := fun q => h1 (by rw [q]; rfl)
    refine jo_iload_n F 1 dX1_isKind_4 rfl rfl ?_
    refine jo_iconst (x := (nI 1)) F dX1_isKind_5 (by decide) ?_
    refine jo_icmp_ne F 19 dX1_isKind_6 (by decide) (fun h6 => ?_) (fun h6 => ?_)
    · have h6 : ¬ kd = 1 := fun q => h6 (by rw [q])
      refine jo_aload_n F 0 dX1_isKind_19 rfl rfl ?_
      refine mg9 F dX1_isKind_20 ?_
      refine jo_top h9 ?_
      refine jo_ifb_eq F 30 dX1_isKind_23 (by decide) (fun h23 => ?_) (fun h23 => ?_)
      · refine jo_iconst (x := (nI 0)) F dX1_isKind_30 (by decide) ?_
        exact jo_zret F hQ (jo_kd kd k n) (by unfold jo_kd jo_b; simp [*]) dX1_isKind_31 ⟨rfl, rfl⟩
      · refine jo_iconst (x := (nI 1)) F dX1_isKind_26 (by decide) ?_
        refine jo_goto F 31 dX1_isKind_27 (by decide) ?_
        exact jo_zret F hQ (jo_kd kd k n) (by unfold jo_kd jo_b; simp [*]) dX1_isKind_31 ⟨rfl, rfl⟩
    · have h6 : kd = 1 := (nI_eq (by omega) (by decide)).mp h6
      refine jo_aload_n F 0 dX1_isKind_9 rfl rfl ?_
      refine mg10 F dX1_isKind_10 ?_
      refine jo_top h10 ?_
      refine jo_ifb_eq F 30 dX1_isKind_13 (by decide) (fun h13 => ?_) (fun h13 => ?_)
      · refine jo_iconst (x := (nI 0)) F dX1_isKind_30 (by decide) ?_
        exact jo_zret F hQ (jo_kd kd k n) (by unfold jo_kd jo_b; simp [*]) dX1_isKind_31 ⟨rfl, rfl⟩
      · refine jo_goto F 26 dX1_isKind_16 (by decide) ?_
        refine jo_iconst (x := (nI 1)) F dX1_isKind_26 (by decide) ?_
        refine jo_goto F 31 dX1_isKind_27 (by decide) ?_
        exact jo_zret F hQ (jo_kd kd k n) (by unfold jo_kd jo_b; simp [*]) dX1_isKind_31 ⟨rfl, rfl⟩
theorem mC_isKind {K : jo_C} {D : va_G} {a : Nat → Nat} {d : Nat → ClassId} {v : jo_V} {pc : Nat} {L : List (Option Value)} {st : List Value} {cc : ByteArray} {nL : Nat} {fr lo : Nat} (F : jo_F K cc nL RX1 fr lo) {kd : Nat} (k0 n0 : Bool) (hkd : kd < 3) (h9 : v 9 0 = jo_b k0) (h10 : v 10 0 = jo_b n0) (hfr : 0 + 1 ≤ fr) (hlo : 8 + (2 + 11) + 0 ≤ lo) (hcat : (st.map fun v => v.category).sum ≤ 8) (hlen : L.length = nL) (hdg : decode cc pc = .ok (.invokevirtual 86, 3)) (k : jo_G K D (mT d) (mW a d) v (pc + 3) L (.int (jo_b (jo_kd kd k0 n0)) :: st)) : jo_G K D (mT d) (mW a d) v pc L (.int (nI kd) :: .ref (a 4) :: st) :=
  jo_calli F (q0 := 4) (np := 1) (fun l => mM_isKind l D a d v kd k0 n0 hkd h9 h10) rfl rfl (lw_V q308 q310 qs25 q29 q311) (by decide +kernel) rfl rfl rfl hfr hlo rfl hcat hlen hdg (fun r u h => by obtain ⟨rfl, rfl⟩ := h; exact k)
end
section
/-- the plans by number: how many forms, the joins of the i-th plan, how many plans -/
def jo_fl (S : Nat) : Nat := (jo_fm (jo_cn S)).length
def jo_tr (S i : Nat) : List (Nat × Nat) := jo_jn (jo_row S (i / jo_fl S)) ((jo_fm (jo_cn S)).getD (i % jo_fl S) 0) (2 * jo_cn S - 1)
def jo_NP (S : Nat) : Nat := jo_fc (jo_cn S) * jo_fl S
/-- the i-th plan has been followed -/
def jo_AT (v u : jo_V) (S i : Nat) : Prop := jo_PR v u (jo_cn S) ∧ u 7 0 = jo_pc (jo_mz v) (jo_tr S i) ∧ u 8 0 = jo_pf (jo_tr S i) ∧ u 9 0 = jo_b (jo_pk v (jo_tr S i)) ∧ u 10 0 = jo_b (jo_pn (jo_tr S i)) ∧ ∀ j, j < jo_cn S → u 5 j = nI (jo_row S (i / jo_fl S) j)
theorem jo_getD_mem {i : Nat} (l : List Nat) (h : i < l.length) : l.getD i 0 ∈ l := by
  rw [List.getD_eq_getElem?_getD, List.getElem?_eq_getElem h]
  exact List.getElem_mem h
theorem jo_pk_c {u v : jo_V} (h1 : u 1 = v 1) (js : List (Nat × Nat)) : jo_pk u js = jo_pk v js := by
  unfold jo_pk
  congr 1
  funext q
  exact jo_mlk_c h1 _ _
theorem jo_AT_of {v u u1 u2 : jo_V} {S i : Nat} (hu : jo_PR v u (jo_cn S)) (h1 : ∀ q, ¬ q = 5 → u1 q = u q) (h5 : ∀ j, j < jo_cn S → u1 5 j = nI (jo_row S (i / jo_fl S) j))
    (h2 : jo_FW u1 u2 (jo_pc (jo_mz v) (jo_tr S i)) (jo_pf (jo_tr S i)) (jo_pk u1 (jo_tr S i)) (jo_pn (jo_tr S i)) 0 (fun _ => 0)) : jo_AT v u2 S i := by
  refine ⟨hu.keep (fun q hq => by rw [h2.1 q (by omega)]; exact h1 q (by omega)), h2.2.1, h2.2.2.1, ?_, h2.2.2.2.2.1, fun j hj => by rw [h2.1 5 (by decide)]; exact h5 j hj⟩
  rw [h2.2.2.2.1, jo_pk_c (show u1 1 = v 1 by rw [h1 1 (by decide)]; exact hu.2.1)]
theorem jo_PR_c {u v w : jo_V} {n : Nat} (h0 : u 0 = v 0) (h1 : u 1 = v 1) (h : jo_PR u w n) : jo_PR v w n :=
  ⟨h.1.trans h0, h.2.1.trans h1, fun q hq => (h.2.2.1 q hq).trans (jo_mz_c h0 h1 q), h.2.2.2.1, h.2.2.2.2⟩
/-- extreme(set, kind, worst) after i plans -/
def jo_bt (wst : Bool) (b c : Int32) : Bool := if wst = true then decide (b < c) else (decide (b < 0) || decide (c < b))
def jo_ex (v : jo_V) (S kd : Nat) (wst : Bool) : Nat → Int32
  | 0 => -4
  | i + 1 => if (jo_kd kd (jo_pk v (jo_tr S i)) (jo_pn (jo_tr S i)) && jo_bt wst (jo_ex v S kd wst i) (jo_pc (jo_mz v) (jo_tr S i))) = true then jo_pc (jo_mz v) (jo_tr S i) else jo_ex v S kd wst i
theorem jo_ex_c {u v : jo_V} (h0 : u 0 = v 0) (h1 : u 1 = v 1) (S kd : Nat) (wst : Bool) : ∀ i, jo_ex u S kd wst i = jo_ex v S kd wst i
  | 0 => rfl
  | i + 1 => by
    unfold jo_ex
    rw [jo_ex_c h0 h1 S kd wst i, jo_pk_c h1, show jo_mz u = jo_mz v from funext (jo_mz_c h0 h1)]
set_option maxHeartbeats 4000000 in
set_option maxRecDepth 100000 in
/-- extreme(set, kind, worst) -/
theorem mM_extreme (l : Launch) (D : va_G) (a : Nat → Nat) (d : Nat → ClassId) (v : jo_V) (S kd : Nat) (wst : Bool) (hS : S < 32) (hS0 : 0 < S) (hkd : kd < 3) : jo_Mi l yX1_extreme (ws_ yX1_extreme cX1_extreme 9 (some .int)) ({ frames := 3, cells := 0, slots := 0, locals := 75 } : Room) [.ref (a 4), .int (nI S), .int (nI kd), .int (jo_b wst)] D (mT d) (mW a d) v (fun r u => r = jo_ex v S kd wst (jo_NP S) ∧ u 0 = v 0 ∧ u 1 = v 1) := by
  refine jo_Mi.of (by decide) (jo_cat rfl) (Nat.le_of_ble_eq_true rfl) (fun K F hQ => ?_)
  show jo_G K D (mT d) (mW a d) v 0 [some (.ref (a 4)), some (.int (nI S)), some (.int (nI kd)), some (.int (jo_b wst)), none, none, none, none, none] []
  obtain ⟨hn0, hn⟩ := jo_cn_in S hS hS0
  obtain ⟨hfl0, hfl⟩ : 0 < jo_fl S ∧ jo_fl S ≤ 14 := jo_fm_len hn0 hn
  have hfc := jo_fc_le _ hn
  have hNP : jo_fc (jo_cn S) * jo_fl S ≤ 1680 := Nat.mul_le_mul hfc hfl
  have lp : ∀ i, i ≤ jo_fc (jo_cn S) * jo_fl S → ∀ u, jo_PR v u (jo_cn S) → jo_G K D (mT d) (mW a d) u 21 [some (.ref (a 4)), some (.int (nI S)), some (.int (nI kd)), some (.int (jo_b wst)), some (.int (nI (jo_fc (jo_cn S)))), some (.int (nI (jo_cn S))), some (.int (jo_ex v S kd wst i)), some (.int (nI i)), none] [] := by
    refine jo_up _ (fun i hi ih => ?_) ?_
    · intro u hu
      have hu4 : u 4 0 = nI (jo_fl S) := hu.2.2.2.1
      have hdv : i / jo_fl S < jo_fc (jo_cn S) := Nat.div_lt_of_lt_mul (by rw [Nat.mul_comm]; exact hi)
      have hmd : i % jo_fl S < jo_fl S := Nat.mod_lt _ hfl0
      have hu3 : u 3 (i % jo_fl S) = nI ((jo_fm (jo_cn S)).getD (i % jo_fl S) 0) := hu.2.2.2.2 _ hmd
      refine jo_iload F 7 dX1_extreme_21 rfl ?_
      refine jo_iload F 4 dX1_extreme_23 rfl ?_
      refine jo_aload_n F 0 dX1_extreme_25 rfl rfl ?_
      refine mg4 F dX1_extreme_26 ?_
      refine jo_top hu4 ?_
      refine jo_imul F dX1_extreme_29 ?_
      refine jo_top (pk_mul _ _) ?_
      refine jo_icmp_ge_n F 137 dX1_extreme_30 (by decide) (nI_ge hi (by omega)) ?_
      refine jo_aload_n F 0 dX1_extreme_33 rfl rfl ?_
      refine jo_iload_n F 1 dX1_extreme_34 rfl rfl ?_
      refine jo_iload F 7 dX1_extreme_35 rfl ?_
      refine jo_aload_n F 0 dX1_extreme_37 rfl rfl ?_
      refine mg4 F dX1_extreme_38 ?_
      refine jo_top hu4 ?_
      refine jo_idiv F dX1_extreme_41 (nI_ne0 hfl0 (by omega)) ?_
      refine jo_top (pk_div (by omega) hfl0 (by omega)) ?_
      refine jo_iload F 4 dX1_extreme_42 rfl ?_
      refine mC_order F hS hS0 hdv (Nat.le_of_ble_eq_true rfl) (Nat.le_of_ble_eq_true rfl) (Nat.le_of_ble_eq_true rfl) rfl dX1_extreme_44 (fun u1 h1 => ?_)
      have h14 : u1 4 0 = nI (jo_fl S) := by rw [h1.1 4 (by decide)]; exact hu4
      have h13 : u1 3 (i % jo_fl S) = nI ((jo_fm (jo_cn S)).getD (i % jo_fl S) 0) := by rw [h1.1 3 (by decide)]; exact hu3
      refine jo_aload_n F 0 dX1_extreme_47 rfl rfl ?_
      refine jo_aload_n F 0 dX1_extreme_48 rfl rfl ?_
      refine mg3 F dX1_extreme_49 ?_
      refine jo_iload F 7 dX1_extreme_52 rfl ?_
      refine jo_aload_n F 0 dX1_extreme_54 rfl rfl ?_
      refine mg4 F dX1_extreme_55 ?_
      refine jo_top h14 ?_
      refine jo_irem F dX1_extreme_58 (nI_ne0 hfl0 (by omega)) ?_
      refine jo_top (pk_rem (by omega) hfl0 (by omega)) ?_
      refine ml3 F (i % jo_fl S) rfl (by omega) dX1_extreme_59 ?_
      refine jo_top h13 ?_
      refine jo_iload F 5 dX1_extreme_60 rfl ?_
      refine mC_follow F (jo_row S (i / jo_fl S)) (jo_mz v) hn0 hn (jo_getD_mem _ hmd) (fun j => jo_sel_lt _ _) h1.2 (fun q hq => by rw [h1.1 2 (by decide)]; exact hu.2.2.1 q hq) (Nat.le_of_ble_eq_true rfl) (Nat.le_of_ble_eq_true rfl) (Nat.le_of_ble_eq_true rfl) rfl dX1_extreme_62 (fun u2 h2 => ?_)
      have h2 := jo_AT_of hu h1.1 h1.2 h2
      have ex1 : jo_ex v S kd wst (i + 1) = if (jo_kd kd (jo_pk v (jo_tr S i)) (jo_pn (jo_tr S i)) && jo_bt wst (jo_ex v S kd wst i) (jo_pc (jo_mz v) (jo_tr S i))) = true then jo_pc (jo_mz v) (jo_tr S i) else jo_ex v S kd wst i := rfl
      rw [ex1] at ih
      obtain ⟨a0, a7, -, a9, a10, -⟩ := h2
      generalize jo_pc (jo_mz v) (jo_tr S i) = c at *
      generalize jo_pk v (jo_tr S i) = k0 at *
      generalize jo_pn (jo_tr S i) = n0 at *
      generalize jo_ex v S kd wst i = b at *
      have J : ∀ x : Bool, x = jo_bt wst b c → jo_G K D (mT d) (mW a d) u2 105 [some (.ref (a 4)), some (.int (nI S)), some (.int (nI kd)), some (.int (jo_b wst)), some (.int (nI (jo_fc (jo_cn S)))), some (.int (nI (jo_cn S))), some (.int b), some (.int (nI i)), none] [.int (jo_b x)] := by
        rintro x rfl
        refine jo_istore F 8 dX1_extreme_105 (Nat.le_of_ble_eq_true rfl) ?_
        refine jo_aload_n F 0 dX1_extreme_107 rfl rfl ?_
        refine jo_iload_n F 2 dX1_extreme_108 rfl rfl ?_
        refine mC_isKind F k0 n0 hkd a9 a10 (Nat.le_of_ble_eq_true rfl) (Nat.le_of_ble_eq_true rfl) (Nat.le_of_ble_eq_true rfl) rfl dX1_extreme_109 ?_
        refine jo_ifb_eq F 127 dX1_extreme_112 (by decide) (fun h112 => ?_) (fun h112 => ?_)
        · refine jo_iload F 6 dX1_extreme_127 rfl ?_
          refine jo_istore F 6 dX1_extreme_129 (Nat.le_of_ble_eq_true rfl) ?_
          refine jo_iinc F 7 dX1_extreme_131 rfl (jo_inc _) ?_
          refine jo_goto F 21 dX1_extreme_134 (by decide) ?_
          refine jo_forget 8 ?_
          rw [if_neg (by rw [h112]; simp)] at ih
          exact ih u2 a0
        · 
          refine jo_iload F 8 dX1_extreme_115 rfl ?_
          refine jo_ifb_eq F 127 dX1_extreme_117 (by decide) (fun h117 => ?_) (fun h117 => ?_)
          · refine jo_iload F 6 dX1_extreme_127 rfl ?_
            refine jo_istore F 6 dX1_extreme_129 (Nat.le_of_ble_eq_true rfl) ?_
            refine jo_iinc F 7 dX1_extreme_131 rfl (jo_inc _) ?_
            refine jo_goto F 21 dX1_extreme_134 (by decide) ?_
            refine jo_forget 8 ?_
            rw [if_neg (by rw [h117]; simp)] at ih
            exact ih u2 a0
          · refine jo_aload_n F 0 dX1_extreme_120 rfl rfl ?_
            refine mg7 F dX1_extreme_121 ?_
            refine jo_top a7 ?_
            refine jo_goto F 129 dX1_extreme_124 (by decide) ?_
            refine jo_istore F 6 dX1_extreme_129 (Nat.le_of_ble_eq_true rfl) ?_
            refine jo_iinc F 7 dX1_extreme_131 rfl (jo_inc _) ?_
            refine jo_goto F 21 dX1_extreme_134 (by decide) ?_
            refine jo_forget 8 ?_
            rw [if_pos (by rw [h112, h117]; rfl)] at ih
            exact ih u2 a0
      refine jo_iload_n F 3 dX1_extreme_65 rfl rfl ?_
      refine jo_ifb_eq F 86 dX1_extreme_66 (by decide) (fun h66 => ?_) (fun h66 => ?_)
      · refine jo_iload F 6 dX1_extreme_86 rfl ?_
        refine jo_if_lt F 100 dX1_extreme_88 (by decide) (fun h88 => ?_) (fun h88 => ?_)
        · refine jo_iconst (x := (nI 1)) F dX1_extreme_100 (by decide) ?_
          refine jo_goto F 105 dX1_extreme_101 (by decide) ?_
          exact J true (by unfold jo_bt; rw [h66]; simp [h88])
        · 
          refine jo_aload_n F 0 dX1_extreme_91 rfl rfl ?_
          refine mg7 F dX1_extreme_92 ?_
          refine jo_top a7 ?_
          refine jo_iload F 6 dX1_extreme_95 rfl ?_
          refine jo_icmp_ge F 104 dX1_extreme_97 (by decide) (fun h97 => ?_) (fun h97 => ?_)
          · refine jo_iconst (x := (nI 0)) F dX1_extreme_104 (by decide) ?_
            exact J false (by unfold jo_bt; rw [h66]; simp [h88, h97, Int32.not_lt])
          · refine jo_iconst (x := (nI 1)) F dX1_extreme_100 (by decide) ?_
            refine jo_goto F 105 dX1_extreme_101 (by decide) ?_
            exact J true (by unfold jo_bt; rw [h66]; simp [Int32.not_le.mp h97])
      · refine jo_aload_n F 0 dX1_extreme_69 rfl rfl ?_
        refine mg7 F dX1_extreme_70 ?_
        refine jo_top a7 ?_
        refine jo_iload F 6 dX1_extreme_73 rfl ?_
        refine jo_icmp_le F 82 dX1_extreme_75 (by decide) (fun h75 => ?_) (fun h75 => ?_)
        · refine jo_iconst (x := (nI 0)) F dX1_extreme_82 (by decide) ?_
          refine jo_goto F 105 dX1_extreme_83 (by decide) ?_
          exact J false (by unfold jo_bt; rw [if_pos h66]; exact (decide_eq_false (Int32.not_lt.mpr h75)).symm)
        · refine jo_iconst (x := (nI 1)) F dX1_extreme_78 (by decide) ?_
          refine jo_goto F 105 dX1_extreme_79 (by decide) ?_
          exact J true (by unfold jo_bt; rw [if_pos h66]; exact (decide_eq_true (Int32.not_le.mp h75)).symm)
    · intro u hu
      have hu4 : u 4 0 = nI (jo_fl S) := hu.2.2.2.1
      refine jo_iload F 7 dX1_extreme_21 rfl ?_
      refine jo_iload F 4 dX1_extreme_23 rfl ?_
      refine jo_aload_n F 0 dX1_extreme_25 rfl rfl ?_
      refine mg4 F dX1_extreme_26 ?_
      refine jo_top hu4 ?_
      refine jo_imul F dX1_extreme_29 ?_
      refine jo_top (pk_mul _ _) ?_
      refine jo_icmp_ge_y F 137 dX1_extreme_30 (by decide) (nI_le (Nat.le_refl _) (by omega)) ?_
      refine jo_iload F 6 dX1_extreme_137 rfl ?_
      exact jo_iret F hQ dX1_extreme_139 ⟨rfl, hu.1, hu.2.1⟩
  refine jo_aload_n F 0 dX1_extreme_0 rfl rfl ?_
  refine jo_iload_n F 1 dX1_extreme_1 rfl rfl ?_
  refine mC_prepare F hS hS0 (Nat.le_of_ble_eq_true rfl) (Nat.le_of_ble_eq_true rfl) (Nat.le_of_ble_eq_true rfl) rfl dX1_extreme_2 (fun u0 h0 => ?_)
  refine jo_istore F 4 dX1_extreme_5 (Nat.le_of_ble_eq_true rfl) ?_
  refine jo_aload_n F 0 dX1_extreme_7 rfl rfl ?_
  refine jo_iload_n F 1 dX1_extreme_8 rfl rfl ?_
  refine mC_count F hS (Nat.le_of_ble_eq_true rfl) (Nat.le_of_ble_eq_true rfl) (Nat.le_of_ble_eq_true rfl) rfl dX1_extreme_9 ?_
  refine jo_istore F 5 dX1_extreme_12 (Nat.le_of_ble_eq_true rfl) ?_
  refine jo_bipush (x := (-4)) F dX1_extreme_14 (by decide) ?_
  refine jo_istore F 6 dX1_extreme_16 (Nat.le_of_ble_eq_true rfl) ?_
  refine jo_iconst (x := (nI 0)) F dX1_extreme_18 (by decide) ?_
  refine jo_istore F 7 dX1_extreme_19 (Nat.le_of_ble_eq_true rfl) ?_
  exact lp 0 (Nat.zero_le _) u0 h0
set_option maxRecDepth 100000 in
theorem mC_extreme {K : jo_C} {D : va_G} {a : Nat → Nat} {d : Nat → ClassId} {v : jo_V} {pc : Nat} {L : List (Option Value)} {st : List Value} {cc : ByteArray} {nL : Nat} {fr lo : Nat} (F : jo_F K cc nL RX1 fr lo) {S kd : Nat} (wst : Bool) {x0 : Int32} (hS : S < 32) (hS0 : 0 < S) (hkd : kd < 3) (hx0 : x0 = jo_b wst) (hfr : 3 + 1 ≤ fr) (hlo : 8 + (9 + 11) + 75 ≤ lo) (hcat : (st.map fun v => v.category).sum ≤ 8) (hlen : L.length = nL) (hdg : decode cc pc = .ok (.invokevirtual 89, 3)) (k : ∀ (u : jo_V), (u 0 = v 0 ∧ u 1 = v 1) → jo_G K D (mT d) (mW a d) u (pc + 3) L (.int (jo_ex v S kd wst (jo_NP S)) :: st)) : jo_G K D (mT d) (mW a d) v pc L (.int x0 :: .int (nI kd) :: .int (nI S) :: .ref (a 4) :: st) :=
  by subst hx0; exact jo_calli F (q0 := 4) (np := 3) (fun l => mM_extreme l D a d v S kd wst hS hS0 hkd) rfl rfl (lw_V q284 q286 qs19 q29 q287) (by decide +kernel) rfl rfl rfl hfr hlo rfl hcat hlen hdg (fun r u h => by obtain ⟨rfl, h⟩ := h; exact k u h)
/-- countPlans(set, kind, only) after i plans -/
def jo_cp (v : jo_V) (S kd : Nat) (only : Int32) : Nat → Nat
  | 0 => 0
  | i + 1 => if (jo_kd kd (jo_pk v (jo_tr S i)) (jo_pn (jo_tr S i)) && (decide (only < 0) || decide (jo_pc (jo_mz v) (jo_tr S i) = only))) = true then jo_cp v S kd only i + 1 else jo_cp v S kd only i
theorem jo_cp_c {u v : jo_V} (h0 : u 0 = v 0) (h1 : u 1 = v 1) (S kd : Nat) (only : Int32) : ∀ i, jo_cp u S kd only i = jo_cp v S kd only i
  | 0 => rfl
  | i + 1 => by
    unfold jo_cp
    rw [jo_cp_c h0 h1 S kd only i, jo_pk_c h1, show jo_mz u = jo_mz v from funext (jo_mz_c h0 h1)]
set_option maxHeartbeats 4000000 in
set_option maxRecDepth 100000 in
/-- countPlans(set, kind, only) -/
theorem mM_countPlans (l : Launch) (D : va_G) (a : Nat → Nat) (d : Nat → ClassId) (v : jo_V) (S kd : Nat) (only : Int32) (hS : S < 32) (hS0 : 0 < S) (hkd : kd < 3) : jo_Mi l yX1_countPlans (ws_ yX1_countPlans cX1_countPlans 8 (some .int)) ({ frames := 3, cells := 0, slots := 0, locals := 75 } : Room) [.ref (a 4), .int (nI S), .int (nI kd), .int only] D (mT d) (mW a d) v (fun r u => r = nI (jo_cp v S kd only (jo_NP S)) ∧ u 0 = v 0 ∧ u 1 = v 1) := by
  refine jo_Mi.of (by decide) (jo_cat rfl) (Nat.le_of_ble_eq_true rfl) (fun K F hQ => ?_)
  show jo_G K D (mT d) (mW a d) v 0 [some (.ref (a 4)), some (.int (nI S)), some (.int (nI kd)), some (.int only), none, none, none, none] []
  obtain ⟨hn0, hn⟩ := jo_cn_in S hS hS0
  obtain ⟨hfl0, hfl⟩ : 0 < jo_fl S ∧ jo_fl S ≤ 14 := jo_fm_len hn0 hn
  have hfc := jo_fc_le _ hn
  have hNP : jo_fc (jo_cn S) * jo_fl S ≤ 1680 := Nat.mul_le_mul hfc hfl
  have lp : ∀ i, i ≤ jo_fc (jo_cn S) * jo_fl S → ∀ u, jo_PR v u (jo_cn S) → jo_G K D (mT d) (mW a d) u 20 [some (.ref (a 4)), some (.int (nI S)), some (.int (nI kd)), some (.int only), some (.int (nI (jo_fc (jo_cn S)))), some (.int (nI (jo_cn S))), some (.int (nI (jo_cp v S kd only i))), some (.int (nI i))] [] := by
    refine jo_up _ (fun i hi ih => ?_) ?_
    · intro u hu
      have hu4 : u 4 0 = nI (jo_fl S) := hu.2.2.2.1
      have hdv : i / jo_fl S < jo_fc (jo_cn S) := Nat.div_lt_of_lt_mul (by rw [Nat.mul_comm]; exact hi)
      have hmd : i % jo_fl S < jo_fl S := Nat.mod_lt _ hfl0
      have hu3 : u 3 (i % jo_fl S) = nI ((jo_fm (jo_cn S)).getD (i % jo_fl S) 0) := hu.2.2.2.2 _ hmd
      refine jo_iload F 7 dX1_countPlans_20 rfl ?_
      refine jo_iload F 4 dX1_countPlans_22 rfl ?_
      refine jo_aload_n F 0 dX1_countPlans_24 rfl rfl ?_
      refine mg4 F dX1_countPlans_25 ?_
      refine jo_top hu4 ?_
      refine jo_imul F dX1_countPlans_28 ?_
      refine jo_top (pk_mul _ _) ?_
      refine jo_icmp_ge_n F 101 dX1_countPlans_29 (by decide) (nI_ge hi (by omega)) ?_
      refine jo_aload_n F 0 dX1_countPlans_32 rfl rfl ?_
      refine jo_iload_n F 1 dX1_countPlans_33 rfl rfl ?_
      refine jo_iload F 7 dX1_countPlans_34 rfl ?_
      refine jo_aload_n F 0 dX1_countPlans_36 rfl rfl ?_
      refine mg4 F dX1_countPlans_37 ?_
      refine jo_top hu4 ?_
      refine jo_idiv F dX1_countPlans_40 (nI_ne0 hfl0 (by omega)) ?_
      refine jo_top (pk_div (by omega) hfl0 (by omega)) ?_
      refine jo_iload F 4 dX1_countPlans_41 rfl ?_
      refine mC_order F hS hS0 hdv (Nat.le_of_ble_eq_true rfl) (Nat.le_of_ble_eq_true rfl) (Nat.le_of_ble_eq_true rfl) rfl dX1_countPlans_43 (fun u1 h1 => ?_)
      have h14 : u1 4 0 = nI (jo_fl S) := by rw [h1.1 4 (by decide)]; exact hu4
      have h13 : u1 3 (i % jo_fl S) = nI ((jo_fm (jo_cn S)).getD (i % jo_fl S) 0) := by rw [h1.1 3 (by decide)]; exact hu3
      refine jo_aload_n F 0 dX1_countPlans_46 rfl rfl ?_
      refine jo_aload_n F 0 dX1_countPlans_47 rfl rfl ?_
      refine mg3 F dX1_countPlans_48 ?_
      refine jo_iload F 7 dX1_countPlans_51 rfl ?_
      refine jo_aload_n F 0 dX1_countPlans_53 rfl rfl ?_
      refine mg4 F dX1_countPlans_54 ?_
      refine jo_top h14 ?_
      refine jo_irem F dX1_countPlans_57 (nI_ne0 hfl0 (by omega)) ?_
      refine jo_top (pk_rem (by omega) hfl0 (by omega)) ?_
      refine ml3 F (i % jo_fl S) rfl (by omega) dX1_countPlans_58 ?_
      refine jo_top h13 ?_
      refine jo_iload F 5 dX1_countPlans_59 rfl ?_
      refine mC_follow F (jo_row S (i / jo_fl S)) (jo_mz v) hn0 hn (jo_getD_mem _ hmd) (fun j => jo_sel_lt _ _) h1.2 (fun q hq => by rw [h1.1 2 (by decide)]; exact hu.2.2.1 q hq) (Nat.le_of_ble_eq_true rfl) (Nat.le_of_ble_eq_true rfl) (Nat.le_of_ble_eq_true rfl) rfl dX1_countPlans_61 (fun u2 h2 => ?_)
      have h2 := jo_AT_of hu h1.1 h1.2 h2
      have ex1 : jo_cp v S kd only (i + 1) = if (jo_kd kd (jo_pk v (jo_tr S i)) (jo_pn (jo_tr S i)) && (decide (only < 0) || decide (jo_pc (jo_mz v) (jo_tr S i) = only))) = true then jo_cp v S kd only i + 1 else jo_cp v S kd only i := rfl
      rw [ex1] at ih
      obtain ⟨a0, a7, -, a9, a10, -⟩ := h2
      generalize jo_pc (jo_mz v) (jo_tr S i) = c at *
      generalize jo_pk v (jo_tr S i) = k0 at *
      generalize jo_pn (jo_tr S i) = n0 at *
      generalize jo_cp v S kd only i = b at *
      refine jo_aload_n F 0 dX1_countPlans_64 rfl rfl ?_
      refine jo_iload_n F 2 dX1_countPlans_65 rfl rfl ?_
      refine mC_isKind F k0 n0 hkd a9 a10 (Nat.le_of_ble_eq_true rfl) (Nat.le_of_ble_eq_true rfl) (Nat.le_of_ble_eq_true rfl) rfl dX1_countPlans_66 ?_
      refine jo_ifb_eq F 91 dX1_countPlans_69 (by decide) (fun h69 => ?_) (fun h69 => ?_)
      · refine jo_iload F 6 dX1_countPlans_91 rfl ?_
        refine jo_istore F 6 dX1_countPlans_93 (Nat.le_of_ble_eq_true rfl) ?_
        refine jo_iinc F 7 dX1_countPlans_95 rfl (jo_inc _) ?_
        refine jo_goto F 20 dX1_countPlans_98 (by decide) ?_
        rw [if_neg (by rw [h69]; simp)] at ih
        exact ih u2 a0
      · 
        refine jo_iload_n F 3 dX1_countPlans_72 rfl rfl ?_
        refine jo_if_lt F 84 dX1_countPlans_73 (by decide) (fun h73 => ?_) (fun h73 => ?_)
        · refine jo_iload F 6 dX1_countPlans_84 rfl ?_
          refine jo_iconst (x := (nI 1)) F dX1_countPlans_86 (by decide) ?_
          refine jo_iadd F dX1_countPlans_87 ?_
          refine jo_top (nI_1 _) ?_
          refine jo_goto F 93 dX1_countPlans_88 (by decide) ?_
          refine jo_istore F 6 dX1_countPlans_93 (Nat.le_of_ble_eq_true rfl) ?_
          refine jo_iinc F 7 dX1_countPlans_95 rfl (jo_inc _) ?_
          refine jo_goto F 20 dX1_countPlans_98 (by decide) ?_
          rw [if_pos (by rw [h69]; simp [h73])] at ih
          exact ih u2 a0
        · 
          refine jo_aload_n F 0 dX1_countPlans_76 rfl rfl ?_
          refine mg7 F dX1_countPlans_77 ?_
          refine jo_top a7 ?_
          refine jo_iload_n F 3 dX1_countPlans_80 rfl rfl ?_
          refine jo_icmp_ne F 91 dX1_countPlans_81 (by decide) (fun h81 => ?_) (fun h81 => ?_)
          · refine jo_iload F 6 dX1_countPlans_91 rfl ?_
            refine jo_istore F 6 dX1_countPlans_93 (Nat.le_of_ble_eq_true rfl) ?_
            refine jo_iinc F 7 dX1_countPlans_95 rfl (jo_inc _) ?_
            refine jo_goto F 20 dX1_countPlans_98 (by decide) ?_
            rw [if_neg (by rw [h69]; simp [h73, h81])] at ih
            exact ih u2 a0
          · refine jo_iload F 6 dX1_countPlans_84 rfl ?_
            refine jo_iconst (x := (nI 1)) F dX1_countPlans_86 (by decide) ?_
            refine jo_iadd F dX1_countPlans_87 ?_
            refine jo_top (nI_1 _) ?_
            refine jo_goto F 93 dX1_countPlans_88 (by decide) ?_
            refine jo_istore F 6 dX1_countPlans_93 (Nat.le_of_ble_eq_true rfl) ?_
            refine jo_iinc F 7 dX1_countPlans_95 rfl (jo_inc _) ?_
            refine jo_goto F 20 dX1_countPlans_98 (by decide) ?_
            rw [if_pos (by rw [h69]; simp [h81])] at ih
            exact ih u2 a0
    · intro u hu
      have hu4 : u 4 0 = nI (jo_fl S) := hu.2.2.2.1
      refine jo_iload F 7 dX1_countPlans_20 rfl ?_
      refine jo_iload F 4 dX1_countPlans_22 rfl ?_
      refine jo_aload_n F 0 dX1_countPlans_24 rfl rfl ?_
      refine mg4 F dX1_countPlans_25 ?_
      refine jo_top hu4 ?_
      refine jo_imul F dX1_countPlans_28 ?_
      refine jo_top (pk_mul _ _) ?_
      refine jo_icmp_ge_y F 101 dX1_countPlans_29 (by decide) (nI_le (Nat.le_refl _) (by omega)) ?_
      refine jo_iload F 6 dX1_countPlans_101 rfl ?_
      exact jo_iret F hQ dX1_countPlans_103 ⟨rfl, hu.1, hu.2.1⟩
  refine jo_aload_n F 0 dX1_countPlans_0 rfl rfl ?_
  refine jo_iload_n F 1 dX1_countPlans_1 rfl rfl ?_
  refine mC_prepare F hS hS0 (Nat.le_of_ble_eq_true rfl) (Nat.le_of_ble_eq_true rfl) (Nat.le_of_ble_eq_true rfl) rfl dX1_countPlans_2 (fun u0 h0 => ?_)
  refine jo_istore F 4 dX1_countPlans_5 (Nat.le_of_ble_eq_true rfl) ?_
  refine jo_aload_n F 0 dX1_countPlans_7 rfl rfl ?_
  refine jo_iload_n F 1 dX1_countPlans_8 rfl rfl ?_
  refine mC_count F hS (Nat.le_of_ble_eq_true rfl) (Nat.le_of_ble_eq_true rfl) (Nat.le_of_ble_eq_true rfl) rfl dX1_countPlans_9 ?_
  refine jo_istore F 5 dX1_countPlans_12 (Nat.le_of_ble_eq_true rfl) ?_
  refine jo_iconst (x := (nI 0)) F dX1_countPlans_14 (by decide) ?_
  refine jo_istore F 6 dX1_countPlans_15 (Nat.le_of_ble_eq_true rfl) ?_
  refine jo_iconst (x := (nI 0)) F dX1_countPlans_17 (by decide) ?_
  refine jo_istore F 7 dX1_countPlans_18 (Nat.le_of_ble_eq_true rfl) ?_
  exact lp 0 (Nat.zero_le _) u0 h0
set_option maxRecDepth 100000 in
theorem mC_countPlans {K : jo_C} {D : va_G} {a : Nat → Nat} {d : Nat → ClassId} {v : jo_V} {pc : Nat} {L : List (Option Value)} {st : List Value} {cc : ByteArray} {nL : Nat} {fr lo : Nat} (F : jo_F K cc nL RX1 fr lo) {S kd : Nat} {only : Int32} (hS : S < 32) (hS0 : 0 < S) (hkd : kd < 3) (hfr : 3 + 1 ≤ fr) (hlo : 8 + (8 + 11) + 75 ≤ lo) (hcat : (st.map fun v => v.category).sum ≤ 8) (hlen : L.length = nL) (hdg : decode cc pc = .ok (.invokevirtual 93, 3)) (k : ∀ (u : jo_V), (u 0 = v 0 ∧ u 1 = v 1) → jo_G K D (mT d) (mW a d) u (pc + 3) L (.int (nI (jo_cp v S kd only (jo_NP S))) :: st)) : jo_G K D (mT d) (mW a d) v pc L (.int only :: .int (nI kd) :: .int (nI S) :: .ref (a 4) :: st) :=
  jo_calli F (q0 := 4) (np := 3) (fun l => mM_countPlans l D a d v S kd only hS hS0 hkd) rfl rfl (lw_V q336 q338 qs26 q29 q339) (by decide +kernel) rfl rfl rfl hfr hlo rfl hcat hlen hdg (fun r u h => by obtain ⟨rfl, h⟩ := h; exact k u h)
set_option maxHeartbeats 4000000 in
set_option maxRecDepth 100000 in
/-- cost(set) -/
theorem mM_cost (l : Launch) (D : va_G) (a : Nat → Nat) (d : Nat → ClassId) (v : jo_V) (i : Int32)  : jo_Mi l yX1_cost (ws_ yX1_cost cX1_cost 2 (some .int)) ({ frames := 4, cells := 0, slots := 0, locals := 103 } : Room) [.ref (a 4), .int i] D (mT d) (mW a d) v (fun r u => r = (if jo_badS i = true then -1 else jo_ex v i.toNatClampNeg 0 false (jo_NP i.toNatClampNeg)) ∧ u 0 = v 0 ∧ u 1 = v 1) := by
  refine jo_Mi.of (by decide) (jo_cat rfl) (Nat.le_of_ble_eq_true rfl) (fun K F hQ => ?_)
  show jo_G K D (mT d) (mW a d) v 0 [some (.ref (a 4)), some (.int i)] []
  refine jo_aload_n F 0 dX1_cost_0 rfl rfl ?_
  refine jo_iload_n F 1 dX1_cost_1 rfl rfl ?_
  refine mC_isSet F (Nat.le_of_ble_eq_true rfl) (Nat.le_of_ble_eq_true rfl) (Nat.le_of_ble_eq_true rfl) rfl dX1_cost_2 ?_
  refine jo_ifb_eq F 18 dX1_cost_5 (by decide) (fun h5 => ?_) (fun h5 => ?_)
  · have h5 : jo_badS i = true := by simpa using h5
    refine jo_iconst (x := (-1)) F dX1_cost_18 (by decide) ?_
    exact jo_iret F hQ dX1_cost_19 (by first | (rw [if_pos h5]; exact ⟨rfl, rfl, rfl⟩) | (rw [if_neg hg, nI_clamp (show S < 2 ^ 31 by omega)]; exact ⟨rfl, h0⟩))
  · have h5 : jo_badS i = false := by simpa using h5
    obtain ⟨S, hS0, hS, rfl⟩ := jo_okS h5
    have hg : ¬ jo_badS (nI S) = true := by rw [h5]; decide
    refine jo_aload_n F 0 dX1_cost_8 rfl rfl ?_
    refine jo_iload_n F 1 dX1_cost_9 rfl rfl ?_
    refine jo_iconst (x := (nI 0)) F dX1_cost_10 (by decide) ?_
    refine jo_iconst (x := (nI 0)) F dX1_cost_11 (by decide) ?_
    refine mC_extreme F false hS hS0 (by decide) rfl (Nat.le_of_ble_eq_true rfl) (Nat.le_of_ble_eq_true rfl) (Nat.le_of_ble_eq_true rfl) rfl dX1_cost_12 (fun u0 h0 => ?_)
    refine jo_goto F 19 dX1_cost_15 (by decide) ?_
    exact jo_iret F hQ dX1_cost_19 (by first | (rw [if_pos h5]; exact ⟨rfl, rfl, rfl⟩) | (rw [if_neg hg, nI_clamp (show S < 2 ^ 31 by omega)]; exact ⟨rfl, h0⟩))
set_option maxHeartbeats 4000000 in
set_option maxRecDepth 100000 in
/-- linearCost(set) -/
theorem mM_linearCost (l : Launch) (D : va_G) (a : Nat → Nat) (d : Nat → ClassId) (v : jo_V) (i : Int32)  : jo_Mi l yX1_linearCost (ws_ yX1_linearCost cX1_linearCost 2 (some .int)) ({ frames := 4, cells := 0, slots := 0, locals := 103 } : Room) [.ref (a 4), .int i] D (mT d) (mW a d) v (fun r u => r = (if jo_badS i = true then -1 else jo_ex v i.toNatClampNeg 1 false (jo_NP i.toNatClampNeg)) ∧ u 0 = v 0 ∧ u 1 = v 1) := by
  refine jo_Mi.of (by decide) (jo_cat rfl) (Nat.le_of_ble_eq_true rfl) (fun K F hQ => ?_)
  show jo_G K D (mT d) (mW a d) v 0 [some (.ref (a 4)), some (.int i)] []
  refine jo_aload_n F 0 dX1_linearCost_0 rfl rfl ?_
  refine jo_iload_n F 1 dX1_linearCost_1 rfl rfl ?_
  refine mC_isSet F (Nat.le_of_ble_eq_true rfl) (Nat.le_of_ble_eq_true rfl) (Nat.le_of_ble_eq_true rfl) rfl dX1_linearCost_2 ?_
  refine jo_ifb_eq F 18 dX1_linearCost_5 (by decide) (fun h5 => ?_) (fun h5 => ?_)
  · have h5 : jo_badS i = true := by simpa using h5
    refine jo_iconst (x := (-1)) F dX1_linearCost_18 (by decide) ?_
    exact jo_iret F hQ dX1_linearCost_19 (by first | (rw [if_pos h5]; exact ⟨rfl, rfl, rfl⟩) | (rw [if_neg hg, nI_clamp (show S < 2 ^ 31 by omega)]; exact ⟨rfl, h0⟩))
  · have h5 : jo_badS i = false := by simpa using h5
    obtain ⟨S, hS0, hS, rfl⟩ := jo_okS h5
    have hg : ¬ jo_badS (nI S) = true := by rw [h5]; decide
    refine jo_aload_n F 0 dX1_linearCost_8 rfl rfl ?_
    refine jo_iload_n F 1 dX1_linearCost_9 rfl rfl ?_
    refine jo_iconst (x := (nI 1)) F dX1_linearCost_10 (by decide) ?_
    refine jo_iconst (x := (nI 0)) F dX1_linearCost_11 (by decide) ?_
    refine mC_extreme F false hS hS0 (by decide) rfl (Nat.le_of_ble_eq_true rfl) (Nat.le_of_ble_eq_true rfl) (Nat.le_of_ble_eq_true rfl) rfl dX1_linearCost_12 (fun u0 h0 => ?_)
    refine jo_goto F 19 dX1_linearCost_15 (by decide) ?_
    exact jo_iret F hQ dX1_linearCost_19 (by first | (rw [if_pos h5]; exact ⟨rfl, rfl, rfl⟩) | (rw [if_neg hg, nI_clamp (show S < 2 ^ 31 by omega)]; exact ⟨rfl, h0⟩))
set_option maxHeartbeats 4000000 in
set_option maxRecDepth 100000 in
/-- linkedCost(set) -/
theorem mM_linkedCost (l : Launch) (D : va_G) (a : Nat → Nat) (d : Nat → ClassId) (v : jo_V) (i : Int32)  : jo_Mi l yX1_linkedCost (ws_ yX1_linkedCost cX1_linkedCost 2 (some .int)) ({ frames := 4, cells := 0, slots := 0, locals := 103 } : Room) [.ref (a 4), .int i] D (mT d) (mW a d) v (fun r u => r = (if jo_badS i = true then -1 else jo_ex v i.toNatClampNeg 2 false (jo_NP i.toNatClampNeg)) ∧ u 0 = v 0 ∧ u 1 = v 1) := by
  refine jo_Mi.of (by decide) (jo_cat rfl) (Nat.le_of_ble_eq_true rfl) (fun K F hQ => ?_)
  show jo_G K D (mT d) (mW a d) v 0 [some (.ref (a 4)), some (.int i)] []
  refine jo_aload_n F 0 dX1_linkedCost_0 rfl rfl ?_
  refine jo_iload_n F 1 dX1_linkedCost_1 rfl rfl ?_
  refine mC_isSet F (Nat.le_of_ble_eq_true rfl) (Nat.le_of_ble_eq_true rfl) (Nat.le_of_ble_eq_true rfl) rfl dX1_linkedCost_2 ?_
  refine jo_ifb_eq F 18 dX1_linkedCost_5 (by decide) (fun h5 => ?_) (fun h5 => ?_)
  · have h5 : jo_badS i = true := by simpa using h5
    refine jo_iconst (x := (-1)) F dX1_linkedCost_18 (by decide) ?_
    exact jo_iret F hQ dX1_linkedCost_19 (by first | (rw [if_pos h5]; exact ⟨rfl, rfl, rfl⟩) | (rw [if_neg hg, nI_clamp (show S < 2 ^ 31 by omega)]; exact ⟨rfl, h0⟩))
  · have h5 : jo_badS i = false := by simpa using h5
    obtain ⟨S, hS0, hS, rfl⟩ := jo_okS h5
    have hg : ¬ jo_badS (nI S) = true := by rw [h5]; decide
    refine jo_aload_n F 0 dX1_linkedCost_8 rfl rfl ?_
    refine jo_iload_n F 1 dX1_linkedCost_9 rfl rfl ?_
    refine jo_iconst (x := (nI 2)) F dX1_linkedCost_10 (by decide) ?_
    refine jo_iconst (x := (nI 0)) F dX1_linkedCost_11 (by decide) ?_
    refine mC_extreme F false hS hS0 (by decide) rfl (Nat.le_of_ble_eq_true rfl) (Nat.le_of_ble_eq_true rfl) (Nat.le_of_ble_eq_true rfl) rfl dX1_linkedCost_12 (fun u0 h0 => ?_)
    refine jo_goto F 19 dX1_linkedCost_15 (by decide) ?_
    exact jo_iret F hQ dX1_linkedCost_19 (by first | (rw [if_pos h5]; exact ⟨rfl, rfl, rfl⟩) | (rw [if_neg hg, nI_clamp (show S < 2 ^ 31 by omega)]; exact ⟨rfl, h0⟩))
set_option maxHeartbeats 4000000 in
set_option maxRecDepth 100000 in
/-- worst(set) -/
theorem mM_worst (l : Launch) (D : va_G) (a : Nat → Nat) (d : Nat → ClassId) (v : jo_V) (i : Int32)  : jo_Mi l yX1_worst (ws_ yX1_worst cX1_worst 2 (some .int)) ({ frames := 4, cells := 0, slots := 0, locals := 103 } : Room) [.ref (a 4), .int i] D (mT d) (mW a d) v (fun r u => r = (if jo_badS i = true then -1 else jo_ex v i.toNatClampNeg 0 true (jo_NP i.toNatClampNeg)) ∧ u 0 = v 0 ∧ u 1 = v 1) := by
  refine jo_Mi.of (by decide) (jo_cat rfl) (Nat.le_of_ble_eq_true rfl) (fun K F hQ => ?_)
  show jo_G K D (mT d) (mW a d) v 0 [some (.ref (a 4)), some (.int i)] []
  refine jo_aload_n F 0 dX1_worst_0 rfl rfl ?_
  refine jo_iload_n F 1 dX1_worst_1 rfl rfl ?_
  refine mC_isSet F (Nat.le_of_ble_eq_true rfl) (Nat.le_of_ble_eq_true rfl) (Nat.le_of_ble_eq_true rfl) rfl dX1_worst_2 ?_
  refine jo_ifb_eq F 18 dX1_worst_5 (by decide) (fun h5 => ?_) (fun h5 => ?_)
  · have h5 : jo_badS i = true := by simpa using h5
    refine jo_iconst (x := (-1)) F dX1_worst_18 (by decide) ?_
    exact jo_iret F hQ dX1_worst_19 (by first | (rw [if_pos h5]; exact ⟨rfl, rfl, rfl⟩) | (rw [if_neg hg, nI_clamp (show S < 2 ^ 31 by omega)]; exact ⟨rfl, h0⟩))
  · have h5 : jo_badS i = false := by simpa using h5
    obtain ⟨S, hS0, hS, rfl⟩ := jo_okS h5
    have hg : ¬ jo_badS (nI S) = true := by rw [h5]; decide
    refine jo_aload_n F 0 dX1_worst_8 rfl rfl ?_
    refine jo_iload_n F 1 dX1_worst_9 rfl rfl ?_
    refine jo_iconst (x := (nI 0)) F dX1_worst_10 (by decide) ?_
    refine jo_iconst (x := (nI 1)) F dX1_worst_11 (by decide) ?_
    refine mC_extreme F true hS hS0 (by decide) rfl (Nat.le_of_ble_eq_true rfl) (Nat.le_of_ble_eq_true rfl) (Nat.le_of_ble_eq_true rfl) rfl dX1_worst_12 (fun u0 h0 => ?_)
    refine jo_goto F 19 dX1_worst_15 (by decide) ?_
    exact jo_iret F hQ dX1_worst_19 (by first | (rw [if_pos h5]; exact ⟨rfl, rfl, rfl⟩) | (rw [if_neg hg, nI_clamp (show S < 2 ^ 31 by omega)]; exact ⟨rfl, h0⟩))
set_option maxHeartbeats 4000000 in
set_option maxRecDepth 100000 in
/-- plans(set) -/
theorem mM_plans (l : Launch) (D : va_G) (a : Nat → Nat) (d : Nat → ClassId) (v : jo_V) (i : Int32)  : jo_Mi l yX1_plans (ws_ yX1_plans cX1_plans 2 (some .int)) ({ frames := 4, cells := 0, slots := 0, locals := 102 } : Room) [.ref (a 4), .int i] D (mT d) (mW a d) v (fun r u => r = (if jo_badS i = true then -1 else nI (jo_cp v i.toNatClampNeg 0 (-1) (jo_NP i.toNatClampNeg))) ∧ u 0 = v 0 ∧ u 1 = v 1) := by
  refine jo_Mi.of (by decide) (jo_cat rfl) (Nat.le_of_ble_eq_true rfl) (fun K F hQ => ?_)
  show jo_G K D (mT d) (mW a d) v 0 [some (.ref (a 4)), some (.int i)] []
  refine jo_aload_n F 0 dX1_plans_0 rfl rfl ?_
  refine jo_iload_n F 1 dX1_plans_1 rfl rfl ?_
  refine mC_isSet F (Nat.le_of_ble_eq_true rfl) (Nat.le_of_ble_eq_true rfl) (Nat.le_of_ble_eq_true rfl) rfl dX1_plans_2 ?_
  refine jo_ifb_eq F 18 dX1_plans_5 (by decide) (fun h5 => ?_) (fun h5 => ?_)
  · have h5 : jo_badS i = true := by simpa using h5
    refine jo_iconst (x := (-1)) F dX1_plans_18 (by decide) ?_
    exact jo_iret F hQ dX1_plans_19 (by first | (rw [if_pos h5]; exact ⟨rfl, rfl, rfl⟩) | (rw [if_neg hg, nI_clamp (show S < 2 ^ 31 by omega)]; exact ⟨rfl, h0⟩))
  · have h5 : jo_badS i = false := by simpa using h5
    obtain ⟨S, hS0, hS, rfl⟩ := jo_okS h5
    have hg : ¬ jo_badS (nI S) = true := by rw [h5]; decide
    refine jo_aload_n F 0 dX1_plans_8 rfl rfl ?_
    refine jo_iload_n F 1 dX1_plans_9 rfl rfl ?_
    refine jo_iconst (x := (nI 0)) F dX1_plans_10 (by decide) ?_
    refine jo_iconst (x := (-1)) F dX1_plans_11 (by decide) ?_
    refine mC_countPlans F hS hS0 (by decide) (Nat.le_of_ble_eq_true rfl) (Nat.le_of_ble_eq_true rfl) (Nat.le_of_ble_eq_true rfl) rfl dX1_plans_12 (fun u0 h0 => ?_)
    refine jo_goto F 19 dX1_plans_15 (by decide) ?_
    exact jo_iret F hQ dX1_plans_19 (by first | (rw [if_pos h5]; exact ⟨rfl, rfl, rfl⟩) | (rw [if_neg hg, nI_clamp (show S < 2 ^ 31 by omega)]; exact ⟨rfl, h0⟩))
set_option maxHeartbeats 4000000 in
set_option maxRecDepth 100000 in
/-- linkedPlans(set) -/
theorem mM_linkedPlans (l : Launch) (D : va_G) (a : Nat → Nat) (d : Nat → ClassId) (v : jo_V) (i : Int32)  : jo_Mi l yX1_linkedPlans (ws_ yX1_linkedPlans cX1_linkedPlans 2 (some .int)) ({ frames := 4, cells := 0, slots := 0, locals := 102 } : Room) [.ref (a 4), .int i] D (mT d) (mW a d) v (fun r u => r = (if jo_badS i = true then -1 else nI (jo_cp v i.toNatClampNeg 2 (-1) (jo_NP i.toNatClampNeg))) ∧ u 0 = v 0 ∧ u 1 = v 1) := by
  refine jo_Mi.of (by decide) (jo_cat rfl) (Nat.le_of_ble_eq_true rfl) (fun K F hQ => ?_)
  show jo_G K D (mT d) (mW a d) v 0 [some (.ref (a 4)), some (.int i)] []
  refine jo_aload_n F 0 dX1_linkedPlans_0 rfl rfl ?_
  refine jo_iload_n F 1 dX1_linkedPlans_1 rfl rfl ?_
  refine mC_isSet F (Nat.le_of_ble_eq_true rfl) (Nat.le_of_ble_eq_true rfl) (Nat.le_of_ble_eq_true rfl) rfl dX1_linkedPlans_2 ?_
  refine jo_ifb_eq F 18 dX1_linkedPlans_5 (by decide) (fun h5 => ?_) (fun h5 => ?_)
  · have h5 : jo_badS i = true := by simpa using h5
    refine jo_iconst (x := (-1)) F dX1_linkedPlans_18 (by decide) ?_
    exact jo_iret F hQ dX1_linkedPlans_19 (by first | (rw [if_pos h5]; exact ⟨rfl, rfl, rfl⟩) | (rw [if_neg hg, nI_clamp (show S < 2 ^ 31 by omega)]; exact ⟨rfl, h0⟩))
  · have h5 : jo_badS i = false := by simpa using h5
    obtain ⟨S, hS0, hS, rfl⟩ := jo_okS h5
    have hg : ¬ jo_badS (nI S) = true := by rw [h5]; decide
    refine jo_aload_n F 0 dX1_linkedPlans_8 rfl rfl ?_
    refine jo_iload_n F 1 dX1_linkedPlans_9 rfl rfl ?_
    refine jo_iconst (x := (nI 2)) F dX1_linkedPlans_10 (by decide) ?_
    refine jo_iconst (x := (-1)) F dX1_linkedPlans_11 (by decide) ?_
    refine mC_countPlans F hS hS0 (by decide) (Nat.le_of_ble_eq_true rfl) (Nat.le_of_ble_eq_true rfl) (Nat.le_of_ble_eq_true rfl) rfl dX1_linkedPlans_12 (fun u0 h0 => ?_)
    refine jo_goto F 19 dX1_linkedPlans_15 (by decide) ?_
    exact jo_iret F hQ dX1_linkedPlans_19 (by first | (rw [if_pos h5]; exact ⟨rfl, rfl, rfl⟩) | (rw [if_neg hg, nI_clamp (show S < 2 ^ 31 by omega)]; exact ⟨rfl, h0⟩))
set_option maxHeartbeats 4000000 in
set_option maxRecDepth 100000 in
/-- cheapest(set) -/
theorem mM_cheapest (l : Launch) (D : va_G) (a : Nat → Nat) (d : Nat → ClassId) (v : jo_V) (i : Int32)  : jo_Mi l yX1_cheapest (ws_ yX1_cheapest cX1_cheapest 3 (some .int)) ({ frames := 4, cells := 0, slots := 0, locals := 103 } : Room) [.ref (a 4), .int i] D (mT d) (mW a d) v (fun r u => r = (if jo_badS i = true then -1 else nI (jo_cp v i.toNatClampNeg 0 (jo_ex v i.toNatClampNeg 0 false (jo_NP i.toNatClampNeg)) (jo_NP i.toNatClampNeg))) ∧ u 0 = v 0 ∧ u 1 = v 1) := by
  refine jo_Mi.of (by decide) (jo_cat rfl) (Nat.le_of_ble_eq_true rfl) (fun K F hQ => ?_)
  show jo_G K D (mT d) (mW a d) v 0 [some (.ref (a 4)), some (.int i), none] []
  refine jo_aload_n F 0 dX1_cheapest_0 rfl rfl ?_
  refine jo_iload_n F 1 dX1_cheapest_1 rfl rfl ?_
  refine mC_isSet F (Nat.le_of_ble_eq_true rfl) (Nat.le_of_ble_eq_true rfl) (Nat.le_of_ble_eq_true rfl) rfl dX1_cheapest_2 ?_
  refine jo_ifb_ne F 10 dX1_cheapest_5 (by decide) (fun h5 => ?_) (fun h5 => ?_)
  · have h5 : jo_badS i = false := by simpa using h5
    obtain ⟨S, hS0, hS, rfl⟩ := jo_okS h5
    have hg : ¬ jo_badS (nI S) = true := by rw [h5]; decide
    refine jo_aload_n F 0 dX1_cheapest_10 rfl rfl ?_
    refine jo_iload_n F 1 dX1_cheapest_11 rfl rfl ?_
    refine jo_iconst (x := (nI 0)) F dX1_cheapest_12 (by decide) ?_
    refine jo_iconst (x := (nI 0)) F dX1_cheapest_13 (by decide) ?_
    refine mC_extreme F false hS hS0 (by decide) rfl (Nat.le_of_ble_eq_true rfl) (Nat.le_of_ble_eq_true rfl) (Nat.le_of_ble_eq_true rfl) rfl dX1_cheapest_14 (fun u0 h0 => ?_)
    refine jo_istore_n F 2 dX1_cheapest_17 rfl (Nat.le_of_ble_eq_true rfl) ?_
    refine jo_aload_n F 0 dX1_cheapest_18 rfl rfl ?_
    refine jo_iload_n F 1 dX1_cheapest_19 rfl rfl ?_
    refine jo_iconst (x := (nI 0)) F dX1_cheapest_20 (by decide) ?_
    refine jo_iload_n F 2 dX1_cheapest_21 rfl rfl ?_
    refine mC_countPlans F hS hS0 (by decide) (Nat.le_of_ble_eq_true rfl) (Nat.le_of_ble_eq_true rfl) (Nat.le_of_ble_eq_true rfl) rfl dX1_cheapest_22 (fun u1 h1 => ?_)
    exact jo_iret F hQ dX1_cheapest_25 (by rw [if_neg hg, nI_clamp (show S < 2 ^ 31 by omega), jo_cp_c h0.1 h0.2]; exact ⟨rfl, h1.1.trans h0.1, h1.2.trans h0.2⟩)
  · have h5 : jo_badS i = true := by simpa using h5
    refine jo_iconst (x := (-1)) F dX1_cheapest_8 (by decide) ?_
    exact jo_iret F hQ dX1_cheapest_9 (by rw [if_pos h5]; exact ⟨rfl, rfl, rfl⟩)
/-- left(set) after i plans -/
def jo_lf (v : jo_V) (S : Nat) (least : Int32) : Nat → Int32
  | 0 => -4
  | i + 1 => if jo_pc (jo_mz v) (jo_tr S i) = least ∧ (jo_lf v S least i < 0 ∨ jo_pf (jo_tr S i) < jo_lf v S least i) then jo_pf (jo_tr S i) else jo_lf v S least i
set_option maxHeartbeats 4000000 in
set_option maxRecDepth 100000 in
/-- left(set) -/
theorem mM_left (l : Launch) (D : va_G) (a : Nat → Nat) (d : Nat → ClassId) (v : jo_V) (i : Int32)  : jo_Mi l yX1_left (ws_ yX1_left cX1_left 7 (some .int)) ({ frames := 4, cells := 0, slots := 0, locals := 103 } : Room) [.ref (a 4), .int i] D (mT d) (mW a d) v (fun r u => r = (if jo_badS i = true then -1 else jo_lf v i.toNatClampNeg (jo_ex v i.toNatClampNeg 0 false (jo_NP i.toNatClampNeg)) (jo_NP i.toNatClampNeg)) ∧ u 0 = v 0 ∧ u 1 = v 1) := by
  refine jo_Mi.of (by decide) (jo_cat rfl) (Nat.le_of_ble_eq_true rfl) (fun K F hQ => ?_)
  show jo_G K D (mT d) (mW a d) v 0 [some (.ref (a 4)), some (.int i), none, none, none, none, none] []
  refine jo_aload_n F 0 dX1_left_0 rfl rfl ?_
  refine jo_iload_n F 1 dX1_left_1 rfl rfl ?_
  refine mC_isSet F (Nat.le_of_ble_eq_true rfl) (Nat.le_of_ble_eq_true rfl) (Nat.le_of_ble_eq_true rfl) rfl dX1_left_2 ?_
  refine jo_ifb_ne F 10 dX1_left_5 (by decide) (fun h5 => ?_) (fun h5 => ?_)
  · have h5 : jo_badS i = false := by simpa using h5
    obtain ⟨S, hS0, hS, rfl⟩ := jo_okS h5
    have hg : ¬ jo_badS (nI S) = true := by rw [h5]; decide
    obtain ⟨hn0, hn⟩ := jo_cn_in S hS hS0
    obtain ⟨hfl0, hfl⟩ : 0 < jo_fl S ∧ jo_fl S ≤ 14 := jo_fm_len hn0 hn
    have hfc := jo_fc_le _ hn
    have hNP : jo_fc (jo_cn S) * jo_fl S ≤ 1680 := Nat.mul_le_mul hfc hfl
    have hQ1 : ∀ least : Int32, least = jo_ex v S 0 false (jo_NP S) → ∀ u, jo_PR v u (jo_cn S) → jo_G K D (mT d) (mW a d) u 38 [some (.ref (a 4)), some (.int (nI S)), some (.int least), some (.int (nI (jo_fc (jo_cn S)))), some (.int (nI (jo_cn S))), some (.int (-4)), some (.int (nI 0))] [] := by
      intro least hle
      have lp : ∀ i, i ≤ jo_fc (jo_cn S) * jo_fl S → ∀ u, jo_PR v u (jo_cn S) → jo_G K D (mT d) (mW a d) u 38 [some (.ref (a 4)), some (.int (nI S)), some (.int least), some (.int (nI (jo_fc (jo_cn S)))), some (.int (nI (jo_cn S))), some (.int (jo_lf v S least i)), some (.int (nI i))] [] := by
        refine jo_up _ (fun i hi ih => ?_) ?_
        · intro u hu
          have hu4 : u 4 0 = nI (jo_fl S) := hu.2.2.2.1
          have hdv : i / jo_fl S < jo_fc (jo_cn S) := Nat.div_lt_of_lt_mul (by rw [Nat.mul_comm]; exact hi)
          have hmd : i % jo_fl S < jo_fl S := Nat.mod_lt _ hfl0
          have hu3 : u 3 (i % jo_fl S) = nI ((jo_fm (jo_cn S)).getD (i % jo_fl S) 0) := hu.2.2.2.2 _ hmd
          refine jo_iload F 6 dX1_left_38 rfl ?_
          refine jo_iload_n F 3 dX1_left_40 rfl rfl ?_
          refine jo_aload_n F 0 dX1_left_41 rfl rfl ?_
          refine mg4 F dX1_left_42 ?_
          refine jo_top hu4 ?_
          refine jo_imul F dX1_left_45 ?_
          refine jo_top (pk_mul _ _) ?_
          refine jo_icmp_ge_n F 119 dX1_left_46 (by decide) (nI_ge hi (by omega)) ?_
          refine jo_aload_n F 0 dX1_left_49 rfl rfl ?_
          refine jo_iload_n F 1 dX1_left_50 rfl rfl ?_
          refine jo_iload F 6 dX1_left_51 rfl ?_
          refine jo_aload_n F 0 dX1_left_53 rfl rfl ?_
          refine mg4 F dX1_left_54 ?_
          refine jo_top hu4 ?_
          refine jo_idiv F dX1_left_57 (nI_ne0 hfl0 (by omega)) ?_
          refine jo_top (pk_div (by omega) hfl0 (by omega)) ?_
          refine jo_iload_n F 3 dX1_left_58 rfl rfl ?_
          refine mC_order F hS hS0 hdv (Nat.le_of_ble_eq_true rfl) (Nat.le_of_ble_eq_true rfl) (Nat.le_of_ble_eq_true rfl) rfl dX1_left_59 (fun u1 h1 => ?_)
          have h14 : u1 4 0 = nI (jo_fl S) := by rw [h1.1 4 (by decide)]; exact hu4
          have h13 : u1 3 (i % jo_fl S) = nI ((jo_fm (jo_cn S)).getD (i % jo_fl S) 0) := by rw [h1.1 3 (by decide)]; exact hu3
          refine jo_aload_n F 0 dX1_left_62 rfl rfl ?_
          refine jo_aload_n F 0 dX1_left_63 rfl rfl ?_
          refine mg3 F dX1_left_64 ?_
          refine jo_iload F 6 dX1_left_67 rfl ?_
          refine jo_aload_n F 0 dX1_left_69 rfl rfl ?_
          refine mg4 F dX1_left_70 ?_
          refine jo_top h14 ?_
          refine jo_irem F dX1_left_73 (nI_ne0 hfl0 (by omega)) ?_
          refine jo_top (pk_rem (by omega) hfl0 (by omega)) ?_
          refine ml3 F (i % jo_fl S) rfl (by omega) dX1_left_74 ?_
          refine jo_top h13 ?_
          refine jo_iload F 4 dX1_left_75 rfl ?_
          refine mC_follow F (jo_row S (i / jo_fl S)) (jo_mz v) hn0 hn (jo_getD_mem _ hmd) (fun j => jo_sel_lt _ _) h1.2 (fun q hq => by rw [h1.1 2 (by decide)]; exact hu.2.2.1 q hq) (Nat.le_of_ble_eq_true rfl) (Nat.le_of_ble_eq_true rfl) (Nat.le_of_ble_eq_true rfl) rfl dX1_left_77 (fun u2 h2 => ?_)
          have h2 := jo_AT_of hu h1.1 h1.2 h2
          have ex1 : jo_lf v S least (i + 1) = if jo_pc (jo_mz v) (jo_tr S i) = least ∧ (jo_lf v S least i < 0 ∨ jo_pf (jo_tr S i) < jo_lf v S least i) then jo_pf (jo_tr S i) else jo_lf v S least i := rfl
          rw [ex1] at ih
          obtain ⟨a0, a7, a8, -⟩ := h2
          generalize jo_pc (jo_mz v) (jo_tr S i) = c at *
          generalize jo_pf (jo_tr S i) = f0 at *
          generalize jo_lf v S least i = b at *
          refine jo_aload_n F 0 dX1_left_80 rfl rfl ?_
          refine mg7 F dX1_left_81 ?_
          refine jo_top a7 ?_
          refine jo_iload_n F 2 dX1_left_84 rfl rfl ?_
          refine jo_icmp_ne F 109 dX1_left_85 (by decide) (fun h85 => ?_) (fun h85 => ?_)
          · refine jo_iload F 5 dX1_left_109 rfl ?_
            refine jo_istore F 5 dX1_left_111 (Nat.le_of_ble_eq_true rfl) ?_
            refine jo_iinc F 6 dX1_left_113 rfl (jo_inc _) ?_
            refine jo_goto F 38 dX1_left_116 (by decide) ?_
            rw [if_neg (fun q => h85 q.1)] at ih
            exact ih u2 a0
          · 
            refine jo_iload F 5 dX1_left_88 rfl ?_
            refine jo_if_lt F 102 dX1_left_90 (by decide) (fun h90 => ?_) (fun h90 => ?_)
            · refine jo_aload_n F 0 dX1_left_102 rfl rfl ?_
              refine mg8 F dX1_left_103 ?_
              refine jo_top a8 ?_
              refine jo_goto F 111 dX1_left_106 (by decide) ?_
              refine jo_istore F 5 dX1_left_111 (Nat.le_of_ble_eq_true rfl) ?_
              refine jo_iinc F 6 dX1_left_113 rfl (jo_inc _) ?_
              refine jo_goto F 38 dX1_left_116 (by decide) ?_
              rw [if_pos ⟨h85, Or.inl h90⟩] at ih
              exact ih u2 a0
            · 
              refine jo_aload_n F 0 dX1_left_93 rfl rfl ?_
              refine mg8 F dX1_left_94 ?_
              refine jo_top a8 ?_
              refine jo_iload F 5 dX1_left_97 rfl ?_
              refine jo_icmp_ge F 109 dX1_left_99 (by decide) (fun h99 => ?_) (fun h99 => ?_)
              · refine jo_iload F 5 dX1_left_109 rfl ?_
                refine jo_istore F 5 dX1_left_111 (Nat.le_of_ble_eq_true rfl) ?_
                refine jo_iinc F 6 dX1_left_113 rfl (jo_inc _) ?_
                refine jo_goto F 38 dX1_left_116 (by decide) ?_
                rw [if_neg (fun q => q.2.elim h90 (fun z => absurd z (Int32.not_lt.mpr h99)))] at ih
                exact ih u2 a0
              · refine jo_aload_n F 0 dX1_left_102 rfl rfl ?_
                refine mg8 F dX1_left_103 ?_
                refine jo_top a8 ?_
                refine jo_goto F 111 dX1_left_106 (by decide) ?_
                refine jo_istore F 5 dX1_left_111 (Nat.le_of_ble_eq_true rfl) ?_
                refine jo_iinc F 6 dX1_left_113 rfl (jo_inc _) ?_
                refine jo_goto F 38 dX1_left_116 (by decide) ?_
                rw [if_pos ⟨h85, Or.inr (Int32.not_le.mp h99)⟩] at ih
                exact ih u2 a0
        · intro u hu
          have hu4 : u 4 0 = nI (jo_fl S) := hu.2.2.2.1
          refine jo_iload F 6 dX1_left_38 rfl ?_
          refine jo_iload_n F 3 dX1_left_40 rfl rfl ?_
          refine jo_aload_n F 0 dX1_left_41 rfl rfl ?_
          refine mg4 F dX1_left_42 ?_
          refine jo_top hu4 ?_
          refine jo_imul F dX1_left_45 ?_
          refine jo_top (pk_mul _ _) ?_
          refine jo_icmp_ge_y F 119 dX1_left_46 (by decide) (nI_le (Nat.le_refl _) (by omega)) ?_
          refine jo_iload F 5 dX1_left_119 rfl ?_
          exact jo_iret F hQ dX1_left_121 (by rw [if_neg hg, nI_clamp (show S < 2 ^ 31 by omega), ← hle]; exact ⟨rfl, hu.1, hu.2.1⟩)
      exact lp 0 (Nat.zero_le _)
    refine jo_aload_n F 0 dX1_left_10 rfl rfl ?_
    refine jo_iload_n F 1 dX1_left_11 rfl rfl ?_
    refine jo_iconst (x := (nI 0)) F dX1_left_12 (by decide) ?_
    refine jo_iconst (x := (nI 0)) F dX1_left_13 (by decide) ?_
    refine mC_extreme F false hS hS0 (by decide) rfl (Nat.le_of_ble_eq_true rfl) (Nat.le_of_ble_eq_true rfl) (Nat.le_of_ble_eq_true rfl) rfl dX1_left_14 (fun u0 h0 => ?_)
    refine jo_istore_n F 2 dX1_left_17 rfl (Nat.le_of_ble_eq_true rfl) ?_
    refine jo_aload_n F 0 dX1_left_18 rfl rfl ?_
    refine jo_iload_n F 1 dX1_left_19 rfl rfl ?_
    refine mC_prepare F hS hS0 (Nat.le_of_ble_eq_true rfl) (Nat.le_of_ble_eq_true rfl) (Nat.le_of_ble_eq_true rfl) rfl dX1_left_20 (fun u1 h1 => ?_)
    refine jo_istore_n F 3 dX1_left_23 rfl (Nat.le_of_ble_eq_true rfl) ?_
    refine jo_aload_n F 0 dX1_left_24 rfl rfl ?_
    refine jo_iload_n F 1 dX1_left_25 rfl rfl ?_
    refine mC_count F hS (Nat.le_of_ble_eq_true rfl) (Nat.le_of_ble_eq_true rfl) (Nat.le_of_ble_eq_true rfl) rfl dX1_left_26 ?_
    refine jo_istore F 4 dX1_left_29 (Nat.le_of_ble_eq_true rfl) ?_
    refine jo_bipush (x := (-4)) F dX1_left_31 (by decide) ?_
    refine jo_istore F 5 dX1_left_33 (Nat.le_of_ble_eq_true rfl) ?_
    refine jo_iconst (x := (nI 0)) F dX1_left_35 (by decide) ?_
    refine jo_istore F 6 dX1_left_36 (Nat.le_of_ble_eq_true rfl) ?_
    exact hQ1 _ rfl u1 (jo_PR_c h0.1 h0.2 h1)
  · have h5 : jo_badS i = true := by simpa using h5
    refine jo_iconst (x := (-1)) F dX1_left_8 (by decide) ?_
    exact jo_iret F hQ dX1_left_9 (by rw [if_pos h5]; exact ⟨rfl, rfl, rfl⟩)
/-- linearTable(set, k) of the reference: the first plan that is linear and of the least cost -/
def jo_lh (v : jo_V) (S : Nat) (least : Int32) (i : Nat) : Bool := jo_pn (jo_tr S i) && decide (jo_pc (jo_mz v) (jo_tr S i) = least)
def jo_lt (v : jo_V) (S : Nat) (kk least : Int32) : Int32 := match (List.range (jo_NP S)).find? (jo_lh v S least) with
  | none => -4
  | some i => if 0 ≤ kk ∧ kk < nI (jo_cn S) then nI (jo_row S (i / jo_fl S) kk.toNatClampNeg) else -4
set_option maxHeartbeats 4000000 in
set_option maxRecDepth 100000 in
/-- linearTable(set, k) -/
theorem mM_linearTable (l : Launch) (D : va_G) (a : Nat → Nat) (d : Nat → ClassId) (v : jo_V) (i kk : Int32)  : jo_Mi l yX1_linearTable (ws_ yX1_linearTable cX1_linearTable 7 (some .int)) ({ frames := 4, cells := 0, slots := 0, locals := 103 } : Room) [.ref (a 4), .int i, .int kk] D (mT d) (mW a d) v (fun r u => r = (if jo_badS i = true then -1 else jo_lt v i.toNatClampNeg kk (jo_ex v i.toNatClampNeg 1 false (jo_NP i.toNatClampNeg))) ∧ u 0 = v 0 ∧ u 1 = v 1) := by
  refine jo_Mi.of (by decide) (jo_cat rfl) (Nat.le_of_ble_eq_true rfl) (fun K F hQ => ?_)
  show jo_G K D (mT d) (mW a d) v 0 [some (.ref (a 4)), some (.int i), some (.int kk), none, none, none, none] []
  refine jo_aload_n F 0 dX1_linearTable_0 rfl rfl ?_
  refine jo_iload_n F 1 dX1_linearTable_1 rfl rfl ?_
  refine mC_isSet F (Nat.le_of_ble_eq_true rfl) (Nat.le_of_ble_eq_true rfl) (Nat.le_of_ble_eq_true rfl) rfl dX1_linearTable_2 ?_
  refine jo_ifb_ne F 10 dX1_linearTable_5 (by decide) (fun h5 => ?_) (fun h5 => ?_)
  · have h5 : jo_badS i = false := by simpa using h5
    obtain ⟨S, hS0, hS, rfl⟩ := jo_okS h5
    have hg : ¬ jo_badS (nI S) = true := by rw [h5]; decide
    obtain ⟨hn0, hn⟩ := jo_cn_in S hS hS0
    obtain ⟨hfl0, hfl⟩ : 0 < jo_fl S ∧ jo_fl S ≤ 14 := jo_fm_len hn0 hn
    have hfc := jo_fc_le _ hn
    have hNP : jo_fc (jo_cn S) * jo_fl S ≤ 1680 := Nat.mul_le_mul hfc hfl
    have hQ1 : ∀ least : Int32, least = jo_ex v S 1 false (jo_NP S) → ∀ u, jo_PR v u (jo_cn S) → jo_G K D (mT d) (mW a d) u 35 [some (.ref (a 4)), some (.int (nI S)), some (.int kk), some (.int least), some (.int (nI (jo_fc (jo_cn S)))), some (.int (nI (jo_cn S))), some (.int (nI 0))] [] := by
      intro least hle
      have lp : ∀ z i, i + z = jo_fc (jo_cn S) * jo_fl S → (∀ j, j < i → jo_lh v S least j = false) → ∀ u, jo_PR v u (jo_cn S) → jo_G K D (mT d) (mW a d) u 35 [some (.ref (a 4)), some (.int (nI S)), some (.int kk), some (.int least), some (.int (nI (jo_fc (jo_cn S)))), some (.int (nI (jo_cn S))), some (.int (nI i))] [] := by
        intro z
        induction z with
        | zero =>
          intro i hi hj u hu
          rw [Nat.add_zero] at hi
          subst hi
          have hu4 : u 4 0 = nI (jo_fl S) := hu.2.2.2.1
          have e : jo_lt v S kk least = -4 := by
            unfold jo_lt
            rw [show (List.range (jo_NP S)).find? (jo_lh v S least) = none from List.find?_range_eq_none.mpr (fun j hj' => by rw [hj j hj']; rfl)]
          refine jo_iload F 6 dX1_linearTable_35 rfl ?_
          refine jo_iload F 4 dX1_linearTable_37 rfl ?_
          refine jo_aload_n F 0 dX1_linearTable_39 rfl rfl ?_
          refine mg4 F dX1_linearTable_40 ?_
          refine jo_top hu4 ?_
          refine jo_imul F dX1_linearTable_43 ?_
          refine jo_top (pk_mul _ _) ?_
          refine jo_icmp_ge_y F 122 dX1_linearTable_44 (by decide) (nI_le (Nat.le_refl _) (by omega)) ?_
          refine jo_bipush (x := (-4)) F dX1_linearTable_122 (by decide) ?_
          exact jo_iret F hQ dX1_linearTable_124 (by rw [if_neg hg, nI_clamp (show S < 2 ^ 31 by omega), ← hle, e]; exact ⟨rfl, hu.1, hu.2.1⟩)
        | succ z ih =>
          intro i hi hj u hu
          have hi : i < jo_fc (jo_cn S) * jo_fl S := by omega
          have hu4 : u 4 0 = nI (jo_fl S) := hu.2.2.2.1
          have hdv : i / jo_fl S < jo_fc (jo_cn S) := Nat.div_lt_of_lt_mul (by rw [Nat.mul_comm]; exact hi)
          have hmd : i % jo_fl S < jo_fl S := Nat.mod_lt _ hfl0
          have hu3 : u 3 (i % jo_fl S) = nI ((jo_fm (jo_cn S)).getD (i % jo_fl S) 0) := hu.2.2.2.2 _ hmd
          have nx : jo_lh v S least i = false → ∀ u, jo_PR v u (jo_cn S) → jo_G K D (mT d) (mW a d) u 35 [some (.ref (a 4)), some (.int (nI S)), some (.int kk), some (.int least), some (.int (nI (jo_fc (jo_cn S)))), some (.int (nI (jo_cn S))), some (.int (nI (i + 1)))] [] := fun e => ih (i + 1) (by omega) (fun j h => (Nat.lt_or_ge j i).elim (hj j) (fun q => by rw [show j = i by omega]; exact e))
          refine jo_iload F 6 dX1_linearTable_35 rfl ?_
          refine jo_iload F 4 dX1_linearTable_37 rfl ?_
          refine jo_aload_n F 0 dX1_linearTable_39 rfl rfl ?_
          refine mg4 F dX1_linearTable_40 ?_
          refine jo_top hu4 ?_
          refine jo_imul F dX1_linearTable_43 ?_
          refine jo_top (pk_mul _ _) ?_
          refine jo_icmp_ge_n F 122 dX1_linearTable_44 (by decide) (nI_ge hi (by omega)) ?_
          refine jo_aload_n F 0 dX1_linearTable_47 rfl rfl ?_
          refine jo_iload_n F 1 dX1_linearTable_48 rfl rfl ?_
          refine jo_iload F 6 dX1_linearTable_49 rfl ?_
          refine jo_aload_n F 0 dX1_linearTable_51 rfl rfl ?_
          refine mg4 F dX1_linearTable_52 ?_
          refine jo_top hu4 ?_
          refine jo_idiv F dX1_linearTable_55 (nI_ne0 hfl0 (by omega)) ?_
          refine jo_top (pk_div (by omega) hfl0 (by omega)) ?_
          refine jo_iload F 4 dX1_linearTable_56 rfl ?_
          refine mC_order F hS hS0 hdv (Nat.le_of_ble_eq_true rfl) (Nat.le_of_ble_eq_true rfl) (Nat.le_of_ble_eq_true rfl) rfl dX1_linearTable_58 (fun u1 h1 => ?_)
          have h14 : u1 4 0 = nI (jo_fl S) := by rw [h1.1 4 (by decide)]; exact hu4
          have h13 : u1 3 (i % jo_fl S) = nI ((jo_fm (jo_cn S)).getD (i % jo_fl S) 0) := by rw [h1.1 3 (by decide)]; exact hu3
          refine jo_aload_n F 0 dX1_linearTable_61 rfl rfl ?_
          refine jo_aload_n F 0 dX1_linearTable_62 rfl rfl ?_
          refine mg3 F dX1_linearTable_63 ?_
          refine jo_iload F 6 dX1_linearTable_66 rfl ?_
          refine jo_aload_n F 0 dX1_linearTable_68 rfl rfl ?_
          refine mg4 F dX1_linearTable_69 ?_
          refine jo_top h14 ?_
          refine jo_irem F dX1_linearTable_72 (nI_ne0 hfl0 (by omega)) ?_
          refine jo_top (pk_rem (by omega) hfl0 (by omega)) ?_
          refine ml3 F (i % jo_fl S) rfl (by omega) dX1_linearTable_73 ?_
          refine jo_top h13 ?_
          refine jo_iload F 5 dX1_linearTable_74 rfl ?_
          refine mC_follow F (jo_row S (i / jo_fl S)) (jo_mz v) hn0 hn (jo_getD_mem _ hmd) (fun j => jo_sel_lt _ _) h1.2 (fun q hq => by rw [h1.1 2 (by decide)]; exact hu.2.2.1 q hq) (Nat.le_of_ble_eq_true rfl) (Nat.le_of_ble_eq_true rfl) (Nat.le_of_ble_eq_true rfl) rfl dX1_linearTable_76 (fun u2 h2 => ?_)
          have h2 := jo_AT_of hu h1.1 h1.2 h2
          obtain ⟨a0, a7, -, -, a10, a5⟩ := h2
          refine jo_aload_n F 0 dX1_linearTable_79 rfl rfl ?_
          refine mg10 F dX1_linearTable_80 ?_
          refine jo_top a10 ?_
          refine jo_ifb_eq F 116 dX1_linearTable_83 (by decide) (fun h83 => ?_) (fun h83 => ?_)
          · refine jo_iinc F 6 dX1_linearTable_116 rfl (jo_inc _) ?_
            refine jo_goto F 35 dX1_linearTable_119 (by decide) ?_
            exact nx (by unfold jo_lh; rw [h83]; simp) u2 a0
          · 
            refine jo_aload_n F 0 dX1_linearTable_86 rfl rfl ?_
            refine mg7 F dX1_linearTable_87 ?_
            refine jo_top a7 ?_
            refine jo_iload_n F 3 dX1_linearTable_90 rfl rfl ?_
            refine jo_icmp_ne F 116 dX1_linearTable_91 (by decide) (fun h91 => ?_) (fun h91 => ?_)
            · refine jo_iinc F 6 dX1_linearTable_116 rfl (jo_inc _) ?_
              refine jo_goto F 35 dX1_linearTable_119 (by decide) ?_
              exact nx (by unfold jo_lh; simp [h91]) u2 a0
            · have e : jo_lt v S kk least = if 0 ≤ kk ∧ kk < nI (jo_cn S) then nI (jo_row S (i / jo_fl S) kk.toNatClampNeg) else -4 := by
                unfold jo_lt
                rw [show (List.range (jo_NP S)).find? (jo_lh v S least) = some i from List.find?_range_eq_some.mpr ⟨by unfold jo_lh; rw [h83, h91]; simp, List.mem_range.mpr hi, fun j hj' => by rw [hj j hj']; rfl⟩]
              refine jo_iload_n F 2 dX1_linearTable_94 rfl rfl ?_
              refine jo_if_lt F 113 dX1_linearTable_95 (by decide) (fun h95 => ?_) (fun h95 => ?_)
              · refine jo_bipush (x := (-4)) F dX1_linearTable_113 (by decide) ?_
                exact jo_iret F hQ dX1_linearTable_115 (by rw [if_neg hg, nI_clamp (show S < 2 ^ 31 by omega), ← hle, e, if_neg (fun q => absurd h95 (Int32.not_lt.mpr q.1))]; exact ⟨rfl, a0.1, a0.2.1⟩)
              · 
                refine jo_iload_n F 2 dX1_linearTable_98 rfl rfl ?_
                refine jo_iload F 5 dX1_linearTable_99 rfl ?_
                refine jo_icmp_ge F 113 dX1_linearTable_101 (by decide) (fun h101 => ?_) (fun h101 => ?_)
                · refine jo_bipush (x := (-4)) F dX1_linearTable_113 (by decide) ?_
                  exact jo_iret F hQ dX1_linearTable_115 (by rw [if_neg hg, nI_clamp (show S < 2 ^ 31 by omega), ← hle, e, if_neg (fun q => absurd q.2 (Int32.not_lt.mpr h101))]; exact ⟨rfl, a0.1, a0.2.1⟩)
                · obtain ⟨j, hj9, rfl⟩ := nI_of h95
                  have hjn : j < jo_cn S := by
                    rcases Nat.lt_or_ge j (jo_cn S) with q | q
                    · exact q
                    · exact absurd (nI_le q hj9) h101
                  refine jo_aload_n F 0 dX1_linearTable_104 rfl rfl ?_
                  refine mg5 F dX1_linearTable_105 ?_
                  refine jo_iload_n F 2 dX1_linearTable_108 rfl rfl ?_
                  refine ml5 F j rfl (by omega) dX1_linearTable_109 ?_
                  refine jo_top (a5 j hjn) ?_
                  refine jo_goto F 115 dX1_linearTable_110 (by decide) ?_
                  exact jo_iret F hQ dX1_linearTable_115 (by rw [if_neg hg, nI_clamp (show S < 2 ^ 31 by omega), ← hle, e, if_pos ⟨Int32.not_lt.mp h95, Int32.not_le.mp h101⟩, nI_clamp hj9]; exact ⟨rfl, a0.1, a0.2.1⟩)
      exact lp _ 0 (Nat.zero_add _) (fun j h => absurd h (Nat.not_lt_zero _))
    refine jo_aload_n F 0 dX1_linearTable_10 rfl rfl ?_
    refine jo_iload_n F 1 dX1_linearTable_11 rfl rfl ?_
    refine jo_iconst (x := (nI 1)) F dX1_linearTable_12 (by decide) ?_
    refine jo_iconst (x := (nI 0)) F dX1_linearTable_13 (by decide) ?_
    refine mC_extreme F false hS hS0 (by decide) rfl (Nat.le_of_ble_eq_true rfl) (Nat.le_of_ble_eq_true rfl) (Nat.le_of_ble_eq_true rfl) rfl dX1_linearTable_14 (fun u0 h0 => ?_)
    refine jo_istore_n F 3 dX1_linearTable_17 rfl (Nat.le_of_ble_eq_true rfl) ?_
    refine jo_aload_n F 0 dX1_linearTable_18 rfl rfl ?_
    refine jo_iload_n F 1 dX1_linearTable_19 rfl rfl ?_
    refine mC_prepare F hS hS0 (Nat.le_of_ble_eq_true rfl) (Nat.le_of_ble_eq_true rfl) (Nat.le_of_ble_eq_true rfl) rfl dX1_linearTable_20 (fun u1 h1 => ?_)
    refine jo_istore F 4 dX1_linearTable_23 (Nat.le_of_ble_eq_true rfl) ?_
    refine jo_aload_n F 0 dX1_linearTable_25 rfl rfl ?_
    refine jo_iload_n F 1 dX1_linearTable_26 rfl rfl ?_
    refine mC_count F hS (Nat.le_of_ble_eq_true rfl) (Nat.le_of_ble_eq_true rfl) (Nat.le_of_ble_eq_true rfl) rfl dX1_linearTable_27 ?_
    refine jo_istore F 5 dX1_linearTable_30 (Nat.le_of_ble_eq_true rfl) ?_
    refine jo_iconst (x := (nI 0)) F dX1_linearTable_32 (by decide) ?_
    refine jo_istore F 6 dX1_linearTable_33 (Nat.le_of_ble_eq_true rfl) ?_
    exact hQ1 _ rfl u1 (jo_PR_c h0.1 h0.2 h1)
  · have h5 : jo_badS i = true := by simpa using h5
    refine jo_iconst (x := (-1)) F dX1_linearTable_8 (by decide) ?_
    exact jo_iret F hQ dX1_linearTable_9 (by rw [if_pos h5]; exact ⟨rfl, rfl, rfl⟩)
/-- gain(i, j) of the reference -/
def jo_mgR (v : jo_V) (i j : Nat) : Int32 := jo_ex v 31 0 false (jo_NP 31) - jo_ex (jo_mset v i j (nI 6)) 31 0 false (jo_NP 31)
theorem jo_mset_c {u v : jo_V} (h1 : u 1 = v 1) (i j : Nat) (y : Int32) : jo_mset u i j y 1 = jo_mset v i j y 1 := by
  unfold jo_mset jo_u va_up
  simp [h1]
set_option maxHeartbeats 4000000 in
set_option maxRecDepth 100000 in
/-- gain(i, j) -/
theorem mM_gain (l : Launch) (D : va_G) (a : Nat → Nat) (d : Nat → ClassId) (v : jo_V) (i j : Int32)  : jo_Mi l yX1_gain (ws_ yX1_gain cX1_gain 6 (some .int)) ({ frames := 4, cells := 0, slots := 0, locals := 103 } : Room) [.ref (a 4), .int i, .int j] D (mT d) (mW a d) v (fun r u => r = (if jo_badP i j = true then -1 else jo_mgR v i.toNatClampNeg j.toNatClampNeg) ∧ u 0 = v 0 ∧ u 1 = (if jo_badP i j = true then v 1 else jo_mset (jo_mset v i.toNatClampNeg j.toNatClampNeg (nI 6)) i.toNatClampNeg j.toNatClampNeg (v 1 (i.toNatClampNeg * 5 + j.toNatClampNeg)) 1)) := by
  refine jo_Mi.of (by decide) (jo_cat rfl) (Nat.le_of_ble_eq_true rfl) (fun K F hQ => ?_)
  show jo_G K D (mT d) (mW a d) v 0 [some (.ref (a 4)), some (.int i), some (.int j), none, none, none] []
  refine jo_aload_n F 0 dX1_gain_0 rfl rfl ?_
  refine jo_iload_n F 1 dX1_gain_1 rfl rfl ?_
  refine jo_iload_n F 2 dX1_gain_2 rfl rfl ?_
  refine mC_isPair F (Nat.le_of_ble_eq_true rfl) (Nat.le_of_ble_eq_true rfl) (Nat.le_of_ble_eq_true rfl) rfl dX1_gain_3 ?_
  refine jo_ifb_ne F 11 dX1_gain_6 (by decide) (fun h6 => ?_) (fun h6 => ?_)
  · have h6 : jo_badP i j = false := by simpa using h6
    obtain ⟨a1, b1, ha, hb, -, rfl, rfl⟩ := jo_okP h6
    have hg : ¬ jo_badP (nI a1) (nI b1) = true := by rw [h6]; decide
    refine jo_aload_n F 0 dX1_gain_11 rfl rfl ?_
    refine jo_bipush (x := (nI 31)) F dX1_gain_12 (by decide) ?_
    refine jo_iconst (x := (nI 0)) F dX1_gain_14 (by decide) ?_
    refine jo_iconst (x := (nI 0)) F dX1_gain_15 (by decide) ?_
    refine mC_extreme F false (S := 31) (by decide) (by decide) (by decide) rfl (Nat.le_of_ble_eq_true rfl) (Nat.le_of_ble_eq_true rfl) (Nat.le_of_ble_eq_true rfl) rfl dX1_gain_16 (fun u0 h0 => ?_)
    refine jo_istore_n F 3 dX1_gain_19 rfl (Nat.le_of_ble_eq_true rfl) ?_
    refine jo_aload_n F 0 dX1_gain_20 rfl rfl ?_
    refine mg1 F dX1_gain_21 ?_
    refine jo_iconst (x := (nI 5)) F dX1_gain_24 (by decide) ?_
    refine jo_iload_n F 1 dX1_gain_25 rfl rfl ?_
    refine jo_imul F dX1_gain_26 ?_
    refine jo_iload_n F 2 dX1_gain_27 rfl rfl ?_
    refine jo_iadd F dX1_gain_28 ?_
    refine ml1 F (a1 * 5 + b1) (jo_ixl a1 b1) (jo_ixb ha hb) dX1_gain_29 ?_
    refine jo_istore F 4 dX1_gain_30 (Nat.le_of_ble_eq_true rfl) ?_
    refine jo_aload_n F 0 dX1_gain_32 rfl rfl ?_
    refine jo_iload_n F 1 dX1_gain_33 rfl rfl ?_
    refine jo_iload_n F 2 dX1_gain_34 rfl rfl ?_
    refine jo_bipush (x := (nI 6)) F dX1_gain_35 (by decide) ?_
    refine mC_setFilter F ha hb (Nat.le_of_ble_eq_true rfl) (Nat.le_of_ble_eq_true rfl) (Nat.le_of_ble_eq_true rfl) rfl dX1_gain_37 ?_
    refine jo_aload_n F 0 dX1_gain_40 rfl rfl ?_
    refine jo_bipush (x := (nI 31)) F dX1_gain_41 (by decide) ?_
    refine jo_iconst (x := (nI 0)) F dX1_gain_43 (by decide) ?_
    refine jo_iconst (x := (nI 0)) F dX1_gain_44 (by decide) ?_
    refine mC_extreme F false (S := 31) (by decide) (by decide) (by decide) rfl (Nat.le_of_ble_eq_true rfl) (Nat.le_of_ble_eq_true rfl) (Nat.le_of_ble_eq_true rfl) rfl dX1_gain_45 (fun u1 h1 => ?_)
    refine jo_istore F 5 dX1_gain_48 (Nat.le_of_ble_eq_true rfl) ?_
    refine jo_aload_n F 0 dX1_gain_50 rfl rfl ?_
    refine jo_iload_n F 1 dX1_gain_51 rfl rfl ?_
    refine jo_iload_n F 2 dX1_gain_52 rfl rfl ?_
    refine jo_iload F 4 dX1_gain_53 rfl ?_
    refine mC_setFilter F ha hb (Nat.le_of_ble_eq_true rfl) (Nat.le_of_ble_eq_true rfl) (Nat.le_of_ble_eq_true rfl) rfl dX1_gain_55 ?_
    refine jo_iload_n F 3 dX1_gain_58 rfl rfl ?_
    refine jo_iload F 5 dX1_gain_59 rfl ?_
    refine jo_isub F dX1_gain_61 ?_
    exact jo_iret F hQ dX1_gain_62 (by rw [if_neg hg, if_neg hg, nI_clamp (show a1 < 2 ^ 31 by omega), nI_clamp (show b1 < 2 ^ 31 by omega)]; exact ⟨by unfold jo_mgR; rw [jo_ex_c (show jo_mset u0 a1 b1 (nI 6) 0 = jo_mset v a1 b1 (nI 6) 0 from h0.1) (jo_mset_c h0.2 a1 b1 _)], h1.1.trans h0.1, by rw [jo_mset_c h1.2, h0.2]; exact jo_mset_c (jo_mset_c h0.2 a1 b1 _) a1 b1 _⟩)
  · have h6 : jo_badP i j = true := by simpa using h6
    refine jo_iconst (x := (-1)) F dX1_gain_9 (by decide) ?_
    exact jo_iret F hQ dX1_gain_10 ⟨by rw [if_pos h6], rfl, by rw [if_pos h6]⟩
end
section
/-- a constructor's step: a new array into a final field -/
theorem jo_mkB {p : Program} {l : Launch} {e : Env} {R : Room} {s : State} {m : MethodId} {args : Array Value} {below : List Frame} {meth : Method} {c : Code} {H : Heap} {locs : List Loc} {k n : Nat} {Q : State → Prop} {cc : ByteArray} {nL pc : Nat} {own : String} {D : va_G} {tys : List (ClassId × FieldType)} {ws : va_W} {A : Nat → Prop} {h0 ci N0 index : Nat} {fs : List Value} {C : String} {T0 : u_T} {nn : Int} {aty : ArrayType} {ty : FieldType} {ls : Array Slot}
    (S : CallFix p m c cc nL s args lw_all own) (hA : ∀ q : Nat, s.heap.size ≤ q → A q) (hin2 : meth.name = "<init>") (hc : vwCl[ci]? = some (C, T0, N0)) (hin : ∀ w ∈ u_ws C T0 N0, w ∈ lw_all) (ty0 : Nat → FieldType) (hty : ∀ k, k < N0 → parseFieldDescriptor (T0 k).2.2.1 = some (ty0 k)) (hnm : ∀ a, a < N0 → ∀ b, b < N0 → a ≠ b → (T0 a).2.1 ≠ (T0 b).2.1)
    (i : Nat) (hi : i < N0) (hlink : Cond.fieldLink own index (T0 i).1 (T0 i).2.1 (T0 i).2.2.1 ∈ lw_all) (hfin : (T0 i).2.2.2 = true) (hdecl : (T0 i).1 = own) (hty0 : ty0 i = .array ty) (haty : newarray.typeOf aty = ty) (hz : defaultValue ty = .int 0) (hby : componentBytes ty ≤ 64) (harr : Cond.arrayClass ty ∈ lw_all) (N : Nat) (hN : N ≤ 64) (hnn : (Int8.ofInt nn).toInt32 = nI N) (hlen : i < fs.length) (hcells : k + 1 ≤ R.cells) (hslots : n + N ≤ R.slots) (hl : ls[0]? = some (.val (.ref h0)))
    (hK : va_K D vwCl tys s) (hP : va_P D vwCl ((h0, .inr (ci, fs)) :: ws) H) (hD : va_D A ((h0, .inr (ci, fs)) :: ws)) (hS : va_S A s.heap H locs) (d1 : decode cc pc = .ok (.aload_n 0, 1)) (d2 : decode cc (pc + 1) = .ok (.bipush nn, 2)) (d3 : decode cc (pc + 1 + 2) = .ok (.newarray aty, 2)) (d4 : decode cc (pc + 1 + 2 + 2) = .ok (.putfield index, 3))
    (kk : ∀ (q : Nat) (cA : ClassId) (H1 : Heap) (locs1 : List Loc), va_K D vwCl (tys ++ [(cA, ty)]) s → va_P D vwCl ((h0, .inr (ci, fs.set i (.ref q))) :: (ws ++ [(q, .inl (cA, N, .inl (fun _ => 0)))])) H1 → va_D A ((h0, .inr (ci, fs.set i (.ref q))) :: (ws ++ [(q, .inl (cA, N, .inl (fun _ => 0)))])) → va_S A s.heap H1 locs1 → W p l e R s m args below meth c H1 locs1 (k + 1) (n + N) Q (F0 m (pc + 1 + 2 + 2 + 3) ls [])) : W p l e R s m args below meth c H locs k n Q (F0 m pc ls []) := by
  obtain ⟨hx, hb, hml, hown, hts⟩ := S
  refine lv_aload_n hx hb d1 rfl hl ?_
  refine lv_bipush hx hb d2 hnn ?_
  subst haty
  refine va_newa (a0 := (N, .inl (fun _ => 0))) hx hb (hts _ harr) rfl hK hP hD hS hA (fun cA => by rw [hz]; rfl) (nI_pos (by omega)) (nI_clamp (by omega)) ?_ hcells hslots d3 (fun q cA H1 hK hP hD hS => ?_)
  · exact Nat.le_trans (Nat.mul_le_mul hN hby) (by decide)
  · exact va_putF (D := D) (ci := ci) (v := .ref q) (ty := .array (newarray.typeOf aty)) (C := C) (T := T0) (N := N0) hx hb hts hin ty0 hty hnm hown hK hP hD hS 0 rfl hc i hi (hts _ hlink) (fun _ h9 => h9) hfin hin2 hdecl (by rw [← hty0]; exact hty i hi) rfl rfl hlen d4 (fun H2 locs2 hP hD hS => kk q cA H2 locs2 hK hP hD hS)
/-- a constructor's step: a new array into a final field -/
theorem jo_mkC {p : Program} {l : Launch} {e : Env} {R : Room} {s : State} {m : MethodId} {args : Array Value} {below : List Frame} {meth : Method} {c : Code} {H : Heap} {locs : List Loc} {k n : Nat} {Q : State → Prop} {cc : ByteArray} {nL pc : Nat} {own : String} {D : va_G} {tys : List (ClassId × FieldType)} {ws : va_W} {A : Nat → Prop} {h0 ci N0 index : Nat} {fs : List Value} {C : String} {T0 : u_T} {nn : Int} {aty : ArrayType} {ty : FieldType} {ls : Array Slot}
    (S : CallFix p m c cc nL s args lw_all own) (hA : ∀ q : Nat, s.heap.size ≤ q → A q) (hin2 : meth.name = "<init>") (hc : vwCl[ci]? = some (C, T0, N0)) (hin : ∀ w ∈ u_ws C T0 N0, w ∈ lw_all) (ty0 : Nat → FieldType) (hty : ∀ k, k < N0 → parseFieldDescriptor (T0 k).2.2.1 = some (ty0 k)) (hnm : ∀ a, a < N0 → ∀ b, b < N0 → a ≠ b → (T0 a).2.1 ≠ (T0 b).2.1)
    (i : Nat) (hi : i < N0) (hlink : Cond.fieldLink own index (T0 i).1 (T0 i).2.1 (T0 i).2.2.1 ∈ lw_all) (hfin : (T0 i).2.2.2 = true) (hdecl : (T0 i).1 = own) (hty0 : ty0 i = .array ty) (haty : newarray.typeOf aty = ty) (hz : defaultValue ty = .int 0) (hby : componentBytes ty ≤ 64) (harr : Cond.arrayClass ty ∈ lw_all) (N : Nat) (hN : N ≤ 64) (hnn : Int32.ofInt nn = nI N) (hlen : i < fs.length) (hcells : k + 1 ≤ R.cells) (hslots : n + N ≤ R.slots) (hl : ls[0]? = some (.val (.ref h0)))
    (hK : va_K D vwCl tys s) (hP : va_P D vwCl ((h0, .inr (ci, fs)) :: ws) H) (hD : va_D A ((h0, .inr (ci, fs)) :: ws)) (hS : va_S A s.heap H locs) (d1 : decode cc pc = .ok (.aload_n 0, 1)) (d2 : decode cc (pc + 1) = .ok (.iconst nn, 1)) (d3 : decode cc (pc + 1 + 1) = .ok (.newarray aty, 2)) (d4 : decode cc (pc + 1 + 1 + 2) = .ok (.putfield index, 3))
    (kk : ∀ (q : Nat) (cA : ClassId) (H1 : Heap) (locs1 : List Loc), va_K D vwCl (tys ++ [(cA, ty)]) s → va_P D vwCl ((h0, .inr (ci, fs.set i (.ref q))) :: (ws ++ [(q, .inl (cA, N, .inl (fun _ => 0)))])) H1 → va_D A ((h0, .inr (ci, fs.set i (.ref q))) :: (ws ++ [(q, .inl (cA, N, .inl (fun _ => 0)))])) → va_S A s.heap H1 locs1 → W p l e R s m args below meth c H1 locs1 (k + 1) (n + N) Q (F0 m (pc + 1 + 1 + 2 + 3) ls [])) : W p l e R s m args below meth c H locs k n Q (F0 m pc ls []) := by
  obtain ⟨hx, hb, hml, hown, hts⟩ := S
  refine lv_aload_n hx hb d1 rfl hl ?_
  refine lv_iconst hx hb d2 hnn ?_
  subst haty
  refine va_newa (a0 := (N, .inl (fun _ => 0))) hx hb (hts _ harr) rfl hK hP hD hS hA (fun cA => by rw [hz]; rfl) (nI_pos (by omega)) (nI_clamp (by omega)) ?_ hcells hslots d3 (fun q cA H1 hK hP hD hS => ?_)
  · exact Nat.le_trans (Nat.mul_le_mul hN hby) (by decide)
  · exact va_putF (D := D) (ci := ci) (v := .ref q) (ty := .array (newarray.typeOf aty)) (C := C) (T := T0) (N := N0) hx hb hts hin ty0 hty hnm hown hK hP hD hS 0 rfl hc i hi (hts _ hlink) (fun _ h9 => h9) hfin hin2 hdecl (by rw [← hty0]; exact hty i hi) rfl rfl hlen d4 (fun H2 locs2 hP hD hS => kk q cA H2 locs2 hK hP hD hS)
def jo_xini : Nat → jo_V
  | 0 => fun _ _ => 0
  | i + 1 => jo_u (jo_xini i) 0 i (nI 3)
def jo_mini : Nat → jo_V
  | 0 => fun _ _ => 0
  | i + 1 => jo_u (jo_u (jo_mini i) 1 i (-1)) 0 (i % 5) (nI 3)
def xnul : List Value := [.null, .null, .null, .int 0, .null, .null, .null, .null, .null, .null, .null, .null, .null, .null]
abbrev xiA (h0 sz : Nat) : Nat → Prop := va_A [(h0, .inr (0, xnul))] sz
set_option maxHeartbeats 8000000 in
set_option maxRecDepth 100000 in
/-- the constructor: its object's arrays are new, and hold (jo_xini 5) -/
theorem xM_init (l : Launch) (D : va_G) (h0 sz : Nat) : Met l yX0_init (ws_ yX0_init cX0_init 2 none) ({ frames := 1, cells := 13, slots := 375, locals := 12 } : Room) (va_Pc [.ref h0] (fun U => U.heap.size = sz ∧ va_P D vwCl [(h0, .inr (0, xnul))] U.heap ∧ va_K D vwCl [] U ∧ va_D (fun _ => True) [(h0, .inr (0, xnul))])) (va_Qv (fun u : (Nat → Nat) × (Nat → ClassId) => u.1 3 = h0) (fun u t => va_P D vwCl (xW u.1 u.2 (jo_xini 5)) t.heap ∧ va_K D vwCl (xT u.2) t ∧ va_D (xiA h0 sz) (xW u.1 u.2 (jo_xini 5))) (xiA h0 sz)) 13 375 (xiA h0 sz) := by
  refine Met.ofW (cc := cX0_init) (maxL := 2) (ret := none) (by decide) rfl ?_
  intro p e s m args below meth c s₁ B hml hv
  obtain ⟨rfl, hsz, hP, hK, hD0⟩ := hv
  have hts := atoms_spec (ws := ws_ yX0_init cX0_init 2 none) B.pre
  have hts : ∀ w ∈ lw_all, w.before _ s = true := fun w h => hts w (List.mem_cons_of_mem _ h)
  have hown : s.vm.findClass RX0 = some m.cls := findClass_of_methodNamed B.named
  have hin : meth.name = "<init>" := (name_of_methodNamed B.named B.method).1
  have hlk := B.notSynchronized
  have hr := B.returns
  have S : CallFix p m c cX0_init 2 s [Value.ref h0].toArray lw_all RX0 := ⟨B.exec, B.bytes, hml, hown, hts⟩
  subst hsz
  have hD := hD0.self (sz := s.heap.size)
  have hA : ∀ q : Nat, s.heap.size ≤ q → xiA h0 s.heap.size q := fun q h => Or.inr h
  have hS : va_S (xiA h0 s.heap.size) s.heap s.heap [] := va_S.rf
  rw [lg_entry_eq]
  have hl : jo_lo _ [some (.ref h0), none] := jo_entry (As := [.ref h0]) (nL := 2) (jo_cat rfl) (Nat.le_of_ble_eq_true rfl)
  generalize (lg_sl [Value.ref h0] ++ List.replicate (2 - (lg_sl [Value.ref h0]).length) Slot.unset).toArray = ls at hl ⊢
  have hl0 : ls[0]? = some (.val (.ref h0)) := (hl.2.2 0 _ rfl).2
  refine lv_aload_n S.1 S.2.1 dX0_init_0 rfl hl0 ?_
  refine W.objInit S.1 S.2.1 hown (hts _ q35) (hts _ q36) (hts _ q37) rfl (by rw [hml]; exact hl.1) rfl dX0_init_1 (Nat.le_of_ble_eq_true rfl) (Nat.le_of_ble_eq_true rfl) ?_
  refine W.eq (g2 := F0 m 4 ls []) rfl ?_
  refine jo_mkC S hA hin rfl in_X0 tyX0 tyX0_ok nmX0 0 (by decide) q38 rfl rfl rfl rfl rfl (by decide) q81 5 (by decide) (by decide) (Nat.le_of_ble_eq_true rfl) (Nat.le_of_ble_eq_true rfl) (Nat.le_of_ble_eq_true rfl) hl0 hK hP hD hS dX0_init_4 dX0_init_5 dX0_init_6 dX0_init_8 (fun q0 c0 H locs hK hP hD hS => ?_)
  refine jo_mkB S hA hin rfl in_X0 tyX0 tyX0_ok nmX0 1 (by decide) q39 rfl rfl rfl rfl rfl (by decide) q81 25 (by decide) (by decide) (Nat.le_of_ble_eq_true rfl) (Nat.le_of_ble_eq_true rfl) (Nat.le_of_ble_eq_true rfl) hl0 hK hP hD hS dX0_init_11 dX0_init_12 dX0_init_14 dX0_init_16 (fun q1 c1 H locs hK hP hD hS => ?_)
  refine jo_mkB S hA hin rfl in_X0 tyX0 tyX0_ok nmX0 2 (by decide) q40 rfl rfl rfl rfl rfl (by decide) q82 25 (by decide) (by decide) (Nat.le_of_ble_eq_true rfl) (Nat.le_of_ble_eq_true rfl) (Nat.le_of_ble_eq_true rfl) hl0 hK hP hD hS dX0_init_19 dX0_init_20 dX0_init_22 dX0_init_24 (fun q2 c2 H locs hK hP hD hS => ?_)
  refine jo_mkB S hA hin rfl in_X0 tyX0 tyX0_ok nmX0 4 (by decide) q42 rfl rfl rfl rfl rfl (by decide) q81 32 (by decide) (by decide) (Nat.le_of_ble_eq_true rfl) (Nat.le_of_ble_eq_true rfl) (Nat.le_of_ble_eq_true rfl) hl0 hK hP hD hS dX0_init_27 dX0_init_28 dX0_init_30 dX0_init_32 (fun q4 c4 H locs hK hP hD hS => ?_)
  refine jo_mkB S hA hin rfl in_X0 tyX0 tyX0_ok nmX0 5 (by decide) q43 rfl rfl rfl rfl rfl (by decide) q81 32 (by decide) (by decide) (Nat.le_of_ble_eq_true rfl) (Nat.le_of_ble_eq_true rfl) (Nat.le_of_ble_eq_true rfl) hl0 hK hP hD hS dX0_init_35 dX0_init_36 dX0_init_38 dX0_init_40 (fun q5 c5 H locs hK hP hD hS => ?_)
  refine jo_mkB S hA hin rfl in_X0 tyX0 tyX0_ok nmX0 6 (by decide) q44 rfl rfl rfl rfl rfl (by decide) q81 32 (by decide) (by decide) (Nat.le_of_ble_eq_true rfl) (Nat.le_of_ble_eq_true rfl) (Nat.le_of_ble_eq_true rfl) hl0 hK hP hD hS dX0_init_43 dX0_init_44 dX0_init_46 dX0_init_48 (fun q6 c6 H locs hK hP hD hS => ?_)
  refine jo_mkB S hA hin rfl in_X0 tyX0 tyX0_ok nmX0 7 (by decide) q45 rfl rfl rfl rfl rfl (by decide) q81 32 (by decide) (by decide) (Nat.le_of_ble_eq_true rfl) (Nat.le_of_ble_eq_true rfl) (Nat.le_of_ble_eq_true rfl) hl0 hK hP hD hS dX0_init_51 dX0_init_52 dX0_init_54 dX0_init_56 (fun q7 c7 H locs hK hP hD hS => ?_)
  refine jo_mkB S hA hin rfl in_X0 tyX0 tyX0_ok nmX0 8 (by decide) q46 rfl rfl rfl rfl rfl (by decide) q81 32 (by decide) (by decide) (Nat.le_of_ble_eq_true rfl) (Nat.le_of_ble_eq_true rfl) (Nat.le_of_ble_eq_true rfl) hl0 hK hP hD hS dX0_init_59 dX0_init_60 dX0_init_62 dX0_init_64 (fun q8 c8 H locs hK hP hD hS => ?_)
  refine jo_mkB S hA hin rfl in_X0 tyX0 tyX0_ok nmX0 9 (by decide) q47 rfl rfl rfl rfl rfl (by decide) q81 32 (by decide) (by decide) (Nat.le_of_ble_eq_true rfl) (Nat.le_of_ble_eq_true rfl) (Nat.le_of_ble_eq_true rfl) hl0 hK hP hD hS dX0_init_67 dX0_init_68 dX0_init_70 dX0_init_72 (fun q9 c9 H locs hK hP hD hS => ?_)
  refine jo_mkB S hA hin rfl in_X0 tyX0 tyX0_ok nmX0 10 (by decide) q48 rfl rfl rfl rfl rfl (by decide) q81 32 (by decide) (by decide) (Nat.le_of_ble_eq_true rfl) (Nat.le_of_ble_eq_true rfl) (Nat.le_of_ble_eq_true rfl) hl0 hK hP hD hS dX0_init_75 dX0_init_76 dX0_init_78 dX0_init_80 (fun q10 c10 H locs hK hP hD hS => ?_)
  refine jo_mkB S hA hin rfl in_X0 tyX0 tyX0_ok nmX0 11 (by decide) q49 rfl rfl rfl rfl rfl (by decide) q81 32 (by decide) (by decide) (Nat.le_of_ble_eq_true rfl) (Nat.le_of_ble_eq_true rfl) (Nat.le_of_ble_eq_true rfl) hl0 hK hP hD hS dX0_init_83 dX0_init_84 dX0_init_86 dX0_init_88 (fun q11 c11 H locs hK hP hD hS => ?_)
  refine jo_mkB S hA hin rfl in_X0 tyX0 tyX0_ok nmX0 12 (by decide) q50 rfl rfl rfl rfl rfl (by decide) q81 32 (by decide) (by decide) (Nat.le_of_ble_eq_true rfl) (Nat.le_of_ble_eq_true rfl) (Nat.le_of_ble_eq_true rfl) hl0 hK hP hD hS dX0_init_91 dX0_init_92 dX0_init_94 dX0_init_96 (fun q12 c12 H locs hK hP hD hS => ?_)
  refine jo_mkB S hA hin rfl in_X0 tyX0 tyX0_ok nmX0 13 (by decide) q51 rfl rfl rfl rfl rfl (by decide) q81 32 (by decide) (by decide) (Nat.le_of_ble_eq_true rfl) (Nat.le_of_ble_eq_true rfl) (Nat.le_of_ble_eq_true rfl) hl0 hK hP hD hS dX0_init_99 dX0_init_100 dX0_init_102 dX0_init_104 (fun q13 c13 H locs hK hP hD hS => ?_)
  have gP : va_P D vwCl (xW (fun k => match k with | 0 => q0 | 1 => q1 | 2 => q2 | 4 => q4 | 5 => q5 | 6 => q6 | 7 => q7 | 8 => q8 | 9 => q9 | 10 => q10 | 11 => q11 | 12 => q12 | 13 => q13 | _ => h0) (fun k => match k with | 1 => c1 | 2 => c2 | 4 => c4 | 5 => c5 | 6 => c6 | 7 => c7 | 8 => c8 | 9 => c9 | 10 => c10 | 11 => c11 | 12 => c12 | 13 => c13 | _ => c0) (fun _ _ => 0)) H := hP.sub [1, 2, 3, 0, 4, 5, 6, 7, 8, 9, 10, 11, 12, 13] rfl
  have gD : va_D (xiA h0 s.heap.size) (xW (fun k => match k with | 0 => q0 | 1 => q1 | 2 => q2 | 4 => q4 | 5 => q5 | 6 => q6 | 7 => q7 | 8 => q8 | 9 => q9 | 10 => q10 | 11 => q11 | 12 => q12 | 13 => q13 | _ => h0) (fun k => match k with | 1 => c1 | 2 => c2 | 4 => c4 | 5 => c5 | 6 => c6 | 7 => c7 | 8 => c8 | 9 => c9 | 10 => c10 | 11 => c11 | 12 => c12 | 13 => c13 | _ => c0) (fun _ _ => 0)) := hD.sub [1, 2, 3, 0, 4, 5, 6, 7, 8, 9, 10, 11, 12, 13] (by decide) rfl
  have gK : va_K D vwCl (xT (fun k => match k with | 1 => c1 | 2 => c2 | 4 => c4 | 5 => c5 | 6 => c6 | 7 => c7 | 8 => c8 | 9 => c9 | 10 => c10 | 11 => c11 | 12 => c12 | 13 => c13 | _ => c0)) s := hK.sub [0, 1, 2, 0, 3, 4, 5, 6, 7, 8, 9, 10, 11, 12] rfl
  have e3 : (fun k => match k with | 0 => q0 | 1 => q1 | 2 => q2 | 4 => q4 | 5 => q5 | 6 => q6 | 7 => q7 | 8 => q8 | 9 => q9 | 10 => q10 | 11 => q11 | 12 => q12 | 13 => q13 | _ => h0) 3 = h0 := rfl
  revert gP gD gK e3
  generalize (fun k => match k with | 0 => q0 | 1 => q1 | 2 => q2 | 4 => q4 | 5 => q5 | 6 => q6 | 7 => q7 | 8 => q8 | 9 => q9 | 10 => q10 | 11 => q11 | 12 => q12 | 13 => q13 | _ => h0) = a
  generalize (fun k => match k with | 1 => c1 | 2 => c2 | 4 => c4 | 5 => c5 | 6 => c6 | 7 => c7 | 8 => c8 | 9 => c9 | 10 => c10 | 11 => c11 | 12 => c12 | 13 => c13 | _ => c0) = d
  intro gP gD gK e3
  subst e3
  obtain ⟨K, hKe⟩ : ∃ K : jo_C, K = (p, l, e, (headSpec (ws_ yX0_init cX0_init 2 none) ({ frames := 1, cells := 13, slots := 375, locals := 12 } : Room)).room, s, m, [Value.ref (a 3)].toArray, below, meth, c, xiA (a 3) s.heap.size, 13, 375, MQ below (va_Qv (fun u : (Nat → Nat) × (Nat → ClassId) => u.1 3 = a 3) (fun u t => va_P D vwCl (xW u.1 u.2 (jo_xini 5)) t.heap ∧ va_K D vwCl (xT u.2) t ∧ va_D (xiA (a 3) s.heap.size) (xW u.1 u.2 (jo_xini 5))) (xiA (a 3) s.heap.size)) [Value.ref (a 3)].toArray s 13 375 (xiA (a 3) s.heap.size)) := ⟨_, rfl⟩
  have F : jo_F K cX0_init 2 RX0 1 12 := by rw [hKe]; exact ⟨S, hA, hlk, Nat.le_refl _, Nat.le_refl _, Nat.le_refl _, Nat.le_refl _⟩
  have fin : ∀ L, jo_G K D (xT d) (xW a d) (jo_xini 5) 127 L [] := by
    intro L
    rw [hKe]
    intro hK H locs ls hP hD hS hl
    exact W.vret S.1 S.2.1 hr (fun t ht hW => ⟨⟨(a, d), rfl, rfl, by rw [ht]; exact hP, va_K.moved hW.alike hK, hD⟩, hS.F ht⟩) hS.2.2 dX0_init_127 hlk
  have st : jo_G K D (xT d) (xW a d) (fun _ _ => 0) 107 [some (.ref (a 3)), none] [] := by
    have lp : ∀ i, i ≤ 5 → jo_G K D (xT d) (xW a d) (jo_xini i) 109 [some (.ref (a 3)), some (.int (nI i))] [] := by
      refine jo_up 5 (fun i hi ih => ?_) ?_
      · refine jo_iload_n F 1 dX0_init_109 rfl rfl ?_
        refine jo_iconst (x := (nI 5)) F dX0_init_110 (by decide) ?_
        refine jo_icmp_ge_n F 127 dX0_init_111 (by decide) (nI_ge hi (by decide)) ?_
        refine jo_aload_n F 0 dX0_init_114 rfl rfl ?_
        refine xg0 F dX0_init_115 ?_
        refine jo_iload_n F 1 dX0_init_118 rfl rfl ?_
        refine jo_iconst (x := (nI 3)) F dX0_init_119 (by decide) ?_
        refine xs0 F i rfl hi dX0_init_120 ?_
        refine jo_iinc F 1 dX0_init_121 rfl (jo_inc _) ?_
        refine jo_goto F 109 dX0_init_124 (by decide) ?_
        exact ih
      · refine jo_iload_n F 1 dX0_init_109 rfl rfl ?_
        refine jo_iconst (x := (nI 5)) F dX0_init_110 (by decide) ?_
        refine jo_icmp_ge_y F 127 dX0_init_111 (by decide) (nI_le (Nat.le_refl _) (by decide)) ?_
        exact fin _
    refine jo_iconst (x := (nI 0)) F dX0_init_107 (by decide) ?_
    refine jo_istore_n F 1 dX0_init_108 rfl (Nat.le_of_ble_eq_true rfl) ?_
    exact lp 0 (Nat.zero_le _)
  rw [hKe] at st
  exact st gK H locs ls gP gD hS hl
def mnul : List Value := [.null, .null, .null, .null, .int 0, .null, .null, .int 0, .int 0, .int 0, .int 0]
abbrev miA (h0 sz : Nat) : Nat → Prop := va_A [(h0, .inr (1, mnul))] sz
set_option maxHeartbeats 8000000 in
set_option maxRecDepth 100000 in
/-- the constructor: its object's arrays are new, and hold (jo_mini 25) -/
theorem mM_init (l : Launch) (D : va_G) (h0 sz : Nat) : Met l yX1_init (ws_ yX1_init cX1_init 2 none) ({ frames := 1, cells := 6, slots := 86, locals := 12 } : Room) (va_Pc [.ref h0] (fun U => U.heap.size = sz ∧ va_P D vwCl [(h0, .inr (1, mnul))] U.heap ∧ va_K D vwCl [] U ∧ va_D (fun _ => True) [(h0, .inr (1, mnul))])) (va_Qv (fun u : (Nat → Nat) × (Nat → ClassId) => u.1 4 = h0) (fun u t => va_P D vwCl (mW u.1 u.2 (jo_mini 25)) t.heap ∧ va_K D vwCl (mT u.2) t ∧ va_D (miA h0 sz) (mW u.1 u.2 (jo_mini 25))) (miA h0 sz)) 6 86 (miA h0 sz) := by
  refine Met.ofW (cc := cX1_init) (maxL := 2) (ret := none) (by decide) rfl ?_
  intro p e s m args below meth c s₁ B hml hv
  obtain ⟨rfl, hsz, hP, hK, hD0⟩ := hv
  have hts := atoms_spec (ws := ws_ yX1_init cX1_init 2 none) B.pre
  have hts : ∀ w ∈ lw_all, w.before _ s = true := fun w h => hts w (List.mem_cons_of_mem _ h)
  have hown : s.vm.findClass RX1 = some m.cls := findClass_of_methodNamed B.named
  have hin : meth.name = "<init>" := (name_of_methodNamed B.named B.method).1
  have hlk := B.notSynchronized
  have hr := B.returns
  have S : CallFix p m c cX1_init 2 s [Value.ref h0].toArray lw_all RX1 := ⟨B.exec, B.bytes, hml, hown, hts⟩
  subst hsz
  have hD := hD0.self (sz := s.heap.size)
  have hA : ∀ q : Nat, s.heap.size ≤ q → miA h0 s.heap.size q := fun q h => Or.inr h
  have hS : va_S (miA h0 s.heap.size) s.heap s.heap [] := va_S.rf
  rw [lg_entry_eq]
  have hl : jo_lo _ [some (.ref h0), none] := jo_entry (As := [.ref h0]) (nL := 2) (jo_cat rfl) (Nat.le_of_ble_eq_true rfl)
  generalize (lg_sl [Value.ref h0] ++ List.replicate (2 - (lg_sl [Value.ref h0]).length) Slot.unset).toArray = ls at hl ⊢
  have hl0 : ls[0]? = some (.val (.ref h0)) := (hl.2.2 0 _ rfl).2
  refine lv_aload_n S.1 S.2.1 dX1_init_0 rfl hl0 ?_
  refine W.objInit S.1 S.2.1 hown (hts _ q197) (hts _ q36) (hts _ q37) rfl (by rw [hml]; exact hl.1) rfl dX1_init_1 (Nat.le_of_ble_eq_true rfl) (Nat.le_of_ble_eq_true rfl) ?_
  refine W.eq (g2 := F0 m 4 ls []) rfl ?_
  refine jo_mkC S hA hin rfl in_X1 tyX1 tyX1_ok nmX1 0 (by decide) q198 rfl rfl rfl rfl rfl (by decide) q81 5 (by decide) (by decide) (Nat.le_of_ble_eq_true rfl) (Nat.le_of_ble_eq_true rfl) (Nat.le_of_ble_eq_true rfl) hl0 hK hP hD hS dX1_init_4 dX1_init_5 dX1_init_6 dX1_init_8 (fun q0 c0 H locs hK hP hD hS => ?_)
  refine jo_mkB S hA hin rfl in_X1 tyX1 tyX1_ok nmX1 1 (by decide) q199 rfl rfl rfl rfl rfl (by decide) q81 25 (by decide) (by decide) (Nat.le_of_ble_eq_true rfl) (Nat.le_of_ble_eq_true rfl) (Nat.le_of_ble_eq_true rfl) hl0 hK hP hD hS dX1_init_11 dX1_init_12 dX1_init_14 dX1_init_16 (fun q1 c1 H locs hK hP hD hS => ?_)
  refine jo_mkB S hA hin rfl in_X1 tyX1 tyX1_ok nmX1 2 (by decide) q200 rfl rfl rfl rfl rfl (by decide) q81 32 (by decide) (by decide) (Nat.le_of_ble_eq_true rfl) (Nat.le_of_ble_eq_true rfl) (Nat.le_of_ble_eq_true rfl) hl0 hK hP hD hS dX1_init_19 dX1_init_20 dX1_init_22 dX1_init_24 (fun q2 c2 H locs hK hP hD hS => ?_)
  refine jo_mkB S hA hin rfl in_X1 tyX1 tyX1_ok nmX1 3 (by decide) q201 rfl rfl rfl rfl rfl (by decide) q81 14 (by decide) (by decide) (Nat.le_of_ble_eq_true rfl) (Nat.le_of_ble_eq_true rfl) (Nat.le_of_ble_eq_true rfl) hl0 hK hP hD hS dX1_init_27 dX1_init_28 dX1_init_30 dX1_init_32 (fun q3 c3 H locs hK hP hD hS => ?_)
  refine jo_mkC S hA hin rfl in_X1 tyX1 tyX1_ok nmX1 5 (by decide) q203 rfl rfl rfl rfl rfl (by decide) q81 5 (by decide) (by decide) (Nat.le_of_ble_eq_true rfl) (Nat.le_of_ble_eq_true rfl) (Nat.le_of_ble_eq_true rfl) hl0 hK hP hD hS dX1_init_35 dX1_init_36 dX1_init_37 dX1_init_39 (fun q5 c5 H locs hK hP hD hS => ?_)
  refine jo_mkC S hA hin rfl in_X1 tyX1 tyX1_ok nmX1 6 (by decide) q204 rfl rfl rfl rfl rfl (by decide) q81 5 (by decide) (by decide) (Nat.le_of_ble_eq_true rfl) (Nat.le_of_ble_eq_true rfl) (Nat.le_of_ble_eq_true rfl) hl0 hK hP hD hS dX1_init_42 dX1_init_43 dX1_init_44 dX1_init_46 (fun q6 c6 H locs hK hP hD hS => ?_)
  have gP : va_P D vwCl (mW (fun k => match k with | 0 => q0 | 1 => q1 | 2 => q2 | 3 => q3 | 5 => q5 | 6 => q6 | _ => h0) (fun k => match k with | 1 => c1 | 2 => c2 | 3 => c3 | 5 => c5 | 6 => c6 | _ => c0) (fun _ _ => 0)) H := hP.sub [1, 2, 3, 4, 0, 5, 6] rfl
  have gD : va_D (miA h0 s.heap.size) (mW (fun k => match k with | 0 => q0 | 1 => q1 | 2 => q2 | 3 => q3 | 5 => q5 | 6 => q6 | _ => h0) (fun k => match k with | 1 => c1 | 2 => c2 | 3 => c3 | 5 => c5 | 6 => c6 | _ => c0) (fun _ _ => 0)) := hD.sub [1, 2, 3, 4, 0, 5, 6] (by decide) rfl
  have gK : va_K D vwCl (mT (fun k => match k with | 1 => c1 | 2 => c2 | 3 => c3 | 5 => c5 | 6 => c6 | _ => c0)) s := hK.sub [0, 1, 2, 3, 0, 4, 5] rfl
  have e3 : (fun k => match k with | 0 => q0 | 1 => q1 | 2 => q2 | 3 => q3 | 5 => q5 | 6 => q6 | _ => h0) 4 = h0 := rfl
  revert gP gD gK e3
  generalize (fun k => match k with | 0 => q0 | 1 => q1 | 2 => q2 | 3 => q3 | 5 => q5 | 6 => q6 | _ => h0) = a
  generalize (fun k => match k with | 1 => c1 | 2 => c2 | 3 => c3 | 5 => c5 | 6 => c6 | _ => c0) = d
  intro gP gD gK e3
  subst e3
  obtain ⟨K, hKe⟩ : ∃ K : jo_C, K = (p, l, e, (headSpec (ws_ yX1_init cX1_init 2 none) ({ frames := 1, cells := 6, slots := 86, locals := 12 } : Room)).room, s, m, [Value.ref (a 4)].toArray, below, meth, c, miA (a 4) s.heap.size, 6, 86, MQ below (va_Qv (fun u : (Nat → Nat) × (Nat → ClassId) => u.1 4 = a 4) (fun u t => va_P D vwCl (mW u.1 u.2 (jo_mini 25)) t.heap ∧ va_K D vwCl (mT u.2) t ∧ va_D (miA (a 4) s.heap.size) (mW u.1 u.2 (jo_mini 25))) (miA (a 4) s.heap.size)) [Value.ref (a 4)].toArray s 6 86 (miA (a 4) s.heap.size)) := ⟨_, rfl⟩
  have F : jo_F K cX1_init 2 RX1 1 12 := by rw [hKe]; exact ⟨S, hA, hlk, Nat.le_refl _, Nat.le_refl _, Nat.le_refl _, Nat.le_refl _⟩
  have fin : ∀ L, jo_G K D (mT d) (mW a d) (jo_mini 25) 79 L [] := by
    intro L
    rw [hKe]
    intro hK H locs ls hP hD hS hl
    exact W.vret S.1 S.2.1 hr (fun t ht hW => ⟨⟨(a, d), rfl, rfl, by rw [ht]; exact hP, va_K.moved hW.alike hK, hD⟩, hS.F ht⟩) hS.2.2 dX1_init_79 hlk
  have st : jo_G K D (mT d) (mW a d) (fun _ _ => 0) 49 [some (.ref (a 4)), none] [] := by
    have lp : ∀ i, i ≤ 25 → jo_G K D (mT d) (mW a d) (jo_mini i) 51 [some (.ref (a 4)), some (.int (nI i))] [] := by
      refine jo_up 25 (fun i hi ih => ?_) ?_
      · refine jo_iload_n F 1 dX1_init_51 rfl rfl ?_
        refine jo_bipush (x := (nI 25)) F dX1_init_52 (by decide) ?_
        refine jo_icmp_ge_n F 79 dX1_init_54 (by decide) (nI_ge hi (by decide)) ?_
        refine jo_aload_n F 0 dX1_init_57 rfl rfl ?_
        refine mg1 F dX1_init_58 ?_
        refine jo_iload_n F 1 dX1_init_61 rfl rfl ?_
        refine jo_iconst (x := (-1)) F dX1_init_62 (by decide) ?_
        refine ms1 F i rfl hi dX1_init_63 ?_
        refine jo_aload_n F 0 dX1_init_64 rfl rfl ?_
        refine mg0 F dX1_init_65 ?_
        refine jo_iload_n F 1 dX1_init_68 rfl rfl ?_
        refine jo_iconst (x := (nI 5)) F dX1_init_69 (by decide) ?_
        refine jo_irem F dX1_init_70 (by decide) ?_
        refine jo_top (pk_rem (by omega) (by decide) (by decide)) ?_
        refine jo_iconst (x := (nI 3)) F dX1_init_71 (by decide) ?_
        refine ms0 F (i % 5) rfl (Nat.mod_lt _ (by decide)) dX1_init_72 ?_
        refine jo_iinc F 1 dX1_init_73 rfl (jo_inc _) ?_
        refine jo_goto F 51 dX1_init_76 (by decide) ?_
        exact ih
      · refine jo_iload_n F 1 dX1_init_51 rfl rfl ?_
        refine jo_bipush (x := (nI 25)) F dX1_init_52 (by decide) ?_
        refine jo_icmp_ge_y F 79 dX1_init_54 (by decide) (nI_le (Nat.le_refl _) (by decide)) ?_
        exact fin _
    refine jo_iconst (x := (nI 0)) F dX1_init_49 (by decide) ?_
    refine jo_istore_n F 1 dX1_init_50 rfl (Nat.le_of_ble_eq_true rfl) ?_
    exact lp 0 (Nat.zero_le _)
  rw [hKe] at st
  exact st gK H locs ls gP gD hS hl
end
section
/-! THE CLAIM OUT OF ONE WALK OF THE LAW'S BODY. Your part is whole_start (and what it stands on); all else here is the same for every law, but numbers. -/
def R_law : String := "JoinOrdererLaw"
def lw_P (b : Addr) (xs : List Int32) (args : Array Value) (s : State) : Prop := args = #[.ref b] ∧ s.IntsAt b xs ∧ xs.length ≤ 256 ∧ (Jvm.Cond.and given_1 narrow_1).before args s = true
def lw_Q (_ : Array Value) (s : State) (o : Outcome) (t : State) : Prop := o = .returned (some (.int 1)) ∧ Framed s o t [] 600000 7290000
def lw_Z (below : List Frame) (a : Array Value) (s : State) : State → Prop := fun t => ∃ o, t.status = .running ∧ Ended t below o ∧ lw_Q a s o t
/-- the law's own end, with 1 on the stack, nothing written that was there before, its room as the claim has it -/
theorem lw_ret {p : Program} {l : Launch} {e : Env} {s : State} {m : MethodId} {below : List Frame} {meth : Method} {c : Code} {b : Nat} (hx : p.tables.exec = Jvm.exec) (hb : c.code = code) (hr : meth.sig.returnType = ret) (hlocks : meth.locks = false) {pc : Nat} {H : Heap} {ls : Array Slot} (hdg : decode code pc = .ok (.ireturn, 1)) : W p l e room_1 s m #[Value.ref b] below meth c H [] 600000 7290000 (lw_Z below #[Value.ref b] s) (F0 m pc ls [.int 1]) := by
  intro T hT X
  obtain ⟨fs, hret, hrun, hended, hW, hframe⟩ := X.leave (v := some (.int 1)) (hlocks := hlocks) (fun h => by rw [hr] at h; cases h)
  have hmeth' : T.vm.method? m = some meth := X.method'
  refine ⟨T.setFrames fs, ?_, .returned (some (.int 1)), hrun, hended, rfl, ⟨_, rfl⟩, hW, hframe⟩
  jvm_step X.here [X.here.top, hx, hb, hdg, hmeth', hr, ret, narrow_b1]
  (try refine ⟨rfl, ?_⟩); (try refine ⟨rfl, ?_⟩)
  first | (intro acts; rw [hret _ acts rfl rfl rfl]) | rw [hret _ _ rfl rfl rfl]
  exact Steps.refl _
/-- what holds at the law's entry: the machine, the code, the tables' words (any of lw_tbl by 'hts w (by decide +kernel)'), the script of L ints xs at the cell b, what the Statement gives of the start (any of its parts by flat_of_before) -/
def lw_At (p : Program) (s : State) (m : MethodId) (meth : Method) (c : Code) (b L : Nat) (xs : Nat → Int32) : Prop :=
  p.tables.exec = Jvm.exec ∧ c.code = code ∧ meth.sig.returnType = ret ∧ c.maxLocals = 4 ∧ s.vm.findClass R_law = some m.cls ∧ (∀ w ∈ lw_tbl, w.before #[Value.ref b] s = true) ∧ va_X b L xs s s.heap ∧ b < s.heap.size ∧ meth.locks = false ∧ (Jvm.Cond.and given_1 narrow_1).before #[Value.ref b] s = true
end
section
/-! THE LAW: its world is the two objects' worlds; v: JoinOrderer's table, w: JoinOrdererModel's -/
def jo_cmb (v w : jo_V) : jo_V := fun k => if k < 20 then v k else w (k - 20)
def jo_hi (z : jo_V) : jo_V := fun k => z (k + 20)
def lW (a b : Nat → Nat) (d d' : Nat → ClassId) (z : jo_V) : va_W := xW a d z ++ mW b d' (jo_hi z)
def lT (d d' : Nat → ClassId) : List (ClassId × FieldType) := xT d ++ mT d'
abbrev lG (K : jo_C) (D : va_G) (a b : Nat → Nat) (d d' : Nat → ClassId) (v w : jo_V) (pc : Nat) (L : List (Option Value)) (st : List Value) : Prop := jo_G K D (lT d d') (lW a b d d') (jo_cmb v w) pc L st
/-- the script -/
def jo_X (K : jo_C) (b0 Ln : Nat) (xs : Nat → Int32) : Prop :=
  match K with
  | (p, l, e, R, s, m, args, below, meth, c, A, k, n, Q) => va_X b0 Ln xs s s.heap ∧ b0 < s.heap.size ∧ ¬ A b0 ∧ Ln ≤ 256
section JOL
variable {K : jo_C} {D : va_G} {a b : Nat → Nat} {d d' : Nat → ClassId} {v w : jo_V} {pc : Nat} {L : List (Option Value)} {st : List Value} {cc : ByteArray} {nL : Nat} {own : String} {fr lo : Nat}
theorem jo_sld (F : jo_F K cc nL own fr lo) {T : List (ClassId × FieldType)} {ww : jo_V → va_W} {b0 Ln : Nat} {xs : Nat → Int32} (X : jo_X K b0 Ln xs) {x : Int32} (j : Nat) (hj' : x = nI j) (hj : j < Ln) (hdg : decode cc pc = .ok (.iaload, 1)) (k : jo_G K D T ww v (pc + 1) L (.int (xs j) :: st)) : jo_G K D T ww v pc L (.int x :: .ref b0 :: st) := by
  obtain ⟨p, l, e, R, s, m, args, below, meth, c, A, kc, n, Q⟩ := K
  obtain ⟨⟨hx, hb, hml, hown, hts⟩, hA, hlk, h1, h2, h3, h4⟩ := F
  subst hj'
  obtain ⟨x1, x2, x3, x4⟩ := X
  intro hK H locs ls hP hD hS hl
  refine va_sld hx hb x1 x2 x3 hS (vp_in_nI hj (by omega)) hdg ?_
  rw [nI_clamp (by omega)]
  exact k hK H locs ls hP hD hS hl
theorem jo_slen (F : jo_F K cc nL own fr lo) {T : List (ClassId × FieldType)} {ww : jo_V → va_W} {b0 Ln : Nat} {xs : Nat → Int32} (X : jo_X K b0 Ln xs) (hdg : decode cc pc = .ok (.arraylength, 1)) (k : jo_G K D T ww v (pc + 1) L (.int (nI Ln) :: st)) : jo_G K D T ww v pc L (.ref b0 :: st) := by
  obtain ⟨p, l, e, R, s, m, args, below, meth, c, A, kc, n, Q⟩ := K
  obtain ⟨⟨hx, hb, hml, hown, hts⟩, hA, hlk, h1, h2, h3, h4⟩ := F
  obtain ⟨x1, x2, x3, x4⟩ := X
  intro hK H locs ls hP hD hS hl
  exact va_slen hx hb x1 x2 x3 hS hdg (k hK H locs ls hP hD hS hl)
theorem jo_tabIn (F : jo_F K cc nL own fr lo) {T : List (ClassId × FieldType)} {ww : jo_V → va_W} {dflt hi : Int} {offs : Array Int} {len j tgt : Nat} {x : Int32} (off : Int) (hj : x = nI j) (hj2 : j < 2 ^ 31) (hdg : decode cc pc = .ok (.tableswitch dflt 0 hi offs, len)) (h : ¬ hi < (j : Int)) (ho : offs[j]? = some off) (ht : (pc : Int) + off = (tgt : Int)) (k : jo_G K D T ww v tgt L st) : jo_G K D T ww v pc L (.int x :: st) := by
  obtain ⟨p, l, e, R, s, m, args, below, meth, c, A, kc, n, Q⟩ := K
  obtain ⟨⟨hx, hb, hml, hown, hts⟩, hA, hlk, h1, h2, h3, h4⟩ := F
  subst hj
  intro hK H locs ls hP hD hS hl
  refine lv_tableIn hx hb hdg (off := off) ?_ ?_ ?_ ht (k hK H locs ls hP hD hS hl)
  · rw [nI_toInt hj2]; omega
  · rw [nI_toInt hj2]; exact h
  · rw [nI_toInt hj2, show ((j : Int) - 0).toNat = j by omega]; exact ho
theorem jo_tabOut (F : jo_F K cc nL own fr lo) {T : List (ClassId × FieldType)} {ww : jo_V → va_W} {dflt hi : Int} {offs : Array Int} {len j tgt : Nat} {x : Int32} (hj : x = nI j) (hj2 : j < 2 ^ 31) (hdg : decode cc pc = .ok (.tableswitch dflt 0 hi offs, len)) (h : hi < (j : Int)) (ht : (pc : Int) + dflt = (tgt : Int)) (k : jo_G K D T ww v tgt L st) : jo_G K D T ww v pc L (.int x :: st) := by
  obtain ⟨p, l, e, R, s, m, args, below, meth, c, A, kc, n, Q⟩ := K
  obtain ⟨⟨hx, hb, hml, hown, hts⟩, hA, hlk, h1, h2, h3, h4⟩ := F
  subst hj
  intro hK H locs ls hP hD hS hl
  refine lv_tableOut hx hb hdg (Or.inr ?_) ht (k hK H locs ls hP hD hS hl)
  rw [nI_toInt hj2]; exact h
theorem jo_lcX (F : jo_F K cc nL own fr lo) {y : MethodName} {bytes : ByteArray} {maxL idx np : Nat} {ret : Option FieldType} {rm : Room} {As : List Value} {post : Int32 → jo_V → Prop} {st0 : List Value} (hM : ∀ l : Launch, jo_Mi l y (ws_ y bytes maxL ret) rm (.ref (a 3) :: As) D (xT d) (xW a d) v post) (hw : GoodIn lw_all (wsV own idx RX0 y (ws_ y bytes maxL ret))) (hd : y.cls = RX0 ∧ y.cls ≠ "java/lang/invoke/MethodHandle" ∧ y.cls ≠ "java/lang/invoke/VarHandle" ∧ (parseMethodDescriptor y.desc).map (fun d => d.parameters.length) = some np) (hn : As.length = np) (hrc : rm.cells = 0) (hrs : rm.slots = 0) (hfr : rm.frames + 1 ≤ fr) (hlo : 8 + (maxL + 11) + rm.locals ≤ lo) (hst : st0 = As.reverse ++ .ref (a 3) :: st) (hcat : (st.map fun v => v.category).sum ≤ 8) (hlen : L.length = nL) (hdg : decode cc pc = .ok (.invokevirtual idx, 3)) (k : ∀ (r : Int32) (u : jo_V), post r u → lG K D a b d d' u w (pc + 3) L (.int r :: st)) : lG K D a b d d' v w pc L st0 := by
  obtain ⟨p, l, e, R, s, m, args, below, meth, c, A, kc, n, Q⟩ := K
  obtain ⟨⟨hx, hb, hml, hown, hts⟩, hA, hlk, h1, h2, h3, h4⟩ := F
  intro hK H locs ls hP hD hS hl
  have hPc : va_P D vwCl (xW a d v) H := hP.sub [0, 1, 2, 3, 4, 5, 6, 7, 8, 9, 10, 11, 12, 13] rfl
  have hDc : va_D A (xW a d v) := hD.sub [0, 1, 2, 3, 4, 5, 6, 7, 8, 9, 10, 11, 12, 13] (by decide) rfl
  have hKc : va_K D vwCl (xT d) s := hK.sub [0, 1, 2, 3, 4, 5, 6, 7, 8, 9, 10, 11, 12, 13] rfl
  have hFc : ∀ q, va_A (xW a d v) H.size q → A q := va_free (wc := xW a d v) hD hS hA [0, 1, 2, 3, 4, 5, 6, 7, 8, 9, 10, 11, 12, 13] rfl
  refine va_calli (va_runV (As := As) (rest := st) ⟨hx, hb, hml, hown, hts⟩ (hM l H.size) (cwV np hts hw rfl hrc hrs hd ⟨Nat.le_trans hfr h1, Nat.le_trans hlo h2⟩) ⟨fun a U g mk q => by obtain ⟨q0, q1, qP, qK, qD⟩ := q; exact ⟨q0, q1, qP, va_K.moved (u := U) (U := U.calling g mk a) (Vm.Alike.refl U.vm) qK, qD⟩, va_recv (ci := 0) (q0 := 3) hKc hPc rfl rfl, fun U hU hW => ⟨rfl, by rw [hU], by rw [hU]; exact hPc, va_K.moved hW.alike hKc, hDc.weaken (fun _ _ _ _ => trivial)⟩⟩ rfl hn (hl.1.trans hlen) hst (lv_room hcat) hdg ⟨h3, h4⟩) hS (fun q _ h => hFc q h) hFc (fun r u t H1 locs1 ht hvm hp hB hz hk hS1 => ?_)
  obtain ⟨hP1, hK1, hD1⟩ := hB
  rw [ht] at hP1
  obtain ⟨hP2, hD2⟩ := va_join (wr := (mW b d' w)) (w1 := xW a d u) hP hD [0, 1, 2, 3, 4, 5, 6, 7, 8, 9, 10, 11, 12, 13] [14, 15, 16, 17, 18, 19, 20] rfl rfl (by decide) (by decide) hk hFc hP1 hD1
  exact k r u hp hK H1 locs1 ls (hP2.sub [7, 8, 9, 10, 11, 12, 13, 14, 15, 16, 17, 18, 19, 20, 0, 1, 2, 3, 4, 5, 6] rfl) (hD2.sub [7, 8, 9, 10, 11, 12, 13, 14, 15, 16, 17, 18, 19, 20, 0, 1, 2, 3, 4, 5, 6] (by decide) rfl) hS1 hl
theorem jo_lcM (F : jo_F K cc nL own fr lo) {y : MethodName} {bytes : ByteArray} {maxL idx np : Nat} {ret : Option FieldType} {rm : Room} {As : List Value} {post : Int32 → jo_V → Prop} {st0 : List Value} (hM : ∀ l : Launch, jo_Mi l y (ws_ y bytes maxL ret) rm (.ref (b 4) :: As) D (mT d') (mW b d') w post) (hw : GoodIn lw_all (wsV own idx RX1 y (ws_ y bytes maxL ret))) (hd : y.cls = RX1 ∧ y.cls ≠ "java/lang/invoke/MethodHandle" ∧ y.cls ≠ "java/lang/invoke/VarHandle" ∧ (parseMethodDescriptor y.desc).map (fun d => d.parameters.length) = some np) (hn : As.length = np) (hrc : rm.cells = 0) (hrs : rm.slots = 0) (hfr : rm.frames + 1 ≤ fr) (hlo : 8 + (maxL + 11) + rm.locals ≤ lo) (hst : st0 = As.reverse ++ .ref (b 4) :: st) (hcat : (st.map fun v => v.category).sum ≤ 8) (hlen : L.length = nL) (hdg : decode cc pc = .ok (.invokevirtual idx, 3)) (k : ∀ (r : Int32) (u : jo_V), post r u → lG K D a b d d' v u (pc + 3) L (.int r :: st)) : lG K D a b d d' v w pc L st0 := by
  obtain ⟨p, l, e, R, s, m, args, below, meth, c, A, kc, n, Q⟩ := K
  obtain ⟨⟨hx, hb, hml, hown, hts⟩, hA, hlk, h1, h2, h3, h4⟩ := F
  intro hK H locs ls hP hD hS hl
  have hPc : va_P D vwCl (mW b d' w) H := hP.sub [14, 15, 16, 17, 18, 19, 20] rfl
  have hDc : va_D A (mW b d' w) := hD.sub [14, 15, 16, 17, 18, 19, 20] (by decide) rfl
  have hKc : va_K D vwCl (mT d') s := hK.sub [14, 15, 16, 17, 18, 19, 20] rfl
  have hFc : ∀ q, va_A (mW b d' w) H.size q → A q := va_free (wc := mW b d' w) hD hS hA [14, 15, 16, 17, 18, 19, 20] rfl
  refine va_calli (va_runV (As := As) (rest := st) ⟨hx, hb, hml, hown, hts⟩ (hM l H.size) (cwV np hts hw rfl hrc hrs hd ⟨Nat.le_trans hfr h1, Nat.le_trans hlo h2⟩) ⟨fun a U g mk q => by obtain ⟨q0, q1, qP, qK, qD⟩ := q; exact ⟨q0, q1, qP, va_K.moved (u := U) (U := U.calling g mk a) (Vm.Alike.refl U.vm) qK, qD⟩, va_recv (ci := 1) (q0 := 4) hKc hPc rfl rfl, fun U hU hW => ⟨rfl, by rw [hU], by rw [hU]; exact hPc, va_K.moved hW.alike hKc, hDc.weaken (fun _ _ _ _ => trivial)⟩⟩ rfl hn (hl.1.trans hlen) hst (lv_room hcat) hdg ⟨h3, h4⟩) hS (fun q _ h => hFc q h) hFc (fun r u t H1 locs1 ht hvm hp hB hz hk hS1 => ?_)
  obtain ⟨hP1, hK1, hD1⟩ := hB
  rw [ht] at hP1
  obtain ⟨hP2, hD2⟩ := va_join (wr := (xW a d v)) (w1 := mW b d' u) hP hD [14, 15, 16, 17, 18, 19, 20] [0, 1, 2, 3, 4, 5, 6, 7, 8, 9, 10, 11, 12, 13] rfl rfl (by decide) (by decide) hk hFc hP1 hD1
  exact k r u hp hK H1 locs1 ls (hP2.sub [0, 1, 2, 3, 4, 5, 6, 7, 8, 9, 10, 11, 12, 13, 14, 15, 16, 17, 18, 19, 20] rfl) (hD2.sub [0, 1, 2, 3, 4, 5, 6, 7, 8, 9, 10, 11, 12, 13, 14, 15, 16, 17, 18, 19, 20] (by decide) rfl) hS1 hl
end JOL
theorem jo_l4 (i : Nat) : nI i + Int32.ofInt 4 = nI (i + 4) := by rw [show Int32.ofInt 4 = nI 4 by decide, nI_add]
theorem jo_llt {i Ln : Nat} (hi : i < 2 ^ 30) (hL : Ln < 2 ^ 30) : nI Ln - nI 4 < nI i ↔ Ln < i + 4 := by
  rw [Int32.lt_iff_toInt_lt, pk_sub_toInt hL (by decide), nI_toInt (by omega)]
  omega
/-- what the plain law says of a relation of the two tables: each question is answered alike, and the relation stays -/
def jo_OkS (Rl : jo_V → jo_V → Prop) : Prop := ∀ v w, Rl v w → (∀ w', w' 0 = w 0 → w' 1 = w 1 → Rl v w') ∧ Rl (jo_fill v) w ∧ (∀ i y, (jo_tab v i y).1 = (jo_mtab w i y).1 ∧ Rl (jo_tab v i y).2 (jo_mtab w i y).2) ∧ (∀ i j y, (jo_fil v i j y).1 = (jo_mfil w i j y).1 ∧ Rl (jo_fil v i j y).2 (jo_mfil w i j y).2) ∧ (∀ i j, (jo_unf v i j).1 = (jo_munf w i j).1 ∧ Rl (jo_unf v i j).2 (jo_munf w i j).2)
def jo_OkQ (Rl : jo_V → jo_V → Prop) : Prop := ∀ v w, Rl v w → ∀ S, 0 < S → S < 32 → jo_sz v S = jo_mz w S ∧ jo_con v (nI S) = jo_mcon w (nI S) ∧ jo_fill v 5 S = jo_ex w S 0 false (jo_NP S) ∧ jo_fill v 8 S = jo_ex w S 1 false (jo_NP S) ∧ (if jo_fill v 9 S = jo_FAR then -4 else jo_fill v 9 S) = jo_ex w S 2 false (jo_NP S) ∧ jo_fill v 10 S = jo_ex w S 0 true (jo_NP S) ∧ jo_fill v 6 S = jo_lf w S (jo_ex w S 0 false (jo_NP S)) (jo_NP S) ∧ jo_fill v 11 S = nI (jo_cp w S 0 (-1) (jo_NP S)) ∧ jo_fill v 12 S = nI (jo_cp w S 2 (-1) (jo_NP S)) ∧ jo_fill v 7 S = nI (jo_cp w S 0 (jo_ex w S 0 false (jo_NP S)) (jo_NP S))
def jo_OkL (Rl : jo_V → jo_V → Prop) : Prop := ∀ v w, Rl v w → ∀ S, 0 < S → S < 32 → Rl (jo_ah (jo_fill v) S) w ∧ ∃ (n : Nat) (r hs : Nat → Nat) (cs : Nat → Int32), jo_way (jo_ah (jo_fill v) S) S n r hs cs ∧ ∀ kk : Int32, (if 0 ≤ kk ∧ kk < nI n then nI (r kk.toNatClampNeg) else -4) = jo_lt w S kk (jo_ex w S 1 false (jo_NP S))
def jo_OkG (Rl : jo_V → jo_V → Prop) : Prop := ∀ v w, Rl v w → ∀ i j, i < 5 → j < 5 → i ≠ j → ∃ b : Bool, jo_fill v 2 (i * 5 + j) = jo_b b ∧ jo_gnR v i j = jo_mgR w i j ∧ ∀ w', w' 0 = w 0 → w' 1 = jo_mset (jo_mset w i j (nI 6)) i j (w 1 (i * 5 + j)) 1 → Rl (jo_gnV v i j b) w'
def jo_Ok (Rl : jo_V → jo_V → Prop) : Prop := jo_OkS Rl ∧ jo_OkQ Rl ∧ jo_OkL Rl ∧ jo_OkG Rl
set_option maxHeartbeats 4000000 in
set_option maxRecDepth 100000 in
/-- the law's case 0: table -/
theorem lB_table {K : jo_C} {D : va_G} {a b : Nat → Nat} {d d' : Nat → ClassId} {v w : jo_V} {b0 Ln i : Nat} {xs : Nat → Int32} {Rl : jo_V → jo_V → Prop} (F : jo_F K cL_law 4 "JoinOrdererLaw" 7 258) (hX : jo_X K b0 Ln xs) (hOk : jo_Ok Rl) (hR : Rl v w) (hi : i + 4 ≤ Ln) (k : ∀ v' w', Rl v' w' → lG K D a b d d' v' w' 513 [some (.ref b0), some (.ref (a 3)), some (.ref (b 4)), some (.int (nI i))] []) : lG K D a b d d' v w 108 [some (.ref b0), some (.ref (a 3)), some (.ref (b 4)), some (.int (nI i))] [] := by
  obtain ⟨hS9, oQ, oL, oG⟩ := hOk
  have oS := hS9 v w hR
  have oQ := oQ v w hR
  have oL := oL v w hR
  have oG := oG v w hR
  have hLn : Ln ≤ 256 := by obtain ⟨p, l, e, R, s, m, args, below, meth, c, A, kc, n, Q⟩ := K; exact hX.2.2.2
  refine jo_aload_n F 1 dL_law_108 rfl rfl ?_
  refine jo_aload_n F 0 dL_law_109 rfl rfl ?_
  refine jo_iload_n F 3 dL_law_110 rfl rfl ?_
  refine jo_iconst (x := (nI 1)) F dL_law_111 (by decide) ?_
  refine jo_iadd F dL_law_112 ?_
  refine jo_sld F hX (i + 1) (nI_add _ _) (by omega) dL_law_113 ?_
  refine jo_aload_n F 0 dL_law_114 rfl rfl ?_
  refine jo_iload_n F 3 dL_law_115 rfl rfl ?_
  refine jo_iconst (x := (nI 2)) F dL_law_116 (by decide) ?_
  refine jo_iadd F dL_law_117 ?_
  refine jo_sld F hX (i + 2) (nI_add _ _) (by omega) dL_law_118 ?_
  refine jo_lcX F (np := 2) (fun l => xM_table l D a d v (xs (i + 1)) (xs (i + 2))) (lw_V q83 q84 q85 q28 q86) (by decide +kernel) rfl rfl rfl (Nat.le_of_ble_eq_true rfl) (Nat.le_of_ble_eq_true rfl) rfl (Nat.le_of_ble_eq_true rfl) rfl dL_law_119 (fun r1 u1 h1 => ?_)
  refine jo_aload_n F 2 dL_law_122 rfl rfl ?_
  refine jo_aload_n F 0 dL_law_123 rfl rfl ?_
  refine jo_iload_n F 3 dL_law_124 rfl rfl ?_
  refine jo_iconst (x := (nI 1)) F dL_law_125 (by decide) ?_
  refine jo_iadd F dL_law_126 ?_
  refine jo_sld F hX (i + 1) (nI_add _ _) (by omega) dL_law_127 ?_
  refine jo_aload_n F 0 dL_law_128 rfl rfl ?_
  refine jo_iload_n F 3 dL_law_129 rfl rfl ?_
  refine jo_iconst (x := (nI 2)) F dL_law_130 (by decide) ?_
  refine jo_iadd F dL_law_131 ?_
  refine jo_sld F hX (i + 2) (nI_add _ _) (by omega) dL_law_132 ?_
  refine jo_lcM F (np := 2) (fun l => mM_table l D b d' w (xs (i + 1)) (xs (i + 2))) (lw_V q232 q233 q234 q29 q235) (by decide +kernel) rfl rfl rfl (Nat.le_of_ble_eq_true rfl) (Nat.le_of_ble_eq_true rfl) rfl (Nat.le_of_ble_eq_true rfl) rfl dL_law_133 (fun r2 u2 h2 => ?_)
  have ho := oS.2.2.1 (xs (i + 1)) (xs (i + 2))
  obtain ⟨e1, e2⟩ := h1
  obtain ⟨e3, e4⟩ := h2
  have er : r1 = r2 := by rw [e1, e3]; exact ho.1
  have hR3 : Rl u1 u2 := by rw [e2, e4]; exact ho.2
  refine jo_icmp_eq_y F 513 dL_law_136 (by decide) er ?_
  exact k u1 u2 hR3
set_option maxHeartbeats 4000000 in
set_option maxRecDepth 100000 in
/-- the law's case 1: filter -/
theorem lB_filter {K : jo_C} {D : va_G} {a b : Nat → Nat} {d d' : Nat → ClassId} {v w : jo_V} {b0 Ln i : Nat} {xs : Nat → Int32} {Rl : jo_V → jo_V → Prop} (F : jo_F K cL_law 4 "JoinOrdererLaw" 7 258) (hX : jo_X K b0 Ln xs) (hOk : jo_Ok Rl) (hR : Rl v w) (hi : i + 4 ≤ Ln) (k : ∀ v' w', Rl v' w' → lG K D a b d d' v' w' 513 [some (.ref b0), some (.ref (a 3)), some (.ref (b 4)), some (.int (nI i))] []) : lG K D a b d d' v w 141 [some (.ref b0), some (.ref (a 3)), some (.ref (b 4)), some (.int (nI i))] [] := by
  obtain ⟨hS9, oQ, oL, oG⟩ := hOk
  have oS := hS9 v w hR
  have oQ := oQ v w hR
  have oL := oL v w hR
  have oG := oG v w hR
  have hLn : Ln ≤ 256 := by obtain ⟨p, l, e, R, s, m, args, below, meth, c, A, kc, n, Q⟩ := K; exact hX.2.2.2
  refine jo_aload_n F 1 dL_law_141 rfl rfl ?_
  refine jo_aload_n F 0 dL_law_142 rfl rfl ?_
  refine jo_iload_n F 3 dL_law_143 rfl rfl ?_
  refine jo_iconst (x := (nI 1)) F dL_law_144 (by decide) ?_
  refine jo_iadd F dL_law_145 ?_
  refine jo_sld F hX (i + 1) (nI_add _ _) (by omega) dL_law_146 ?_
  refine jo_aload_n F 0 dL_law_147 rfl rfl ?_
  refine jo_iload_n F 3 dL_law_148 rfl rfl ?_
  refine jo_iconst (x := (nI 2)) F dL_law_149 (by decide) ?_
  refine jo_iadd F dL_law_150 ?_
  refine jo_sld F hX (i + 2) (nI_add _ _) (by omega) dL_law_151 ?_
  refine jo_aload_n F 0 dL_law_152 rfl rfl ?_
  refine jo_iload_n F 3 dL_law_153 rfl rfl ?_
  refine jo_iconst (x := (nI 3)) F dL_law_154 (by decide) ?_
  refine jo_iadd F dL_law_155 ?_
  refine jo_sld F hX (i + 3) (nI_add _ _) (by omega) dL_law_156 ?_
  refine jo_lcX F (np := 3) (fun l => xM_filter l D a d v (xs (i + 1)) (xs (i + 2)) (xs (i + 3))) (lw_V q91 q92 q93 q28 q94) (by decide +kernel) rfl rfl rfl (Nat.le_of_ble_eq_true rfl) (Nat.le_of_ble_eq_true rfl) rfl (Nat.le_of_ble_eq_true rfl) rfl dL_law_157 (fun r1 u1 h1 => ?_)
  refine jo_aload_n F 2 dL_law_160 rfl rfl ?_
  refine jo_aload_n F 0 dL_law_161 rfl rfl ?_
  refine jo_iload_n F 3 dL_law_162 rfl rfl ?_
  refine jo_iconst (x := (nI 1)) F dL_law_163 (by decide) ?_
  refine jo_iadd F dL_law_164 ?_
  refine jo_sld F hX (i + 1) (nI_add _ _) (by omega) dL_law_165 ?_
  refine jo_aload_n F 0 dL_law_166 rfl rfl ?_
  refine jo_iload_n F 3 dL_law_167 rfl rfl ?_
  refine jo_iconst (x := (nI 2)) F dL_law_168 (by decide) ?_
  refine jo_iadd F dL_law_169 ?_
  refine jo_sld F hX (i + 2) (nI_add _ _) (by omega) dL_law_170 ?_
  refine jo_aload_n F 0 dL_law_171 rfl rfl ?_
  refine jo_iload_n F 3 dL_law_172 rfl rfl ?_
  refine jo_iconst (x := (nI 3)) F dL_law_173 (by decide) ?_
  refine jo_iadd F dL_law_174 ?_
  refine jo_sld F hX (i + 3) (nI_add _ _) (by omega) dL_law_175 ?_
  refine jo_lcM F (np := 3) (fun l => mM_filter l D b d' w (xs (i + 1)) (xs (i + 2)) (xs (i + 3))) (lw_V q240 q241 q242 q29 q243) (by decide +kernel) rfl rfl rfl (Nat.le_of_ble_eq_true rfl) (Nat.le_of_ble_eq_true rfl) rfl (Nat.le_of_ble_eq_true rfl) rfl dL_law_176 (fun r2 u2 h2 => ?_)
  have ho := oS.2.2.2.1 (xs (i + 1)) (xs (i + 2)) (xs (i + 3))
  obtain ⟨e1, e2⟩ := h1
  obtain ⟨e3, e4⟩ := h2
  have er : r1 = r2 := by rw [e1, e3]; exact ho.1
  have hR3 : Rl u1 u2 := by rw [e2, e4]; exact ho.2
  refine jo_icmp_eq_y F 513 dL_law_179 (by decide) er ?_
  exact k u1 u2 hR3
set_option maxHeartbeats 4000000 in
set_option maxRecDepth 100000 in
/-- the law's case 2: unfilter -/
theorem lB_unfilter {K : jo_C} {D : va_G} {a b : Nat → Nat} {d d' : Nat → ClassId} {v w : jo_V} {b0 Ln i : Nat} {xs : Nat → Int32} {Rl : jo_V → jo_V → Prop} (F : jo_F K cL_law 4 "JoinOrdererLaw" 7 258) (hX : jo_X K b0 Ln xs) (hOk : jo_Ok Rl) (hR : Rl v w) (hi : i + 4 ≤ Ln) (k : ∀ v' w', Rl v' w' → lG K D a b d d' v' w' 513 [some (.ref b0), some (.ref (a 3)), some (.ref (b 4)), some (.int (nI i))] []) : lG K D a b d d' v w 184 [some (.ref b0), some (.ref (a 3)), some (.ref (b 4)), some (.int (nI i))] [] := by
  obtain ⟨hS9, oQ, oL, oG⟩ := hOk
  have oS := hS9 v w hR
  have oQ := oQ v w hR
  have oL := oL v w hR
  have oG := oG v w hR
  have hLn : Ln ≤ 256 := by obtain ⟨p, l, e, R, s, m, args, below, meth, c, A, kc, n, Q⟩ := K; exact hX.2.2.2
  refine jo_aload_n F 1 dL_law_184 rfl rfl ?_
  refine jo_aload_n F 0 dL_law_185 rfl rfl ?_
  refine jo_iload_n F 3 dL_law_186 rfl rfl ?_
  refine jo_iconst (x := (nI 1)) F dL_law_187 (by decide) ?_
  refine jo_iadd F dL_law_188 ?_
  refine jo_sld F hX (i + 1) (nI_add _ _) (by omega) dL_law_189 ?_
  refine jo_aload_n F 0 dL_law_190 rfl rfl ?_
  refine jo_iload_n F 3 dL_law_191 rfl rfl ?_
  refine jo_iconst (x := (nI 2)) F dL_law_192 (by decide) ?_
  refine jo_iadd F dL_law_193 ?_
  refine jo_sld F hX (i + 2) (nI_add _ _) (by omega) dL_law_194 ?_
  refine jo_lcX F (np := 2) (fun l => xM_unfilter l D a d v (xs (i + 1)) (xs (i + 2))) (lw_V q103 q104 q105 q28 q106) (by decide +kernel) rfl rfl rfl (Nat.le_of_ble_eq_true rfl) (Nat.le_of_ble_eq_true rfl) rfl (Nat.le_of_ble_eq_true rfl) rfl dL_law_195 (fun r1 u1 h1 => ?_)
  refine jo_aload_n F 2 dL_law_198 rfl rfl ?_
  refine jo_aload_n F 0 dL_law_199 rfl rfl ?_
  refine jo_iload_n F 3 dL_law_200 rfl rfl ?_
  refine jo_iconst (x := (nI 1)) F dL_law_201 (by decide) ?_
  refine jo_iadd F dL_law_202 ?_
  refine jo_sld F hX (i + 1) (nI_add _ _) (by omega) dL_law_203 ?_
  refine jo_aload_n F 0 dL_law_204 rfl rfl ?_
  refine jo_iload_n F 3 dL_law_205 rfl rfl ?_
  refine jo_iconst (x := (nI 2)) F dL_law_206 (by decide) ?_
  refine jo_iadd F dL_law_207 ?_
  refine jo_sld F hX (i + 2) (nI_add _ _) (by omega) dL_law_208 ?_
  refine jo_lcM F (np := 2) (fun l => mM_unfilter l D b d' w (xs (i + 1)) (xs (i + 2))) (lw_V q252 q253 q254 q29 q255) (by decide +kernel) rfl rfl rfl (Nat.le_of_ble_eq_true rfl) (Nat.le_of_ble_eq_true rfl) rfl (Nat.le_of_ble_eq_true rfl) rfl dL_law_209 (fun r2 u2 h2 => ?_)
  have ho := oS.2.2.2.2 (xs (i + 1)) (xs (i + 2))
  obtain ⟨e1, e2⟩ := h1
  obtain ⟨e3, e4⟩ := h2
  have er : r1 = r2 := by rw [e1, e3]; exact ho.1
  have hR3 : Rl u1 u2 := by rw [e2, e4]; exact ho.2
  refine jo_icmp_eq_y F 513 dL_law_212 (by decide) er ?_
  exact k u1 u2 hR3
set_option maxHeartbeats 4000000 in
set_option maxRecDepth 100000 in
/-- the law's case 3: size -/
theorem lB_size {K : jo_C} {D : va_G} {a b : Nat → Nat} {d d' : Nat → ClassId} {v w : jo_V} {b0 Ln i : Nat} {xs : Nat → Int32} {Rl : jo_V → jo_V → Prop} (F : jo_F K cL_law 4 "JoinOrdererLaw" 7 258) (hX : jo_X K b0 Ln xs) (hOk : jo_Ok Rl) (hR : Rl v w) (hi : i + 4 ≤ Ln) (k : ∀ v' w', Rl v' w' → lG K D a b d d' v' w' 513 [some (.ref b0), some (.ref (a 3)), some (.ref (b 4)), some (.int (nI i))] []) : lG K D a b d d' v w 217 [some (.ref b0), some (.ref (a 3)), some (.ref (b 4)), some (.int (nI i))] [] := by
  obtain ⟨hS9, oQ, oL, oG⟩ := hOk
  have oS := hS9 v w hR
  have oQ := oQ v w hR
  have oL := oL v w hR
  have oG := oG v w hR
  have hLn : Ln ≤ 256 := by obtain ⟨p, l, e, R, s, m, args, below, meth, c, A, kc, n, Q⟩ := K; exact hX.2.2.2
  refine jo_aload_n F 1 dL_law_217 rfl rfl ?_
  refine jo_aload_n F 0 dL_law_218 rfl rfl ?_
  refine jo_iload_n F 3 dL_law_219 rfl rfl ?_
  refine jo_iconst (x := (nI 1)) F dL_law_220 (by decide) ?_
  refine jo_iadd F dL_law_221 ?_
  refine jo_sld F hX (i + 1) (nI_add _ _) (by omega) dL_law_222 ?_
  refine jo_lcX F (np := 1) (fun l => xM_size l D a d v (xs (i + 1))) (lw_V q107 q108 q109 q28 q110) (by decide +kernel) rfl rfl rfl (Nat.le_of_ble_eq_true rfl) (Nat.le_of_ble_eq_true rfl) rfl (Nat.le_of_ble_eq_true rfl) rfl dL_law_223 (fun r1 u1 h1 => ?_)
  refine jo_aload_n F 2 dL_law_226 rfl rfl ?_
  refine jo_aload_n F 0 dL_law_227 rfl rfl ?_
  refine jo_iload_n F 3 dL_law_228 rfl rfl ?_
  refine jo_iconst (x := (nI 1)) F dL_law_229 (by decide) ?_
  refine jo_iadd F dL_law_230 ?_
  refine jo_sld F hX (i + 1) (nI_add _ _) (by omega) dL_law_231 ?_
  refine jo_lcM F (np := 1) (fun l => mM_size l D b d' w (xs (i + 1))) (lw_V q256 q257 q258 q29 q259) (by decide +kernel) rfl rfl rfl (Nat.le_of_ble_eq_true rfl) (Nat.le_of_ble_eq_true rfl) rfl (Nat.le_of_ble_eq_true rfl) rfl dL_law_232 (fun r2 u2 h2 => ?_)
  have hc : jo_badS (xs (i + 1)) = true ∨ ∃ S, 0 < S ∧ S < 32 ∧ (xs (i + 1)) = nI S := by
    cases h : jo_badS (xs (i + 1)) with
    | true => exact Or.inl rfl
    | false => obtain ⟨S, h1, h2, h3⟩ := jo_okS h; exact Or.inr ⟨S, h1, h2, h3⟩
  obtain ⟨e1, e2⟩ := h1
  obtain ⟨e3, e4⟩ := h2
  subst e2
  subst e4
  have er : r1 = r2 := by
    rw [e1, e3]
    rcases hc with hc | ⟨S, h0, h3, hs⟩
    · rw [if_pos hc, if_pos hc]
    · rw [hs, nI_clamp (by omega), (oQ S h0 h3).1]
  have hR3 := hR
  refine jo_icmp_eq_y F 513 dL_law_235 (by decide) er ?_
  exact k u1 u2 hR3
set_option maxHeartbeats 4000000 in
set_option maxRecDepth 100000 in
/-- the law's case 4: connected -/
theorem lB_connected {K : jo_C} {D : va_G} {a b : Nat → Nat} {d d' : Nat → ClassId} {v w : jo_V} {b0 Ln i : Nat} {xs : Nat → Int32} {Rl : jo_V → jo_V → Prop} (F : jo_F K cL_law 4 "JoinOrdererLaw" 7 258) (hX : jo_X K b0 Ln xs) (hOk : jo_Ok Rl) (hR : Rl v w) (hi : i + 4 ≤ Ln) (k : ∀ v' w', Rl v' w' → lG K D a b d d' v' w' 513 [some (.ref b0), some (.ref (a 3)), some (.ref (b 4)), some (.int (nI i))] []) : lG K D a b d d' v w 240 [some (.ref b0), some (.ref (a 3)), some (.ref (b 4)), some (.int (nI i))] [] := by
  obtain ⟨hS9, oQ, oL, oG⟩ := hOk
  have oS := hS9 v w hR
  have oQ := oQ v w hR
  have oL := oL v w hR
  have oG := oG v w hR
  have hLn : Ln ≤ 256 := by obtain ⟨p, l, e, R, s, m, args, below, meth, c, A, kc, n, Q⟩ := K; exact hX.2.2.2
  refine jo_aload_n F 1 dL_law_240 rfl rfl ?_
  refine jo_aload_n F 0 dL_law_241 rfl rfl ?_
  refine jo_iload_n F 3 dL_law_242 rfl rfl ?_
  refine jo_iconst (x := (nI 1)) F dL_law_243 (by decide) ?_
  refine jo_iadd F dL_law_244 ?_
  refine jo_sld F hX (i + 1) (nI_add _ _) (by omega) dL_law_245 ?_
  refine jo_lcX F (np := 1) (fun l => xM_connected l D a d v (xs (i + 1))) (lw_V q119 q120 q121 q28 q122) (by decide +kernel) rfl rfl rfl (Nat.le_of_ble_eq_true rfl) (Nat.le_of_ble_eq_true rfl) rfl (Nat.le_of_ble_eq_true rfl) rfl dL_law_246 (fun r1 u1 h1 => ?_)
  refine jo_aload_n F 2 dL_law_249 rfl rfl ?_
  refine jo_aload_n F 0 dL_law_250 rfl rfl ?_
  refine jo_iload_n F 3 dL_law_251 rfl rfl ?_
  refine jo_iconst (x := (nI 1)) F dL_law_252 (by decide) ?_
  refine jo_iadd F dL_law_253 ?_
  refine jo_sld F hX (i + 1) (nI_add _ _) (by omega) dL_law_254 ?_
  refine jo_lcM F (np := 1) (fun l => mM_connected l D b d' w (xs (i + 1))) (lw_V q272 q273 q274 q29 q275) (by decide +kernel) rfl rfl rfl (Nat.le_of_ble_eq_true rfl) (Nat.le_of_ble_eq_true rfl) rfl (Nat.le_of_ble_eq_true rfl) rfl dL_law_255 (fun r2 u2 h2 => ?_)
  have hc : jo_badS (xs (i + 1)) = true ∨ ∃ S, 0 < S ∧ S < 32 ∧ (xs (i + 1)) = nI S := by
    cases h : jo_badS (xs (i + 1)) with
    | true => exact Or.inl rfl
    | false => obtain ⟨S, h1, h2, h3⟩ := jo_okS h; exact Or.inr ⟨S, h1, h2, h3⟩
  obtain ⟨e1, e2⟩ := h1
  obtain ⟨e3, e4⟩ := h2
  subst e2
  subst e4
  have er : r1 = r2 := by
    rw [e1, e3]
    rcases hc with hc | ⟨S, h0, h3, hs⟩
    · unfold jo_con jo_mcon; rw [hc]; rfl
    · rw [hs, (oQ S h0 h3).2.1]
  have hR3 := hR
  refine jo_icmp_eq_y F 513 dL_law_258 (by decide) er ?_
  exact k u1 u2 hR3
set_option maxHeartbeats 4000000 in
set_option maxRecDepth 100000 in
/-- the law's case 5: cost -/
theorem lB_cost {K : jo_C} {D : va_G} {a b : Nat → Nat} {d d' : Nat → ClassId} {v w : jo_V} {b0 Ln i : Nat} {xs : Nat → Int32} {Rl : jo_V → jo_V → Prop} (F : jo_F K cL_law 4 "JoinOrdererLaw" 7 258) (hX : jo_X K b0 Ln xs) (hOk : jo_Ok Rl) (hR : Rl v w) (hi : i + 4 ≤ Ln) (k : ∀ v' w', Rl v' w' → lG K D a b d d' v' w' 513 [some (.ref b0), some (.ref (a 3)), some (.ref (b 4)), some (.int (nI i))] []) : lG K D a b d d' v w 263 [some (.ref b0), some (.ref (a 3)), some (.ref (b 4)), some (.int (nI i))] [] := by
  obtain ⟨hS9, oQ, oL, oG⟩ := hOk
  have oS := hS9 v w hR
  have oQ := oQ v w hR
  have oL := oL v w hR
  have oG := oG v w hR
  have hLn : Ln ≤ 256 := by obtain ⟨p, l, e, R, s, m, args, below, meth, c, A, kc, n, Q⟩ := K; exact hX.2.2.2
  refine jo_aload_n F 1 dL_law_263 rfl rfl ?_
  refine jo_aload_n F 0 dL_law_264 rfl rfl ?_
  refine jo_iload_n F 3 dL_law_265 rfl rfl ?_
  refine jo_iconst (x := (nI 1)) F dL_law_266 (by decide) ?_
  refine jo_iadd F dL_law_267 ?_
  refine jo_sld F hX (i + 1) (nI_add _ _) (by omega) dL_law_268 ?_
  refine jo_lcX F (np := 1) (fun l => xM_cost l D a d v (xs (i + 1))) (lw_V q127 q128 q129 q28 q130) (by decide +kernel) rfl rfl rfl (Nat.le_of_ble_eq_true rfl) (Nat.le_of_ble_eq_true rfl) rfl (Nat.le_of_ble_eq_true rfl) rfl dL_law_269 (fun r1 u1 h1 => ?_)
  refine jo_aload_n F 2 dL_law_272 rfl rfl ?_
  refine jo_aload_n F 0 dL_law_273 rfl rfl ?_
  refine jo_iload_n F 3 dL_law_274 rfl rfl ?_
  refine jo_iconst (x := (nI 1)) F dL_law_275 (by decide) ?_
  refine jo_iadd F dL_law_276 ?_
  refine jo_sld F hX (i + 1) (nI_add _ _) (by omega) dL_law_277 ?_
  refine jo_lcM F (np := 1) (fun l => mM_cost l D b d' w (xs (i + 1))) (lw_V q280 q281 q282 q29 q283) (by decide +kernel) rfl rfl rfl (Nat.le_of_ble_eq_true rfl) (Nat.le_of_ble_eq_true rfl) rfl (Nat.le_of_ble_eq_true rfl) rfl dL_law_278 (fun r2 u2 h2 => ?_)
  have hc : jo_badS (xs (i + 1)) = true ∨ ∃ S, 0 < S ∧ S < 32 ∧ (xs (i + 1)) = nI S := by
    cases h : jo_badS (xs (i + 1)) with
    | true => exact Or.inl rfl
    | false => obtain ⟨S, h1, h2, h3⟩ := jo_okS h; exact Or.inr ⟨S, h1, h2, h3⟩
  obtain ⟨e1, hu1⟩ := h1
  obtain ⟨e3, e4, e5⟩ := h2
  have hR2 : Rl u1 w := by
    rw [hu1]
    split
    · exact hR
    · exact oS.2.1
  have er : r1 = r2 := by
    rw [e1, e3]
    rcases hc with hc | ⟨S, h0, h3, hs⟩
    · rw [if_pos hc, if_pos hc]
    · rw [hs, nI_clamp (by omega), (oQ S h0 h3).2.2.1]
  have hR3 : Rl u1 u2 := (hS9 u1 w hR2).1 u2 e4 e5
  refine jo_icmp_eq_y F 513 dL_law_281 (by decide) er ?_
  exact k u1 u2 hR3
set_option maxHeartbeats 4000000 in
set_option maxRecDepth 100000 in
/-- the law's case 6: linearCost -/
theorem lB_linearCost {K : jo_C} {D : va_G} {a b : Nat → Nat} {d d' : Nat → ClassId} {v w : jo_V} {b0 Ln i : Nat} {xs : Nat → Int32} {Rl : jo_V → jo_V → Prop} (F : jo_F K cL_law 4 "JoinOrdererLaw" 7 258) (hX : jo_X K b0 Ln xs) (hOk : jo_Ok Rl) (hR : Rl v w) (hi : i + 4 ≤ Ln) (k : ∀ v' w', Rl v' w' → lG K D a b d d' v' w' 513 [some (.ref b0), some (.ref (a 3)), some (.ref (b 4)), some (.int (nI i))] []) : lG K D a b d d' v w 286 [some (.ref b0), some (.ref (a 3)), some (.ref (b 4)), some (.int (nI i))] [] := by
  obtain ⟨hS9, oQ, oL, oG⟩ := hOk
  have oS := hS9 v w hR
  have oQ := oQ v w hR
  have oL := oL v w hR
  have oG := oG v w hR
  have hLn : Ln ≤ 256 := by obtain ⟨p, l, e, R, s, m, args, below, meth, c, A, kc, n, Q⟩ := K; exact hX.2.2.2
  refine jo_aload_n F 1 dL_law_286 rfl rfl ?_
  refine jo_aload_n F 0 dL_law_287 rfl rfl ?_
  refine jo_iload_n F 3 dL_law_288 rfl rfl ?_
  refine jo_iconst (x := (nI 1)) F dL_law_289 (by decide) ?_
  refine jo_iadd F dL_law_290 ?_
  refine jo_sld F hX (i + 1) (nI_add _ _) (by omega) dL_law_291 ?_
  refine jo_lcX F (np := 1) (fun l => xM_linearCost l D a d v (xs (i + 1))) (lw_V q152 q153 q154 q28 q155) (by decide +kernel) rfl rfl rfl (Nat.le_of_ble_eq_true rfl) (Nat.le_of_ble_eq_true rfl) rfl (Nat.le_of_ble_eq_true rfl) rfl dL_law_292 (fun r1 u1 h1 => ?_)
  refine jo_aload_n F 2 dL_law_295 rfl rfl ?_
  refine jo_aload_n F 0 dL_law_296 rfl rfl ?_
  refine jo_iload_n F 3 dL_law_297 rfl rfl ?_
  refine jo_iconst (x := (nI 1)) F dL_law_298 (by decide) ?_
  refine jo_iadd F dL_law_299 ?_
  refine jo_sld F hX (i + 1) (nI_add _ _) (by omega) dL_law_300 ?_
  refine jo_lcM F (np := 1) (fun l => mM_linearCost l D b d' w (xs (i + 1))) (lw_V q312 q313 q314 q29 q315) (by decide +kernel) rfl rfl rfl (Nat.le_of_ble_eq_true rfl) (Nat.le_of_ble_eq_true rfl) rfl (Nat.le_of_ble_eq_true rfl) rfl dL_law_301 (fun r2 u2 h2 => ?_)
  have hc : jo_badS (xs (i + 1)) = true ∨ ∃ S, 0 < S ∧ S < 32 ∧ (xs (i + 1)) = nI S := by
    cases h : jo_badS (xs (i + 1)) with
    | true => exact Or.inl rfl
    | false => obtain ⟨S, h1, h2, h3⟩ := jo_okS h; exact Or.inr ⟨S, h1, h2, h3⟩
  obtain ⟨e1, hu1⟩ := h1
  obtain ⟨e3, e4, e5⟩ := h2
  have hR2 : Rl u1 w := by
    rw [hu1]
    split
    · exact hR
    · exact oS.2.1
  have er : r1 = r2 := by
    rw [e1, e3]
    rcases hc with hc | ⟨S, h0, h3, hs⟩
    · rw [if_pos hc, if_pos hc]
    · rw [hs, nI_clamp (by omega), (oQ S h0 h3).2.2.2.1]
  have hR3 : Rl u1 u2 := (hS9 u1 w hR2).1 u2 e4 e5
  refine jo_icmp_eq_y F 513 dL_law_304 (by decide) er ?_
  exact k u1 u2 hR3
set_option maxHeartbeats 4000000 in
set_option maxRecDepth 100000 in
/-- the law's case 7: linkedCost -/
theorem lB_linkedCost {K : jo_C} {D : va_G} {a b : Nat → Nat} {d d' : Nat → ClassId} {v w : jo_V} {b0 Ln i : Nat} {xs : Nat → Int32} {Rl : jo_V → jo_V → Prop} (F : jo_F K cL_law 4 "JoinOrdererLaw" 7 258) (hX : jo_X K b0 Ln xs) (hOk : jo_Ok Rl) (hR : Rl v w) (hi : i + 4 ≤ Ln) (k : ∀ v' w', Rl v' w' → lG K D a b d d' v' w' 513 [some (.ref b0), some (.ref (a 3)), some (.ref (b 4)), some (.int (nI i))] []) : lG K D a b d d' v w 309 [some (.ref b0), some (.ref (a 3)), some (.ref (b 4)), some (.int (nI i))] [] := by
  obtain ⟨hS9, oQ, oL, oG⟩ := hOk
  have oS := hS9 v w hR
  have oQ := oQ v w hR
  have oL := oL v w hR
  have oG := oG v w hR
  have hLn : Ln ≤ 256 := by obtain ⟨p, l, e, R, s, m, args, below, meth, c, A, kc, n, Q⟩ := K; exact hX.2.2.2
  refine jo_aload_n F 1 dL_law_309 rfl rfl ?_
  refine jo_aload_n F 0 dL_law_310 rfl rfl ?_
  refine jo_iload_n F 3 dL_law_311 rfl rfl ?_
  refine jo_iconst (x := (nI 1)) F dL_law_312 (by decide) ?_
  refine jo_iadd F dL_law_313 ?_
  refine jo_sld F hX (i + 1) (nI_add _ _) (by omega) dL_law_314 ?_
  refine jo_lcX F (np := 1) (fun l => xM_linkedCost l D a d v (xs (i + 1))) (lw_V q156 q157 q158 q28 q159) (by decide +kernel) rfl rfl rfl (Nat.le_of_ble_eq_true rfl) (Nat.le_of_ble_eq_true rfl) rfl (Nat.le_of_ble_eq_true rfl) rfl dL_law_315 (fun r1 u1 h1 => ?_)
  refine jo_aload_n F 2 dL_law_318 rfl rfl ?_
  refine jo_aload_n F 0 dL_law_319 rfl rfl ?_
  refine jo_iload_n F 3 dL_law_320 rfl rfl ?_
  refine jo_iconst (x := (nI 1)) F dL_law_321 (by decide) ?_
  refine jo_iadd F dL_law_322 ?_
  refine jo_sld F hX (i + 1) (nI_add _ _) (by omega) dL_law_323 ?_
  refine jo_lcM F (np := 1) (fun l => mM_linkedCost l D b d' w (xs (i + 1))) (lw_V q316 q317 q318 q29 q319) (by decide +kernel) rfl rfl rfl (Nat.le_of_ble_eq_true rfl) (Nat.le_of_ble_eq_true rfl) rfl (Nat.le_of_ble_eq_true rfl) rfl dL_law_324 (fun r2 u2 h2 => ?_)
  have hc : jo_badS (xs (i + 1)) = true ∨ ∃ S, 0 < S ∧ S < 32 ∧ (xs (i + 1)) = nI S := by
    cases h : jo_badS (xs (i + 1)) with
    | true => exact Or.inl rfl
    | false => obtain ⟨S, h1, h2, h3⟩ := jo_okS h; exact Or.inr ⟨S, h1, h2, h3⟩
  obtain ⟨e1, hu1⟩ := h1
  obtain ⟨e3, e4, e5⟩ := h2
  have hR2 : Rl u1 w := by
    rw [hu1]
    split
    · exact hR
    · exact oS.2.1
  have er : r1 = r2 := by
    rw [e1, e3]
    rcases hc with hc | ⟨S, h0, h3, hs⟩
    · rw [if_pos hc, if_pos hc]
    · rw [hs, nI_clamp (by omega), (oQ S h0 h3).2.2.2.2.1]
  have hR3 : Rl u1 u2 := (hS9 u1 w hR2).1 u2 e4 e5
  refine jo_icmp_eq_y F 513 dL_law_327 (by decide) er ?_
  exact k u1 u2 hR3
set_option maxHeartbeats 4000000 in
set_option maxRecDepth 100000 in
/-- the law's case 8: worst -/
theorem lB_worst {K : jo_C} {D : va_G} {a b : Nat → Nat} {d d' : Nat → ClassId} {v w : jo_V} {b0 Ln i : Nat} {xs : Nat → Int32} {Rl : jo_V → jo_V → Prop} (F : jo_F K cL_law 4 "JoinOrdererLaw" 7 258) (hX : jo_X K b0 Ln xs) (hOk : jo_Ok Rl) (hR : Rl v w) (hi : i + 4 ≤ Ln) (k : ∀ v' w', Rl v' w' → lG K D a b d d' v' w' 513 [some (.ref b0), some (.ref (a 3)), some (.ref (b 4)), some (.int (nI i))] []) : lG K D a b d d' v w 332 [some (.ref b0), some (.ref (a 3)), some (.ref (b 4)), some (.int (nI i))] [] := by
  obtain ⟨hS9, oQ, oL, oG⟩ := hOk
  have oS := hS9 v w hR
  have oQ := oQ v w hR
  have oL := oL v w hR
  have oG := oG v w hR
  have hLn : Ln ≤ 256 := by obtain ⟨p, l, e, R, s, m, args, below, meth, c, A, kc, n, Q⟩ := K; exact hX.2.2.2
  refine jo_aload_n F 1 dL_law_332 rfl rfl ?_
  refine jo_aload_n F 0 dL_law_333 rfl rfl ?_
  refine jo_iload_n F 3 dL_law_334 rfl rfl ?_
  refine jo_iconst (x := (nI 1)) F dL_law_335 (by decide) ?_
  refine jo_iadd F dL_law_336 ?_
  refine jo_sld F hX (i + 1) (nI_add _ _) (by omega) dL_law_337 ?_
  refine jo_lcX F (np := 1) (fun l => xM_worst l D a d v (xs (i + 1))) (lw_V q160 q161 q162 q28 q163) (by decide +kernel) rfl rfl rfl (Nat.le_of_ble_eq_true rfl) (Nat.le_of_ble_eq_true rfl) rfl (Nat.le_of_ble_eq_true rfl) rfl dL_law_338 (fun r1 u1 h1 => ?_)
  refine jo_aload_n F 2 dL_law_341 rfl rfl ?_
  refine jo_aload_n F 0 dL_law_342 rfl rfl ?_
  refine jo_iload_n F 3 dL_law_343 rfl rfl ?_
  refine jo_iconst (x := (nI 1)) F dL_law_344 (by decide) ?_
  refine jo_iadd F dL_law_345 ?_
  refine jo_sld F hX (i + 1) (nI_add _ _) (by omega) dL_law_346 ?_
  refine jo_lcM F (np := 1) (fun l => mM_worst l D b d' w (xs (i + 1))) (lw_V q320 q321 q322 q29 q323) (by decide +kernel) rfl rfl rfl (Nat.le_of_ble_eq_true rfl) (Nat.le_of_ble_eq_true rfl) rfl (Nat.le_of_ble_eq_true rfl) rfl dL_law_347 (fun r2 u2 h2 => ?_)
  have hc : jo_badS (xs (i + 1)) = true ∨ ∃ S, 0 < S ∧ S < 32 ∧ (xs (i + 1)) = nI S := by
    cases h : jo_badS (xs (i + 1)) with
    | true => exact Or.inl rfl
    | false => obtain ⟨S, h1, h2, h3⟩ := jo_okS h; exact Or.inr ⟨S, h1, h2, h3⟩
  obtain ⟨e1, hu1⟩ := h1
  obtain ⟨e3, e4, e5⟩ := h2
  have hR2 : Rl u1 w := by
    rw [hu1]
    split
    · exact hR
    · exact oS.2.1
  have er : r1 = r2 := by
    rw [e1, e3]
    rcases hc with hc | ⟨S, h0, h3, hs⟩
    · rw [if_pos hc, if_pos hc]
    · rw [hs, nI_clamp (by omega), (oQ S h0 h3).2.2.2.2.2.1]
  have hR3 : Rl u1 u2 := (hS9 u1 w hR2).1 u2 e4 e5
  refine jo_icmp_eq_y F 513 dL_law_350 (by decide) er ?_
  exact k u1 u2 hR3
set_option maxHeartbeats 4000000 in
set_option maxRecDepth 100000 in
/-- the law's case 9: left -/
theorem lB_left {K : jo_C} {D : va_G} {a b : Nat → Nat} {d d' : Nat → ClassId} {v w : jo_V} {b0 Ln i : Nat} {xs : Nat → Int32} {Rl : jo_V → jo_V → Prop} (F : jo_F K cL_law 4 "JoinOrdererLaw" 7 258) (hX : jo_X K b0 Ln xs) (hOk : jo_Ok Rl) (hR : Rl v w) (hi : i + 4 ≤ Ln) (k : ∀ v' w', Rl v' w' → lG K D a b d d' v' w' 513 [some (.ref b0), some (.ref (a 3)), some (.ref (b 4)), some (.int (nI i))] []) : lG K D a b d d' v w 355 [some (.ref b0), some (.ref (a 3)), some (.ref (b 4)), some (.int (nI i))] [] := by
  obtain ⟨hS9, oQ, oL, oG⟩ := hOk
  have oS := hS9 v w hR
  have oQ := oQ v w hR
  have oL := oL v w hR
  have oG := oG v w hR
  have hLn : Ln ≤ 256 := by obtain ⟨p, l, e, R, s, m, args, below, meth, c, A, kc, n, Q⟩ := K; exact hX.2.2.2
  refine jo_aload_n F 1 dL_law_355 rfl rfl ?_
  refine jo_aload_n F 0 dL_law_356 rfl rfl ?_
  refine jo_iload_n F 3 dL_law_357 rfl rfl ?_
  refine jo_iconst (x := (nI 1)) F dL_law_358 (by decide) ?_
  refine jo_iadd F dL_law_359 ?_
  refine jo_sld F hX (i + 1) (nI_add _ _) (by omega) dL_law_360 ?_
  refine jo_lcX F (np := 1) (fun l => xM_left l D a d v (xs (i + 1))) (lw_V q164 q165 q166 q28 q167) (by decide +kernel) rfl rfl rfl (Nat.le_of_ble_eq_true rfl) (Nat.le_of_ble_eq_true rfl) rfl (Nat.le_of_ble_eq_true rfl) rfl dL_law_361 (fun r1 u1 h1 => ?_)
  refine jo_aload_n F 2 dL_law_364 rfl rfl ?_
  refine jo_aload_n F 0 dL_law_365 rfl rfl ?_
  refine jo_iload_n F 3 dL_law_366 rfl rfl ?_
  refine jo_iconst (x := (nI 1)) F dL_law_367 (by decide) ?_
  refine jo_iadd F dL_law_368 ?_
  refine jo_sld F hX (i + 1) (nI_add _ _) (by omega) dL_law_369 ?_
  refine jo_lcM F (np := 1) (fun l => mM_left l D b d' w (xs (i + 1))) (lw_V q324 q325 q326 q29 q327) (by decide +kernel) rfl rfl rfl (Nat.le_of_ble_eq_true rfl) (Nat.le_of_ble_eq_true rfl) rfl (Nat.le_of_ble_eq_true rfl) rfl dL_law_370 (fun r2 u2 h2 => ?_)
  have hc : jo_badS (xs (i + 1)) = true ∨ ∃ S, 0 < S ∧ S < 32 ∧ (xs (i + 1)) = nI S := by
    cases h : jo_badS (xs (i + 1)) with
    | true => exact Or.inl rfl
    | false => obtain ⟨S, h1, h2, h3⟩ := jo_okS h; exact Or.inr ⟨S, h1, h2, h3⟩
  obtain ⟨e1, hu1⟩ := h1
  obtain ⟨e3, e4, e5⟩ := h2
  have hR2 : Rl u1 w := by
    rw [hu1]
    split
    · exact hR
    · exact oS.2.1
  have er : r1 = r2 := by
    rw [e1, e3]
    rcases hc with hc | ⟨S, h0, h3, hs⟩
    · rw [if_pos hc, if_pos hc]
    · rw [hs, nI_clamp (by omega), (oQ S h0 h3).2.2.2.2.2.2.1]
  have hR3 : Rl u1 u2 := (hS9 u1 w hR2).1 u2 e4 e5
  refine jo_icmp_eq_y F 513 dL_law_373 (by decide) er ?_
  exact k u1 u2 hR3
set_option maxHeartbeats 4000000 in
set_option maxRecDepth 100000 in
/-- the law's case 10: linearTable -/
theorem lB_linearTable {K : jo_C} {D : va_G} {a b : Nat → Nat} {d d' : Nat → ClassId} {v w : jo_V} {b0 Ln i : Nat} {xs : Nat → Int32} {Rl : jo_V → jo_V → Prop} (F : jo_F K cL_law 4 "JoinOrdererLaw" 7 258) (hX : jo_X K b0 Ln xs) (hOk : jo_Ok Rl) (hR : Rl v w) (hi : i + 4 ≤ Ln) (k : ∀ v' w', Rl v' w' → lG K D a b d d' v' w' 513 [some (.ref b0), some (.ref (a 3)), some (.ref (b 4)), some (.int (nI i))] []) : lG K D a b d d' v w 378 [some (.ref b0), some (.ref (a 3)), some (.ref (b 4)), some (.int (nI i))] [] := by
  obtain ⟨hS9, oQ, oL, oG⟩ := hOk
  have oS := hS9 v w hR
  have oQ := oQ v w hR
  have oL := oL v w hR
  have oG := oG v w hR
  have hLn : Ln ≤ 256 := by obtain ⟨p, l, e, R, s, m, args, below, meth, c, A, kc, n, Q⟩ := K; exact hX.2.2.2
  have hc : jo_badS (xs (i + 1)) = true ∨ ∃ S, 0 < S ∧ S < 32 ∧ (xs (i + 1)) = nI S := by
    cases h : jo_badS (xs (i + 1)) with
    | true => exact Or.inl rfl
    | false => obtain ⟨S, h1, h2, h3⟩ := jo_okS h; exact Or.inr ⟨S, h1, h2, h3⟩
  have hw : ∃ (n : Nat) (r hs : Nat → Nat) (cs : Nat → Int32), (jo_badS (xs (i + 1)) = false → jo_way (jo_ah (jo_fill v) (xs (i + 1)).toNatClampNeg) (xs (i + 1)).toNatClampNeg n r hs cs) ∧ (jo_badS (xs (i + 1)) = false → Rl (jo_ah (jo_fill v) (xs (i + 1)).toNatClampNeg) w ∧ ∀ kk : Int32, (if 0 ≤ kk ∧ kk < nI n then nI (r kk.toNatClampNeg) else -4) = jo_lt w (xs (i + 1)).toNatClampNeg kk (jo_ex w (xs (i + 1)).toNatClampNeg 1 false (jo_NP (xs (i + 1)).toNatClampNeg))) := by
    rcases hc with hc | ⟨S, h0, h3, hs⟩
    · exact ⟨0, fun _ => 0, fun _ => 0, fun _ => 0, fun q => absurd (hc.symm.trans q) (by decide), fun q => absurd (hc.symm.trans q) (by decide)⟩
    · obtain ⟨g1, n, r, hs', cs, g2, g3⟩ := oL S h0 h3
      rw [hs, nI_clamp (by omega)]
      exact ⟨n, r, hs', cs, fun _ => g2, fun _ => ⟨g1, g3⟩⟩
  obtain ⟨n, r, hs, cs, hw1, hw2⟩ := hw
  refine jo_aload_n F 1 dL_law_378 rfl rfl ?_
  refine jo_aload_n F 0 dL_law_379 rfl rfl ?_
  refine jo_iload_n F 3 dL_law_380 rfl rfl ?_
  refine jo_iconst (x := (nI 1)) F dL_law_381 (by decide) ?_
  refine jo_iadd F dL_law_382 ?_
  refine jo_sld F hX (i + 1) (nI_add _ _) (by omega) dL_law_383 ?_
  refine jo_aload_n F 0 dL_law_384 rfl rfl ?_
  refine jo_iload_n F 3 dL_law_385 rfl rfl ?_
  refine jo_iconst (x := (nI 2)) F dL_law_386 (by decide) ?_
  refine jo_iadd F dL_law_387 ?_
  refine jo_sld F hX (i + 2) (nI_add _ _) (by omega) dL_law_388 ?_
  refine jo_lcX F (np := 2) (fun l => xM_linearTable l D a d v (xs (i + 1)) (xs (i + 2)) n r hs cs hw1) (lw_V q168 q169 q170 q28 q171) (by decide +kernel) rfl rfl rfl (Nat.le_of_ble_eq_true rfl) (Nat.le_of_ble_eq_true rfl) rfl (Nat.le_of_ble_eq_true rfl) rfl dL_law_389 (fun r1 u1 h1 => ?_)
  refine jo_aload_n F 2 dL_law_392 rfl rfl ?_
  refine jo_aload_n F 0 dL_law_393 rfl rfl ?_
  refine jo_iload_n F 3 dL_law_394 rfl rfl ?_
  refine jo_iconst (x := (nI 1)) F dL_law_395 (by decide) ?_
  refine jo_iadd F dL_law_396 ?_
  refine jo_sld F hX (i + 1) (nI_add _ _) (by omega) dL_law_397 ?_
  refine jo_aload_n F 0 dL_law_398 rfl rfl ?_
  refine jo_iload_n F 3 dL_law_399 rfl rfl ?_
  refine jo_iconst (x := (nI 2)) F dL_law_400 (by decide) ?_
  refine jo_iadd F dL_law_401 ?_
  refine jo_sld F hX (i + 2) (nI_add _ _) (by omega) dL_law_402 ?_
  refine jo_lcM F (np := 2) (fun l => mM_linearTable l D b d' w (xs (i + 1)) (xs (i + 2))) (lw_V q328 q329 q330 q29 q331) (by decide +kernel) rfl rfl rfl (Nat.le_of_ble_eq_true rfl) (Nat.le_of_ble_eq_true rfl) rfl (Nat.le_of_ble_eq_true rfl) rfl dL_law_403 (fun r2 u2 h2 => ?_)
  obtain ⟨e1, hu1⟩ := h1
  obtain ⟨e3, e4, e5⟩ := h2
  have hR2 : Rl u1 w := by
    rw [hu1]
    split
    · exact hR
    · next q => exact (hw2 (by simpa using q)).1
  have er : r1 = r2 := by
    rw [e1, e3]
    split
    · rfl
    · next q => exact (hw2 (by simpa using q)).2 _
  have hR3 : Rl u1 u2 := (hS9 u1 w hR2).1 u2 e4 e5
  refine jo_icmp_eq_y F 513 dL_law_406 (by decide) er ?_
  exact k u1 u2 hR3
set_option maxHeartbeats 4000000 in
set_option maxRecDepth 100000 in
/-- the law's case 11: plans -/
theorem lB_plans {K : jo_C} {D : va_G} {a b : Nat → Nat} {d d' : Nat → ClassId} {v w : jo_V} {b0 Ln i : Nat} {xs : Nat → Int32} {Rl : jo_V → jo_V → Prop} (F : jo_F K cL_law 4 "JoinOrdererLaw" 7 258) (hX : jo_X K b0 Ln xs) (hOk : jo_Ok Rl) (hR : Rl v w) (hi : i + 4 ≤ Ln) (k : ∀ v' w', Rl v' w' → lG K D a b d d' v' w' 513 [some (.ref b0), some (.ref (a 3)), some (.ref (b 4)), some (.int (nI i))] []) : lG K D a b d d' v w 411 [some (.ref b0), some (.ref (a 3)), some (.ref (b 4)), some (.int (nI i))] [] := by
  obtain ⟨hS9, oQ, oL, oG⟩ := hOk
  have oS := hS9 v w hR
  have oQ := oQ v w hR
  have oL := oL v w hR
  have oG := oG v w hR
  have hLn : Ln ≤ 256 := by obtain ⟨p, l, e, R, s, m, args, below, meth, c, A, kc, n, Q⟩ := K; exact hX.2.2.2
  refine jo_aload_n F 1 dL_law_411 rfl rfl ?_
  refine jo_aload_n F 0 dL_law_412 rfl rfl ?_
  refine jo_iload_n F 3 dL_law_413 rfl rfl ?_
  refine jo_iconst (x := (nI 1)) F dL_law_414 (by decide) ?_
  refine jo_iadd F dL_law_415 ?_
  refine jo_sld F hX (i + 1) (nI_add _ _) (by omega) dL_law_416 ?_
  refine jo_lcX F (np := 1) (fun l => xM_plans l D a d v (xs (i + 1))) (lw_V q176 q177 q178 q28 q179) (by decide +kernel) rfl rfl rfl (Nat.le_of_ble_eq_true rfl) (Nat.le_of_ble_eq_true rfl) rfl (Nat.le_of_ble_eq_true rfl) rfl dL_law_417 (fun r1 u1 h1 => ?_)
  refine jo_aload_n F 2 dL_law_420 rfl rfl ?_
  refine jo_aload_n F 0 dL_law_421 rfl rfl ?_
  refine jo_iload_n F 3 dL_law_422 rfl rfl ?_
  refine jo_iconst (x := (nI 1)) F dL_law_423 (by decide) ?_
  refine jo_iadd F dL_law_424 ?_
  refine jo_sld F hX (i + 1) (nI_add _ _) (by omega) dL_law_425 ?_
  refine jo_lcM F (np := 1) (fun l => mM_plans l D b d' w (xs (i + 1))) (lw_V q332 q333 q334 q29 q335) (by decide +kernel) rfl rfl rfl (Nat.le_of_ble_eq_true rfl) (Nat.le_of_ble_eq_true rfl) rfl (Nat.le_of_ble_eq_true rfl) rfl dL_law_426 (fun r2 u2 h2 => ?_)
  have hc : jo_badS (xs (i + 1)) = true ∨ ∃ S, 0 < S ∧ S < 32 ∧ (xs (i + 1)) = nI S := by
    cases h : jo_badS (xs (i + 1)) with
    | true => exact Or.inl rfl
    | false => obtain ⟨S, h1, h2, h3⟩ := jo_okS h; exact Or.inr ⟨S, h1, h2, h3⟩
  obtain ⟨e1, hu1⟩ := h1
  obtain ⟨e3, e4, e5⟩ := h2
  have hR2 : Rl u1 w := by
    rw [hu1]
    split
    · exact hR
    · exact oS.2.1
  have er : r1 = r2 := by
    rw [e1, e3]
    rcases hc with hc | ⟨S, h0, h3, hs⟩
    · rw [if_pos hc, if_pos hc]
    · rw [hs, nI_clamp (by omega), (oQ S h0 h3).2.2.2.2.2.2.2.1]
  have hR3 : Rl u1 u2 := (hS9 u1 w hR2).1 u2 e4 e5
  refine jo_icmp_eq_y F 513 dL_law_429 (by decide) er ?_
  exact k u1 u2 hR3
set_option maxHeartbeats 4000000 in
set_option maxRecDepth 100000 in
/-- the law's case 12: linkedPlans -/
theorem lB_linkedPlans {K : jo_C} {D : va_G} {a b : Nat → Nat} {d d' : Nat → ClassId} {v w : jo_V} {b0 Ln i : Nat} {xs : Nat → Int32} {Rl : jo_V → jo_V → Prop} (F : jo_F K cL_law 4 "JoinOrdererLaw" 7 258) (hX : jo_X K b0 Ln xs) (hOk : jo_Ok Rl) (hR : Rl v w) (hi : i + 4 ≤ Ln) (k : ∀ v' w', Rl v' w' → lG K D a b d d' v' w' 513 [some (.ref b0), some (.ref (a 3)), some (.ref (b 4)), some (.int (nI i))] []) : lG K D a b d d' v w 434 [some (.ref b0), some (.ref (a 3)), some (.ref (b 4)), some (.int (nI i))] [] := by
  obtain ⟨hS9, oQ, oL, oG⟩ := hOk
  have oS := hS9 v w hR
  have oQ := oQ v w hR
  have oL := oL v w hR
  have oG := oG v w hR
  have hLn : Ln ≤ 256 := by obtain ⟨p, l, e, R, s, m, args, below, meth, c, A, kc, n, Q⟩ := K; exact hX.2.2.2
  refine jo_aload_n F 1 dL_law_434 rfl rfl ?_
  refine jo_aload_n F 0 dL_law_435 rfl rfl ?_
  refine jo_iload_n F 3 dL_law_436 rfl rfl ?_
  refine jo_iconst (x := (nI 1)) F dL_law_437 (by decide) ?_
  refine jo_iadd F dL_law_438 ?_
  refine jo_sld F hX (i + 1) (nI_add _ _) (by omega) dL_law_439 ?_
  refine jo_lcX F (np := 1) (fun l => xM_linkedPlans l D a d v (xs (i + 1))) (lw_V q180 q181 q182 q28 q183) (by decide +kernel) rfl rfl rfl (Nat.le_of_ble_eq_true rfl) (Nat.le_of_ble_eq_true rfl) rfl (Nat.le_of_ble_eq_true rfl) rfl dL_law_440 (fun r1 u1 h1 => ?_)
  refine jo_aload_n F 2 dL_law_443 rfl rfl ?_
  refine jo_aload_n F 0 dL_law_444 rfl rfl ?_
  refine jo_iload_n F 3 dL_law_445 rfl rfl ?_
  refine jo_iconst (x := (nI 1)) F dL_law_446 (by decide) ?_
  refine jo_iadd F dL_law_447 ?_
  refine jo_sld F hX (i + 1) (nI_add _ _) (by omega) dL_law_448 ?_
  refine jo_lcM F (np := 1) (fun l => mM_linkedPlans l D b d' w (xs (i + 1))) (lw_V q340 q341 q342 q29 q343) (by decide +kernel) rfl rfl rfl (Nat.le_of_ble_eq_true rfl) (Nat.le_of_ble_eq_true rfl) rfl (Nat.le_of_ble_eq_true rfl) rfl dL_law_449 (fun r2 u2 h2 => ?_)
  have hc : jo_badS (xs (i + 1)) = true ∨ ∃ S, 0 < S ∧ S < 32 ∧ (xs (i + 1)) = nI S := by
    cases h : jo_badS (xs (i + 1)) with
    | true => exact Or.inl rfl
    | false => obtain ⟨S, h1, h2, h3⟩ := jo_okS h; exact Or.inr ⟨S, h1, h2, h3⟩
  obtain ⟨e1, hu1⟩ := h1
  obtain ⟨e3, e4, e5⟩ := h2
  have hR2 : Rl u1 w := by
    rw [hu1]
    split
    · exact hR
    · exact oS.2.1
  have er : r1 = r2 := by
    rw [e1, e3]
    rcases hc with hc | ⟨S, h0, h3, hs⟩
    · rw [if_pos hc, if_pos hc]
    · rw [hs, nI_clamp (by omega), (oQ S h0 h3).2.2.2.2.2.2.2.2.1]
  have hR3 : Rl u1 u2 := (hS9 u1 w hR2).1 u2 e4 e5
  refine jo_icmp_eq_y F 513 dL_law_452 (by decide) er ?_
  exact k u1 u2 hR3
set_option maxHeartbeats 4000000 in
set_option maxRecDepth 100000 in
/-- the law's case 13: cheapest -/
theorem lB_cheapest {K : jo_C} {D : va_G} {a b : Nat → Nat} {d d' : Nat → ClassId} {v w : jo_V} {b0 Ln i : Nat} {xs : Nat → Int32} {Rl : jo_V → jo_V → Prop} (F : jo_F K cL_law 4 "JoinOrdererLaw" 7 258) (hX : jo_X K b0 Ln xs) (hOk : jo_Ok Rl) (hR : Rl v w) (hi : i + 4 ≤ Ln) (k : ∀ v' w', Rl v' w' → lG K D a b d d' v' w' 513 [some (.ref b0), some (.ref (a 3)), some (.ref (b 4)), some (.int (nI i))] []) : lG K D a b d d' v w 457 [some (.ref b0), some (.ref (a 3)), some (.ref (b 4)), some (.int (nI i))] [] := by
  obtain ⟨hS9, oQ, oL, oG⟩ := hOk
  have oS := hS9 v w hR
  have oQ := oQ v w hR
  have oL := oL v w hR
  have oG := oG v w hR
  have hLn : Ln ≤ 256 := by obtain ⟨p, l, e, R, s, m, args, below, meth, c, A, kc, n, Q⟩ := K; exact hX.2.2.2
  refine jo_aload_n F 1 dL_law_457 rfl rfl ?_
  refine jo_aload_n F 0 dL_law_458 rfl rfl ?_
  refine jo_iload_n F 3 dL_law_459 rfl rfl ?_
  refine jo_iconst (x := (nI 1)) F dL_law_460 (by decide) ?_
  refine jo_iadd F dL_law_461 ?_
  refine jo_sld F hX (i + 1) (nI_add _ _) (by omega) dL_law_462 ?_
  refine jo_lcX F (np := 1) (fun l => xM_cheapest l D a d v (xs (i + 1))) (lw_V q184 q185 q186 q28 q187) (by decide +kernel) rfl rfl rfl (Nat.le_of_ble_eq_true rfl) (Nat.le_of_ble_eq_true rfl) rfl (Nat.le_of_ble_eq_true rfl) rfl dL_law_463 (fun r1 u1 h1 => ?_)
  refine jo_aload_n F 2 dL_law_466 rfl rfl ?_
  refine jo_aload_n F 0 dL_law_467 rfl rfl ?_
  refine jo_iload_n F 3 dL_law_468 rfl rfl ?_
  refine jo_iconst (x := (nI 1)) F dL_law_469 (by decide) ?_
  refine jo_iadd F dL_law_470 ?_
  refine jo_sld F hX (i + 1) (nI_add _ _) (by omega) dL_law_471 ?_
  refine jo_lcM F (np := 1) (fun l => mM_cheapest l D b d' w (xs (i + 1))) (lw_V q344 q345 q346 q29 q347) (by decide +kernel) rfl rfl rfl (Nat.le_of_ble_eq_true rfl) (Nat.le_of_ble_eq_true rfl) rfl (Nat.le_of_ble_eq_true rfl) rfl dL_law_472 (fun r2 u2 h2 => ?_)
  have hc : jo_badS (xs (i + 1)) = true ∨ ∃ S, 0 < S ∧ S < 32 ∧ (xs (i + 1)) = nI S := by
    cases h : jo_badS (xs (i + 1)) with
    | true => exact Or.inl rfl
    | false => obtain ⟨S, h1, h2, h3⟩ := jo_okS h; exact Or.inr ⟨S, h1, h2, h3⟩
  obtain ⟨e1, hu1⟩ := h1
  obtain ⟨e3, e4, e5⟩ := h2
  have hR2 : Rl u1 w := by
    rw [hu1]
    split
    · exact hR
    · exact oS.2.1
  have er : r1 = r2 := by
    rw [e1, e3]
    rcases hc with hc | ⟨S, h0, h3, hs⟩
    · rw [if_pos hc, if_pos hc]
    · rw [hs, nI_clamp (by omega), (oQ S h0 h3).2.2.2.2.2.2.2.2.2]
  have hR3 : Rl u1 u2 := (hS9 u1 w hR2).1 u2 e4 e5
  refine jo_icmp_eq_y F 513 dL_law_475 (by decide) er ?_
  exact k u1 u2 hR3
set_option maxHeartbeats 4000000 in
set_option maxRecDepth 100000 in
/-- the law's case 14: gain -/
theorem lB_gain {K : jo_C} {D : va_G} {a b : Nat → Nat} {d d' : Nat → ClassId} {v w : jo_V} {b0 Ln i : Nat} {xs : Nat → Int32} {Rl : jo_V → jo_V → Prop} (F : jo_F K cL_law 4 "JoinOrdererLaw" 7 258) (hX : jo_X K b0 Ln xs) (hOk : jo_Ok Rl) (hR : Rl v w) (hi : i + 4 ≤ Ln) (k : ∀ v' w', Rl v' w' → lG K D a b d d' v' w' 513 [some (.ref b0), some (.ref (a 3)), some (.ref (b 4)), some (.int (nI i))] []) : lG K D a b d d' v w 480 [some (.ref b0), some (.ref (a 3)), some (.ref (b 4)), some (.int (nI i))] [] := by
  obtain ⟨hS9, oQ, oL, oG⟩ := hOk
  have oS := hS9 v w hR
  have oQ := oQ v w hR
  have oL := oL v w hR
  have oG := oG v w hR
  have hLn : Ln ≤ 256 := by obtain ⟨p, l, e, R, s, m, args, below, meth, c, A, kc, n, Q⟩ := K; exact hX.2.2.2
  have hg : ∃ bb : Bool, (jo_badP (xs (i + 1)) (xs (i + 2)) = false → jo_fill v 2 ((xs (i + 1)).toNatClampNeg * 5 + (xs (i + 2)).toNatClampNeg) = jo_b bb) ∧ (jo_badP (xs (i + 1)) (xs (i + 2)) = false → jo_gnR v (xs (i + 1)).toNatClampNeg (xs (i + 2)).toNatClampNeg = jo_mgR w (xs (i + 1)).toNatClampNeg (xs (i + 2)).toNatClampNeg ∧ ∀ w', w' 0 = w 0 → w' 1 = jo_mset (jo_mset w (xs (i + 1)).toNatClampNeg (xs (i + 2)).toNatClampNeg (nI 6)) (xs (i + 1)).toNatClampNeg (xs (i + 2)).toNatClampNeg (w 1 ((xs (i + 1)).toNatClampNeg * 5 + (xs (i + 2)).toNatClampNeg)) 1 → Rl (jo_gnV v (xs (i + 1)).toNatClampNeg (xs (i + 2)).toNatClampNeg bb) w') := by
    cases h : jo_badP (xs (i + 1)) (xs (i + 2)) with
    | true => exact ⟨true, fun q => absurd q (by decide), fun q => absurd q (by decide)⟩
    | false =>
      obtain ⟨g1, g2, g3, g4, g5, g6, g7⟩ := jo_okP h
      obtain ⟨bb, q1, q2, q3⟩ := oG g1 g2 g3 g4 g5
      rw [g6, g7, nI_clamp (by omega), nI_clamp (by omega)]
      exact ⟨bb, fun _ => q1, fun _ => ⟨q2, q3⟩⟩
  obtain ⟨bb, hw1, hw2⟩ := hg
  refine jo_aload_n F 1 dL_law_480 rfl rfl ?_
  refine jo_aload_n F 0 dL_law_481 rfl rfl ?_
  refine jo_iload_n F 3 dL_law_482 rfl rfl ?_
  refine jo_iconst (x := (nI 1)) F dL_law_483 (by decide) ?_
  refine jo_iadd F dL_law_484 ?_
  refine jo_sld F hX (i + 1) (nI_add _ _) (by omega) dL_law_485 ?_
  refine jo_aload_n F 0 dL_law_486 rfl rfl ?_
  refine jo_iload_n F 3 dL_law_487 rfl rfl ?_
  refine jo_iconst (x := (nI 2)) F dL_law_488 (by decide) ?_
  refine jo_iadd F dL_law_489 ?_
  refine jo_sld F hX (i + 2) (nI_add _ _) (by omega) dL_law_490 ?_
  refine jo_lcX F (np := 2) (fun l => xM_gain l D a d v (xs (i + 1)) (xs (i + 2)) bb hw1) (lw_V q188 q189 q190 q28 q191) (by decide +kernel) rfl rfl rfl (Nat.le_of_ble_eq_true rfl) (Nat.le_of_ble_eq_true rfl) rfl (Nat.le_of_ble_eq_true rfl) rfl dL_law_491 (fun r1 u1 h1 => ?_)
  refine jo_aload_n F 2 dL_law_494 rfl rfl ?_
  refine jo_aload_n F 0 dL_law_495 rfl rfl ?_
  refine jo_iload_n F 3 dL_law_496 rfl rfl ?_
  refine jo_iconst (x := (nI 1)) F dL_law_497 (by decide) ?_
  refine jo_iadd F dL_law_498 ?_
  refine jo_sld F hX (i + 1) (nI_add _ _) (by omega) dL_law_499 ?_
  refine jo_aload_n F 0 dL_law_500 rfl rfl ?_
  refine jo_iload_n F 3 dL_law_501 rfl rfl ?_
  refine jo_iconst (x := (nI 2)) F dL_law_502 (by decide) ?_
  refine jo_iadd F dL_law_503 ?_
  refine jo_sld F hX (i + 2) (nI_add _ _) (by omega) dL_law_504 ?_
  refine jo_lcM F (np := 2) (fun l => mM_gain l D b d' w (xs (i + 1)) (xs (i + 2))) (lw_V q348 q349 q350 q29 q351) (by decide +kernel) rfl rfl rfl (Nat.le_of_ble_eq_true rfl) (Nat.le_of_ble_eq_true rfl) rfl (Nat.le_of_ble_eq_true rfl) rfl dL_law_505 (fun r2 u2 h2 => ?_)
  obtain ⟨e1, hu1⟩ := h1
  obtain ⟨e3, e4, e5⟩ := h2
  have er : r1 = r2 ∧ Rl u1 u2 := by
    rw [e1, e3, hu1]
    by_cases q : jo_badP (xs (i + 1)) (xs (i + 2)) = true
    · rw [if_pos q] at e5
      rw [if_pos q, if_pos q, if_pos q]
      exact ⟨rfl, oS.1 u2 e4 e5⟩
    · rw [if_neg q] at e5
      rw [if_neg q, if_neg q, if_neg q]
      have q' : jo_badP (xs (i + 1)) (xs (i + 2)) = false := by simpa using q
      exact ⟨(hw2 q').1, (hw2 q').2 u2 e4 e5⟩
  obtain ⟨er, hR3⟩ := er
  refine jo_icmp_eq_y F 513 dL_law_508 (by decide) er ?_
  exact k u1 u2 hR3
set_option maxHeartbeats 4000000 in
set_option maxRecDepth 100000 in
/-- the law's loop -/
theorem lB_loop {K : jo_C} {D : va_G} {a b : Nat → Nat} {d d' : Nat → ClassId} {b0 Ln : Nat} {xs : Nat → Int32} {Rl : jo_V → jo_V → Prop} (F : jo_F K cL_law 4 "JoinOrdererLaw" 7 258) (hX : jo_X K b0 Ln xs) (hOk : jo_Ok Rl) (kend : ∀ v w L, lG K D a b d d' v w 520 L [.int (nI 1)]) : ∀ (z i : Nat) (v w : jo_V), Ln + 4 ≤ i + z → i ≤ Ln → Rl v w → lG K D a b d d' v w 18 [some (.ref b0), some (.ref (a 3)), some (.ref (b 4)), some (.int (nI i))] [] := by
  have hLn : Ln ≤ 256 := by obtain ⟨p, l, e, R, s, m, args, below, meth, c, A, kc, n, Q⟩ := K; exact hX.2.2.2
  intro z
  induction z with
  | zero => intro i v w h1 h2; exact absurd h1 (by omega)
  | succ z ih =>
    intro i v w h1 h2 hR
    by_cases hi : i + 4 ≤ Ln
    · have k : ∀ v' w', Rl v' w' → lG K D a b d d' v' w' 513 [some (.ref b0), some (.ref (a 3)), some (.ref (b 4)), some (.int (nI i))] [] := by
        intro v' w' hR'
        refine jo_iinc F 3 dL_law_513 rfl (jo_l4 i) ?_
        refine jo_goto F 18 dL_law_516 (by decide) ?_
        exact ih (i + 4) v' w' (by omega) hi hR'
      obtain ⟨j, hj, ej⟩ := pk_andE (xs i) (m := nI 15) 4 (by decide)
      have hj : j < 16 := hj
      refine jo_iload_n F 3 dL_law_18 rfl rfl ?_
      refine jo_aload_n F 0 dL_law_19 rfl rfl ?_
      refine jo_slen F hX dL_law_20 ?_
      refine jo_iconst (x := (nI 4)) F dL_law_21 (by decide) ?_
      refine jo_isub F dL_law_22 ?_
      refine jo_icmp_gt_n F 519 dL_law_23 (by decide) (fun q => absurd ((jo_llt (by omega) (by omega)).mp q) (by omega)) ?_
      refine jo_aload_n F 0 dL_law_26 rfl rfl ?_
      refine jo_iload_n F 3 dL_law_27 rfl rfl ?_
      refine jo_sld F hX i rfl (by omega) dL_law_28 ?_
      refine jo_bipush (x := (nI 15)) F dL_law_29 (by decide) ?_
      refine jo_iand F dL_law_31 ?_
      refine jo_top ej ?_
      rcases (show j = 0 ∨ j = 1 ∨ j = 2 ∨ j = 3 ∨ j = 4 ∨ j = 5 ∨ j = 6 ∨ j = 7 ∨ j = 8 ∨ j = 9 ∨ j = 10 ∨ j = 11 ∨ j = 12 ∨ j = 13 ∨ j = 14 ∨ j = 15 by omega) with rfl | rfl | rfl | rfl | rfl | rfl | rfl | rfl | rfl | rfl | rfl | rfl | rfl | rfl | rfl | rfl
      · exact jo_tabIn F (76) rfl (by decide) dL_law_32 (by decide) rfl (tgt := 108) (by decide) (lB_table F hX hOk hR hi k)
      · exact jo_tabIn F (109) rfl (by decide) dL_law_32 (by decide) rfl (tgt := 141) (by decide) (lB_filter F hX hOk hR hi k)
      · exact jo_tabIn F (152) rfl (by decide) dL_law_32 (by decide) rfl (tgt := 184) (by decide) (lB_unfilter F hX hOk hR hi k)
      · exact jo_tabIn F (185) rfl (by decide) dL_law_32 (by decide) rfl (tgt := 217) (by decide) (lB_size F hX hOk hR hi k)
      · exact jo_tabIn F (208) rfl (by decide) dL_law_32 (by decide) rfl (tgt := 240) (by decide) (lB_connected F hX hOk hR hi k)
      · exact jo_tabIn F (231) rfl (by decide) dL_law_32 (by decide) rfl (tgt := 263) (by decide) (lB_cost F hX hOk hR hi k)
      · exact jo_tabIn F (254) rfl (by decide) dL_law_32 (by decide) rfl (tgt := 286) (by decide) (lB_linearCost F hX hOk hR hi k)
      · exact jo_tabIn F (277) rfl (by decide) dL_law_32 (by decide) rfl (tgt := 309) (by decide) (lB_linkedCost F hX hOk hR hi k)
      · exact jo_tabIn F (300) rfl (by decide) dL_law_32 (by decide) rfl (tgt := 332) (by decide) (lB_worst F hX hOk hR hi k)
      · exact jo_tabIn F (323) rfl (by decide) dL_law_32 (by decide) rfl (tgt := 355) (by decide) (lB_left F hX hOk hR hi k)
      · exact jo_tabIn F (346) rfl (by decide) dL_law_32 (by decide) rfl (tgt := 378) (by decide) (lB_linearTable F hX hOk hR hi k)
      · exact jo_tabIn F (379) rfl (by decide) dL_law_32 (by decide) rfl (tgt := 411) (by decide) (lB_plans F hX hOk hR hi k)
      · exact jo_tabIn F (402) rfl (by decide) dL_law_32 (by decide) rfl (tgt := 434) (by decide) (lB_linkedPlans F hX hOk hR hi k)
      · exact jo_tabIn F (425) rfl (by decide) dL_law_32 (by decide) rfl (tgt := 457) (by decide) (lB_cheapest F hX hOk hR hi k)
      · exact jo_tabIn F (448) rfl (by decide) dL_law_32 (by decide) rfl (tgt := 480) (by decide) (lB_gain F hX hOk hR hi k)
      · exact jo_tabOut F rfl (by decide) dL_law_32 (by decide) (tgt := 513) (by decide) (k v w hR)
    · refine jo_iload_n F 3 dL_law_18 rfl rfl ?_
      refine jo_aload_n F 0 dL_law_19 rfl rfl ?_
      refine jo_slen F hX dL_law_20 ?_
      refine jo_iconst (x := (nI 4)) F dL_law_21 (by decide) ?_
      refine jo_isub F dL_law_22 ?_
      refine jo_icmp_gt_y F 519 dL_law_23 (by decide) ((jo_llt (by omega) (by omega)).mpr (by omega)) ?_
      refine jo_iconst (x := (nI 1)) F dL_law_519 (by decide) ?_
      exact kend _ _ _
end
section
/-! THE PLAIN LAW, 1: numbers over lists: least, greatest, counts; and the product of two lists -/
def jp_m (d : Nat) (l : List Nat) : Nat := l.foldr min d
def jp_F : Nat := 2147483647
def jp_mn (l : List Nat) : Nat := jp_m jp_F l
def jp_mx (l : List Nat) : Nat := l.foldr max 0
theorem jp_m_cons (d a : Nat) (l : List Nat) : jp_m d (a :: l) = min a (jp_m d l) := rfl
theorem jp_mx_cons (a : Nat) (l : List Nat) : jp_mx (a :: l) = max a (jp_mx l) := rfl
theorem jp_m_d (d : Nat) : ∀ l, jp_m d l ≤ d
  | [] => Nat.le_refl _
  | a :: l => by rw [jp_m_cons]; have := jp_m_d d l; omega
theorem jp_m_le {d : Nat} : ∀ {l : List Nat} {a : Nat}, a ∈ l → jp_m d l ≤ a
  | [], a, h => by simp at h
  | b :: l, a, h => by
    rw [jp_m_cons]
    rcases List.mem_cons.mp h with e | e
    · omega
    · have := jp_m_le (d := d) e
      omega
theorem jp_le_m {d m : Nat} (hd : m ≤ d) : ∀ {l : List Nat}, (∀ a ∈ l, m ≤ a) → m ≤ jp_m d l
  | [], _ => hd
  | b :: l, h => by
    rw [jp_m_cons]
    have h1 := h b List.mem_cons_self
    have h2 := jp_le_m hd (l := l) (fun a ha => h a (List.mem_cons_of_mem _ ha))
    omega
theorem jp_m_app (d : Nat) : ∀ l l', jp_m d (l ++ l') = min (jp_m d l) (jp_m d l')
  | [], l' => by
    have h := jp_m_d d l'
    show jp_m d l' = min d (jp_m d l')
    omega
  | a :: l, l' => by
    rw [List.cons_append, jp_m_cons, jp_m_cons, jp_m_app d l l']
    omega
theorem jp_m_in {d : Nat} : ∀ {l : List Nat}, jp_m d l < d → jp_m d l ∈ l
  | [], h => absurd h (Nat.lt_irrefl _)
  | a :: l, h => by
    rw [jp_m_cons] at h ⊢
    by_cases c : a ≤ jp_m d l
    · rw [Nat.min_eq_left c]; exact List.mem_cons_self
    · rw [Nat.min_eq_right (by omega)] at h ⊢
      exact List.mem_cons_of_mem _ (jp_m_in h)
theorem jp_m_ne {d : Nat} {l : List Nat} (hne : l ≠ []) (h : ∀ a ∈ l, a < d) : jp_m d l < d ∧ jp_m d l ∈ l := by
  have h1 : jp_m d l < d := by
    cases l with
    | nil => exact absurd rfl hne
    | cons a l =>
      have := jp_m_le (d := d) (List.mem_cons_self (a := a) (l := l))
      have := h a List.mem_cons_self
      omega
  exact ⟨h1, jp_m_in h1⟩
theorem jp_m_eq {d m : Nat} {l : List Nat} (hm : m ∈ l) (hle : ∀ a ∈ l, m ≤ a) (hd : m ≤ d) : jp_m d l = m := Nat.le_antisymm (jp_m_le hm) (jp_le_m hd hle)
theorem jp_m_congr {d : Nat} {l l' : List Nat} (h : ∀ a, a ∈ l ↔ a ∈ l') : jp_m d l = jp_m d l' :=
  Nat.le_antisymm (jp_le_m (jp_m_d d l) (fun a ha => jp_m_le ((h a).mpr ha))) (jp_le_m (jp_m_d d l') (fun a ha => jp_m_le ((h a).mp ha)))
theorem jp_le_mx : ∀ {l : List Nat} {a : Nat}, a ∈ l → a ≤ jp_mx l
  | [], a, h => by simp at h
  | b :: l, a, h => by
    rw [jp_mx_cons]
    rcases List.mem_cons.mp h with e | e
    · omega
    · have := jp_le_mx e
      omega
theorem jp_mx_le {m : Nat} : ∀ {l : List Nat}, (∀ a ∈ l, a ≤ m) → jp_mx l ≤ m
  | [], _ => Nat.zero_le _
  | b :: l, h => by
    rw [jp_mx_cons]
    have h1 := h b List.mem_cons_self
    have h2 := jp_mx_le (l := l) (fun a ha => h a (List.mem_cons_of_mem _ ha))
    omega
theorem jp_mx_app : ∀ l l', jp_mx (l ++ l') = max (jp_mx l) (jp_mx l')
  | [], l' => by
    show jp_mx l' = max 0 (jp_mx l')
    omega
  | a :: l, l' => by
    rw [List.cons_append, jp_mx_cons, jp_mx_cons, jp_mx_app l l']
    omega
theorem jp_mx_in : ∀ {l : List Nat}, l ≠ [] → jp_mx l ∈ l
  | [], h => absurd rfl h
  | [a], _ => by
    show max a 0 ∈ [a]
    rw [Nat.max_eq_left (Nat.zero_le _)]
    exact List.mem_cons_self
  | a :: b :: l, _ => by
    have ih := jp_mx_in (l := b :: l) (by simp)
    rw [jp_mx_cons]
    by_cases c : jp_mx (b :: l) ≤ a
    · rw [Nat.max_eq_left c]; exact List.mem_cons_self
    · rw [Nat.max_eq_right (by omega)]; exact List.mem_cons_of_mem _ ih
theorem jp_mx_congr {l l' : List Nat} (h : ∀ a, a ∈ l ↔ a ∈ l') : jp_mx l = jp_mx l' :=
  Nat.le_antisymm (jp_mx_le (fun a ha => jp_le_mx ((h a).mp ha))) (jp_mx_le (fun a ha => jp_le_mx ((h a).mpr ha)))
/-- all sums of two lists' numbers and a number -/
def jp_x (A B : List Nat) (w : Nat) : List Nat := A.flatMap (fun a => B.map (fun b => a + b + w))
theorem jp_x_mem {A B : List Nat} {w n : Nat} : n ∈ jp_x A B w ↔ ∃ a, a ∈ A ∧ ∃ b, b ∈ B ∧ a + b + w = n := by
  unfold jp_x
  rw [List.mem_flatMap]
  constructor
  · rintro ⟨a, ha, h⟩
    obtain ⟨b, hb, e⟩ := List.mem_map.mp h
    exact ⟨a, ha, b, hb, e⟩
  · rintro ⟨a, ha, b, hb, e⟩
    exact ⟨a, ha, List.mem_map.mpr ⟨b, hb, e⟩⟩
theorem jp_x_mn {A B : List Nat} {w : Nat} (hA : A ≠ []) (hB : B ≠ []) (h : ∀ a ∈ A, ∀ b ∈ B, a + b + w < jp_F) : jp_mn (jp_x A B w) = jp_mn A + jp_mn B + w := by
  obtain ⟨a0, ha0⟩ := List.exists_mem_of_ne_nil A hA
  obtain ⟨b0, hb0⟩ := List.exists_mem_of_ne_nil B hB
  obtain ⟨_, iA⟩ := jp_m_ne (d := jp_F) hA (fun a ha => by have := h a ha b0 hb0; omega)
  obtain ⟨_, iB⟩ := jp_m_ne (d := jp_F) hB (fun b hb => by have := h a0 ha0 b hb; omega)
  refine jp_m_eq (jp_x_mem.mpr ⟨_, iA, _, iB, rfl⟩) (fun n hn => ?_) (Nat.le_of_lt (h _ iA _ iB))
  obtain ⟨a, ha, b, hb, rfl⟩ := jp_x_mem.mp hn
  have h1 := jp_m_le (d := jp_F) ha
  have h2 := jp_m_le (d := jp_F) hb
  unfold jp_mn
  omega
theorem jp_x_mx {A B : List Nat} {w : Nat} (hA : A ≠ []) (hB : B ≠ []) : jp_mx (jp_x A B w) = jp_mx A + jp_mx B + w := by
  refine Nat.le_antisymm (jp_mx_le (fun n hn => ?_)) (jp_le_mx (jp_x_mem.mpr ⟨_, jp_mx_in hA, _, jp_mx_in hB, rfl⟩))
  obtain ⟨a, ha, b, hb, rfl⟩ := jp_x_mem.mp hn
  have h1 := jp_le_mx ha
  have h2 := jp_le_mx hb
  omega
theorem jp_count_row {a mA mB w : Nat} (ha : mA ≤ a) : ∀ {B : List Nat}, (∀ b ∈ B, mB ≤ b) → (B.map (fun b => a + b + w)).count (mA + mB + w) = if a = mA then B.count mB else 0
  | [], _ => by simp
  | b :: B, h => by
    have ih := jp_count_row (w := w) ha (B := B) (fun x hx => h x (List.mem_cons_of_mem _ hx))
    have hb := h b List.mem_cons_self
    rw [List.map_cons, List.count_cons, ih, List.count_cons]
    by_cases e : a = mA
    · subst e
      by_cases e2 : b = mB
      · subst e2; simp
      · have : ¬ a + b + w = a + mB + w := by omega
        simp [e2]
    · have : ¬ a + b = mA + mB := by omega
      simp [e, this]
theorem jp_x_count {mA mB w : Nat} {B : List Nat} (hB : ∀ b ∈ B, mB ≤ b) : ∀ {A : List Nat}, (∀ a ∈ A, mA ≤ a) → (jp_x A B w).count (mA + mB + w) = A.count mA * B.count mB
  | [], _ => by simp [jp_x]
  | a :: A, h => by
    have ih := jp_x_count (w := w) hB (A := A) (fun x hx => h x (List.mem_cons_of_mem _ hx))
    have hr := jp_count_row (w := w) (h a List.mem_cons_self) hB
    unfold jp_x at ih ⊢
    rw [List.flatMap_cons, List.count_append, ih, hr, List.count_cons]
    by_cases e : a = mA
    · subst e; simp [Nat.add_mul, Nat.add_comm]
    · simp [e]
/-- how many numbers of a list are its least -/
def jp_ti (l : List Nat) : Nat := l.count (jp_mn l)
theorem jp_count0 {l : List Nat} {m : Nat} (h : m < jp_mn l) : l.count m = 0 := by
  rw [List.count_eq_zero]
  intro hm
  have := jp_m_le (d := jp_F) hm
  unfold jp_mn at h
  omega
theorem jp_ti_app (l l' : List Nat) : jp_ti (l ++ l') = if jp_mn l' < jp_mn l then jp_ti l' else if jp_mn l' = jp_mn l then jp_ti l + jp_ti l' else jp_ti l := by
  unfold jp_ti
  have e : jp_mn (l ++ l') = min (jp_mn l) (jp_mn l') := jp_m_app _ _ _
  rw [e, List.count_append]
  by_cases h1 : jp_mn l' < jp_mn l
  · rw [if_pos h1, Nat.min_eq_right (by omega), jp_count0 h1, Nat.zero_add]
  · rw [if_neg h1]
    by_cases h2 : jp_mn l' = jp_mn l
    · rw [if_pos h2, h2, Nat.min_self]
    · rw [if_neg h2, Nat.min_eq_left (by omega), jp_count0 (l := l') (by omega), Nat.add_zero]
theorem jp_x_ti {A B : List Nat} {w : Nat} (hA : A ≠ []) (hB : B ≠ []) (h : ∀ a ∈ A, ∀ b ∈ B, a + b + w < jp_F) : jp_ti (jp_x A B w) = jp_ti A * jp_ti B := by
  unfold jp_ti
  rw [jp_x_mn hA hB h]
  exact jp_x_count (fun b hb => jp_m_le hb) (fun a ha => jp_m_le ha)
/-- a list all of whose numbers are the same -/
theorem jp_m_const {d m : Nat} (hd : m ≤ d) {l : List Nat} (hne : l ≠ []) (h : ∀ a ∈ l, a = m) : jp_m d l = m := by
  obtain ⟨a, ha⟩ := List.exists_mem_of_ne_nil l hne
  have e := h a ha
  subst e
  exact jp_m_eq ha (fun b hb => Nat.le_of_eq (h b hb).symm) hd
/-! plans: lists of joins -/
abbrev jp_P : Type := List (Nat × Nat)
def jp_c (z : Nat → Nat) (p : jp_P) : Nat := (p.map (fun q => z (q.1 ||| q.2))).sum
def jp_k (lk : Nat → Nat → Bool) (p : jp_P) : Bool := p.all (fun q => lk q.1 q.2)
def jp_l (p : jp_P) : Nat := match p.getLast? with
  | none => 0
  | some q => q.1
def jp_J (A B : List jp_P) (q : Nat × Nat) : List jp_P := A.flatMap (fun a => B.map (fun b => a ++ b ++ [q]))
def jp_cs (z : Nat → Nat) (Ps : List jp_P) : List Nat := Ps.map (jp_c z)
theorem jp_c_add (z : Nat → Nat) (a b : jp_P) (q : Nat × Nat) : jp_c z (a ++ b ++ [q]) = jp_c z a + jp_c z b + z (q.1 ||| q.2) := by simp [jp_c, Nat.add_assoc]
theorem jp_k_add (lk : Nat → Nat → Bool) (a b : jp_P) (q : Nat × Nat) : jp_k lk (a ++ b ++ [q]) = (jp_k lk a && jp_k lk b && lk q.1 q.2) := by simp [jp_k, Bool.and_assoc]
theorem jp_pn_add (a b : jp_P) (q : Nat × Nat) : jo_pn (a ++ b ++ [q]) = (jo_pn a && jo_pn b && decide (q.2 &&& (q.2 - 1) = 0)) := by simp [jo_pn, Bool.and_assoc]
theorem jp_l_add (a b : jp_P) (q : Nat × Nat) : jp_l (a ++ b ++ [q]) = q.1 := by simp [jp_l]
theorem jp_J_mem {A B : List jp_P} {q : Nat × Nat} {p : jp_P} : p ∈ jp_J A B q ↔ ∃ a, a ∈ A ∧ ∃ b, b ∈ B ∧ a ++ b ++ [q] = p := by
  unfold jp_J
  rw [List.mem_flatMap]
  constructor
  · rintro ⟨a, ha, h⟩
    obtain ⟨b, hb, e⟩ := List.mem_map.mp h
    exact ⟨a, ha, b, hb, e⟩
  · rintro ⟨a, ha, b, hb, e⟩
    exact ⟨a, ha, List.mem_map.mpr ⟨b, hb, e⟩⟩
theorem jp_J_nil {A B : List jp_P} {q : Nat × Nat} (h : A = [] ∨ B = []) : jp_J A B q = [] := by
  rcases h with e | e
  · rw [e]; rfl
  · rw [e]; unfold jp_J; simp
theorem jp_J_ne {A B : List jp_P} {q : Nat × Nat} (hA : A ≠ []) (hB : B ≠ []) : jp_J A B q ≠ [] := by
  obtain ⟨a, ha⟩ := List.exists_mem_of_ne_nil A hA
  obtain ⟨b, hb⟩ := List.exists_mem_of_ne_nil B hB
  exact List.ne_nil_of_mem (jp_J_mem.mpr ⟨a, ha, b, hb, rfl⟩)
theorem jp_J_cs (z : Nat → Nat) (q : Nat × Nat) (B : List jp_P) : ∀ A, jp_cs z (jp_J A B q) = jp_x (jp_cs z A) (jp_cs z B) (z (q.1 ||| q.2))
  | [] => rfl
  | a :: A => by
    have ih := jp_J_cs z q B A
    unfold jp_J jp_x jp_cs at ih ⊢
    rw [List.flatMap_cons, List.map_append, ih, List.map_cons, List.flatMap_cons, List.map_map, List.map_map]
    congr 1
    exact List.map_congr_left (fun b _ => jp_c_add z a b q)
theorem jp_J_len (q : Nat × Nat) (B : List jp_P) : ∀ A, (jp_J A B q).length = A.length * B.length
  | [] => by simp [jp_J]
  | a :: A => by
    have ih := jp_J_len q B A
    unfold jp_J at ih ⊢
    rw [List.flatMap_cons, List.length_append, ih, List.length_map, List.length_cons, Nat.add_mul, Nat.one_mul, Nat.add_comm]
theorem jp_filter_row {f : jp_P → Bool} {g : Bool} {q : Nat × Nat} (a : jp_P) (hf : ∀ a b, f (a ++ b ++ [q]) = (f a && f b && g)) : ∀ B : List jp_P, (B.map (fun b => a ++ b ++ [q])).filter f = if (f a && g) = true then (B.filter f).map (fun b => a ++ b ++ [q]) else []
  | [] => by simp
  | b :: B => by
    have ih := jp_filter_row a hf B
    rw [List.map_cons, List.filter_cons, ih, hf, List.filter_cons]
    cases f a <;> cases f b <;> cases g <;> simp
theorem jp_J_filter {f : jp_P → Bool} {g : Bool} {q : Nat × Nat} (hf : ∀ a b, f (a ++ b ++ [q]) = (f a && f b && g)) (B : List jp_P) : ∀ A : List jp_P, (jp_J A B q).filter f = if g = true then jp_J (A.filter f) (B.filter f) q else []
  | [] => by simp [jp_J]
  | a :: A => by
    have ih := jp_J_filter hf B A
    unfold jp_J at ih ⊢
    rw [List.flatMap_cons, List.filter_append, ih, jp_filter_row a hf B, List.filter_cons]
    cases f a <;> cases g <;> simp
end
section
/-! THE PLAIN LAW, 2: one split of JoinOrderer's tables over sets, cell by cell -/
theorem jp_u_self (v : jo_V) (k j : Nat) (x : Int32) : jo_u v k j x k j = x := by rw [jo_u_at, if_pos ⟨rfl, rfl⟩]
theorem jp_u_ne (v : jo_V) {k j k' j' : Nat} (x : Int32) (h : ¬ (k' = k ∧ j' = j)) : jo_u v k j x k' j' = v k' j' := by rw [jo_u_at, if_neg h]
theorem jp_lwJ_c {u v : jo_V} (h : u 2 = v 2) (S i o : Nat) : ∀ j, jo_lwJ u S i o j = jo_lwJ v S i o j
  | 0 => rfl
  | j + 1 => by
    unfold jo_lwJ
    rw [jp_lwJ_c h S i o j, h]
theorem jp_lwO_c {u v : jo_V} (h : u 2 = v 2) (S : Nat) : ∀ i, jo_lwO u S i = jo_lwO v S i
  | 0 => rfl
  | i + 1 => by
    unfold jo_lwO
    rw [jp_lwO_c h S i, jp_lwJ_c h]
theorem jp_lw_c {u v : jo_V} (h : u 2 = v 2) (S : Nat) : jo_lw u S = jo_lw v S := jp_lwO_c h S 5
/-- the cells of a split, by its four steps -/
theorem jp_pA_at (u : jo_V) (S L R k T : Nat) : jo_pA u S L R k T = if T = S then (if k = 5 then jo_mn (u 5 S) (u 5 L + u 5 R + u 4 S) else if k = 6 then (if u 5 L + u 5 R + u 4 S < u 5 S then nI L else if u 5 L + u 5 R + u 4 S = u 5 S then jo_mn (u 6 S) (nI L) else u 6 S) else if k = 7 then (if u 5 L + u 5 R + u 4 S < u 5 S then u 7 L * u 7 R else if u 5 L + u 5 R + u 4 S = u 5 S then u 7 S + u 7 L * u 7 R else u 7 S) else u k T) else u k T := by
  unfold jo_pA jo_mn
  by_cases hT : T = S
  · subst hT
    rw [if_pos rfl]
    by_cases h : u 5 L + u 5 R + u 4 T < u 5 T
    · simp only [if_pos h, jo_u_at, and_true]
      by_cases k5 : k = 5
      · subst k5; simp
      · by_cases k6 : k = 6
        · subst k6; simp
        · by_cases k7 : k = 7
          · subst k7; simp
          · simp [k5, k6, k7]
    · by_cases h2 : u 5 L + u 5 R + u 4 T = u 5 T
      · simp only [if_neg h, if_pos h2, jo_u_at, and_true]
        by_cases k5 : k = 5
        · subst k5; simp
        · by_cases k6 : k = 6
          · subst k6; simp
          · by_cases k7 : k = 7
            · subst k7; simp
            · simp [k5, k6, k7]
      · simp only [if_neg h, if_neg h2]
        by_cases k5 : k = 5
        · subst k5; simp
        · by_cases k6 : k = 6
          · subst k6; simp
          · by_cases k7 : k = 7
            · subst k7; simp
            · simp [k5, k6, k7]
  · rw [if_neg hT]
    by_cases h : u 5 L + u 5 R + u 4 S < u 5 S
    · rw [if_pos h]; simp [jo_u_at, hT]
    · rw [if_neg h]
      by_cases h2 : u 5 L + u 5 R + u 4 S = u 5 S
      · rw [if_pos h2]; simp [jo_u_at, hT]
      · rw [if_neg h2]
theorem jp_pB_at (u : jo_V) (S L R k T : Nat) : jo_pB u S L R k T = if T = S then (if k = 10 then jo_mx (u 10 S) (u 10 L + u 10 R + u 4 S) else if k = 11 then u 11 S + u 11 L * u 11 R else u k T) else u k T := by
  unfold jo_pB
  simp only [jo_u_at]
  by_cases hT : T = S
  · subst hT
    by_cases k1 : k = 10
    · subst k1; simp
    · by_cases k2 : k = 11
      · subst k2; simp
      · simp [k1, k2]
  · simp [hT]
theorem jp_pC_at (u : jo_V) (S L R k T : Nat) : jo_pC u S L R k T = if T = S ∧ k = 8 ∧ R &&& (R - 1) = 0 then jo_mn (u 8 S) (u 8 L + u 4 S) else u k T := by
  unfold jo_pC
  by_cases h : R &&& (R - 1) = 0
  · rw [if_pos h, jo_u_at]
    by_cases hT : T = S
    · by_cases k8 : k = 8
      · rw [if_pos ⟨k8, hT⟩, if_pos ⟨hT, k8, h⟩]
      · rw [if_neg (fun q => k8 q.1), if_neg (fun q => k8 q.2.1)]
    · rw [if_neg (fun q => hT q.2), if_neg (fun q => hT q.1)]
  · rw [if_neg h, if_neg (fun q => h q.2.2)]
theorem jp_pD_at (u : jo_V) {S L R : Nat} (hL : L ≠ S) (hR : R ≠ S) (k T : Nat) : jo_pD u S L R k T = if T = S ∧ ¬ jo_lw u L &&& R = 0 then (if k = 12 then u 12 S + u 12 L * u 12 R else if k = 9 ∧ (u 9 L < jo_FAR ∧ u 9 R < jo_FAR) then jo_mn (u 9 S) (u 9 L + u 9 R + u 4 S) else u k T) else u k T := by
  unfold jo_pD
  by_cases h : jo_lw u L &&& R = 0
  · rw [if_pos h, if_neg (fun q => q.2 h)]
  · rw [if_neg h]
    unfold jo_pl jo_pl2 jo_pl1
    have e9 : ∀ X, jo_u u 12 S (u 12 S + u 12 L * u 12 R) 9 X = u 9 X := fun X => jp_u_ne _ _ (by omega)
    have e4 : ∀ X, jo_u u 12 S (u 12 S + u 12 L * u 12 R) 4 X = u 4 X := fun X => jp_u_ne _ _ (by omega)
    rw [e9, e9, e9, e4]
    by_cases hT : T = S
    · have cond : T = S ∧ ¬ jo_lw u L &&& R = 0 := ⟨hT, h⟩
      rw [if_pos cond]
      subst hT
      by_cases h9 : u 9 L < jo_FAR ∧ u 9 R < jo_FAR
      · rw [if_pos h9]
        by_cases k12 : k = 12
        · rw [if_pos k12, k12, jp_u_ne _ _ (by omega), jp_u_self]
        · rw [if_neg k12]
          by_cases k9 : k = 9
          · rw [if_pos ⟨k9, h9⟩, k9, jp_u_self]
          · rw [if_neg (fun q => k9 q.1), jp_u_ne _ _ (fun q => k9 q.1), jp_u_ne _ _ (fun q => k12 q.1)]
      · rw [if_neg h9]
        by_cases k12 : k = 12
        · rw [if_pos k12, k12, jp_u_self]
        · rw [if_neg k12, if_neg (fun q => h9 q.2), jp_u_ne _ _ (fun q => k12 q.1)]
    · rw [if_neg (show ¬ (T = S ∧ ¬ jo_lw u L &&& R = 0) from fun q => hT q.1)]
      by_cases h9 : u 9 L < jo_FAR ∧ u 9 R < jo_FAR
      · rw [if_pos h9, jp_u_ne _ _ (fun q => hT q.2), jp_u_ne _ _ (fun q => hT q.2)]
      · rw [if_neg h9, jp_u_ne _ _ (fun q => hT q.2)]
section JPpart
variable {u : jo_V} {S L R : Nat}
theorem jp_part_out (hL : L ≠ S) (hR : R ≠ S) {k T : Nat} (h : T ≠ S ∨ k < 5 ∨ 12 < k) : jo_part u S L R k T = u k T := by
  unfold jo_part
  rw [jp_pD_at _ hL hR]
  have e3 : jo_pC (jo_pB (jo_pA u S L R) S L R) S L R k T = u k T := by
    rw [jp_pC_at, if_neg (by omega), jp_pB_at]
    have e1 : jo_pA u S L R k T = u k T := by
      rw [jp_pA_at]
      by_cases hT : T = S
      · rw [if_pos hT, if_neg (by omega), if_neg (by omega), if_neg (by omega)]
      · rw [if_neg hT]
    by_cases hT : T = S
    · rw [if_pos hT, if_neg (by omega), if_neg (by omega), e1]
    · rw [if_neg hT, e1]
  by_cases c : T = S ∧ ¬ jo_lw (jo_pC (jo_pB (jo_pA u S L R) S L R) S L R) L &&& R = 0
  · rw [if_pos c, if_neg (by omega), if_neg (by omega), e3]
  · rw [if_neg c, e3]
theorem jp_pAB (k T : Nat) (h : T = S → k ≠ 5 ∧ k ≠ 6 ∧ k ≠ 7 ∧ k ≠ 10 ∧ k ≠ 11) : jo_pB (jo_pA u S L R) S L R k T = u k T := by
  rw [jp_pB_at]
  by_cases hT : T = S
  · obtain ⟨h5, h6, h7, h10, h11⟩ := h hT
    rw [if_pos hT, if_neg h10, if_neg h11, jp_pA_at, if_pos hT, if_neg h5, if_neg h6, if_neg h7]
  · rw [if_neg hT, jp_pA_at, if_neg hT]
theorem jp_pABC (k T : Nat) (h : T = S → k ≠ 5 ∧ k ≠ 6 ∧ k ≠ 7 ∧ k ≠ 8 ∧ k ≠ 10 ∧ k ≠ 11) : jo_pC (jo_pB (jo_pA u S L R) S L R) S L R k T = u k T := by
  rw [jp_pC_at]
  by_cases hT : T = S
  · obtain ⟨h5, h6, h7, h8, h10, h11⟩ := h hT
    rw [if_neg (fun q => h8 q.2.1)]
    exact jp_pAB k T (fun _ => ⟨h5, h6, h7, h10, h11⟩)
  · rw [if_neg (fun q => hT q.1)]
    exact jp_pAB k T (fun q => absurd q hT)
theorem jp_pABC_lw (X : Nat) : jo_lw (jo_pC (jo_pB (jo_pA u S L R) S L R) S L R) X = jo_lw u X := jp_lw_c (funext fun T => jp_pABC 2 T (fun _ => by decide)) X
theorem jp_part_lo (hL : L ≠ S) (hR : R ≠ S) {k : Nat} (h9 : k ≠ 9) (h12 : k ≠ 12) : jo_part u S L R k S = jo_pC (jo_pB (jo_pA u S L R) S L R) S L R k S := by
  unfold jo_part
  rw [jp_pD_at _ hL hR, if_neg h12, if_neg (show ¬ (k = 9 ∧ _) from fun q => h9 q.1)]
  split <;> rfl
theorem jp_part5 (hL : L ≠ S) (hR : R ≠ S) : jo_part u S L R 5 S = jo_mn (u 5 S) (u 5 L + u 5 R + u 4 S) := by
  rw [jp_part_lo hL hR (by decide) (by decide), jp_pC_at, if_neg (by omega), jp_pB_at, if_pos rfl, if_neg (by decide), if_neg (by decide), jp_pA_at, if_pos rfl, if_pos rfl]
theorem jp_part6 (hL : L ≠ S) (hR : R ≠ S) : jo_part u S L R 6 S = if u 5 L + u 5 R + u 4 S < u 5 S then nI L else if u 5 L + u 5 R + u 4 S = u 5 S then jo_mn (u 6 S) (nI L) else u 6 S := by
  rw [jp_part_lo hL hR (by decide) (by decide), jp_pC_at, if_neg (by omega), jp_pB_at, if_pos rfl, if_neg (by decide), if_neg (by decide), jp_pA_at, if_pos rfl, if_neg (by decide), if_pos rfl]
theorem jp_part7 (hL : L ≠ S) (hR : R ≠ S) : jo_part u S L R 7 S = if u 5 L + u 5 R + u 4 S < u 5 S then u 7 L * u 7 R else if u 5 L + u 5 R + u 4 S = u 5 S then u 7 S + u 7 L * u 7 R else u 7 S := by
  rw [jp_part_lo hL hR (by decide) (by decide), jp_pC_at, if_neg (by omega), jp_pB_at, if_pos rfl, if_neg (by decide), if_neg (by decide), jp_pA_at, if_pos rfl, if_neg (by decide), if_neg (by decide), if_pos rfl]
theorem jp_part8 (hL : L ≠ S) (hR : R ≠ S) : jo_part u S L R 8 S = if R &&& (R - 1) = 0 then jo_mn (u 8 S) (u 8 L + u 4 S) else u 8 S := by
  rw [jp_part_lo hL hR (by decide) (by decide), jp_pC_at, jp_pAB 8 S (fun _ => by decide), jp_pAB 8 L (fun q => absurd q hL), jp_pAB 4 S (fun _ => by decide)]
  by_cases h : R &&& (R - 1) = 0
  · rw [if_pos ⟨rfl, rfl, h⟩, if_pos h]
  · rw [if_neg (fun q => h q.2.2), if_neg h]
theorem jp_part10 (hL : L ≠ S) (hR : R ≠ S) : jo_part u S L R 10 S = jo_mx (u 10 S) (u 10 L + u 10 R + u 4 S) := by
  rw [jp_part_lo hL hR (by decide) (by decide), jp_pC_at, if_neg (by omega), jp_pB_at, if_pos rfl, if_pos rfl]
  have e : ∀ k T, (T = S → k ≠ 5 ∧ k ≠ 6 ∧ k ≠ 7) → jo_pA u S L R k T = u k T := by
    intro k T h
    rw [jp_pA_at]
    by_cases hT : T = S
    · obtain ⟨h5, h6, h7⟩ := h hT
      rw [if_pos hT, if_neg h5, if_neg h6, if_neg h7]
    · rw [if_neg hT]
  rw [e 10 S (fun _ => by decide), e 10 L (fun _ => by decide), e 10 R (fun _ => by decide), e 4 S (fun _ => by decide)]
theorem jp_part11 (hL : L ≠ S) (hR : R ≠ S) : jo_part u S L R 11 S = u 11 S + u 11 L * u 11 R := by
  rw [jp_part_lo hL hR (by decide) (by decide), jp_pC_at, if_neg (by omega), jp_pB_at, if_pos rfl, if_neg (by decide), if_pos rfl]
  have e : ∀ T, jo_pA u S L R 11 T = u 11 T := by
    intro T
    rw [jp_pA_at]
    by_cases hT : T = S
    · rw [if_pos hT, if_neg (by decide), if_neg (by decide), if_neg (by decide)]
    · rw [if_neg hT]
  rw [e, e, e]
theorem jp_part9 (hL : L ≠ S) (hR : R ≠ S) : jo_part u S L R 9 S = if jo_lw u L &&& R = 0 then u 9 S else if u 9 L < jo_FAR ∧ u 9 R < jo_FAR then jo_mn (u 9 S) (u 9 L + u 9 R + u 4 S) else u 9 S := by
  unfold jo_part
  rw [jp_pD_at _ hL hR, jp_pABC_lw, jp_pABC 9 S (fun _ => by decide), jp_pABC 9 L (fun _ => by decide), jp_pABC 9 R (fun _ => by decide), jp_pABC 4 S (fun _ => by decide)]
  by_cases h : jo_lw u L &&& R = 0
  · rw [if_neg (fun q => q.2 h), if_pos h]
  · rw [if_pos ⟨rfl, h⟩, if_neg h, if_neg (by decide)]
    by_cases h9 : u 9 L < jo_FAR ∧ u 9 R < jo_FAR
    · rw [if_pos ⟨rfl, h9⟩, if_pos h9]
    · rw [if_neg (fun q => h9 q.2), if_neg h9]
theorem jp_part12 (hL : L ≠ S) (hR : R ≠ S) : jo_part u S L R 12 S = if jo_lw u L &&& R = 0 then u 12 S else u 12 S + u 12 L * u 12 R := by
  unfold jo_part
  rw [jp_pD_at _ hL hR, jp_pABC_lw, jp_pABC 12 S (fun _ => by decide), jp_pABC 12 L (fun _ => by decide), jp_pABC 12 R (fun _ => by decide)]
  by_cases h : jo_lw u L &&& R = 0
  · rw [if_neg (fun q => q.2 h), if_pos h]
  · rw [if_pos ⟨rfl, h⟩, if_neg h, if_pos rfl]
end JPpart
end
section
/-! THE PLAIN LAW, 3: the tables over sets hold what the list of all plans says -/
theorem jp_FAR : jo_FAR = nI jp_F := by decide
theorem jp_F31 : jp_F < 2 ^ 31 := by decide
theorem jp_mnN {a b : Nat} (ha : a < 2 ^ 31) (hb : b < 2 ^ 31) : jo_mn (nI a) (nI b) = nI (min a b) := by
  unfold jo_mn
  by_cases h : b < a
  · rw [if_pos ((nI_ltI hb ha).mpr h), Nat.min_eq_right (by omega)]
  · rw [if_neg (fun q => h ((nI_ltI hb ha).mp q)), Nat.min_eq_left (by omega)]
theorem jp_mxN {a b : Nat} (ha : a < 2 ^ 31) (hb : b < 2 ^ 31) : jo_mx (nI a) (nI b) = nI (max a b) := by
  unfold jo_mx
  by_cases h : a < b
  · rw [if_pos ((nI_ltI ha hb).mpr h), Nat.max_eq_right (by omega)]
  · rw [if_neg (fun q => h ((nI_ltI ha hb).mp q)), Nat.max_eq_left (by omega)]
theorem jp_mn31 (l : List Nat) : jp_mn l < 2 ^ 31 := Nat.lt_of_le_of_lt (jp_m_d _ l) jp_F31
theorem jp_cs_app (z : Nat → Nat) (P Q : List jp_P) : jp_cs z (P ++ Q) = jp_cs z P ++ jp_cs z Q := List.map_append
theorem jp_cs_mem {z : Nat → Nat} {P : List jp_P} {n : Nat} : n ∈ jp_cs z P ↔ ∃ p, p ∈ P ∧ jp_c z p = n := List.mem_map
theorem jp_cs_ne {z : Nat → Nat} {P : List jp_P} (h : P ≠ []) : jp_cs z P ≠ [] := by
  cases P with
  | nil => exact absurd rfl h
  | cons a P => simp [jp_cs]
/-- what a set's row says of a list of plans -/
def jp_Row (z : Nat → Nat) (lk : Nat → Nat → Bool) (u : jo_V) (S : Nat) (Ps : List jp_P) : Prop :=
  u 5 S = nI (jp_mn (jp_cs z Ps)) ∧ u 7 S = nI (jp_ti (jp_cs z Ps)) ∧ u 8 S = nI (jp_mn (jp_cs z (Ps.filter jo_pn))) ∧ u 9 S = nI (jp_mn (jp_cs z (Ps.filter (jp_k lk)))) ∧ u 10 S = nI (jp_mx (jp_cs z Ps)) ∧ u 11 S = nI Ps.length ∧ u 12 S = nI (Ps.filter (jp_k lk)).length
theorem jp_Row.frame {z : Nat → Nat} {lk : Nat → Nat → Bool} {u u' : jo_V} {S : Nat} {Ps : List jp_P} (h : jp_Row z lk u S Ps) (e : ∀ k, 5 ≤ k → k ≤ 12 → u' k S = u k S) : jp_Row z lk u' S Ps := by
  unfold jp_Row at h ⊢
  rw [e 5 (by omega) (by omega), e 7 (by omega) (by omega), e 8 (by omega) (by omega), e 9 (by omega) (by omega), e 10 (by omega) (by omega), e 11 (by omega) (by omega), e 12 (by omega) (by omega)]
  exact h
theorem jp_cs_perm {z : Nat → Nat} {P Q : List jp_P} (h : P.Perm Q) : (jp_cs z P).Perm (jp_cs z Q) := h.map _
theorem jp_mn_perm {l l' : List Nat} (h : l.Perm l') : jp_mn l = jp_mn l' := jp_m_congr (fun _ => h.mem_iff)
theorem jp_Row.perm {z : Nat → Nat} {lk : Nat → Nat → Bool} {u : jo_V} {S : Nat} {P Q : List jp_P} (h : jp_Row z lk u S P) (e : P.Perm Q) : jp_Row z lk u S Q := by
  obtain ⟨h5, h7, h8, h9, h10, h11, h12⟩ := h
  have c := jp_cs_perm (z := z) e
  refine ⟨by rw [h5, jp_mn_perm c], ?_, by rw [h8, jp_mn_perm (jp_cs_perm (e.filter jo_pn))], by rw [h9, jp_mn_perm (jp_cs_perm (e.filter (jp_k lk)))], by rw [h10, jp_mx_congr (fun _ => c.mem_iff)], by rw [h11, e.length_eq], by rw [h12, (e.filter (jp_k lk)).length_eq]⟩
  rw [h7]
  unfold jp_ti
  rw [jp_mn_perm c, c.count_eq]
/-- the least left part among the cheapest plans -/
def jp_lm (z : Nat → Nat) (Ps : List jp_P) : Nat := jp_m 32 ((Ps.filter (fun p => decide (jp_c z p = jp_mn (jp_cs z Ps)))).map jp_l)
theorem jp_lm_perm {z : Nat → Nat} {P Q : List jp_P} (e : P.Perm Q) : jp_lm z P = jp_lm z Q := by
  unfold jp_lm
  rw [jp_mn_perm (jp_cs_perm e)]
  exact jp_m_congr (fun _ => ((e.filter _).map _).mem_iff)
theorem jp_fil0 {z : Nat → Nat} {Q : List jp_P} {m : Nat} (h : m < jp_mn (jp_cs z Q)) : Q.filter (fun p => decide (jp_c z p = m)) = [] := by
  rw [List.filter_eq_nil_iff]
  intro p hp
  have := jp_m_le (d := jp_F) (jp_cs_mem (z := z).mpr ⟨p, hp, rfl⟩)
  unfold jp_mn at h
  simp
  omega
theorem jp_lm_app {z : Nat → Nat} {P J : List jp_P} {L : Nat} (hJ : J ≠ []) (hF : ∀ p ∈ J, jp_c z p < jp_F) (hl : ∀ p ∈ J, jp_l p = L) (hL : L ≤ 32) : jp_lm z (P ++ J) = if jp_mn (jp_cs z J) < jp_mn (jp_cs z P) then L else if jp_mn (jp_cs z J) = jp_mn (jp_cs z P) then min (jp_lm z P) L else jp_lm z P := by
  have hx : jp_m 32 ((J.filter (fun p => decide (jp_c z p = jp_mn (jp_cs z J)))).map jp_l) = L := by
    obtain ⟨_, hm⟩ := jp_m_ne (d := jp_F) (jp_cs_ne (z := z) hJ) (fun a ha => by obtain ⟨p, hp, rfl⟩ := jp_cs_mem.mp ha; exact hF p hp)
    obtain ⟨p, hp, e⟩ := jp_cs_mem.mp hm
    refine jp_m_const hL (List.ne_nil_of_mem (List.mem_map.mpr ⟨p, List.mem_filter.mpr ⟨hp, ?_⟩, rfl⟩)) (fun a ha => ?_)
    · rw [decide_eq_true_eq]; exact e
    · obtain ⟨q, hq, rfl⟩ := List.mem_map.mp ha
      exact hl q (List.mem_filter.mp hq).1
  unfold jp_lm
  have e : jp_mn (jp_cs z (P ++ J)) = min (jp_mn (jp_cs z P)) (jp_mn (jp_cs z J)) := by rw [jp_cs_app]; exact jp_m_app _ _ _
  rw [e, List.filter_append, List.map_append, jp_m_app]
  by_cases h1 : jp_mn (jp_cs z J) < jp_mn (jp_cs z P)
  · rw [if_pos h1, Nat.min_eq_right (a := jp_mn (jp_cs z P)) (by omega), jp_fil0 h1, hx]
    show min 32 L = L
    omega
  · rw [if_neg h1]
    by_cases h2 : jp_mn (jp_cs z J) = jp_mn (jp_cs z P)
    · rw [if_pos h2, ← h2, Nat.min_self, hx]
    · rw [if_neg h2, Nat.min_eq_left (a := jp_mn (jp_cs z P)) (by omega), jp_fil0 (Q := J) (by omega)]
      have := jp_m_d 32 ((P.filter (fun p => decide (jp_c z p = jp_mn (jp_cs z P)))).map jp_l)
      show min _ 32 = _
      omega
section JPstep
variable {z : Nat → Nat} {lk : Nat → Nat → Bool} {u : jo_V} {S L R : Nat} {A B Ps : List jp_P}
/-- what is asked of a split -/
def jp_Sp (z : Nat → Nat) (lk : Nat → Nat → Bool) (u : jo_V) (S L R : Nat) (A B : List jp_P) : Prop :=
  L ≠ S ∧ R ≠ S ∧ L ||| R = S ∧ L ≤ 32 ∧ A ≠ [] ∧ B ≠ [] ∧ (∀ a ∈ A, ∀ b ∈ B, jp_c z a + jp_c z b + z S < jp_F) ∧ (jo_lw u L &&& R = 0 ↔ lk L R = false) ∧ (R &&& (R - 1) = 0 → B = [[]]) ∧ A.filter jo_pn ≠ [] ∧ jp_Row z lk u L A ∧ jp_Row z lk u R B
theorem jp_J_F (h : jp_Sp z lk u S L R A B) : ∀ p ∈ jp_J A B (L, R), jp_c z p < jp_F := by
  obtain ⟨_, _, hLR, _, _, _, hbd, _⟩ := h
  intro p hp
  obtain ⟨a, ha, b, hb, rfl⟩ := jp_J_mem.mp hp
  rw [jp_c_add]
  show jp_c z a + jp_c z b + z (L ||| R) < jp_F
  rw [hLR]
  exact hbd a ha b hb
theorem jp_sub_mn {A' B' : List jp_P} (hA : A' ≠ []) (hB : B' ≠ []) (hLR : L ||| R = S) (hbd : ∀ a ∈ A', ∀ b ∈ B', jp_c z a + jp_c z b + z S < jp_F) : jp_mn (jp_cs z (jp_J A' B' (L, R))) = jp_mn (jp_cs z A') + jp_mn (jp_cs z B') + z S ∧ jp_mn (jp_cs z A') + jp_mn (jp_cs z B') + z S < jp_F := by
  have hb : ∀ a ∈ jp_cs z A', ∀ b ∈ jp_cs z B', a + b + z S < jp_F := by
    intro a ha b hb
    obtain ⟨p, hp, rfl⟩ := jp_cs_mem.mp ha
    obtain ⟨q, hq, rfl⟩ := jp_cs_mem.mp hb
    exact hbd p hp q hq
  have e : jp_mn (jp_cs z (jp_J A' B' (L, R))) = jp_mn (jp_cs z A') + jp_mn (jp_cs z B') + z S := by
    rw [jp_J_cs]
    show jp_mn (jp_x _ _ (z (L ||| R))) = _
    rw [hLR]
    exact jp_x_mn (jp_cs_ne hA) (jp_cs_ne hB) hb
  refine ⟨e, ?_⟩
  obtain ⟨a0, ha0⟩ := List.exists_mem_of_ne_nil A' hA
  obtain ⟨b0, hb0⟩ := List.exists_mem_of_ne_nil B' hB
  have h1 := jp_m_le (d := jp_F) (jp_cs_mem (z := z).mpr ⟨a0, ha0, rfl⟩)
  have h2 := jp_m_le (d := jp_F) (jp_cs_mem (z := z).mpr ⟨b0, hb0, rfl⟩)
  have h3 := hbd a0 ha0 b0 hb0
  unfold jp_mn
  omega
theorem jp_ltF {A' : List jp_P} (hF : ∀ p ∈ A', jp_c z p < jp_F) : nI (jp_mn (jp_cs z A')) < jo_FAR ↔ A' ≠ [] := by
  rw [jp_FAR, nI_ltI (jp_mn31 _) jp_F31]
  constructor
  · intro h e
    subst e
    exact absurd h (Nat.lt_irrefl _)
  · intro h
    exact (jp_m_ne (jp_cs_ne h) (fun a ha => by obtain ⟨p, hp, rfl⟩ := jp_cs_mem.mp ha; exact hF p hp)).1
theorem jp_step_row (h : jp_Sp z lk u S L R A B) (hz : u 4 S = nI (z S)) (hP : ∀ p ∈ Ps, jp_c z p < jp_F) (hS : jp_Row z lk u S Ps) : jp_Row z lk (jo_part u S L R) S (Ps ++ jp_J A B (L, R)) := by
  have hJF := jp_J_F h
  obtain ⟨hL, hR, hLR, hL32, hA, hB, hbd, hlk, hone, hlin, ⟨l5, l7, l8, l9, l10, l11, l12⟩, r5, r7, r8, r9, r10, r11, r12⟩ := h
  obtain ⟨s5, s7, s8, s9, s10, s11, s12⟩ := hS
  obtain ⟨em, lm⟩ := jp_sub_mn (z := z) hA hB hLR hbd
  have f31 := jp_F31
  have hbc : ∀ a ∈ jp_cs z A, ∀ b ∈ jp_cs z B, a + b + z S < jp_F := by
    intro a ha b hb
    obtain ⟨p, hp, rfl⟩ := jp_cs_mem.mp ha
    obtain ⟨q, hq, rfl⟩ := jp_cs_mem.mp hb
    exact hbd p hp q hq
  have hzb : z S < jp_F := by omega
  refine ⟨?_, ?_, ?_, ?_, ?_, ?_, ?_⟩
  · rw [jp_part5 hL hR, s5, l5, r5, hz, nI_add, nI_add, jp_mnN (jp_mn31 _) (by omega), jp_cs_app, ← em]
    congr 1
    exact (jp_m_app _ _ _).symm
  · rw [jp_part7 hL hR, s5, l5, r5, hz, nI_add, nI_add, s7, l7, r7, pk_mul, nI_add, jp_cs_app, jp_ti_app, em]
    have et : jp_ti (jp_cs z (jp_J A B (L, R))) = jp_ti (jp_cs z A) * jp_ti (jp_cs z B) := by
      rw [jp_J_cs]
      show jp_ti (jp_x _ _ (z (L ||| R))) = _
      rw [hLR]
      exact jp_x_ti (jp_cs_ne hA) (jp_cs_ne hB) hbc
    rw [et]
    have b1 : jp_mn (jp_cs z A) + jp_mn (jp_cs z B) + z S < 2 ^ 31 := by omega
    have b2 := jp_mn31 (jp_cs z Ps)
    by_cases h1 : jp_mn (jp_cs z A) + jp_mn (jp_cs z B) + z S < jp_mn (jp_cs z Ps)
    · rw [if_pos h1, if_pos ((nI_ltI b1 b2).mpr h1)]
    · rw [if_neg h1, if_neg (fun q => h1 ((nI_ltI b1 b2).mp q))]
      by_cases h2 : jp_mn (jp_cs z A) + jp_mn (jp_cs z B) + z S = jp_mn (jp_cs z Ps)
      · rw [if_pos h2, if_pos ((nI_eq b1 b2).mpr h2)]
      · rw [if_neg h2, if_neg (fun q => h2 ((nI_eq b1 b2).mp q))]
  · rw [jp_part8 hL hR, List.filter_append, jp_J_filter (g := decide (R &&& (R - 1) = 0)) (fun a b => jp_pn_add a b (L, R)), s8, l8, hz]
    by_cases h1 : R &&& (R - 1) = 0
    · have hB1 := hone h1
      have hbd' : ∀ a ∈ A.filter jo_pn, ∀ b ∈ ([[]] : List jp_P), jp_c z a + jp_c z b + z S < jp_F := by
        rw [← hB1]
        exact fun a ha b hb => hbd a (List.mem_filter.mp ha).1 b hb
      obtain ⟨e8, m8⟩ := jp_sub_mn (L := L) (R := R) hlin (B' := [[]]) (by simp) hLR hbd'
      have e0 : jp_mn (jp_cs z [[]]) = 0 := rfl
      rw [if_pos h1, if_pos (decide_eq_true h1), hB1, show ([[]] : List jp_P).filter jo_pn = [[]] from rfl, jp_cs_app, nI_add, jp_mnN (jp_mn31 _) (by omega)]
      congr 1
      rw [e0, Nat.add_zero] at e8
      rw [← e8]
      exact (jp_m_app _ _ _).symm
    · rw [if_neg h1, if_neg (by rw [decide_eq_true_eq]; exact h1), List.append_nil]
  · rw [jp_part9 hL hR, List.filter_append, jp_J_filter (g := lk L R) (fun a b => jp_k_add lk a b (L, R)), s9, l9, r9, hz]
    by_cases h1 : jo_lw u L &&& R = 0
    · have h1' := hlk.mp h1
      rw [if_pos h1, if_neg (by rw [h1']; decide), List.append_nil]
    · have h1' : lk L R = true := by
        cases e : lk L R
        · exact absurd (hlk.mpr e) h1
        · rfl
      have kA : ∀ p ∈ A.filter (jp_k lk), jp_c z p < jp_F := by
        intro p hp
        obtain ⟨b0, hb0⟩ := List.exists_mem_of_ne_nil B hB
        have := hbd p (List.mem_filter.mp hp).1 b0 hb0
        omega
      have kB : ∀ p ∈ B.filter (jp_k lk), jp_c z p < jp_F := by
        intro p hp
        obtain ⟨a0, ha0⟩ := List.exists_mem_of_ne_nil A hA
        have := hbd a0 ha0 p (List.mem_filter.mp hp).1
        omega
      rw [if_neg h1, if_pos h1']
      by_cases h2 : A.filter (jp_k lk) ≠ [] ∧ B.filter (jp_k lk) ≠ []
      · obtain ⟨e9, m9⟩ := jp_sub_mn (z := z) (L := L) (R := R) h2.1 h2.2 hLR (fun a ha b hb => hbd a (List.mem_filter.mp ha).1 b (List.mem_filter.mp hb).1)
        rw [if_pos ⟨(jp_ltF kA).mpr h2.1, (jp_ltF kB).mpr h2.2⟩, nI_add, nI_add, jp_mnN (jp_mn31 _) (by omega), jp_cs_app, ← e9]
        congr 1
        exact (jp_m_app _ _ _).symm
      · have h3 : A.filter (jp_k lk) = [] ∨ B.filter (jp_k lk) = [] := by
          by_cases q : A.filter (jp_k lk) = []
          · exact Or.inl q
          · exact Or.inr (Classical.byContradiction (fun q2 => h2 ⟨q, q2⟩))
        rw [if_neg (fun q => h2 ⟨(jp_ltF kA).mp q.1, (jp_ltF kB).mp q.2⟩), jp_J_nil h3, List.append_nil]
  · have exx : jp_mx (jp_cs z (jp_J A B (L, R))) = jp_mx (jp_cs z A) + jp_mx (jp_cs z B) + z S := by
      rw [jp_J_cs]
      show jp_mx (jp_x _ _ (z (L ||| R))) = _
      rw [hLR]
      exact jp_x_mx (jp_cs_ne hA) (jp_cs_ne hB)
    have b1 := hbc _ (jp_mx_in (jp_cs_ne hA)) _ (jp_mx_in (jp_cs_ne hB))
    have b2 : jp_mx (jp_cs z Ps) ≤ jp_F := jp_mx_le (fun a ha => by obtain ⟨p, hp, rfl⟩ := jp_cs_mem.mp ha; exact Nat.le_of_lt (hP p hp))
    rw [jp_part10 hL hR, s10, l10, r10, hz, nI_add, nI_add, jp_mxN (by omega) (by omega), jp_cs_app, jp_mx_app, exx]
  · rw [jp_part11 hL hR, s11, l11, r11, pk_mul, nI_add, List.length_append, jp_J_len]
  · rw [jp_part12 hL hR, List.filter_append, jp_J_filter (g := lk L R) (fun a b => jp_k_add lk a b (L, R)), s12, l12, r12, pk_mul, nI_add, List.length_append]
    by_cases h1 : jo_lw u L &&& R = 0
    · have h1' := hlk.mp h1
      rw [if_pos h1, if_neg (by rw [h1']; decide)]
      rfl
    · have h1' : lk L R = true := by
        cases e : lk L R
        · exact absurd (hlk.mpr e) h1
        · rfl
      rw [if_neg h1, if_pos h1', jp_J_len]
theorem jp_step_left (h : jp_Sp z lk u S L R A B) (hz : u 4 S = nI (z S)) (hS : jp_Row z lk u S Ps) (h6 : u 6 S = nI (jp_lm z Ps)) : jo_part u S L R 6 S = nI (jp_lm z (Ps ++ jp_J A B (L, R))) := by
  have hJF := jp_J_F h
  obtain ⟨hL, hR, hLR, hL32, hA, hB, hbd, hlk, hone, hlin, ⟨l5, l7, l8, l9, l10, l11, l12⟩, r5, r7, r8, r9, r10, r11, r12⟩ := h
  obtain ⟨em, lm⟩ := jp_sub_mn (z := z) hA hB hLR hbd
  have f31 := jp_F31
  have b1 : jp_mn (jp_cs z A) + jp_mn (jp_cs z B) + z S < 2 ^ 31 := by omega
  have b2 := jp_mn31 (jp_cs z Ps)
  have b3 := jp_m_d 32 ((Ps.filter (fun p => decide (jp_c z p = jp_mn (jp_cs z Ps)))).map jp_l)
  rw [jp_lm_app (jp_J_ne hA hB) hJF (L := L) (fun p hp => by obtain ⟨a, _, b, _, rfl⟩ := jp_J_mem.mp hp; exact jp_l_add a b (L, R)) hL32, em, jp_part6 hL hR, h6, hS.1, l5, r5, hz, nI_add, nI_add, jp_mnN (by unfold jp_lm; omega) (by omega)]
  by_cases h1 : jp_mn (jp_cs z A) + jp_mn (jp_cs z B) + z S < jp_mn (jp_cs z Ps)
  · rw [if_pos h1, if_pos ((nI_ltI b1 b2).mpr h1)]
  · rw [if_neg h1, if_neg (fun q => h1 ((nI_ltI b1 b2).mp q))]
    by_cases h2 : jp_mn (jp_cs z A) + jp_mn (jp_cs z B) + z S = jp_mn (jp_cs z Ps)
    · rw [if_pos h2, if_pos ((nI_eq b1 b2).mpr h2)]
    · rw [if_neg h2, if_neg (fun q => h2 ((nI_eq b1 b2).mp q))]
end JPstep
end
section
/-! THE PLAIN LAW, 4: the reference's list of plans, by computation: its orders are the dictionary's, its plans are the splits' -/
def jp_sbL (S : Nat) : Nat → Nat → List Nat
  | 0, _ => []
  | n + 1, L => if L = 0 then [] else L :: jp_sbL S n ((L - 1) &&& S)
def jp_sb (S : Nat) : List Nat := jp_sbL S 32 ((S - 1) &&& S)
/-- the orders in which the tables of S that h lacks can be taken, as in a dictionary -/
def jp_wy (S : Nat) : Nat → Nat → List (List Nat)
  | 0, _ => [[]]
  | n + 1, h => if h = S then [[]] else (List.range 5).flatMap (fun i => if S.testBit i = true ∧ ¬ h ||| 2 ^ i = h then (jp_wy S n (h ||| 2 ^ i)).map (fun r => i :: r) else [])
def jp_fm : Nat → List Nat
  | 1 => [1]
  | 2 => [3]
  | 3 => [7, 11]
  | 4 => [15, 23, 27, 39, 43]
  | 5 => [31, 47, 55, 59, 79, 87, 91, 103, 107, 143, 151, 155, 167, 171]
  | _ => []
theorem jp_fm_eq {n : Nat} (h0 : 0 < n) (h : n ≤ 5) : jo_fm n = jp_fm n := by
  rcases (show n = 1 ∨ n = 2 ∨ n = 3 ∨ n = 4 ∨ n = 5 by omega) with e | e | e | e | e
  · subst e; exact jo_fm_1
  · subst e; exact jo_fm_2
  · subst e; exact jo_fm_3
  · subst e; exact jo_fm_4
  · subst e; exact jo_fm_5
/-- a form followed over an order -/
def jp_g : List Bool → List Nat → List Nat → List (Nat × Nat)
  | [], _, _ => []
  | true :: bs, t :: rw, st => jp_g bs rw (2 ^ t :: st)
  | true :: bs, [], st => jp_g bs [] st
  | false :: bs, rw, b :: a :: st => (a, b) :: jp_g bs rw ((a ||| b) :: st)
  | false :: bs, rw, [] => jp_g bs rw []
  | false :: bs, rw, [b] => jp_g bs rw [b]
def jp_bits (n f : Nat) : List Bool := (List.range (2 * n - 1)).map (fun i => f.testBit i)
theorem jp_jn1 (r : Nat → Nat) : jo_jn r 1 1 = jp_g (jp_bits 1 1) [r 0] [] := rfl
theorem jp_jn2 (r : Nat → Nat) : jo_jn r 3 3 = jp_g (jp_bits 2 3) [r 0, r 1] [] := rfl
theorem jp_jn3 (r : Nat → Nat) : ∀ f ∈ jp_fm 3, jo_jn r f 5 = jp_g (jp_bits 3 f) [r 0, r 1, r 2] [] := by
  intro f hf
  simp only [jp_fm, List.mem_cons, List.not_mem_nil, or_false] at hf
  rcases hf with rfl | rfl <;> rfl
theorem jp_jn4 (r : Nat → Nat) : ∀ f ∈ jp_fm 4, jo_jn r f 7 = jp_g (jp_bits 4 f) [r 0, r 1, r 2, r 3] [] := by
  intro f hf
  simp only [jp_fm, List.mem_cons, List.not_mem_nil, or_false] at hf
  rcases hf with rfl | rfl | rfl | rfl | rfl <;> rfl
theorem jp_jn5 (r : Nat → Nat) : ∀ f ∈ jp_fm 5, jo_jn r f 9 = jp_g (jp_bits 5 f) [r 0, r 1, r 2, r 3, r 4] [] := by
  intro f hf
  simp only [jp_fm, List.mem_cons, List.not_mem_nil, or_false] at hf
  rcases hf with rfl | rfl | rfl | rfl | rfl | rfl | rfl | rfl | rfl | rfl | rfl | rfl | rfl | rfl <;> rfl
theorem jp_jn {n : Nat} (h0 : 0 < n) (h : n ≤ 5) (r : Nat → Nat) {f : Nat} (hf : f ∈ jp_fm n) : jo_jn r f (2 * n - 1) = jp_g (jp_bits n f) ((List.range n).map r) [] := by
  rcases (show n = 1 ∨ n = 2 ∨ n = 3 ∨ n = 4 ∨ n = 5 by omega) with e | e | e | e | e
  · subst e
    simp only [jp_fm, List.mem_cons, List.not_mem_nil, or_false] at hf
    subst hf
    exact jp_jn1 r
  · subst e
    simp only [jp_fm, List.mem_cons, List.not_mem_nil, or_false] at hf
    subst hf
    exact jp_jn2 r
  · subst e; exact jp_jn3 r f hf
  · subst e; exact jp_jn4 r f hf
  · subst e; exact jp_jn5 r f hf
theorem jp_range_mul {α : Type} (f : Nat → Nat → α) {m : Nat} (hm : 0 < m) : ∀ n, (List.range (n * m)).map (fun i => f (i / m) (i % m)) = (List.range n).flatMap (fun k => (List.range m).map (fun j => f k j))
  | 0 => by simp
  | n + 1 => by
    rw [Nat.add_mul, Nat.one_mul, List.range_add, List.map_append, jp_range_mul f hm n, List.range_succ, List.flatMap_append, List.map_map]
    congr 1
    simp only [List.flatMap_cons, List.flatMap_nil, List.append_nil]
    refine List.map_congr_left (fun j hj => ?_)
    have hj := List.mem_range.mp hj
    show f ((n * m + j) / m) ((n * m + j) % m) = f n j
    rw [Nat.mul_comm n m, Nat.mul_add_div hm, Nat.mul_add_mod, Nat.div_eq_of_lt hj, Nat.mod_eq_of_lt hj, Nat.add_zero]
theorem jp_range_getD {α : Type} (g : Nat → α) : ∀ l : List Nat, (List.range l.length).map (fun j => g (l.getD j 0)) = l.map g
  | [] => rfl
  | a :: l => by
    rw [List.length_cons, List.range_succ_eq_map, List.map_cons, List.map_map, List.map_cons, ← jp_range_getD g l]
    rfl
theorem jp_flat_congr {α β : Type} {f g : α → List β} : ∀ {l : List α}, (∀ a ∈ l, f a = g a) → l.flatMap f = l.flatMap g
  | [], _ => rfl
  | a :: l, h => by rw [List.flatMap_cons, List.flatMap_cons, h a List.mem_cons_self, jp_flat_congr (fun x hx => h x (List.mem_cons_of_mem _ hx))]
/-- the plans with their orders -/
def jp_TR (S : Nat) : List (List Nat × jp_P) := (jp_wy S 5 0).flatMap (fun rw => (jp_fm (jo_cn S)).map (fun f => (rw, jp_g (jp_bits (jo_cn S) f) rw [])))
def jp_T (S : Nat) : List jp_P := (jp_TR S).map (fun x => x.2)
def jp_ro (S k : Nat) : List Nat := (List.range (jo_cn S)).map (jo_row S k)
set_option maxRecDepth 100000 in
theorem jp_rows : ∀ S, S < 32 → 0 < S → (List.range (jo_fc (jo_cn S))).map (jp_ro S) = jp_wy S 5 0 := by decide +kernel
theorem jp_fl_pos {S : Nat} (h : S < 32) (h0 : 0 < S) : 0 < jo_fl S := (jo_fm_len (jo_cn_in S h h0).1 (jo_cn_in S h h0).2).1
theorem jp_TR_eq {S : Nat} (h : S < 32) (h0 : 0 < S) : (List.range (jo_NP S)).map (fun i => (jp_ro S (i / jo_fl S), jo_tr S i)) = jp_TR S := by
  have hc := jo_cn_in S h h0
  have e := jp_range_mul (fun k j => (jp_ro S k, jo_jn (jo_row S k) ((jo_fm (jo_cn S)).getD j 0) (2 * jo_cn S - 1))) (jp_fl_pos h h0) (jo_fc (jo_cn S))
  have e2 : (List.range (jo_NP S)).map (fun i => (jp_ro S (i / jo_fl S), jo_tr S i)) = (List.range (jo_fc (jo_cn S))).flatMap (fun k => (List.range (jo_fl S)).map (fun j => (jp_ro S k, jo_jn (jo_row S k) ((jo_fm (jo_cn S)).getD j 0) (2 * jo_cn S - 1)))) := e
  rw [e2]
  unfold jp_TR
  rw [← jp_rows S h h0, List.flatMap_map]
  refine jp_flat_congr (fun k _ => ?_)
  have e3 := jp_range_getD (fun f => (jp_ro S k, jo_jn (jo_row S k) f (2 * jo_cn S - 1))) (jo_fm (jo_cn S))
  have e4 : (List.range (jo_fl S)).map (fun j => (jp_ro S k, jo_jn (jo_row S k) ((jo_fm (jo_cn S)).getD j 0) (2 * jo_cn S - 1))) = (jo_fm (jo_cn S)).map (fun f => (jp_ro S k, jo_jn (jo_row S k) f (2 * jo_cn S - 1))) := e3
  rw [e4, jp_fm_eq hc.1 hc.2]
  show (jp_fm (jo_cn S)).map (fun f => (jp_ro S k, jo_jn (jo_row S k) f (2 * jo_cn S - 1))) = (jp_fm (jo_cn S)).map (fun f => (jp_ro S k, jp_g (jp_bits (jo_cn S) f) (jp_ro S k) []))
  refine List.map_congr_left (fun f hf => ?_)
  rw [jp_jn hc.1 hc.2 _ hf]
  rfl
theorem jp_T_eq {S : Nat} (h : S < 32) (h0 : 0 < S) : (List.range (jo_NP S)).map (jo_tr S) = jp_T S := by
  unfold jp_T
  rw [← jp_TR_eq h h0, List.map_map]
  rfl
def jp_eqR (a b : List (List Nat × List (Nat × Nat))) : Bool := decide (a = b)
def jp_eqT (a b : List (List (Nat × Nat))) : Bool := decide (a = b)
def jp_eqP (a b : List (Nat × List (Nat × Nat))) : Bool := decide (a = b)
/-- a linear plan out of an order -/
def jp_ln : Nat → List Nat → jp_P
  | _, [] => []
  | h, i :: r => if h = 0 then jp_ln (2 ^ i) r else (h, 2 ^ i) :: jp_ln (h ||| 2 ^ i) r
set_option maxRecDepth 100000 in
theorem jp_lin_k : ∀ S, S < 32 → 0 < S → jp_eqR ((jp_TR S).filter (fun x => jo_pn x.2)) ((jp_wy S 5 0).map (fun r => (r, jp_ln 0 r))) = true := by decide +kernel
theorem jp_lin (S : Nat) (h : S < 32) (h0 : 0 < S) : (jp_TR S).filter (fun x => jo_pn x.2) = (jp_wy S 5 0).map (fun r => (r, jp_ln 0 r)) := of_decide_eq_true (jp_lin_k S h h0)
/-- sorted by a key -/
def jp_key (p : jp_P) : Nat := p.foldl (fun c q => c * 1024 + q.1 * 32 + q.2) 0
def jp_rs : Nat → List (Nat × jp_P) → List (Nat × jp_P)
  | 0, l => l
  | _ + 1, [] => []
  | b + 1, x :: l => jp_rs b ((x :: l).filter (fun y => y.1.testBit b)) ++ jp_rs b ((x :: l).filter (fun y => !y.1.testBit b))
theorem jp_rs_perm : ∀ b l, (jp_rs b l).Perm l
  | 0, l => List.Perm.refl l
  | _ + 1, [] => List.Perm.refl []
  | b + 1, x :: l => by
    unfold jp_rs
    exact ((jp_rs_perm b _).append (jp_rs_perm b _)).trans (List.filter_append_perm (fun y => y.1.testBit b) (x :: l))
def jp_so (l : List jp_P) : List (Nat × jp_P) := jp_rs 40 (l.map (fun p => (jp_key p, p)))
theorem jp_so_perm {l l' : List jp_P} (h : jp_so l = jp_so l') : l.Perm l' := by
  have h1 := (jp_rs_perm 40 (l.map (fun p => (jp_key p, p)))).symm
  have h2 := jp_rs_perm 40 (l'.map (fun p => (jp_key p, p)))
  have h3 : (l.map (fun p => (jp_key p, p))).Perm (l'.map (fun p => (jp_key p, p))) := h1.trans ((show jp_rs 40 _ = jp_rs 40 _ from h) ▸ h2)
  have h4 := h3.map (fun x => x.2)
  rw [List.map_map, List.map_map] at h4
  have e : ((fun x : Nat × jp_P => x.2) ∘ fun p => (jp_key p, p)) = id := rfl
  rw [e, List.map_id, List.map_id] at h4
  exact h4
def jp_D (S : Nat) : List jp_P := (jp_sb S).flatMap (fun L => jp_J (jp_T L) (jp_T (jo_dif S L)) (L, jo_dif S L))
set_option maxRecDepth 100000 in
theorem jp_one_k : ∀ S, S < 32 → 0 < S → S &&& (S - 1) = 0 → jp_eqT (jp_T S) [[]] = true := by decide +kernel
theorem jp_one (S : Nat) (h : S < 32) (h0 : 0 < S) (h1 : S &&& (S - 1) = 0) : jp_T S = [[]] := of_decide_eq_true (jp_one_k S h h0 h1)
end
section
/-! THE PLAIN LAW, 4b: the plans are the splits' (computed) -/
set_option maxRecDepth 100000 in
theorem jp_per15 : ∀ S, S < 16 → 0 < S → ¬ S &&& (S - 1) = 0 → jp_eqP (jp_so (jp_T S)) (jp_so (jp_D S)) = true := by decide +kernel
set_option maxRecDepth 100000 in
theorem jp_per30 : ∀ S, S < 15 → jp_eqP (jp_so (jp_T (S + 16))) (jp_so (if (S + 16) &&& (S + 15) = 0 then jp_T (S + 16) else jp_D (S + 16))) = true := by decide +kernel
set_option maxRecDepth 100000 in
theorem jp_per31 : jp_eqP (jp_so (jp_T 31)) (jp_so (jp_D 31)) = true := by decide +kernel
theorem jp_per {S : Nat} (h : S < 32) (h0 : 0 < S) (h1 : ¬ S &&& (S - 1) = 0) : (jp_D S).Perm (jp_T S) := by
  by_cases e : S = 31
  · subst e; exact (jp_so_perm (of_decide_eq_true jp_per31)).symm
  · by_cases e2 : S < 16
    · exact (jp_so_perm (of_decide_eq_true (jp_per15 S e2 h0 h1))).symm
    · have k := of_decide_eq_true (jp_per30 (S - 16) (by omega))
      rw [show S - 16 + 16 = S by omega, show S - 16 + 15 = S - 1 by omega, if_neg h1] at k
      exact (jp_so_perm k).symm
end
section
/-! THE PLAIN LAW, 5: the tables over sets, filled -/
theorem jp_T_lin {S : Nat} (h : S < 32) (h0 : 0 < S) : (jp_T S).filter jo_pn = (jp_wy S 5 0).map (jp_ln 0) := by
  unfold jp_T
  rw [List.filter_map]
  have e := jp_lin S h h0
  have e2 : (jp_TR S).filter (jo_pn ∘ fun x => x.2) = (jp_wy S 5 0).map (fun r => (r, jp_ln 0 r)) := e
  rw [e2, List.map_map]
  rfl
set_option maxRecDepth 100000 in
theorem jp_wy_ne : ∀ S, S < 32 → 0 < S → jp_wy S 5 0 ≠ [] := by decide +kernel
theorem jp_T_lin_ne {S : Nat} (h : S < 32) (h0 : 0 < S) : (jp_T S).filter jo_pn ≠ [] := by
  rw [jp_T_lin h h0]
  intro q
  exact jp_wy_ne S h h0 (List.map_eq_nil_iff.mp q)
theorem jp_T_ne {S : Nat} (h : S < 32) (h0 : 0 < S) : jp_T S ≠ [] := by
  intro q
  exact jp_T_lin_ne h h0 (by rw [q]; rfl)
/-- no plan of a set costs more -/
def jp_B (S : Nat) : Nat := match jo_cn S with
  | 2 => 4096
  | 3 => 266240
  | 4 => 17043456
  | 5 => 1090785280
  | _ => 0
set_option maxRecDepth 100000 in
theorem jp_B_F : ∀ S, S < 32 → jp_B S < jp_F := by decide +kernel
set_option maxRecDepth 100000 in
theorem jp_sb_ok : ∀ S, S < 32 → ∀ L ∈ jp_sb S, 0 < L ∧ L < S ∧ 0 < jo_dif S L ∧ jo_dif S L < S ∧ L ||| jo_dif S L = S ∧ jp_B L + jp_B (jo_dif S L) + 2 ^ (6 * jo_cn S) ≤ jp_B S := by decide +kernel
theorem jp_bd {z : Nat → Nat} (hz : ∀ S, z S ≤ 2 ^ (6 * jo_cn S)) : ∀ n S, S ≤ n → 0 < S → S < 32 → ∀ p ∈ jp_T S, jp_c z p ≤ jp_B S
  | 0, S, hn, h0, _ => absurd h0 (by omega)
  | n + 1, S, hn, h0, h => by
    intro p hp
    by_cases h1 : S &&& (S - 1) = 0
    · rw [jp_one S h h0 h1] at hp
      rw [List.mem_singleton.mp hp]
      exact Nat.zero_le _
    · have hp := (jp_per h h0 h1).mem_iff.mpr hp
      unfold jp_D at hp
      obtain ⟨L, hL, hp⟩ := List.mem_flatMap.mp hp
      obtain ⟨a, ha, b, hb, rfl⟩ := jp_J_mem.mp hp
      obtain ⟨k1, k2, k3, k4, k5, k6⟩ := jp_sb_ok S h L hL
      have i1 := jp_bd hz n L (by omega) k1 (by omega) a ha
      have i2 := jp_bd hz n (jo_dif S L) (by omega) k3 (by omega) b hb
      have i3 := hz S
      rw [jp_c_add]
      show jp_c z a + jp_c z b + z (L ||| jo_dif S L) ≤ jp_B S
      rw [k5]
      omega
theorem jp_Sp.frame {z : Nat → Nat} {lk : Nat → Nat → Bool} {u u' : jo_V} {S L R : Nat} {A B : List jp_P} (h : jp_Sp z lk u S L R A B) (e : ∀ k X, X ≠ S ∨ k < 5 ∨ 12 < k → u' k X = u k X) : jp_Sp z lk u' S L R A B := by
  obtain ⟨hL, hR, hLR, hL32, hA, hB, hbd, hlk, hone, hlin, rL, rR⟩ := h
  refine ⟨hL, hR, hLR, hL32, hA, hB, hbd, ?_, hone, hlin, rL.frame (fun k _ _ => e k L (Or.inl hL)), rR.frame (fun k _ _ => e k R (Or.inl hR))⟩
  rw [jp_lw_c (funext fun X => e 2 X (Or.inr (Or.inl (by decide))))]
  exact hlk
def jp_Inv (z : Nat → Nat) (lk : Nat → Nat → Bool) (u0 : jo_V) (S : Nat) (u : jo_V) (Ps : List jp_P) : Prop := (∀ k X, X ≠ S ∨ k < 5 ∨ 12 < k → u k X = u0 k X) ∧ jp_Row z lk u S Ps ∧ u 6 S = nI (jp_lm z Ps) ∧ ∀ p ∈ Ps, jp_c z p < jp_F
theorem jp_sevL_inv {z : Nat → Nat} {lk : Nat → Nat → Bool} {S : Nat} {u0 : jo_V} (hz : u0 4 S = nI (z S)) : ∀ n L u Ps, (∀ X ∈ jp_sbL S n L, jp_Sp z lk u0 S X (jo_dif S X) (jp_T X) (jp_T (jo_dif S X))) → jp_Inv z lk u0 S u Ps → jp_Inv z lk u0 S (jo_sevL S n L u) (Ps ++ (jp_sbL S n L).flatMap (fun X => jp_J (jp_T X) (jp_T (jo_dif S X)) (X, jo_dif S X)))
  | 0, L, u, Ps, _, h => by
    simp only [jo_sevL, jp_sbL, List.flatMap_nil, List.append_nil]
    exact h
  | n + 1, L, u, Ps, hX, h => by
    simp only [jp_sbL] at hX
    simp only [jo_sevL, jp_sbL]
    by_cases e : L = 0
    · rw [if_pos e, if_pos e, List.flatMap_nil, List.append_nil]
      exact h
    · rw [if_neg e] at hX
      rw [if_neg e, if_neg e, List.flatMap_cons, ← List.append_assoc]
      refine jp_sevL_inv hz n _ _ _ (fun X hx => hX X (List.mem_cons_of_mem _ hx)) ?_
      obtain ⟨hfr, hrow, h6, hF⟩ := h
      have sp := (hX L List.mem_cons_self).frame hfr
      have hz' : u 4 S = nI (z S) := by rw [hfr 4 S (Or.inr (Or.inl (by decide)))]; exact hz
      refine ⟨fun k X hk => ?_, jp_step_row sp hz' hF hrow, jp_step_left sp hz' hrow h6, fun p hp => ?_⟩
      · rw [jp_part_out sp.1 sp.2.1 hk]
        exact hfr k X hk
      · rcases List.mem_append.mp hp with q | q
        · exact hF p q
        · exact jp_J_F sp p q
theorem jp_sev0_out (v : jo_V) (S : Nat) {k X : Nat} (h : X ≠ S ∨ k < 5 ∨ 12 < k) : jo_sev0 v S k X = v k X := by
  unfold jo_sev0
  rw [jp_u_ne _ _ (by omega), jp_u_ne _ _ (by omega), jp_u_ne _ _ (by omega), jp_u_ne _ _ (by omega), jp_u_ne _ _ (by omega), jp_u_ne _ _ (by omega), jp_u_ne _ _ (by omega), jp_u_ne _ _ (by omega)]
theorem jp_sev0_inv (z : Nat → Nat) (lk : Nat → Nat → Bool) (v : jo_V) (S : Nat) : jp_Inv z lk v S (jo_sev0 v S) [] := by
  refine ⟨fun k X h => jp_sev0_out v S h, ⟨?_, ?_, ?_, ?_, ?_, ?_, ?_⟩, ?_, fun p hp => absurd hp List.not_mem_nil⟩ <;> (unfold jo_sev0; simp only [jo_u_at]; simp)
  · exact jp_FAR
  · rfl
  · exact jp_FAR
  · exact jp_FAR
  · rfl
  · rfl
theorem jp_sin_out (v : jo_V) (S : Nat) {k X : Nat} (h : X ≠ S ∨ k < 5 ∨ 12 < k) : jo_sin v S k X = v k X := by
  unfold jo_sin
  rw [jp_u_ne _ _ (by omega), jp_u_ne _ _ (by omega), jp_u_ne _ _ (by omega), jp_u_ne _ _ (by omega), jp_u_ne _ _ (by omega), jp_u_ne _ _ (by omega), jp_u_ne _ _ (by omega), jp_u_ne _ _ (by omega)]
theorem jp_sin_at (v : jo_V) (S : Nat) : jo_sin v S 5 S = nI 0 ∧ jo_sin v S 6 S = -4 ∧ jo_sin v S 7 S = nI 1 ∧ jo_sin v S 8 S = nI 0 ∧ jo_sin v S 9 S = nI 0 ∧ jo_sin v S 10 S = nI 0 ∧ jo_sin v S 11 S = nI 1 ∧ jo_sin v S 12 S = nI 1 := by
  unfold jo_sin
  simp only [jo_u_at]
  simp
theorem jp_sin_row (z : Nat → Nat) (lk : Nat → Nat → Bool) (v : jo_V) (S : Nat) : jp_Row z lk (jo_sin v S) S [[]] := by
  obtain ⟨e5, e6, e7, e8, e9, e10, e11, e12⟩ := jp_sin_at v S
  exact ⟨e5, e7, e8, e9, e10, e11, e12⟩
/-- what a filled set's row is -/
def jp_Full (z : Nat → Nat) (lk : Nat → Nat → Bool) (u : jo_V) (S : Nat) : Prop := u 4 S = nI (z S) ∧ jp_Row z lk u S (jp_T S) ∧ u 6 S = (if S &&& (S - 1) = 0 then -4 else nI (jp_lm z (jp_T S)))
theorem jp_Full.frame {z : Nat → Nat} {lk : Nat → Nat → Bool} {u u' : jo_V} {S : Nat} (h : jp_Full z lk u S) (e : ∀ k, 4 ≤ k → k ≤ 12 → u' k S = u k S) : jp_Full z lk u' S := by
  obtain ⟨h4, hr, h6⟩ := h
  exact ⟨by rw [e 4 (by omega) (by omega)]; exact h4, hr.frame (fun k a b => e k (by omega) b), by rw [e 6 (by omega) (by omega)]; exact h6⟩
/-- what is asked of the sizes and links -/
def jp_Hyp (z : Nat → Nat) (lk : Nat → Nat → Bool) (v : jo_V) : Prop := (∀ S, z S ≤ 2 ^ (6 * jo_cn S)) ∧ (∀ S, jo_sz v S = nI (z S)) ∧ ∀ L R, jo_lw v L &&& R = 0 ↔ lk L R = false
theorem jp_szI_c {u v : jo_V} (h1 : u 1 = v 1) (S i : Nat) (s0 : Int32) : ∀ j, jo_szI u S i s0 j = jo_szI v S i s0 j
  | 0 => rfl
  | j + 1 => by
    unfold jo_szI
    rw [jp_szI_c h1 S i s0 j, h1]
theorem jp_szO_c {u v : jo_V} (h0 : u 0 = v 0) (h1 : u 1 = v 1) (S : Nat) : ∀ i, jo_szO u S i = jo_szO v S i
  | 0 => rfl
  | i + 1 => by
    unfold jo_szO
    rw [jp_szO_c h0 h1 S i, h0, jp_szI_c h1]
theorem jp_sz_c {u v : jo_V} (h0 : u 0 = v 0) (h1 : u 1 = v 1) (S : Nat) : jo_sz u S = jo_sz v S := by unfold jo_sz; rw [jp_szO_c h0 h1]
theorem jp_Hyp.frame {z : Nat → Nat} {lk : Nat → Nat → Bool} {u v : jo_V} (h : jp_Hyp z lk v) (e : ∀ k, k < 3 → u k = v k) : jp_Hyp z lk u := by
  refine ⟨h.1, fun S => ?_, fun L R => ?_⟩
  · rw [jp_sz_c (e 0 (by omega)) (e 1 (by omega))]; exact h.2.1 S
  · rw [jp_lw_c (e 2 (by omega))]; exact h.2.2 L R
theorem jp_fi1 {z : Nat → Nat} {lk : Nat → Nat → Bool} {u : jo_V} {S : Nat} (hy : jp_Hyp z lk u) (h : S < 32) (h0 : 0 < S) (hF : ∀ X, 0 < X → X < S → jp_Full z lk u X) : (∀ k X, X ≠ S ∨ k < 4 ∨ 12 < k → jo_fi1 u S k X = u k X) ∧ jp_Full z lk (jo_fi1 u S) S := by
  have e1 : ∀ k X, X ≠ S ∨ k < 4 ∨ 12 < k → jo_u u 4 S (jo_sz u S) k X = u k X := fun k X q => jp_u_ne _ _ (by omega)
  have e4 : jo_u u 4 S (jo_sz u S) 4 S = nI (z S) := by rw [jp_u_self]; exact hy.2.1 S
  unfold jo_fi1
  by_cases c : S &&& (S - 1) = 0
  · rw [if_pos c]
    refine ⟨fun k X q => ?_, ?_, ?_, ?_⟩
    · rw [jp_sin_out _ _ (by omega)]; exact e1 k X q
    · rw [jp_sin_out _ _ (by omega)]; exact e4
    · rw [jp_one S h h0 c]; exact jp_sin_row z lk _ S
    · rw [if_pos c]; exact (jp_sin_at _ S).2.1
  · rw [if_neg c]
    have hI : jp_Inv z lk (jo_u u 4 S (jo_sz u S)) S (jo_sev (jo_u u 4 S (jo_sz u S)) S) ([] ++ jp_D S) := by
      refine jp_sevL_inv e4 32 _ _ [] (fun X hX => ?_) (jp_sev0_inv z lk _ S)
      obtain ⟨k1, k2, k3, k4, k5, k6⟩ := jp_sb_ok S h X hX
      have f1 := (hF X k1 k2).frame (u' := jo_u u 4 S (jo_sz u S)) (fun k _ _ => e1 k X (by omega))
      have f2 := (hF (jo_dif S X) k3 k4).frame (u' := jo_u u 4 S (jo_sz u S)) (fun k _ _ => e1 k (jo_dif S X) (by omega))
      refine ⟨by omega, by omega, k5, by omega, jp_T_ne (by omega) k1, jp_T_ne (by omega) k3, fun a ha b hb => ?_, ?_, fun q => jp_one _ (by omega) k3 q, jp_T_lin_ne (by omega) k1, f1.2.1, f2.2.1⟩
      · have i1 := jp_bd hy.1 X X (Nat.le_refl _) k1 (by omega) a ha
        have i2 := jp_bd hy.1 _ _ (Nat.le_refl _) k3 (by omega) b hb
        have i3 := hy.1 S
        have i4 := jp_B_F S h
        omega
      · rw [jp_lw_c (v := u) (funext fun Y => e1 2 Y (by omega))]
        exact hy.2.2 X (jo_dif S X)
    rw [List.nil_append] at hI
    obtain ⟨i1, i2, i3, i4⟩ := hI
    refine ⟨fun k X q => ?_, ?_, i2.perm (jp_per h h0 c), ?_⟩
    · rw [i1 k X (by omega)]; exact e1 k X q
    · rw [i1 4 S (by omega)]; exact e4
    · rw [if_neg c, i3, jp_lm_perm (jp_per h h0 c)]
theorem jp_fiL {z : Nat → Nat} {lk : Nat → Nat → Bool} {v : jo_V} (hy : jp_Hyp z lk v) : ∀ n, n ≤ 31 → (∀ k, k < 4 ∨ 12 < k → jo_fiL v n k = v k) ∧ ∀ S, 0 < S → S ≤ n → jp_Full z lk (jo_fiL v n) S
  | 0, _ => ⟨fun _ _ => rfl, fun S h0 h => absurd h0 (by omega)⟩
  | n + 1, hn => by
    obtain ⟨i1, i2⟩ := jp_fiL hy n (by omega)
    obtain ⟨j1, j2⟩ := jp_fi1 (S := n + 1) (hy.frame (u := jo_fiL v n) (fun k hk => i1 k (by omega))) (by omega) (by omega) (fun X a b => i2 X a (by omega))
    have e : jo_fiL v (n + 1) = jo_fi1 (jo_fiL v n) (n + 1) := rfl
    rw [e]
    refine ⟨fun k hk => ?_, fun S h0 h => ?_⟩
    · rw [← i1 k hk]
      funext X
      exact j1 k X (by omega)
    · by_cases c : S = n + 1
      · subst c; exact j2
      · exact (i2 S h0 (by omega)).frame (fun k _ _ => j1 k S (by omega))
end
section
/-! THE PLAIN LAW, 6: the reference's answers, out of its list of plans -/
theorem jp_pc_fold {Z : Nat → Int32} {z : Nat → Nat} (h : ∀ T, Z T = nI (z T)) : ∀ (js : jp_P) (a : Nat), js.foldl (fun c q => c + Z (q.1 ||| q.2)) (nI a) = nI (a + jp_c z js)
  | [], a => rfl
  | q :: js, a => by
    have ih := jp_pc_fold h js (a + z (q.1 ||| q.2))
    rw [List.foldl_cons, h, nI_add, ih]
    congr 1
    simp [jp_c]
    omega
theorem jp_pc {Z : Nat → Int32} {z : Nat → Nat} (h : ∀ T, Z T = nI (z T)) (js : jp_P) : jo_pc Z js = nI (jp_c z js) := by
  unfold jo_pc
  rw [jp_pc_fold h, Nat.zero_add]
theorem jp_m4 {c : Nat} (h : c < 2 ^ 31) : (-4 : Int32) < nI c := by
  rw [Int32.lt_iff_toInt_lt, nI_toInt h]
  have : (-4 : Int32).toInt = -4 := by decide
  omega
/-- a number, or -4 where there is none -/
def jp_en (d m : Nat) : Int32 := if m = d then -4 else nI m
theorem jp_en_step {d m c : Nat} (hd : d < 2 ^ 31) (hm : m ≤ d) (hc : c < d) : (jp_en d m < 0 ∨ nI c < jp_en d m) ∧ jp_en d (min m c) = nI c ∨ ¬ (jp_en d m < 0 ∨ nI c < jp_en d m) ∧ jp_en d (min m c) = jp_en d m := by
  unfold jp_en
  by_cases e : m = d
  · subst e
    refine Or.inl ⟨Or.inl ?_, ?_⟩
    · rw [if_pos rfl]; decide
    · rw [Nat.min_eq_right (by omega), if_neg (by omega)]
  · rw [if_neg e]
    by_cases h : c < m
    · refine Or.inl ⟨Or.inr ((nI_ltI (by omega) (by omega)).mpr h), ?_⟩
      rw [Nat.min_eq_right (by omega), if_neg (by omega)]
    · refine Or.inr ⟨?_, ?_⟩
      · rintro (q | q)
        · exact nI_pos (by omega) q
        · exact h ((nI_ltI (by omega) (by omega)).mp q)
      · rw [Nat.min_eq_left (by omega), if_neg e]
def jp_pre (S i : Nat) : List jp_P := (List.range i).map (jo_tr S)
theorem jp_pre_succ (S i : Nat) : jp_pre S (i + 1) = jp_pre S i ++ [jo_tr S i] := by
  unfold jp_pre
  rw [List.range_succ, List.map_append]
  rfl
theorem jp_one_cs (z : Nat → Nat) (p : jp_P) (d : Nat) (h : jp_c z p ≤ d) : jp_m d (jp_cs z [p]) = jp_c z p := by
  show min (jp_c z p) d = _
  omega
theorem jp_bt_f (b c : Int32) : jo_bt false b c = true ↔ (b < 0 ∨ c < b) := by
  unfold jo_bt
  simp
section JPref
variable {w : jo_V} {z : Nat → Nat} {S N : Nat}
theorem jp_ex_f (hz : ∀ T, jo_mz w T = nI (z T)) (hF : ∀ j, j < N → jp_c z (jo_tr S j) < jp_F) (kd : Nat) : ∀ i, i ≤ N → jo_ex w S kd false i = jp_en jp_F (jp_mn (jp_cs z ((jp_pre S i).filter (fun p => jo_kd kd (jo_pk w p) (jo_pn p)))))
  | 0, _ => rfl
  | i + 1, hi => by
    have ih := jp_ex_f hz hF kd i (by omega)
    have hc := hF i (by omega)
    have f31 := jp_F31
    unfold jo_ex
    rw [jp_pc hz, ih, jp_pre_succ, List.filter_append, jp_cs_app]
    have em : ∀ l l', jp_mn (l ++ l') = min (jp_mn l) (jp_mn l') := fun l l' => jp_m_app _ l l'
    rw [em]
    cases hk : jo_kd kd (jo_pk w (jo_tr S i)) (jo_pn (jo_tr S i))
    · rw [List.filter_cons_of_neg (by rw [hk]; decide), List.filter_nil]
      have e0 : jp_mn (jp_cs z []) = jp_F := rfl
      rw [e0, Nat.min_eq_left (show jp_mn _ ≤ jp_F from jp_m_d _ _)]
      simp
    · rw [List.filter_cons_of_pos (by rw [hk]), List.filter_nil]
      have e1 : jp_mn (jp_cs z [jo_tr S i]) = jp_c z (jo_tr S i) := jp_one_cs z _ _ (by omega)
      rw [e1, Bool.true_and]
      rcases jp_en_step f31 (show jp_mn (jp_cs z ((jp_pre S i).filter (fun p => jo_kd kd (jo_pk w p) (jo_pn p)))) ≤ jp_F from jp_m_d _ _) hc with ⟨a, b⟩ | ⟨a, b⟩
      · rw [if_pos ((jp_bt_f _ _).mpr a)]
        exact b.symm
      · rw [if_neg (fun q => a ((jp_bt_f _ _).mp q))]
        exact b.symm
theorem jp_ex_t (hz : ∀ T, jo_mz w T = nI (z T)) (hF : ∀ j, j < N → jp_c z (jo_tr S j) < jp_F) : ∀ i, i ≤ N → jo_ex w S 0 true i = if i = 0 then -4 else nI (jp_mx (jp_cs z (jp_pre S i)))
  | 0, _ => rfl
  | i + 1, hi => by
    have ih := jp_ex_t hz hF i (by omega)
    have hc := hF i (by omega)
    have f31 := jp_F31
    have hk : jo_kd 0 (jo_pk w (jo_tr S i)) (jo_pn (jo_tr S i)) = true := by simp [jo_kd]
    have hm : jp_mx (jp_cs z (jp_pre S i)) ≤ jp_F := by
      refine jp_mx_le (fun a ha => ?_)
      obtain ⟨p, hp, rfl⟩ := jp_cs_mem.mp ha
      obtain ⟨j, hj, rfl⟩ := List.mem_map.mp hp
      exact Nat.le_of_lt (hF j (by have := List.mem_range.mp hj; omega))
    have e1 : jp_mx (jp_cs z (jp_pre S i) ++ jp_cs z [jo_tr S i]) = max (jp_mx (jp_cs z (jp_pre S i))) (jp_c z (jo_tr S i)) := by
      rw [jp_mx_app]
      show max _ (max _ 0) = _
      omega
    unfold jo_ex
    rw [jp_pc hz, ih, jp_pre_succ, jp_cs_app, e1, hk, Bool.true_and]
    unfold jo_bt
    rw [if_pos rfl, if_neg (show ¬ i + 1 = 0 by omega)]
    by_cases i0 : i = 0
    · subst i0
      rw [if_pos rfl, if_pos (decide_eq_true (jp_m4 (by omega)))]
      congr 1
    · rw [if_neg i0]
      by_cases h : jp_mx (jp_cs z (jp_pre S i)) < jp_c z (jo_tr S i)
      · rw [if_pos (decide_eq_true ((nI_ltI (by omega) (by omega)).mpr h)), Nat.max_eq_right (by omega)]
      · rw [if_neg (by rw [decide_eq_true_eq, nI_ltI (by omega) (by omega)]; exact h), Nat.max_eq_left (by omega)]
theorem jp_cp_eq (w : jo_V) (S kd : Nat) (only : Int32) : ∀ i, jo_cp w S kd only i = ((jp_pre S i).filter (fun p => jo_kd kd (jo_pk w p) (jo_pn p) && (decide (only < 0) || decide (jo_pc (jo_mz w) p = only)))).length
  | 0 => rfl
  | i + 1 => by
    have ih := jp_cp_eq w S kd only i
    unfold jo_cp
    rw [ih, jp_pre_succ, List.filter_append, List.length_append, List.filter_cons, List.filter_nil]
    split <;> rfl
theorem jp_lf_eq (hz : ∀ T, jo_mz w T = nI (z T)) (hF : ∀ j, j < N → jp_c z (jo_tr S j) < jp_F) (hl : ∀ j, j < N → jo_pf (jo_tr S j) = nI (jp_l (jo_tr S j)) ∧ jp_l (jo_tr S j) < 32) {m : Nat} (hm : m < 2 ^ 31) : ∀ i, i ≤ N → jo_lf w S (nI m) i = jp_en 32 (jp_m 32 (((jp_pre S i).filter (fun p => decide (jp_c z p = m))).map jp_l))
  | 0, _ => rfl
  | i + 1, hi => by
    have ih := jp_lf_eq hz hF hl hm i (by omega)
    have hc := hF i (by omega)
    have f31 := jp_F31
    obtain ⟨l1, l2⟩ := hl i (by omega)
    unfold jo_lf
    rw [jp_pc hz, ih, l1, jp_pre_succ, List.filter_append, List.map_append, jp_m_app]
    by_cases h : jp_c z (jo_tr S i) = m
    · rw [List.filter_cons_of_pos (p := fun p => decide (jp_c z p = m)) (decide_eq_true h), List.filter_nil]
      have e1 : jp_m 32 (([jo_tr S i] : List jp_P).map jp_l) = jp_l (jo_tr S i) := by
        show min (jp_l (jo_tr S i)) 32 = _
        omega
      rw [e1]
      rcases jp_en_step (d := 32) (by decide) (jp_m_d 32 (((jp_pre S i).filter (fun p => decide (jp_c z p = m))).map jp_l)) l2 with ⟨a, b⟩ | ⟨a, b⟩
      · rw [if_pos ⟨(nI_eq (by omega) hm).mpr h, a⟩, b]
      · rw [if_neg (fun q => a q.2), b]
    · rw [List.filter_cons_of_neg (by rw [decide_eq_true_eq]; exact h), List.filter_nil, if_neg (fun q => h ((nI_eq (by omega) hm).mp q.1))]
      have e0 : jp_m 32 (([] : List jp_P).map jp_l) = 32 := rfl
      rw [e0, Nat.min_eq_left (jp_m_d _ _)]
end JPref
theorem jp_len1 (w : jo_V) (T : List jp_P) : (T.filter (fun p => jo_kd 0 (jo_pk w p) (jo_pn p) && (decide ((-1 : Int32) < 0) || decide (jo_pc (jo_mz w) p = -1)))).length = T.length := by
  rw [List.filter_eq_self.mpr]
  intro p _
  simp [jo_kd]
theorem jp_len2 (w : jo_V) (T : List jp_P) : (T.filter (fun p => jo_kd 2 (jo_pk w p) (jo_pn p) && (decide ((-1 : Int32) < 0) || decide (jo_pc (jo_mz w) p = -1)))).length = (T.filter (jp_k (jo_mlk w))).length := by
  rw [List.filter_congr (q := jp_k (jo_mlk w))]
  intro p _
  have e : jo_kd 2 (jo_pk w p) (jo_pn p) = jp_k (jo_mlk w) p := by
    simp [jo_kd]
    rfl
  rw [e]
  simp
theorem jp_len3 {w : jo_V} {z : Nat → Nat} (hz : ∀ T, jo_mz w T = nI (z T)) (T : List jp_P) (hF : ∀ p ∈ T, jp_c z p < jp_F) : (T.filter (fun p => jo_kd 0 (jo_pk w p) (jo_pn p) && (decide (nI (jp_mn (jp_cs z T)) < 0) || decide (jo_pc (jo_mz w) p = nI (jp_mn (jp_cs z T)))))).length = jp_ti (jp_cs z T) := by
  have e : jp_ti (jp_cs z T) = (T.filter (fun p => decide (jp_c z p = jp_mn (jp_cs z T)))).length := by
    unfold jp_ti
    rw [List.count_eq_countP]
    generalize jp_mn (jp_cs z T) = m
    unfold jp_cs
    rw [List.countP_map, List.countP_eq_length_filter]
    rw [List.filter_congr (q := fun p => decide (jp_c z p = m))]
    intro p _
    show (jp_c z p == m) = _
    by_cases q : jp_c z p = m <;> simp [q]
  rw [e, List.filter_congr]
  intro p hp
  have b1 : jp_c z p < 2 ^ 31 := Nat.lt_trans (hF p hp) jp_F31
  have b2 := jp_mn31 (jp_cs z T)
  have e3 : decide (nI (jp_c z p) = nI (jp_mn (jp_cs z T))) = decide (jp_c z p = jp_mn (jp_cs z T)) := decide_eq_decide.mpr (nI_eq b1 b2)
  have e4 : jo_kd 0 (jo_pk w p) (jo_pn p) = true := by simp [jo_kd]
  have e5 : decide (nI (jp_mn (jp_cs z T)) < 0) = false := decide_eq_false (nI_pos b2)
  rw [jp_pc hz, e3, e4, e5]
  simp
/-- what the reference answers of a set, all its questions over plans -/
theorem jp_answers {w : jo_V} {z : Nat → Nat} (hz : ∀ T, jo_mz w T = nI (z T)) (hb : ∀ T, z T ≤ 2 ^ (6 * jo_cn T)) {S : Nat} (h : S < 32) (h0 : 0 < S) : jo_ex w S 0 false (jo_NP S) = nI (jp_mn (jp_cs z (jp_T S))) ∧ jo_ex w S 1 false (jo_NP S) = nI (jp_mn (jp_cs z ((jp_T S).filter jo_pn))) ∧ jo_ex w S 2 false (jo_NP S) = jp_en jp_F (jp_mn (jp_cs z ((jp_T S).filter (jp_k (jo_mlk w))))) ∧ jo_ex w S 0 true (jo_NP S) = nI (jp_mx (jp_cs z (jp_T S))) ∧ jo_lf w S (nI (jp_mn (jp_cs z (jp_T S)))) (jo_NP S) = (if S &&& (S - 1) = 0 then -4 else nI (jp_lm z (jp_T S))) ∧ jo_cp w S 0 (-1) (jo_NP S) = (jp_T S).length ∧ jo_cp w S 2 (-1) (jo_NP S) = ((jp_T S).filter (jp_k (jo_mlk w))).length ∧ jo_cp w S 0 (nI (jp_mn (jp_cs z (jp_T S)))) (jo_NP S) = jp_ti (jp_cs z (jp_T S)) := by
  have hT : jp_pre S (jo_NP S) = jp_T S := jp_T_eq h h0
  have hFT : ∀ p ∈ jp_T S, jp_c z p < jp_F := fun p hp => Nat.lt_of_le_of_lt (jp_bd hb S S (Nat.le_refl _) h0 h p hp) (jp_B_F S h)
  have hm : ∀ j, j < jo_NP S → jo_tr S j ∈ jp_T S := fun j hj => by rw [← hT]; exact List.mem_map.mpr ⟨j, List.mem_range.mpr hj, rfl⟩
  have hF : ∀ j, j < jo_NP S → jp_c z (jo_tr S j) < jp_F := fun j hj => hFT _ (hm j hj)
  have hlt : ∀ Q : List jp_P, Q ≠ [] → (∀ p ∈ Q, jp_c z p < jp_F) → ¬ jp_mn (jp_cs z Q) = jp_F := by
    intro Q hQ hQF
    have := (jp_m_ne (jp_cs_ne (z := z) hQ) (fun a ha => by obtain ⟨p, hp, rfl⟩ := jp_cs_mem.mp ha; exact hQF p hp)).1
    unfold jp_mn
    omega
  have f0 : (jp_T S).filter (fun p => jo_kd 0 (jo_pk w p) (jo_pn p)) = jp_T S := by
    rw [List.filter_eq_self]
    intro p _
    simp [jo_kd]
  have f1 : (fun p => jo_kd 1 (jo_pk w p) (jo_pn p)) = jo_pn := by
    funext p
    simp [jo_kd]
  have f2 : (fun p => jo_kd 2 (jo_pk w p) (jo_pn p)) = jp_k (jo_mlk w) := by
    funext p
    simp [jo_kd]
    rfl
  refine ⟨?_, ?_, ?_, ?_, ?_, ?_, ?_, ?_⟩
  · rw [jp_ex_f hz hF 0 _ (Nat.le_refl _), hT, f0]
    unfold jp_en
    rw [if_neg (hlt _ (jp_T_ne h h0) hFT)]
  · rw [jp_ex_f hz hF 1 _ (Nat.le_refl _), hT, f1]
    unfold jp_en
    rw [if_neg (hlt _ (jp_T_lin_ne h h0) (fun p hp => hFT p (List.mem_filter.mp hp).1))]
  · rw [jp_ex_f hz hF 2 _ (Nat.le_refl _), hT, f2]
  · rw [jp_ex_t hz hF _ (Nat.le_refl _), hT, if_neg]
    intro q
    have : jp_T S = [] := by rw [← hT, q]; rfl
    exact jp_T_ne h h0 this
  · by_cases c : S &&& (S - 1) = 0
    · rw [if_pos c]
      have e1 := jp_one S h h0 c
      have hN : jo_NP S = 1 := by
        have := congrArg List.length (hT.trans e1)
        simpa [jp_pre] using this
      have e2 : jo_tr S 0 = [] := by
        have := hT.trans e1
        rw [hN] at this
        simpa [jp_pre] using this
      rw [hN]
      unfold jo_lf
      rw [e2]
      split <;> rfl
    · rw [if_neg c]
      have hl : ∀ p ∈ jp_T S, jo_pf p = nI (jp_l p) ∧ jp_l p < 32 := by
        intro p hp
        have hp := (jp_per h h0 c).mem_iff.mpr hp
        unfold jp_D at hp
        obtain ⟨L, hL, hp⟩ := List.mem_flatMap.mp hp
        obtain ⟨a, ha, b, hb, rfl⟩ := jp_J_mem.mp hp
        have := jp_sb_ok S h L hL
        rw [jo_pf_add, jp_l_add]
        exact ⟨rfl, by show L < 32; omega⟩
      rw [jp_lf_eq hz hF (fun j hj => hl _ (hm j hj)) (jp_mn31 _) _ (Nat.le_refl _), hT]
      unfold jp_en
      rw [if_neg]
      · rfl
      · obtain ⟨m1, m2⟩ := jp_m_ne (d := jp_F) (jp_cs_ne (z := z) (jp_T_ne h h0)) (fun a ha => by obtain ⟨p, hp, rfl⟩ := jp_cs_mem.mp ha; exact hFT p hp)
        obtain ⟨p, hp, e⟩ := jp_cs_mem.mp m2
        have hin : jp_l p ∈ ((jp_T S).filter (fun p => decide (jp_c z p = jp_mn (jp_cs z (jp_T S))))).map jp_l := List.mem_map.mpr ⟨p, List.mem_filter.mpr ⟨hp, decide_eq_true e⟩, rfl⟩
        have := jp_m_le (d := 32) hin
        have := (hl p hp).2
        omega
  · rw [jp_cp_eq, hT]
    exact jp_len1 w (jp_T S)
  · rw [jp_cp_eq, hT]
    exact jp_len2 w (jp_T S)
  · rw [jp_cp_eq, hT]
    exact jp_len3 hz (jp_T S) hFT
end
section
/-! THE PLAIN LAW, 7: the two objects' tables and filters, their sizes and links -/
def jp_Cell (v w : jo_V) (c : Nat) : Prop := (v 2 c = jo_b false ∧ v 1 c = nI 0 ∧ w 1 c = -1) ∨ (v 2 c = jo_b true ∧ ∃ s, s ≤ 6 ∧ v 1 c = nI s ∧ w 1 c = nI s)
def jp_Dat (v w : jo_V) : Prop := (∀ i, i < 5 → v 0 i = w 0 i ∧ ∃ s, s ≤ 6 ∧ v 0 i = nI s) ∧ (∀ i j, i < 5 → j < 5 → jp_Cell v w (i * 5 + j)) ∧ ∀ i j, i < 5 → j < 5 → v 2 (i * 5 + j) = v 2 (j * 5 + i)
theorem jp_Dat.frame {v w v' w' : jo_V} (h : jp_Dat v w) (h0 : v' 0 = v 0) (h1 : v' 1 = v 1) (h2 : v' 2 = v 2) (k0 : w' 0 = w 0) (k1 : w' 1 = w 1) : jp_Dat v' w' := by
  unfold jp_Dat jp_Cell at h ⊢
  rw [h0, h1, h2, k0, k1]
  exact h
theorem jp_0 : nI 0 = 0 := nI_0
theorem jp_sub0 (x : Int32) : x - nI 0 = x := by rw [nI_0]; exact Int32.sub_zero x
theorem jp_bf_mul (y : Int32) : jo_b false * y = nI 0 := by
  show nI 0 * y = nI 0
  rw [nI_0]; exact Int32.zero_mul
theorem jp_bt_mul (y : Int32) : jo_b true * y = y := by
  show nI 1 * y = y
  have : nI 1 = 1 := by decide
  rw [this]; exact Int32.one_mul y
theorem jp_szI_eq {v w : jo_V} (h : jp_Dat v w) (S : Nat) {i : Nat} (hi : i < 5) (hb : S.testBit i = true) (s0 : Int32) : ∀ j, j ≤ 5 → jo_szI v S i s0 j = jo_mzI w S i s0 j
  | 0, _ => rfl
  | j + 1, hj => by
    have ih := jp_szI_eq h S hi hb s0 j (by omega)
    unfold jo_szI jo_mzI
    rw [ih]
    cases hc : S.testBit j
    · rw [jp_bf_mul, jp_sub0, if_neg (fun q => absurd q.2.1 (by decide))]
    · rw [jp_bt_mul]
      rcases h.2.1 i j hi (by omega) with ⟨_, a2, a3⟩ | ⟨_, s, b1, b2, b3⟩
      · rw [a2, a3, jp_sub0, if_neg (fun q => absurd q.2.2 (by decide))]
      · rw [b2, b3]
        by_cases e : s = 0
        · subst e
          rw [if_neg (fun q => absurd q.2.2 (by decide)), jp_sub0]
        · rw [if_pos ⟨hb, rfl, by rw [← nI_0]; exact nI_lt (by omega) (by omega)⟩]
theorem jp_mzI_no {w : jo_V} {S i : Nat} (hb : S.testBit i = false) (s0 : Int32) : ∀ j, jo_mzI w S i s0 j = s0
  | 0 => rfl
  | j + 1 => by
    unfold jo_mzI
    rw [jp_mzI_no hb s0 j, hb, if_neg (fun q => absurd q.1 (by decide))]
theorem jp_szO_eq {v w : jo_V} (h : jp_Dat v w) (S : Nat) : ∀ i, i ≤ 5 → jo_szO v S i = jo_mzO w S i
  | 0, _ => rfl
  | i + 1, hi => by
    have ih := jp_szO_eq h S i (by omega)
    unfold jo_szO jo_mzO
    cases hb : S.testBit i
    · rw [if_neg (by decide), if_neg (by decide), jp_mzI_no hb]
      exact ih
    · rw [if_pos rfl, if_pos rfl, ih, (h.1 i (by omega)).1]
      exact jp_szI_eq h S (by omega) hb _ i (by omega)
theorem jp_sz_eq {v w : jo_V} (h : jp_Dat v w) (S : Nat) : jo_sz v S = jo_mz w S := by
  unfold jo_sz jo_mz
  rw [jp_szO_eq h S 5 (Nat.le_refl _)]
theorem jp_sub_add (a b s : Nat) : nI a - nI b + nI s = nI (a + s) - nI b := by
  rw [← nI_add, Int32.sub_eq_add_neg, Int32.sub_eq_add_neg, Int32.add_assoc, Int32.add_assoc, Int32.add_comm (-nI b)]
theorem jp_sub_sub (a b s : Nat) : nI a - nI b - nI s = nI a - nI (b + s) := by
  rw [← nI_add, Int32.sub_sub]
theorem jp_mzI_in {v w : jo_V} (h : jp_Dat v w) (S : Nat) {i : Nat} (hi : i < 5) (a b : Nat) : ∀ j, j ≤ 5 → ∃ b', b' ≤ b + 6 * j ∧ jo_mzI w S i (nI a - nI b) j = nI a - nI b'
  | 0, _ => ⟨b, by omega, rfl⟩
  | j + 1, hj => by
    obtain ⟨b', h1, h2⟩ := jp_mzI_in h S hi a b j (by omega)
    unfold jo_mzI
    rw [h2]
    by_cases c : S.testBit i = true ∧ S.testBit j = true ∧ 0 < w 1 (i * 5 + j)
    · rw [if_pos c]
      rcases h.2.1 i j hi (by omega) with ⟨_, a2, a3⟩ | ⟨_, s, b1, b2, b3⟩
      · rw [a3] at c
        exact absurd c.2.2 (by decide)
      · rw [b3, jp_sub_sub]
        exact ⟨b' + s, by omega, rfl⟩
    · rw [if_neg c]
      exact ⟨b', by omega, rfl⟩
theorem jp_mzO_in {v w : jo_V} (h : jp_Dat v w) (S : Nat) : ∀ i, i ≤ 5 → ∃ a b, a ≤ 6 * jo_cnN S i ∧ b ≤ 30 * i ∧ jo_mzO w S i = nI a - nI b
  | 0, _ => ⟨0, 0, by omega, by omega, (jp_sub0 (nI 0)).symm⟩
  | i + 1, hi => by
    obtain ⟨a, b, h1, h2, h3⟩ := jp_mzO_in h S i (by omega)
    unfold jo_mzO jo_cnN
    obtain ⟨e, s, hs, es⟩ := h.1 i (by omega)
    by_cases c : S.testBit i = true
    · rw [if_pos c, if_pos c, h3, ← e, es, jp_sub_add]
      obtain ⟨b', k1, k2⟩ := jp_mzI_in h S (i := i) (by omega) (a + s) b i (by omega)
      exact ⟨a + s, b', by omega, by omega, k2⟩
    · rw [if_neg c, if_neg c, h3]
      obtain ⟨b', k1, k2⟩ := jp_mzI_in h S (i := i) (by omega) a b i (by omega)
      exact ⟨a, b', by omega, by omega, k2⟩
theorem jp_cnN_le (S : Nat) : ∀ i, jo_cnN S i ≤ i
  | 0 => Nat.le_refl _
  | i + 1 => by
    have := jp_cnN_le S i
    unfold jo_cnN
    split <;> omega
def jp_z (w : jo_V) (S : Nat) : Nat := (jo_mz w S).toNatClampNeg
theorem jp_z_ok {v w : jo_V} (h : jp_Dat v w) (S : Nat) : jo_mz w S = nI (jp_z w S) ∧ jp_z w S ≤ 2 ^ (6 * jo_cn S) := by
  have key : ∃ n, jo_mz w S = nI n ∧ n ≤ 2 ^ (6 * jo_cn S) := by
    obtain ⟨a, b, h1, h2, h3⟩ := jp_mzO_in h S 5 (Nat.le_refl _)
    have hc := jp_cnN_le S 5
    unfold jo_mz
    rw [h3]
    by_cases c : a < b
    · rw [if_pos (pk_sneg (by omega) c)]
      exact ⟨1, rfl, Nat.one_le_two_pow⟩
    · rw [pk_sub (by omega), if_neg (nI_pos (by omega)), jo_pow (by omega)]
      exact ⟨2 ^ (a - b), rfl, Nat.pow_le_pow_right (by omega) (by unfold jo_cn; omega)⟩
  obtain ⟨n, e, hn⟩ := key
  have hc : jo_cn S ≤ 5 := jp_cnN_le S 5
  have h30 : (2 : Nat) ^ (6 * jo_cn S) ≤ 2 ^ 30 := Nat.pow_le_pow_right (by omega) (by omega)
  have hn31 : n < 2 ^ 31 := by omega
  have ez : jp_z w S = n := by
    unfold jp_z
    rw [e, nI_clamp hn31]
  rw [ez]
  exact ⟨e, hn⟩
/-! links -/
theorem jp_lwJ_bit (v : jo_V) (S i o t : Nat) : ∀ j, (jo_lwJ v S i o j).testBit t = true ↔ o.testBit t = true ∨ (S.testBit i = true ∧ t < j ∧ ¬ v 2 (i * 5 + t) = 0)
  | 0 => by
    unfold jo_lwJ
    constructor
    · exact Or.inl
    · rintro (q | q)
      · exact q
      · omega
  | j + 1 => by
    have ih := jp_lwJ_bit v S i o t j
    unfold jo_lwJ
    by_cases c : S.testBit i = true ∧ ¬ v 2 (i * 5 + j) = 0
    · rw [if_pos c, Nat.testBit_or, Bool.or_eq_true, ih, Nat.testBit_two_pow, decide_eq_true_eq]
      constructor
      · rintro ((q | q) | q)
        · exact Or.inl q
        · exact Or.inr ⟨q.1, by omega, q.2.2⟩
        · subst q
          exact Or.inr ⟨c.1, by omega, c.2⟩
      · rintro (q | q)
        · exact Or.inl (Or.inl q)
        · by_cases e : j = t
          · exact Or.inr e
          · exact Or.inl (Or.inr ⟨q.1, by omega, q.2.2⟩)
    · rw [if_neg c, ih]
      constructor
      · rintro (q | q)
        · exact Or.inl q
        · exact Or.inr ⟨q.1, by omega, q.2.2⟩
      · rintro (q | q)
        · exact Or.inl q
        · by_cases e : j = t
          · subst e
            exact absurd ⟨q.1, q.2.2⟩ c
          · exact Or.inr ⟨q.1, by omega, q.2.2⟩
theorem jp_lwO_bit (v : jo_V) (S t : Nat) : ∀ i, (jo_lwO v S i).testBit t = true ↔ ∃ i', i' < i ∧ S.testBit i' = true ∧ t < 5 ∧ ¬ v 2 (i' * 5 + t) = 0
  | 0 => by
    unfold jo_lwO
    constructor
    · intro q
      rw [Nat.zero_testBit] at q
      exact absurd q (by decide)
    · rintro ⟨i', q, _⟩
      omega
  | i + 1 => by
    have ih := jp_lwO_bit v S t i
    unfold jo_lwO
    rw [jp_lwJ_bit, ih]
    constructor
    · rintro (⟨i', q1, q2⟩ | q)
      · exact ⟨i', by omega, q2⟩
      · exact ⟨i, by omega, q⟩
    · rintro ⟨i', q1, q2⟩
      by_cases e : i' = i
      · subst e
        exact Or.inr q2
      · exact Or.inl ⟨i', by omega, q2⟩
theorem jp_lw_bit (v : jo_V) (S t : Nat) : (jo_lw v S).testBit t = true ↔ ∃ i, i < 5 ∧ S.testBit i = true ∧ t < 5 ∧ ¬ v 2 (i * 5 + t) = 0 := jp_lwO_bit v S t 5
theorem jp_and0 (A R : Nat) : A &&& R = 0 ↔ ∀ t, ¬ (A.testBit t = true ∧ R.testBit t = true) := by
  constructor
  · intro h t q
    have : (A &&& R).testBit t = true := by rw [Nat.testBit_and, q.1, q.2]; rfl
    rw [h, Nat.zero_testBit] at this
    exact absurd this (by decide)
  · intro h
    apply Nat.eq_of_testBit_eq
    intro t
    rw [Nat.testBit_and, Nat.zero_testBit]
    cases a : A.testBit t
    · rfl
    · cases b : R.testBit t
      · rfl
      · exact absurd ⟨a, b⟩ (h t)
theorem jp_cell_lt {v w : jo_V} {c : Nat} (h : jp_Cell v w c) : w 1 c < 0 ↔ v 2 c = 0 := by
  rcases h with ⟨a1, a2, a3⟩ | ⟨b0, s, b1, b2, b3⟩
  · rw [a1, a3]
    decide
  · rw [b0, b3]
    constructor
    · intro q
      exact absurd q (nI_pos (by omega))
    · intro q
      exact absurd q (by decide)
theorem jp_mlk_iff {v w : jo_V} (h : jp_Dat v w) (L R : Nat) : jo_mlk w L R = true ↔ ∃ i j, i < 5 ∧ j < 5 ∧ L.testBit i = true ∧ R.testBit j = true ∧ ¬ v 2 (i * 5 + j) = 0 := by
  unfold jo_mlk
  rw [List.any_eq_true]
  constructor
  · rintro ⟨c, hc, q⟩
    have hc := List.mem_range.mp hc
    unfold jo_hit at q
    simp only [Bool.and_eq_true, Bool.not_eq_true', decide_eq_false_iff_not] at q
    obtain ⟨⟨q1, q2⟩, q3⟩ := q
    have e : c / 5 * 5 + c % 5 = c := by omega
    have hcell := h.2.1 (c / 5) (c % 5) (by omega) (by omega)
    refine ⟨c / 5, c % 5, by omega, by omega, q2, q3, fun z => q1 ?_⟩
    rw [← e]
    exact (jp_cell_lt hcell).mpr z
  · rintro ⟨i, j, hi, hj, q1, q2, q3⟩
    refine ⟨i * 5 + j, List.mem_range.mpr (by omega), ?_⟩
    unfold jo_hit
    have e1 : (i * 5 + j) / 5 = i := by omega
    have e2 : (i * 5 + j) % 5 = j := by omega
    rw [e1, e2, q1, q2, decide_eq_false (fun z => q3 ((jp_cell_lt (h.2.1 i j hi hj)).mp z))]
    rfl
theorem jp_lw_lk {v w : jo_V} (h : jp_Dat v w) (L R : Nat) : jo_lw v L &&& R = 0 ↔ jo_mlk w L R = false := by
  rw [jp_and0, ← Bool.not_eq_true, jp_mlk_iff h]
  constructor
  · rintro q ⟨i, j, hi, hj, q1, q2, q3⟩
    exact q j ⟨(jp_lw_bit v L j).mpr ⟨i, hi, q1, hj, q3⟩, q2⟩
  · rintro q t ⟨q1, q2⟩
    obtain ⟨i, hi, k1, k2, k3⟩ := (jp_lw_bit v L t).mp q1
    exact q ⟨i, t, hi, k2, k1, q2, k3⟩
theorem jp_hyp {v w : jo_V} (h : jp_Dat v w) : jp_Hyp (jp_z w) (jo_mlk w) v :=
  ⟨fun S => (jp_z_ok h S).2, fun S => by rw [jp_sz_eq h]; exact (jp_z_ok h S).1, fun L R => jp_lw_lk h L R⟩
end
section
/-! THE PLAIN LAW, 8: connected: what is reached from the first table, and the cuts -/
theorem jp_bit5 {S t : Nat} (hS : S < 32) (h : S.testBit t = true) : t < 5 := by
  by_cases c : t < 5
  · exact c
  · have : S < 2 ^ t := Nat.lt_of_lt_of_le hS (show 2 ^ 5 ≤ 2 ^ t from Nat.pow_le_pow_right (by omega) (by omega))
    rw [Nat.testBit_lt_two_pow this] at h
    exact absurd h (by decide)
theorem jp_dif_bit {S L t : Nat} (hS : S < 32) : (jo_dif S L).testBit t = true ↔ S.testBit t = true ∧ ¬ L.testBit t = true := by
  unfold jo_dif
  rw [Nat.testBit_and, Nat.testBit_xor, Bool.and_eq_true]
  constructor
  · rintro ⟨h1, h2⟩
    refine ⟨h1, fun q => ?_⟩
    have h31 : (31 : Nat).testBit t = true := by
      have : t < 5 := jp_bit5 hS h1
      rcases (show t = 0 ∨ t = 1 ∨ t = 2 ∨ t = 3 ∨ t = 4 by omega) with e | e | e | e | e <;> subst e <;> decide
    rw [q, h31] at h2
    exact absurd h2 (by decide)
  · rintro ⟨h1, h2⟩
    refine ⟨h1, ?_⟩
    have h31 : (31 : Nat).testBit t = true := by
      have : t < 5 := jp_bit5 hS h1
      rcases (show t = 0 ∨ t = 1 ∨ t = 2 ∨ t = 3 ∨ t = 4 by omega) with e | e | e | e | e <;> subst e <;> decide
    have h3 : L.testBit t = false := by
      cases q : L.testBit t
      · rfl
      · exact absurd q h2
    rw [h3, h31]
    rfl
theorem jp_sub_and {A B : Nat} (h : ∀ t, A.testBit t = true → B.testBit t = true) : A &&& B = A := by
  apply Nat.eq_of_testBit_eq
  intro t
  rw [Nat.testBit_and]
  cases a : A.testBit t
  · rfl
  · rw [h t a]; rfl
theorem jp_sub_le {A B : Nat} (h : ∀ t, A.testBit t = true → B.testBit t = true) : A ≤ B := by
  have e := jp_sub_and h
  have := Nat.and_le_right (n := A) (m := B)
  omega
theorem jp_bit_ex {A : Nat} (h : 0 < A) : ∃ t, A.testBit t = true := by
  apply Classical.byContradiction
  intro q
  have : A = 0 := by
    apply Nat.eq_of_testBit_eq
    intro t
    rw [Nat.zero_testBit]
    cases a : A.testBit t
    · rfl
    · exact absurd ⟨t, a⟩ q
  omega
set_option maxRecDepth 100000 in
theorem jp_low : ∀ S, S < 32 → 0 < S → ∃ t, t < 5 ∧ jo_low S = 2 ^ t ∧ S.testBit t = true := by decide +kernel
set_option maxRecDepth 100000 in
theorem jp_cn_lt : ∀ A, A < 32 → ∀ B, B < 32 → A &&& B = A → ¬ A = B → jo_cn A < jo_cn B := by decide +kernel
section JPcon
variable {v w : jo_V} {S : Nat}
theorem jp_seen_bit (v : jo_V) (S n t : Nat) : (jo_seen v S (n + 1)).testBit t = true ↔ (jo_seen v S n).testBit t = true ∨ ((jo_lw v (jo_seen v S n)).testBit t = true ∧ S.testBit t = true) := by
  have e : jo_seen v S (n + 1) = jo_seen v S n ||| (jo_lw v (jo_seen v S n) &&& S) := rfl
  rw [e, Nat.testBit_or, Nat.testBit_and, Bool.or_eq_true, Bool.and_eq_true]
theorem jp_seen_low (v : jo_V) {t : Nat} (e : jo_low S = 2 ^ t) : ∀ n, (jo_seen v S n).testBit t = true
  | 0 => by
    have e0 : jo_seen v S 0 = jo_low S := rfl
    rw [e0, e]; exact Nat.testBit_two_pow_self
  | n + 1 => (jp_seen_bit v S n t).mpr (Or.inl (jp_seen_low v e n))
theorem jp_seen_sub (v : jo_V) {t0 : Nat} (e : jo_low S = 2 ^ t0) (h0 : S.testBit t0 = true) : ∀ n t, (jo_seen v S n).testBit t = true → S.testBit t = true
  | 0, t, h => by
    have e0 : jo_seen v S 0 = jo_low S := rfl
    rw [e0, e, Nat.testBit_two_pow, decide_eq_true_eq] at h
    rw [← h]; exact h0
  | n + 1, t, h => by
    rcases (jp_seen_bit v S n t).mp h with q | q
    · exact jp_seen_sub v e h0 n t q
    · exact q.2
theorem jp_seen_fix (v : jo_V) (hS : S < 32) (h0 : 0 < S) : ∀ n, jo_seen v S (n + 1) = jo_seen v S n ∨ n + 2 ≤ jo_cn (jo_seen v S (n + 1))
  | 0 => by
    obtain ⟨t, _, e, ht⟩ := jp_low S hS h0
    by_cases c : jo_seen v S 0 = jo_seen v S 1
    · exact Or.inl c.symm
    · have h1 : 0 < jo_seen v S 0 := by
        have := jp_seen_low v e 0
        rcases Nat.eq_zero_or_pos (jo_seen v S 0) with q | q
        · rw [q, Nat.zero_testBit] at this
          exact absurd this (by decide)
        · exact q
      have := (jo_cn_in _ (jo_seen_lt v hS 0) h1).1
      have := jp_cn_lt _ (jo_seen_lt v hS 0) _ (jo_seen_lt v hS 1) (jp_sub_and (fun t q => (jp_seen_bit v S 0 t).mpr (Or.inl q))) c
      refine Or.inr ?_
      show 2 ≤ jo_cn (jo_seen v S 1)
      omega
  | n + 1 => by
    rcases jp_seen_fix v hS h0 n with ih | ih
    · left
      have e1 : jo_seen v S (n + 1 + 1) = jo_seen v S (n + 1) ||| (jo_lw v (jo_seen v S (n + 1)) &&& S) := rfl
      have e2 : jo_seen v S (n + 1) = jo_seen v S n ||| (jo_lw v (jo_seen v S n) &&& S) := rfl
      rw [e1, ih]
      exact e2.symm.trans ih
    · by_cases c : jo_seen v S (n + 1) = jo_seen v S (n + 1 + 1)
      · exact Or.inl c.symm
      · have := jp_cn_lt _ (jo_seen_lt v hS (n + 1)) _ (jo_seen_lt v hS (n + 1 + 1)) (jp_sub_and (fun t q => (jp_seen_bit v S (n + 1) t).mpr (Or.inl q))) c
        exact Or.inr (by omega)
theorem jp_seen_closed (v : jo_V) (hS : S < 32) (h0 : 0 < S) : jo_seen v S 6 = jo_seen v S 5 := by
  rcases jp_seen_fix v hS h0 5 with h | h
  · exact h
  · have h1 := jp_cnN_le (jo_seen v S 6) 5
    have h2 : 7 ≤ jo_cnN (jo_seen v S 6) 5 := h
    omega
theorem jp_con_iff (h : jp_Dat v w) (hS : S < 32) (h0 : 0 < S) : jo_seen v S 5 = S ↔ ¬ ∃ P, P < S ∧ jo_cut w S P = true := by
  obtain ⟨t0, ht0, el, ht⟩ := jp_low S hS h0
  constructor
  · rintro hs ⟨P, hP, hc⟩
    unfold jo_cut at hc
    simp only [Bool.and_eq_true, decide_eq_true_eq, Bool.not_eq_true'] at hc
    obtain ⟨⟨p0, p1⟩, p2⟩ := hc
    have psub : ∀ t, P.testBit t = true → S.testBit t = true := by
      intro t q
      apply Classical.byContradiction
      intro k
      have := (jp_dif_bit (S := P) (L := S) (t := t) (by omega)).mpr ⟨q, k⟩
      rw [p1, Nat.zero_testBit] at this
      exact absurd this (by decide)
    have nol : ∀ i j, P.testBit i = true → S.testBit j = true → ¬ P.testBit j = true → v 2 (i * 5 + j) = 0 := by
      intro i j qi qj qn
      apply Classical.byContradiction
      intro k
      have := (jp_mlk_iff h P (jo_dif S P)).mpr ⟨i, j, jp_bit5 (by omega) qi, jp_bit5 hS qj, qi, (jp_dif_bit hS).mpr ⟨qj, qn⟩, k⟩
      rw [p2] at this
      exact absurd this (by decide)
    by_cases c : P.testBit t0 = true
    · have ins : ∀ n t, (jo_seen v S n).testBit t = true → P.testBit t = true := by
        intro n
        induction n with
        | zero =>
          intro t q
          have e0 : jo_seen v S 0 = jo_low S := rfl
          rw [e0, el, Nat.testBit_two_pow, decide_eq_true_eq] at q
          rw [← q]; exact c
        | succ n ih =>
          intro t q
          rcases (jp_seen_bit v S n t).mp q with q | ⟨q1, q2⟩
          · exact ih t q
          · obtain ⟨i, hi, k1, k2, k3⟩ := (jp_lw_bit v _ t).mp q1
            apply Classical.byContradiction
            intro k
            exact k3 (nol i t (ih i k1) q2 k)
      have := jp_sub_le (A := S) (B := P) (fun t q => ins 5 t (by rw [hs]; exact q))
      omega
    · have outs : ∀ n t, (jo_seen v S n).testBit t = true → ¬ P.testBit t = true := by
        intro n
        induction n with
        | zero =>
          intro t q
          have e0 : jo_seen v S 0 = jo_low S := rfl
          rw [e0, el, Nat.testBit_two_pow, decide_eq_true_eq] at q
          rw [← q]; exact c
        | succ n ih =>
          intro t q
          rcases (jp_seen_bit v S n t).mp q with q | ⟨q1, q2⟩
          · exact ih t q
          · obtain ⟨i, hi, k1, k2, k3⟩ := (jp_lw_bit v _ t).mp q1
            intro k
            have e := nol t i k (jp_seen_sub v el ht n i k1) (ih i k1)
            rw [h.2.2 t i k2 hi] at e
            exact k3 e
      obtain ⟨t, q⟩ := jp_bit_ex p0
      exact outs 5 t (by rw [hs]; exact psub t q) q
  · intro hn
    apply Classical.byContradiction
    intro hs
    apply hn
    have sub := jp_seen_sub v el ht 5
    have hle := jp_sub_le sub
    refine ⟨jo_seen v S 5, by omega, ?_⟩
    have lt5 := jo_seen_lt v hS 5
    have pos : 0 < jo_seen v S 5 := by
      rcases Nat.eq_zero_or_pos (jo_seen v S 5) with q | q
      · have := jp_seen_low v el 5
        rw [q, Nat.zero_testBit] at this
        exact absurd this (by decide)
      · exact q
    have d0 : jo_dif (jo_seen v S 5) S = 0 := by
      apply Nat.eq_of_testBit_eq
      intro t
      rw [Nat.zero_testBit]
      cases q : (jo_dif (jo_seen v S 5) S).testBit t
      · rfl
      · have := (jp_dif_bit lt5).mp q
        exact absurd (sub t this.1) this.2
    have nl : jo_mlk w (jo_seen v S 5) (jo_dif S (jo_seen v S 5)) = false := by
      rw [← Bool.not_eq_true, jp_mlk_iff h]
      rintro ⟨i, j, hi, hj, q1, q2, q3⟩
      have qd := (jp_dif_bit hS).mp q2
      have : (jo_seen v S 6).testBit j = true := (jp_seen_bit v S 5 j).mpr (Or.inr ⟨(jp_lw_bit v _ j).mpr ⟨i, hi, q1, hj, q3⟩, qd.1⟩)
      rw [jp_seen_closed v hS h0] at this
      exact qd.2 this
    unfold jo_cut
    rw [decide_eq_true pos, decide_eq_true d0, nl]
    rfl
theorem jp_con_eq (h : jp_Dat v w) (hS : S < 32) (h0 : 0 < S) : jo_con v (nI S) = jo_mcon w (nI S) := by
  unfold jo_con jo_mcon
  rw [nI_clamp (by omega)]
  congr 1
  have hi := jp_con_iff h hS h0
  cases c : (List.range S).any (jo_cut w S)
  · have : jo_seen v S 5 = S := hi.mpr (by
      rintro ⟨P, hP, q⟩
      have := List.any_eq_true.mpr ⟨P, List.mem_range.mpr hP, q⟩
      rw [c] at this
      exact absurd this (by decide))
    rw [decide_eq_true this]
    rfl
  · have : ¬ jo_seen v S 5 = S := fun e => hi.mp e (by
      obtain ⟨P, hP, q⟩ := List.any_eq_true.mp c
      exact ⟨P, List.mem_range.mp hP, q⟩)
    rw [decide_eq_false this]
    rfl
end JPcon
end
section
/-! THE PLAIN LAW, 9: linear plans one table after the other: what lies ahead, and the greedy way -/
def jp_py (z : Nat → Nat) (h i : Nat) : Nat := if h = 0 then 0 else z (h ||| 2 ^ i)
def jp_wc (z : Nat → Nat) : Nat → List Nat → Nat
  | _, [] => 0
  | h, i :: r => jp_py z h i + jp_wc z (h ||| 2 ^ i) r
theorem jp_ln_c (z : Nat → Nat) : ∀ (r : List Nat) (h : Nat), jp_c z (jp_ln h r) = jp_wc z h r
  | [], _ => rfl
  | i :: r, h => by
    unfold jp_ln jp_wc jp_py
    by_cases e : h = 0
    · rw [if_pos e, if_pos e, jp_ln_c z r, e, Nat.zero_or, Nat.zero_add]
    · rw [if_neg e, if_neg e, ← jp_ln_c z r]
      simp [jp_c]
/-- the ways from h to S -/
def jp_w (S h : Nat) : List (List Nat) := jp_wy S (5 - jo_cn h) h
def jp_nx (S h : Nat) : List Nat := (List.range 5).filter (fun i => decide (S.testBit i = true ∧ ¬ h ||| 2 ^ i = h))
def jp_mw (z : Nat → Nat) (S h : Nat) : Nat := jp_mn ((jp_w S h).map (jp_wc z h))
theorem jp_w_S (S : Nat) : jp_w S S = [[]] := by
  unfold jp_w
  cases (5 - jo_cn S) with
  | zero => rfl
  | succ n =>
    unfold jp_wy
    rw [if_pos rfl]
theorem jp_flat_if {α : Type} (p : Nat → Prop) [DecidablePred p] (f : Nat → List α) : ∀ l : List Nat, l.flatMap (fun i => if p i then f i else []) = (l.filter (fun i => decide (p i))).flatMap f
  | [] => rfl
  | a :: l => by
    rw [List.flatMap_cons, jp_flat_if p f l]
    by_cases c : p a
    · rw [if_pos c, List.filter_cons_of_pos (p := fun i => decide (p i)) (decide_eq_true c), List.flatMap_cons]
    · rw [if_neg c, List.filter_cons_of_neg (by rw [decide_eq_true_eq]; exact c), List.nil_append]
def jp_nxk (S h i : Nat) : Bool := decide (i < 5) && decide (h ||| 2 ^ i < 32) && decide ((h ||| 2 ^ i) &&& S = h ||| 2 ^ i) && decide (jo_cn (h ||| 2 ^ i) = jo_cn h + 1) && decide (h < h ||| 2 ^ i) && decide (jo_cn h < 5)
set_option maxRecDepth 100000 in
theorem jp_nx_k : ∀ S, S < 32 → ∀ h, h < 32 → h &&& S = h → (jp_nx S h).all (jp_nxk S h) = true := by decide +kernel
theorem jp_nx_ok (S : Nat) (hS : S < 32) (h : Nat) (hh : h < 32) (hs : h &&& S = h) (i : Nat) (hi : i ∈ jp_nx S h) : i < 5 ∧ h ||| 2 ^ i < 32 ∧ (h ||| 2 ^ i) &&& S = h ||| 2 ^ i ∧ jo_cn (h ||| 2 ^ i) = jo_cn h + 1 ∧ h < h ||| 2 ^ i ∧ jo_cn h < 5 := by
  have k := List.all_eq_true.mp (jp_nx_k S hS h hh hs) i hi
  unfold jp_nxk at k
  simp only [Bool.and_eq_true, decide_eq_true_eq] at k
  obtain ⟨⟨⟨⟨⟨a, b⟩, c⟩, d⟩, e⟩, f⟩ := k
  exact ⟨a, b, c, d, e, f⟩
set_option maxRecDepth 100000 in
theorem jp_nx_ne : ∀ S, S < 32 → ∀ h, h < 32 → h &&& S = h → ¬ h = S → jp_nx S h ≠ [] ∧ jo_cn h < 5 := by decide +kernel
theorem jp_wy_succ {S n h : Nat} (hn : ¬ h = S) : jp_wy S (n + 1) h = (List.range 5).flatMap (fun i => if S.testBit i = true ∧ ¬ h ||| 2 ^ i = h then (jp_wy S n (h ||| 2 ^ i)).map (fun r => i :: r) else []) := by
  have e : jp_wy S (n + 1) h = if h = S then [[]] else (List.range 5).flatMap (fun i => if S.testBit i = true ∧ ¬ h ||| 2 ^ i = h then (jp_wy S n (h ||| 2 ^ i)).map (fun r => i :: r) else []) := rfl
  rw [e, if_neg hn]
theorem jp_w_step {S h : Nat} (hS : S < 32) (hh : h < 32) (hs : h &&& S = h) (hn : ¬ h = S) : jp_w S h = (jp_nx S h).flatMap (fun i => (jp_w S (h ||| 2 ^ i)).map (fun r => i :: r)) := by
  obtain ⟨_, hc⟩ := jp_nx_ne S hS h hh hs hn
  have e : jp_w S h = (jp_nx S h).flatMap (fun i => (jp_wy S (4 - jo_cn h) (h ||| 2 ^ i)).map (fun r => i :: r)) := by
    unfold jp_w jp_nx
    rw [show 5 - jo_cn h = (4 - jo_cn h) + 1 by omega, jp_wy_succ hn]
    exact jp_flat_if (fun i => S.testBit i = true ∧ ¬ h ||| 2 ^ i = h) (fun i => (jp_wy S (4 - jo_cn h) (h ||| 2 ^ i)).map (fun r => i :: r)) (List.range 5)
  rw [e]
  unfold List.flatMap
  congr 1
  refine List.map_congr_left (fun i hi => ?_)
  have := jp_nx_ok S hS h hh hs i hi
  unfold jp_w
  rw [show 5 - jo_cn (h ||| 2 ^ i) = 4 - jo_cn h by omega]
set_option maxRecDepth 100000 in
theorem jp_w_ne : ∀ S, S < 32 → ∀ h, h < 32 → h &&& S = h → jp_w S h ≠ [] := by decide +kernel
/-- no way from a set of 5 - n tables costs more -/
def jp_gb : Nat → Nat
  | 0 => 0
  | n + 1 => 2 ^ (6 * (5 - n)) + jp_gb n
theorem jp_gb_le : ∀ n, n ≤ 5 → jp_gb n < jp_F := by decide
theorem jp_wc_le {z : Nat → Nat} (hz : ∀ T, z T ≤ 2 ^ (6 * jo_cn T)) {S : Nat} (hS : S < 32) : ∀ n h, jo_cn h + n = 5 → h < 32 → h &&& S = h → ∀ r ∈ jp_w S h, jp_wc z h r ≤ jp_gb n := by
  intro n
  induction n with
  | zero =>
    intro h hc hh hs r hr
    by_cases e : h = S
    · subst e
      rw [jp_w_S] at hr
      rw [List.mem_singleton.mp hr]
      exact Nat.zero_le _
    · have := (jp_nx_ne S hS h hh hs e).2
      omega
  | succ n ih =>
    intro h hc hh hs r hr
    by_cases e : h = S
    · subst e
      rw [jp_w_S] at hr
      rw [List.mem_singleton.mp hr]
      exact Nat.zero_le _
    · rw [jp_w_step hS hh hs e] at hr
      obtain ⟨i, hi, hr⟩ := List.mem_flatMap.mp hr
      obtain ⟨r', hr', rfl⟩ := List.mem_map.mp hr
      obtain ⟨k1, k2, k3, k4, k5, k6⟩ := jp_nx_ok S hS h hh hs i hi
      have i1 := ih (h ||| 2 ^ i) (by omega) k2 k3 r' hr'
      have i2 := hz (h ||| 2 ^ i)
      rw [show jo_cn (h ||| 2 ^ i) = 5 - n by omega] at i2
      have i3 : jp_py z h i ≤ z (h ||| 2 ^ i) := by
        unfold jp_py
        split <;> omega
      show jp_py z h i + jp_wc z (h ||| 2 ^ i) r' ≤ 2 ^ (6 * (5 - n)) + jp_gb n
      omega
theorem jp_wc_F {z : Nat → Nat} (hz : ∀ T, z T ≤ 2 ^ (6 * jo_cn T)) {S h : Nat} (hS : S < 32) (hh : h < 32) (hs : h &&& S = h) : ∀ r ∈ jp_w S h, jp_wc z h r < jp_F := by
  intro r hr
  have hc : jo_cn h ≤ 5 := jp_cnN_le h 5
  have h1 := jp_wc_le hz hS (5 - jo_cn h) h (by omega) hh hs r hr
  have h2 := jp_gb_le (5 - jo_cn h) (by omega)
  omega
theorem jp_m_flat {α : Type} (d : Nat) (f : α → List Nat) : ∀ l : List α, jp_m d (l.flatMap f) = jp_m d (l.map (fun a => jp_m d (f a)))
  | [] => rfl
  | a :: l => by rw [List.flatMap_cons, jp_m_app, jp_m_flat d f l, List.map_cons, jp_m_cons]
theorem jp_mn_shift {c : Nat} {l : List Nat} (hne : l ≠ []) (h : ∀ a ∈ l, c + a < jp_F) : jp_mn (l.map (fun a => c + a)) = c + jp_mn l := by
  obtain ⟨_, hm⟩ := jp_m_ne (d := jp_F) hne (fun a ha => by have := h a ha; omega)
  refine jp_m_eq (List.mem_map.mpr ⟨_, hm, rfl⟩) (fun b hb => ?_) (Nat.le_of_lt (h _ hm))
  obtain ⟨a, ha, rfl⟩ := List.mem_map.mp hb
  have := jp_m_le (d := jp_F) ha
  unfold jp_mn
  omega
section JPway
variable {z : Nat → Nat} {S h : Nat}
theorem jp_mw_lt (hz : ∀ T, z T ≤ 2 ^ (6 * jo_cn T)) (hS : S < 32) (hh : h < 32) (hs : h &&& S = h) : jp_mw z S h < jp_F ∧ ∃ r, r ∈ jp_w S h ∧ jp_wc z h r = jp_mw z S h := by
  have hne : (jp_w S h).map (jp_wc z h) ≠ [] := fun q => jp_w_ne S hS h hh hs (List.map_eq_nil_iff.mp q)
  obtain ⟨h1, h2⟩ := jp_m_ne (d := jp_F) hne (fun a ha => by obtain ⟨r, hr, rfl⟩ := List.mem_map.mp ha; exact jp_wc_F hz hS hh hs r hr)
  obtain ⟨r, hr, e⟩ := List.mem_map.mp h2
  exact ⟨h1, r, hr, e⟩
theorem jp_mw_S (z : Nat → Nat) (S : Nat) : jp_mw z S S = 0 := by
  unfold jp_mw
  rw [jp_w_S]
  rfl
theorem jp_mw_in (hz : ∀ T, z T ≤ 2 ^ (6 * jo_cn T)) (hS : S < 32) (hh : h < 32) (hs : h &&& S = h) (hn : ¬ h = S) {i : Nat} (hi : i ∈ jp_nx S h) : jp_py z h i + jp_mw z S (h ||| 2 ^ i) < jp_F := by
  obtain ⟨k1, k2, k3, k4, k5, k6⟩ := jp_nx_ok S hS h hh hs i hi
  obtain ⟨_, r, hr, e⟩ := jp_mw_lt hz hS k2 k3
  have : (i :: r) ∈ jp_w S h := by
    rw [jp_w_step hS hh hs hn]
    exact List.mem_flatMap.mpr ⟨i, hi, List.mem_map.mpr ⟨r, hr, rfl⟩⟩
  have := jp_wc_F hz hS hh hs _ this
  rw [← e]
  exact this
theorem jp_mw_step (hz : ∀ T, z T ≤ 2 ^ (6 * jo_cn T)) (hS : S < 32) (hh : h < 32) (hs : h &&& S = h) (hn : ¬ h = S) : jp_mw z S h = jp_mn ((jp_nx S h).map (fun i => jp_py z h i + jp_mw z S (h ||| 2 ^ i))) := by
  have e : jp_mw z S h = jp_mn ((jp_nx S h).map (fun i => jp_mn (((jp_w S (h ||| 2 ^ i)).map (fun r => i :: r)).map (jp_wc z h)))) := by
    unfold jp_mw
    rw [jp_w_step hS hh hs hn, List.map_flatMap]
    exact jp_m_flat _ _ _
  rw [e]
  congr 1
  refine List.map_congr_left (fun i hi => ?_)
  obtain ⟨k1, k2, k3, k4, k5, k6⟩ := jp_nx_ok S hS h hh hs i hi
  rw [List.map_map]
  have e2 : (jp_w S (h ||| 2 ^ i)).map (jp_wc z h ∘ fun r => i :: r) = ((jp_w S (h ||| 2 ^ i)).map (jp_wc z (h ||| 2 ^ i))).map (fun a => jp_py z h i + a) := by
    rw [List.map_map]
    rfl
  rw [e2]
  refine jp_mn_shift (fun q => jp_w_ne S hS _ k2 k3 (List.map_eq_nil_iff.mp q)) (fun a ha => ?_)
  obtain ⟨r, hr, rfl⟩ := List.mem_map.mp ha
  have : (i :: r) ∈ jp_w S h := by
    rw [jp_w_step hS hh hs hn]
    exact List.mem_flatMap.mpr ⟨i, hi, List.mem_map.mpr ⟨r, hr, rfl⟩⟩
  exact jp_wc_F hz hS hh hs _ this
theorem jp_mw_le (hz : ∀ T, z T ≤ 2 ^ (6 * jo_cn T)) (hS : S < 32) (hh : h < 32) (hs : h &&& S = h) {r : List Nat} (hr : r ∈ jp_w S h) : jp_mw z S h ≤ jp_wc z h r := jp_m_le (List.mem_map.mpr ⟨r, hr, rfl⟩)
theorem jp_find_some {α β : Type} {p : α → Bool} {F : α → Option β} {a : α} {y : β} : ∀ {l : List α}, l.find? p = some a → (∀ x ∈ l, p x = false → F x = none) → F a = some y → l.findSome? F = some y
  | [], h, _, _ => by simp at h
  | b :: l, h, hn, hy => by
    cases hb : p b
    · rw [List.find?_cons_of_neg (by rw [hb]; decide)] at h
      rw [List.findSome?_cons, hn b List.mem_cons_self hb]
      exact jp_find_some h (fun x hx => hn x (List.mem_cons_of_mem _ hx)) hy
    · rw [List.find?_cons_of_pos hb] at h
      cases h
      rw [List.findSome?_cons, hy]
/-- the way found: at each step the least table with which the least cost can be kept -/
def jp_path (z : Nat → Nat) (S : Nat) : Nat → List Nat → Prop
  | h, [] => h = S
  | h, i :: r => ¬ h = S ∧ h < 32 ∧ h &&& S = h ∧ (jp_nx S h).find? (fun i => decide (jp_py z h i + jp_mw z S (h ||| 2 ^ i) = jp_mw z S h)) = some i ∧ jp_path z S (h ||| 2 ^ i) r
theorem jp_greedy (hz : ∀ T, z T ≤ 2 ^ (6 * jo_cn T)) (hS : S < 32) : ∀ n h, jo_cn h + n = 5 → h < 32 → h &&& S = h → ∃ r, (jp_w S h).find? (fun r => decide (jp_wc z h r = jp_mw z S h)) = some r ∧ jp_path z S h r := by
  intro n
  induction n with
  | zero =>
    intro h hc hh hs
    by_cases e : h = S
    · subst e
      refine ⟨[], ?_, rfl⟩
      rw [jp_w_S, jp_mw_S]
      rfl
    · have := (jp_nx_ne S hS h hh hs e).2
      omega
  | succ n ih =>
    intro h hc hh hs
    by_cases e : h = S
    · subst e
      refine ⟨[], ?_, rfl⟩
      rw [jp_w_S, jp_mw_S]
      rfl
    · obtain ⟨hne, _⟩ := jp_nx_ne S hS h hh hs e
      have hst := jp_mw_step hz hS hh hs e
      have hne2 : (jp_nx S h).map (fun i => jp_py z h i + jp_mw z S (h ||| 2 ^ i)) ≠ [] := fun q => hne (List.map_eq_nil_iff.mp q)
      obtain ⟨_, hm⟩ := jp_m_ne (d := jp_F) hne2 (fun a ha => by obtain ⟨i, hi, rfl⟩ := List.mem_map.mp ha; exact jp_mw_in hz hS hh hs e hi)
      obtain ⟨j, hj, ej⟩ := List.mem_map.mp hm
      have ej : jp_py z h j + jp_mw z S (h ||| 2 ^ j) = jp_mw z S h := ej.trans hst.symm
      obtain ⟨i, hi⟩ : ∃ i, (jp_nx S h).find? (fun i => decide (jp_py z h i + jp_mw z S (h ||| 2 ^ i) = jp_mw z S h)) = some i := by
        cases q : (jp_nx S h).find? (fun i => decide (jp_py z h i + jp_mw z S (h ||| 2 ^ i) = jp_mw z S h)) with
        | none =>
          have := List.find?_eq_none.mp q j hj
          exact absurd (decide_eq_true ej) this
        | some i => exact ⟨i, rfl⟩
      have im := List.mem_of_find?_eq_some hi
      have ie := List.find?_some hi
      have ie : jp_py z h i + jp_mw z S (h ||| 2 ^ i) = jp_mw z S h := of_decide_eq_true ie
      obtain ⟨k1, k2, k3, k4, k5, k6⟩ := jp_nx_ok S hS h hh hs i im
      obtain ⟨r, hr, hp⟩ := ih (h ||| 2 ^ i) (by omega) k2 k3
      refine ⟨i :: r, ?_, e, hh, hs, hi, hp⟩
      have key : (jp_nx S h).findSome? (fun i => ((jp_w S (h ||| 2 ^ i)).map (fun r => i :: r)).find? (fun r => decide (jp_wc z h r = jp_mw z S h))) = some (i :: r) := by
        refine jp_find_some hi (fun x hx hxf => ?_) ?_
        · have hne3 : ¬ jp_py z h x + jp_mw z S (h ||| 2 ^ x) = jp_mw z S h := of_decide_eq_false hxf
          have hle : jp_mw z S h ≤ jp_py z h x + jp_mw z S (h ||| 2 ^ x) := by
            rw [hst]
            exact jp_m_le (List.mem_map.mpr ⟨x, hx, rfl⟩)
          rw [List.find?_eq_none]
          intro r' hr'
          obtain ⟨r2, hr2, rfl⟩ := List.mem_map.mp hr'
          obtain ⟨x1, x2, x3, x4, x5, x6⟩ := jp_nx_ok S hS h hh hs x hx
          have := jp_mw_le hz hS x2 x3 hr2
          intro q
          have q := of_decide_eq_true q
          have q : jp_py z h x + jp_wc z (h ||| 2 ^ x) r2 = jp_mw z S h := q
          omega
        · rw [List.find?_map]
          have ep : ((fun r => decide (jp_wc z h r = jp_mw z S h)) ∘ fun r => i :: r) = fun r => decide (jp_wc z (h ||| 2 ^ i) r = jp_mw z S (h ||| 2 ^ i)) := by
            funext r
            show decide (jp_py z h i + jp_wc z (h ||| 2 ^ i) r = jp_mw z S h) = _
            exact decide_eq_decide.mpr (by omega)
          rw [ep, hr]
          rfl
      rw [jp_w_step hS hh hs e, List.find?_flatMap]
      exact key
end JPway
end
section
/-! THE PLAIN LAW, 10: what lies ahead, and linearTable -/
set_option maxRecDepth 100000 in
theorem jp_or_self : ∀ U, U < 32 → ∀ i, i < 5 → U.testBit i = true → U ||| 2 ^ i = U := by decide +kernel
def jp_nextk (U L X : Nat) : Bool := !(decide (L &&& U = L) && decide (0 < L) && decide (X &&& U = X) && decide ((L - 1) &&& U < X)) || decide (L ≤ X)
set_option maxRecDepth 100000 in
theorem jp_next_k : ∀ U, U < 32 → ∀ L, L < 32 → ∀ X, X < 32 → jp_nextk U L X = true := by decide +kernel
theorem jp_next (U : Nat) (hU : U < 32) (L : Nat) (hL : L < 32) (h1 : L &&& U = L) (h2 : 0 < L) (X : Nat) (hX : X < 32) (h3 : X &&& U = X) (h4 : (L - 1) &&& U < X) : L ≤ X := by
  have k := jp_next_k U hU L hL X hX
  unfold jp_nextk at k
  rw [decide_eq_true h1, decide_eq_true h2, decide_eq_true h3, decide_eq_true h4] at k
  simpa using k
theorem jp_map_getD (f : Nat → Nat) {n j : Nat} (h : j < n) : ((List.range n).map f).getD j 0 = f j := by simp [List.getD, h]
section JPah
variable {z : Nat → Nat} {U : Nat}
theorem jp_ahI_U (v : jo_V) (hU : U < 32) : ∀ i, i ≤ 5 → jo_ahI v U U i = v
  | 0, _ => rfl
  | i + 1, hi => by
    unfold jo_ahI
    rw [if_neg (fun q => q.2.1 (jp_or_self U hU i (by omega) q.1))]
    exact jp_ahI_U v hU i (by omega)
theorem jp_ahI_in (hz : ∀ T, z T ≤ 2 ^ (6 * jo_cn T)) (hU : U < 32) {S : Nat} (hS : S < 32) (h0 : 0 < S) (hs : S &&& U = S) (hn : ¬ S = U) {v : jo_V} (h4 : ∀ X, 0 < X → X < 32 → v 4 X = nI (z X)) (hF : v 13 S = jo_FAR) (h13 : ∀ i ∈ jp_nx U S, v 13 (S ||| 2 ^ i) = nI (jp_mw z U (S ||| 2 ^ i))) : ∀ i, i ≤ 5 → (∀ k X, ¬ (k = 13 ∧ X = S) → jo_ahI v U S i k X = v k X) ∧ jo_ahI v U S i 13 S = nI (jp_mn (((List.range i).filter (fun j => decide (U.testBit j = true ∧ ¬ S ||| 2 ^ j = S))).map (fun j => jp_py z S j + jp_mw z U (S ||| 2 ^ j))))
  | 0, _ => ⟨fun _ _ _ => rfl, hF.trans jp_FAR⟩
  | i + 1, hi => by
    obtain ⟨i1, i2⟩ := jp_ahI_in hz hU hS h0 hs hn h4 hF h13 i (by omega)
    have em : ∀ l l', jp_mn (l ++ l') = min (jp_mn l) (jp_mn l') := fun l l' => jp_m_app _ l l'
    have f31 := jp_F31
    unfold jo_ahI
    rw [List.range_succ, List.filter_append, List.map_append, em]
    by_cases c : U.testBit i = true ∧ ¬ S ||| 2 ^ i = S
    · have hin : i ∈ jp_nx U S := List.mem_filter.mpr ⟨List.mem_range.mpr (by omega), decide_eq_true c⟩
      obtain ⟨k1, k2, k3, k4, k5, k6⟩ := jp_nx_ok U hU S hS hs i hin
      have hb := jp_mw_in hz hU hS hs hn hin
      have hpy : jp_py z S i = z (S ||| 2 ^ i) := by
        unfold jp_py
        rw [if_neg (by omega)]
      have e13 : jo_ahI v U S i 13 (S ||| 2 ^ i) = nI (jp_mw z U (S ||| 2 ^ i)) := by
        rw [i1 13 _ (by omega)]; exact h13 i hin
      have e4 : jo_ahI v U S i 4 (S ||| 2 ^ i) = nI (jp_py z S i) := by
        rw [i1 4 _ (by omega), hpy]; exact h4 _ (by omega) k2
      rw [List.filter_cons_of_pos (p := fun j => decide (U.testBit j = true ∧ ¬ S ||| 2 ^ j = S)) (decide_eq_true c), List.filter_nil, e13, e4, i2, nI_add]
      have e1 : jp_mn ([i].map (fun j => jp_py z S j + jp_mw z U (S ||| 2 ^ j))) = jp_py z S i + jp_mw z U (S ||| 2 ^ i) := by
        show min (jp_py z S i + jp_mw z U (S ||| 2 ^ i)) jp_F = _
        omega
      rw [e1, Nat.add_comm (jp_mw z U (S ||| 2 ^ i))]
      have b2 := jp_mn31 (((List.range i).filter (fun j => decide (U.testBit j = true ∧ ¬ S ||| 2 ^ j = S))).map (fun j => jp_py z S j + jp_mw z U (S ||| 2 ^ j)))
      by_cases d : jp_py z S i + jp_mw z U (S ||| 2 ^ i) < jp_mn (((List.range i).filter (fun j => decide (U.testBit j = true ∧ ¬ S ||| 2 ^ j = S))).map (fun j => jp_py z S j + jp_mw z U (S ||| 2 ^ j)))
      · rw [if_pos ⟨c.1, c.2, (nI_ltI (by omega) b2).mpr d⟩, Nat.min_eq_right (by omega)]
        refine ⟨fun k X q => ?_, jp_u_self _ _ _ _⟩
        rw [jp_u_ne _ _ q]
        exact i1 k X q
      · rw [if_neg (fun q => d ((nI_ltI (by omega) b2).mp q.2.2)), Nat.min_eq_left (by omega)]
        exact ⟨i1, i2⟩
    · rw [if_neg (fun q => c ⟨q.1, q.2.1⟩), List.filter_cons_of_neg (by rw [decide_eq_true_eq]; exact c), List.filter_nil]
      have e0 : jp_mn (([] : List Nat).map (fun j => jp_py z S j + jp_mw z U (S ||| 2 ^ j))) = jp_F := rfl
      rw [e0, Nat.min_eq_left (show jp_mn _ ≤ jp_F from jp_m_d _ _)]
      exact ⟨i1, i2⟩
theorem jp_ahL (hz : ∀ T, z T ≤ 2 ^ (6 * jo_cn T)) (hU : U < 32) {f : jo_V} (hf : ∀ X, 0 < X → X < 32 → f 4 X = nI (z X)) : ∀ n L u, L ≤ n → L < 32 → L &&& U = L → (∀ k, k ≠ 13 → u k = f k) → (∀ X, X < 32 → X &&& U = X → L < X → u 13 X = nI (jp_mw z U X)) → (∀ k, k ≠ 13 → jo_ahL U n L u k = f k) ∧ ∀ X, 0 < X → X < 32 → X &&& U = X → jo_ahL U n L u 13 X = nI (jp_mw z U X)
  | 0, L, u, hL, _, _, h1, h2 => ⟨h1, fun X a b c => h2 X b c (by omega)⟩
  | n + 1, L, u, hL, hL32, hLU, h1, h2 => by
    unfold jo_ahL
    by_cases e : L = 0
    · rw [if_pos e]
      exact ⟨h1, fun X a b c => h2 X b c (by omega)⟩
    · rw [if_neg e]
      have hle : (L - 1) &&& U ≤ L - 1 := Nat.and_le_left
      have key : (∀ k X, ¬ (k = 13 ∧ X = L) → jo_ahI (jo_u u 13 L (if L = U then nI 0 else jo_FAR)) U L 5 k X = u k X) ∧ jo_ahI (jo_u u 13 L (if L = U then nI 0 else jo_FAR)) U L 5 13 L = nI (jp_mw z U L) := by
        by_cases c : L = U
        · subst c
          rw [if_pos rfl, jp_ahI_U _ hL32 5 (Nat.le_refl _), jp_mw_S]
          exact ⟨fun k X q => jp_u_ne _ _ q, jp_u_self _ _ _ _⟩
        · rw [if_neg c]
          have hh := jp_ahI_in (v := jo_u u 13 L jo_FAR) hz hU hL32 (by omega) hLU c (fun X a b => by rw [jp_u_ne _ _ (by omega), h1 4 (by decide)]; exact hf X a b) (jp_u_self _ _ _ _) (fun i hi => by
            obtain ⟨k1, k2, k3, k4, k5, k6⟩ := jp_nx_ok U hU L hL32 hLU i hi
            rw [jp_u_ne _ _ (by omega)]
            exact h2 _ k2 k3 k5) 5 (Nat.le_refl _)
          refine ⟨fun k X q => ?_, ?_⟩
          · rw [hh.1 k X q, jp_u_ne _ _ q]
          · rw [hh.2, jp_mw_step hz hU hL32 hLU c]
            rfl
      refine jp_ahL hz hU hf n _ _ (by omega) (by omega) ?_ (fun k hk => ?_) (fun X a b c => ?_)
      · rw [Nat.and_assoc, Nat.and_self]
      · rw [← h1 k hk]
        funext X
        exact key.1 k X (fun q => hk q.1)
      · by_cases d : X = L
        · subst d; exact key.2
        · rw [key.1 13 X (fun q => d q.2)]
          have := jp_next U hU L hL32 hLU (by omega) X a b c
          exact h2 X a b (by omega)
theorem jp_ah (hz : ∀ T, z T ≤ 2 ^ (6 * jo_cn T)) (hU : U < 32) {f : jo_V} (hf : ∀ X, 0 < X → X < 32 → f 4 X = nI (z X)) : (∀ k, k ≠ 13 → jo_ah f U k = f k) ∧ ∀ X, 0 < X → X < 32 → X &&& U = X → jo_ah f U 13 X = nI (jp_mw z U X) := by
  unfold jo_ah
  refine jp_ahL hz hU hf 32 U f (by omega) hU (Nat.and_self U) (fun _ _ => rfl) (fun X a b c => ?_)
  have := Nat.and_le_right (n := X) (m := U)
  omega
end JPah
theorem jp_find_cons (p : Nat → Prop) [DecidablePred p] (a : Nat) (l : List Nat) : (a :: l).find? (fun i => decide (p i)) = if p a then some a else l.find? (fun i => decide (p i)) := by
  by_cases c : p a
  · rw [if_pos c, List.find?_cons_of_pos (p := fun i => decide (p i)) (decide_eq_true c)]
  · rw [if_neg c, List.find?_cons_of_neg (by rw [decide_eq_true_eq]; exact c)]
theorem jp_ltI (u : jo_V) (S h : Nat) (C : Int32) : jo_ltI u S h C 5 = (List.range 5).find? (fun i => decide (S.testBit i = true ∧ ¬ h ||| 2 ^ i = h ∧ jo_pay u h i + u 13 (h ||| 2 ^ i) = C)) := by
  have e : List.range 5 = [0, 1, 2, 3, 4] := rfl
  rw [e, jp_find_cons (fun i => S.testBit i = true ∧ ¬ h ||| 2 ^ i = h ∧ jo_pay u h i + u 13 (h ||| 2 ^ i) = C), jp_find_cons (fun i => S.testBit i = true ∧ ¬ h ||| 2 ^ i = h ∧ jo_pay u h i + u 13 (h ||| 2 ^ i) = C), jp_find_cons (fun i => S.testBit i = true ∧ ¬ h ||| 2 ^ i = h ∧ jo_pay u h i + u 13 (h ||| 2 ^ i) = C), jp_find_cons (fun i => S.testBit i = true ∧ ¬ h ||| 2 ^ i = h ∧ jo_pay u h i + u 13 (h ||| 2 ^ i) = C), jp_find_cons (fun i => S.testBit i = true ∧ ¬ h ||| 2 ^ i = h ∧ jo_pay u h i + u 13 (h ||| 2 ^ i) = C)]
  rfl
theorem jp_find_congr {α : Type} {p q : α → Bool} : ∀ {l : List α}, (∀ x ∈ l, p x = q x) → l.find? p = l.find? q
  | [], _ => rfl
  | a :: l, h => by
    have ih := jp_find_congr (l := l) (fun x hx => h x (List.mem_cons_of_mem _ hx))
    have ha := h a List.mem_cons_self
    rw [List.find?_cons, List.find?_cons, ha, ih]
section JPwy
variable {z : Nat → Nat} {S : Nat} {u : jo_V}
theorem jp_pay_eq (h4 : ∀ X, 0 < X → X < 32 → u 4 X = nI (z X)) {h i : Nat} (hh : h ||| 2 ^ i < 32) : jo_pay u h i = nI (jp_py z h i) := by
  unfold jo_pay jp_py
  by_cases e : h = 0
  · rw [if_pos e, if_pos e]
  · rw [if_neg e, if_neg e]
    have := Nat.left_le_or (n := h) (m := 2 ^ i)
    exact h4 _ (by omega) hh
theorem jp_ltI_nx (hz : ∀ T, z T ≤ 2 ^ (6 * jo_cn T)) (hS : S < 32) (h4 : ∀ X, 0 < X → X < 32 → u 4 X = nI (z X)) (h13 : ∀ X, 0 < X → X < 32 → X &&& S = X → u 13 X = nI (jp_mw z S X)) {h : Nat} (hh : h < 32) (hs : h &&& S = h) (hn : ¬ h = S) : jo_ltI u S h (nI (jp_mw z S h)) 5 = (jp_nx S h).find? (fun i => decide (jp_py z h i + jp_mw z S (h ||| 2 ^ i) = jp_mw z S h)) := by
  rw [jp_ltI]
  unfold jp_nx
  rw [List.find?_filter]
  refine jp_find_congr (fun i hi => ?_)
  refine decide_eq_decide.mpr ?_
  rw [decide_eq_true_eq, decide_eq_true_eq]
  have f31 := jp_F31
  constructor
  · rintro ⟨a, b, c⟩
    have hin : i ∈ jp_nx S h := List.mem_filter.mpr ⟨hi, decide_eq_true ⟨a, b⟩⟩
    obtain ⟨k1, k2, k3, k4, k5, k6⟩ := jp_nx_ok S hS h hh hs i hin
    have hb := jp_mw_in hz hS hh hs hn hin
    have hl := (jp_mw_lt hz hS hh hs).1
    rw [jp_pay_eq h4 k2, h13 _ (by omega) k2 k3, nI_add, nI_eq (by omega) (by omega)] at c
    exact ⟨⟨a, b⟩, c⟩
  · rintro ⟨⟨a, b⟩, c⟩
    have hin : i ∈ jp_nx S h := List.mem_filter.mpr ⟨hi, decide_eq_true ⟨a, b⟩⟩
    obtain ⟨k1, k2, k3, k4, k5, k6⟩ := jp_nx_ok S hS h hh hs i hin
    refine ⟨a, b, ?_⟩
    rw [jp_pay_eq h4 k2, h13 _ (by omega) k2 k3, nI_add, c]
theorem jp_path_way (hz : ∀ T, z T ≤ 2 ^ (6 * jo_cn T)) (hS : S < 32) (h4 : ∀ X, 0 < X → X < 32 → u 4 X = nI (z X)) (h13 : ∀ X, 0 < X → X < 32 → X &&& S = X → u 13 X = nI (jp_mw z S X)) : ∀ (r : List Nat) (h : Nat), jp_path z S h r → ∃ (hs : Nat → Nat) (cs : Nat → Int32), hs 0 = h ∧ cs 0 = nI (jp_mw z S h) ∧ hs r.length = S ∧ ∀ t, t < r.length → hs t < 32 ∧ ¬ hs t = S ∧ r.getD t 0 < 5 ∧ jo_ltI u S (hs t) (cs t) 5 = some (r.getD t 0) ∧ hs (t + 1) = hs t ||| 2 ^ r.getD t 0 ∧ cs (t + 1) = cs t - jo_pay u (hs t) (r.getD t 0)
  | [], h, hp => ⟨fun _ => h, fun _ => nI (jp_mw z S h), rfl, rfl, hp, fun t ht => absurd ht (by simp)⟩
  | i :: r, h, hp => by
    obtain ⟨p1, p2, p3, p4, p5⟩ := hp
    obtain ⟨hs, cs, e1, e2, e3, e4⟩ := jp_path_way hz hS h4 h13 r (h ||| 2 ^ i) p5
    have im := List.mem_of_find?_eq_some p4
    have ie := List.find?_some p4
    have ie : jp_py z h i + jp_mw z S (h ||| 2 ^ i) = jp_mw z S h := of_decide_eq_true ie
    obtain ⟨k1, k2, k3, k4, k5, k6⟩ := jp_nx_ok S hS h p2 p3 i im
    refine ⟨fun t => match t with
      | 0 => h
      | t + 1 => hs t, fun t => match t with
      | 0 => nI (jp_mw z S h)
      | t + 1 => cs t, rfl, rfl, e3, fun t ht => ?_⟩
    cases t with
    | zero =>
      refine ⟨p2, p1, k1, ?_, e1, ?_⟩
      · show jo_ltI u S h (nI (jp_mw z S h)) 5 = some i
        rw [jp_ltI_nx hz hS h4 h13 p2 p3 p1]
        exact p4
      · show cs 0 = nI (jp_mw z S h) - jo_pay u h i
        rw [e2, jp_pay_eq h4 k2, pk_sub (by omega)]
        congr 1
        omega
    | succ t =>
      have := e4 t (by simpa using ht)
      exact this
end JPwy
set_option maxRecDepth 100000 in
theorem jp_wy_len : ∀ S, S < 32 → 0 < S → ∀ r ∈ jp_wy S 5 0, r.length = jo_cn S := by decide +kernel
theorem jp_linear {w : jo_V} {z : Nat → Nat} (hmz : ∀ T, jo_mz w T = nI (z T)) (hz : ∀ T, z T ≤ 2 ^ (6 * jo_cn T)) {S : Nat} (hS : S < 32) (h0 : 0 < S) {u : jo_V} (h4 : ∀ X, 0 < X → X < 32 → u 4 X = nI (z X)) (h8 : u 8 S = nI (jp_mn (jp_cs z ((jp_T S).filter jo_pn)))) (h13 : ∀ X, 0 < X → X < 32 → X &&& S = X → u 13 X = nI (jp_mw z S X)) : ∃ (n : Nat) (r hs : Nat → Nat) (cs : Nat → Int32), jo_way u S n r hs cs ∧ ∀ kk : Int32, (if 0 ≤ kk ∧ kk < nI n then nI (r kk.toNatClampNeg) else -4) = jo_lt w S kk (jo_ex w S 1 false (jo_NP S)) := by
  have f31 := jp_F31
  have c0 : jo_cn 0 = 0 := by decide
  have w0 : jp_w S 0 = jp_wy S 5 0 := by
    unfold jp_w
    rw [c0]
  have em : jp_mn (jp_cs z ((jp_T S).filter jo_pn)) = jp_mw z S 0 := by
    rw [jp_T_lin hS h0]
    unfold jp_mw jp_cs
    rw [w0, List.map_map]
    congr 1
    exact List.map_congr_left (fun r _ => jp_ln_c z r 0)
  obtain ⟨r0, hr0, hp⟩ := jp_greedy hz hS 5 0 (by rw [c0]) (by omega) (Nat.zero_and S)
  obtain ⟨hs, cs, e1, e2, e3, e4⟩ := jp_path_way hz hS h4 h13 r0 0 hp
  have hmem : r0 ∈ jp_wy S 5 0 := by
    rw [← w0]
    exact List.mem_of_find?_eq_some hr0
  have hlen := jp_wy_len S hS h0 r0 hmem
  have hcn := (jo_cn_in S hS h0).2
  refine ⟨r0.length, fun t => r0.getD t 0, hs, cs, ⟨by omega, e1, ?_, e3, e4⟩, ?_⟩
  · rw [e2, h8, em]
  · intro kk
    rw [(jp_answers hmz hz hS h0).2.1, em]
    have hmw := (jp_mw_lt hz hS (h := 0) (by omega) (Nat.zero_and S)).1
    have hf : (jp_TR S).find? (fun x => decide (jo_pn x.2 = true ∧ decide (jo_pc (jo_mz w) x.2 = nI (jp_mw z S 0)) = true)) = some (r0, jp_ln 0 r0) := by
      rw [← List.find?_filter (p := fun x : List Nat × jp_P => jo_pn x.2) (q := fun x => decide (jo_pc (jo_mz w) x.2 = nI (jp_mw z S 0))), jp_lin S hS h0, List.find?_map]
      have e5 : (jp_wy S 5 0).find? ((fun x : List Nat × jp_P => decide (jo_pc (jo_mz w) x.2 = nI (jp_mw z S 0))) ∘ fun r => (r, jp_ln 0 r)) = some r0 := by
        rw [← hr0, w0]
        refine jp_find_congr (fun r hr => ?_)
        have hb := jp_wc_F hz hS (h := 0) (by omega) (Nat.zero_and S) r (by rw [w0]; exact hr)
        show decide (jo_pc (jo_mz w) (jp_ln 0 r) = nI (jp_mw z S 0)) = _
        rw [jp_pc hmz, jp_ln_c]
        exact decide_eq_decide.mpr (nI_eq (by omega) (by omega))
      rw [e5]
      rfl
    rw [← jp_TR_eq hS h0, List.find?_map, Option.map_eq_some_iff] at hf
    obtain ⟨i, hi, hF⟩ := hf
    have e6 : (List.range (jo_NP S)).find? (jo_lh w S (nI (jp_mw z S 0))) = some i := by
      rw [← hi]
      refine jp_find_congr (fun x _ => ?_)
      show (jo_pn (jo_tr S x) && decide (jo_pc (jo_mz w) (jo_tr S x) = nI (jp_mw z S 0))) = decide (jo_pn (jo_tr S x) = true ∧ decide (jo_pc (jo_mz w) (jo_tr S x) = nI (jp_mw z S 0)) = true)
      cases jo_pn (jo_tr S x) <;> simp
    have e7 : jp_ro S (i / jo_fl S) = r0 := congrArg Prod.fst hF
    unfold jo_lt
    rw [e6]
    show _ = if 0 ≤ kk ∧ kk < nI (jo_cn S) then nI (jo_row S (i / jo_fl S) kk.toNatClampNeg) else -4
    rw [hlen]
    by_cases c : 0 ≤ kk ∧ kk < nI (jo_cn S)
    · rw [if_pos c, if_pos c]
      obtain ⟨j, hj, rfl⟩ := nI_of (x := kk) (fun q => absurd (Int32.lt_of_lt_of_le q c.1) (by simp))
      have hjc := (nI_ltI hj (by omega)).mp c.2
      rw [nI_clamp hj, ← e7]
      exact congrArg nI (jp_map_getD _ hjc)
    · rw [if_neg c, if_neg c]
end
section
/-! THE PLAIN LAW, 11: the relation of the two objects, and that every question is answered alike -/
def jp_Rl (v w : jo_V) : Prop := jp_Dat v w ∧ (v 3 0 = jo_b false ∨ (v 3 0 = jo_b true ∧ ∀ S, 0 < S → S < 32 → jp_Full (jp_z w) (jo_mlk w) v S))
theorem jp_z_c {w w' : jo_V} (h0 : w' 0 = w 0) (h1 : w' 1 = w 1) : jp_z w' = jp_z w := by
  funext S
  unfold jp_z
  rw [jo_mz_c h0 h1]
theorem jp_mlk_c {w w' : jo_V} (h1 : w' 1 = w 1) : jo_mlk w' = jo_mlk w := by
  funext A B
  exact jo_mlk_c h1 A B
theorem jp_Rl.ref {v w w' : jo_V} (h : jp_Rl v w) (h0 : w' 0 = w 0) (h1 : w' 1 = w 1) : jp_Rl v w' := by
  refine ⟨h.1.frame rfl rfl rfl h0 h1, ?_⟩
  rw [jp_z_c h0 h1, jp_mlk_c h1]
  exact h.2
theorem jp_bt_ne0 : ¬ jo_b true = 0 := by decide
theorem jp_bf_0 : jo_b false = 0 := by decide
theorem jp_fill {v w : jo_V} (h : jp_Rl v w) : (∀ k, k < 3 ∨ 12 < k → jo_fill v k = v k) ∧ jo_fill v 3 0 = jo_b true ∧ ∀ S, 0 < S → S < 32 → jp_Full (jp_z w) (jo_mlk w) (jo_fill v) S := by
  rcases h.2 with q | ⟨q1, q2⟩
  · have e : jo_fill v = jo_u (jo_fiL v 31) 3 0 (jo_b true) := by
      unfold jo_fill
      rw [if_pos (by rw [q]; exact jp_bf_0)]
    obtain ⟨i1, i2⟩ := jp_fiL (jp_hyp h.1) 31 (Nat.le_refl _)
    rw [e]
    refine ⟨fun k hk => ?_, jp_u_self _ _ _ _, fun S h0 h1 => ?_⟩
    · rw [jo_u_row _ _ _ _ (by omega)]
      exact i1 k (by omega)
    · exact (i2 S h0 (by omega)).frame (fun k a b => jp_u_ne _ _ (by omega))
  · have e : jo_fill v = v := by
      unfold jo_fill
      rw [if_neg (by rw [q1]; exact jp_bt_ne0)]
    rw [e]
    exact ⟨fun _ _ => rfl, q1, q2⟩
theorem jp_Rl.fill {v w : jo_V} (h : jp_Rl v w) : jp_Rl (jo_fill v) w := by
  obtain ⟨f1, f2, f3⟩ := jp_fill h
  exact ⟨h.1.frame (f1 0 (by omega)) (f1 1 (by omega)) (f1 2 (by omega)) rfl rfl, Or.inr ⟨f2, f3⟩⟩
/-! tables and filters set -/
theorem jp_putV_0 (v : jo_V) (i j : Nat) (b : Bool) (y : Int32) : jo_putV v i j b y 0 = v 0 := by
  unfold jo_putV
  rw [jo_u_row _ _ _ _ (by decide), jo_u_row _ _ _ _ (by decide), jo_u_row _ _ _ _ (by decide), jo_u_row _ _ _ _ (by decide), jo_u_row _ _ _ _ (by decide)]
theorem jp_putV_1 (v : jo_V) (i j : Nat) (b : Bool) (y : Int32) (X : Nat) : jo_putV v i j b y 1 X = if X = i * 5 + j ∨ X = j * 5 + i then y else v 1 X := by
  unfold jo_putV
  by_cases c : X = j * 5 + i
  · rw [jp_u_ne _ _ (by omega), if_pos (Or.inr c), c, jp_u_self]
  · by_cases d : X = i * 5 + j
    · rw [jp_u_ne _ _ (by omega), jp_u_ne _ _ (by omega), if_pos (Or.inl d), d, jp_u_self]
    · rw [jp_u_ne _ _ (by omega), jp_u_ne _ _ (by omega), jp_u_ne _ _ (by omega), jp_u_ne _ _ (by omega), jp_u_ne _ _ (by omega), if_neg (by omega)]
theorem jp_putV_2 (v : jo_V) (i j : Nat) (b : Bool) (y : Int32) (X : Nat) : jo_putV v i j b y 2 X = if X = i * 5 + j ∨ X = j * 5 + i then jo_b b else v 2 X := by
  unfold jo_putV
  rw [jp_u_ne _ _ (by omega), jp_u_ne _ _ (by omega), jp_u_ne _ _ (by omega)]
  by_cases c : X = j * 5 + i
  · rw [if_pos (Or.inr c), c, jp_u_self]
  · by_cases d : X = i * 5 + j
    · rw [jp_u_ne _ _ (by omega), if_pos (Or.inl d), d, jp_u_self]
    · rw [jp_u_ne _ _ (by omega), jp_u_ne _ _ (by omega), if_neg (by omega)]
theorem jp_putV_3 (v : jo_V) (i j : Nat) (b : Bool) (y : Int32) : jo_putV v i j b y 3 0 = jo_b false := jp_u_self _ _ _ _
theorem jp_mset_0 (w : jo_V) (i j : Nat) (y : Int32) : jo_mset w i j y 0 = w 0 := by
  unfold jo_mset
  rw [jo_u_row _ _ _ _ (by decide), jo_u_row _ _ _ _ (by decide)]
theorem jp_mset_1 (w : jo_V) (i j : Nat) (y : Int32) (X : Nat) : jo_mset w i j y 1 X = if X = i * 5 + j ∨ X = j * 5 + i then y else w 1 X := by
  unfold jo_mset
  by_cases c : X = j * 5 + i
  · rw [if_pos (Or.inr c), c, jp_u_self]
  · by_cases d : X = i * 5 + j
    · rw [jp_u_ne _ _ (by omega), if_pos (Or.inl d), d, jp_u_self]
    · rw [jp_u_ne _ _ (by omega), jp_u_ne _ _ (by omega), if_neg (by omega)]
/-- what a cell may hold -/
def jp_Val (b : Bool) (x y : Int32) : Prop := (b = false ∧ x = nI 0 ∧ y = -1) ∨ (b = true ∧ ∃ s, s ≤ 6 ∧ x = nI s ∧ y = nI s)
theorem jp_Cell.val {v w : jo_V} {c : Nat} (h : jp_Cell v w c) : ∃ b, v 2 c = jo_b b ∧ jp_Val b (v 1 c) (w 1 c) := by
  rcases h with ⟨a, b, c⟩ | ⟨a, b⟩
  · exact ⟨false, a, Or.inl ⟨rfl, b, c⟩⟩
  · exact ⟨true, a, Or.inr ⟨rfl, b⟩⟩
theorem jp_Dat.put {v w : jo_V} (h : jp_Dat v w) {a b : Nat} (ha : a < 5) (hb : b < 5) {bv : Bool} {x y : Int32} (hv : jp_Val bv x y) : jp_Dat (jo_putV v a b bv x) (jo_mset w a b y) := by
  obtain ⟨h1, h2, h3⟩ := h
  refine ⟨fun i hi => ?_, fun i j hi hj => ?_, fun i j hi hj => ?_⟩
  · rw [jp_putV_0, jp_mset_0]
    exact h1 i hi
  · unfold jp_Cell
    rw [jp_putV_1, jp_putV_2, jp_mset_1]
    by_cases c : i * 5 + j = a * 5 + b ∨ i * 5 + j = b * 5 + a
    · rw [if_pos c, if_pos c, if_pos c]
      rcases hv with ⟨rfl, q⟩ | ⟨rfl, q⟩
      · exact Or.inl ⟨rfl, q⟩
      · exact Or.inr ⟨rfl, q⟩
    · rw [if_neg c, if_neg c, if_neg c]
      exact h2 i j hi hj
  · rw [jp_putV_2, jp_putV_2]
    by_cases c : i * 5 + j = a * 5 + b ∨ i * 5 + j = b * 5 + a
    · rw [if_pos c, if_pos (by omega)]
    · rw [if_neg c, if_neg (by omega)]
      exact h3 i j hi hj
theorem jp_Rl.put {v w : jo_V} (h : jp_Dat v w) {a b : Nat} (ha : a < 5) (hb : b < 5) {bv : Bool} {x y : Int32} (hv : jp_Val bv x y) : jp_Rl (jo_putV v a b bv x) (jo_mset w a b y) := ⟨h.put ha hb hv, Or.inl (jp_putV_3 _ _ _ _ _)⟩
theorem jp_06 {y : Int32} (h1 : ¬ y < 0) (h2 : ¬ nI 6 < y) : ∃ s, s ≤ 6 ∧ y = nI s := by
  obtain ⟨j, hj, rfl⟩ := nI_of h1
  have h3 : ¬ 6 < j := fun q => h2 ((nI_ltI (by decide) hj).mpr q)
  exact ⟨j, by omega, rfl⟩
theorem jp_tab {v w : jo_V} (h : jp_Rl v w) (i y : Int32) : (jo_tab v i y).1 = (jo_mtab w i y).1 ∧ jp_Rl (jo_tab v i y).2 (jo_mtab w i y).2 := by
  unfold jo_tab jo_mtab
  by_cases c : (jo_badT i || decide (y < 0) || decide (nI 6 < y)) = true
  · rw [if_pos c, if_pos c]
    exact ⟨rfl, h⟩
  · rw [if_neg c, if_neg c]
    simp only [Bool.or_eq_true, decide_eq_true_eq, not_or] at c
    obtain ⟨⟨c1, c2⟩, c3⟩ := c
    obtain ⟨a, ha, rfl⟩ := jo_okT (i := i) (by cases q : jo_badT i; rfl; exact absurd q c1)
    obtain ⟨s, hs, rfl⟩ := jp_06 c2 c3
    rw [nI_clamp (show a < 2 ^ 31 by omega)]
    obtain ⟨h1, h2, h3⟩ := h.1
    show v 0 a = w 0 a ∧ jp_Rl (jo_u (jo_u v 0 a (nI s)) 3 0 (jo_b false)) (jo_u w 0 a (nI s))
    refine ⟨(h1 a ha).1, ⟨fun j hj => ?_, fun p q hp hq => ?_, fun p q hp hq => ?_⟩, Or.inl (jp_u_self _ _ _ _)⟩
    · rw [jp_u_ne _ _ (by omega)]
      by_cases e : j = a
      · subst e
        rw [jp_u_self, jp_u_self]
        exact ⟨rfl, s, hs, rfl⟩
      · rw [jp_u_ne _ _ (by omega), jp_u_ne _ _ (by omega)]
        exact h1 j hj
    · unfold jp_Cell
      rw [jp_u_ne _ _ (by omega), jp_u_ne _ _ (by omega), jp_u_ne _ _ (by omega), jp_u_ne _ _ (by omega), jp_u_ne _ _ (by omega)]
      exact h2 p q hp hq
    · rw [jp_u_ne _ _ (by omega), jp_u_ne _ _ (by omega), jp_u_ne _ _ (by omega), jp_u_ne _ _ (by omega)]
      exact h3 p q hp hq
theorem jp_okP {i j : Int32} (c : ¬ jo_badP i j = true) : ∃ a b : Nat, a < 5 ∧ b < 5 ∧ a ≠ b ∧ i = nI a ∧ j = nI b := jo_okP (by cases q : jo_badP i j; rfl; exact absurd q c)
theorem jp_fil {v w : jo_V} (h : jp_Rl v w) (i j y : Int32) : (jo_fil v i j y).1 = (jo_mfil w i j y).1 ∧ jp_Rl (jo_fil v i j y).2 (jo_mfil w i j y).2 := by
  unfold jo_fil jo_mfil
  by_cases c : (jo_badP i j || decide (y < 0) || decide (nI 6 < y)) = true
  · rw [if_pos c, if_pos c]
    exact ⟨rfl, h⟩
  · rw [if_neg c, if_neg c]
    simp only [Bool.or_eq_true, decide_eq_true_eq, not_or] at c
    obtain ⟨⟨c1, c2⟩, c3⟩ := c
    obtain ⟨a, b, ha, hb, hab, rfl, rfl⟩ := jp_okP c1
    obtain ⟨s, hs, rfl⟩ := jp_06 c2 c3
    rw [nI_clamp (show a < 2 ^ 31 by omega), nI_clamp (show b < 2 ^ 31 by omega)]
    refine ⟨?_, jp_Rl.put h.1 ha hb (Or.inr ⟨rfl, s, hs, rfl, rfl⟩)⟩
    have hc := jp_cell_lt (h.1.2.1 a b ha hb)
    show jo_b (!decide (v 2 (a * 5 + b) = 0)) = jo_b (decide (0 ≤ w 1 (a * 5 + b)))
    congr 1
    by_cases q : v 2 (a * 5 + b) = 0
    · rw [decide_eq_true q, decide_eq_false (by rw [Int32.not_le]; exact hc.mpr q)]
      rfl
    · rw [decide_eq_false q, decide_eq_true (by rw [← Int32.not_lt]; exact fun k => q (hc.mp k))]
      rfl
theorem jp_unf {v w : jo_V} (h : jp_Rl v w) (i j : Int32) : (jo_unf v i j).1 = (jo_munf w i j).1 ∧ jp_Rl (jo_unf v i j).2 (jo_munf w i j).2 := by
  unfold jo_unf jo_munf
  by_cases c : jo_badP i j = true
  · rw [if_pos c, if_pos c]
    exact ⟨rfl, h⟩
  · rw [if_neg c, if_neg c]
    obtain ⟨a, b, ha, hb, hab, rfl, rfl⟩ := jp_okP c
    rw [nI_clamp (show a < 2 ^ 31 by omega), nI_clamp (show b < 2 ^ 31 by omega)]
    have hc := jp_cell_lt (h.1.2.1 a b ha hb)
    by_cases q : v 2 (a * 5 + b) = 0
    · rw [if_pos q, if_neg (show ¬ 0 ≤ w 1 (a * 5 + b) by rw [Int32.not_le]; exact hc.mpr q)]
      refine ⟨rfl, h.ref (jp_mset_0 w a b (-1)) ?_⟩
      funext X
      show jo_mset w a b (-1) 1 X = w 1 X
      rw [jp_mset_1]
      by_cases d : X = a * 5 + b ∨ X = b * 5 + a
      · rw [if_pos d]
        have key : ∀ p r, p < 5 → r < 5 → v 2 (p * 5 + r) = 0 → w 1 (p * 5 + r) = -1 := by
          intro p r hp hr e
          rcases h.1.2.1 p r hp hr with ⟨_, _, k⟩ | ⟨k, _⟩
          · exact k
          · rw [k] at e
            exact absurd e jp_bt_ne0
        rcases d with d | d
        · rw [d]; exact (key a b ha hb q).symm
        · rw [d]; exact (key b a hb ha (by rw [h.1.2.2 b a hb ha]; exact q)).symm
      · rw [if_neg d]
    · rw [if_neg q, if_pos (show 0 ≤ w 1 (a * 5 + b) by rw [← Int32.not_lt]; exact fun k => q (hc.mp k))]
      refine ⟨?_, jp_Rl.put h.1 ha hb (Or.inl ⟨rfl, rfl, rfl⟩)⟩
      rcases h.1.2.1 a b ha hb with ⟨k, _⟩ | ⟨_, s, _, k1, k2⟩
      · exact absurd (k.trans jp_bf_0) q
      · show v 1 (a * 5 + b) = w 1 (a * 5 + b)
        rw [k1, k2]
theorem jp_okS : jo_OkS jp_Rl := fun v w h => ⟨fun w' h0 h1 => h.ref h0 h1, h.fill, fun i y => jp_tab h i y, fun i j y => jp_fil h i j y, fun i j => jp_unf h i j⟩
theorem jp_okQ : jo_OkQ jp_Rl := by
  intro v w h S h0 hS
  obtain ⟨f1, f2, f3⟩ := jp_fill h
  obtain ⟨q4, ⟨q5, q7, q8, q9, q10, q11, q12⟩, q6⟩ := f3 S h0 hS
  obtain ⟨a1, a2, a3, a4, a5, a6, a7, a8⟩ := jp_answers (w := w) (z := jp_z w) (fun T => (jp_z_ok h.1 T).1) (fun T => (jp_z_ok h.1 T).2) hS h0
  refine ⟨jp_sz_eq h.1 S, jp_con_eq h.1 hS h0, q5.trans a1.symm, q8.trans a2.symm, ?_, q10.trans a4.symm, ?_, ?_, ?_, ?_⟩
  · rw [a3, q9, jp_FAR]
    unfold jp_en
    have hle : jp_mn (jp_cs (jp_z w) ((jp_T S).filter (jp_k (jo_mlk w)))) ≤ jp_F := jp_m_d _ _
    have f31 := jp_F31
    by_cases c : jp_mn (jp_cs (jp_z w) ((jp_T S).filter (jp_k (jo_mlk w)))) = jp_F
    · rw [if_pos c, if_pos (by rw [c])]
    · rw [if_neg c, if_neg (fun q => c ((nI_eq (by omega) f31).mp q))]
  · rw [a1, a5]
    exact q6
  · rw [a6]
    exact q11
  · rw [a7]
    exact q12
  · rw [a1, a8]
    exact q7
theorem jp_okL : jo_OkL jp_Rl := by
  intro v w h S h0 hS
  obtain ⟨f1, f2, f3⟩ := jp_fill h
  have hz : ∀ T, jp_z w T ≤ 2 ^ (6 * jo_cn T) := fun T => (jp_z_ok h.1 T).2
  have h4 : ∀ X, 0 < X → X < 32 → jo_fill v 4 X = nI (jp_z w X) := fun X a b => (f3 X a b).1
  obtain ⟨g1, g2⟩ := jp_ah hz hS h4
  refine ⟨⟨(h.fill).1.frame (g1 0 (by decide)) (g1 1 (by decide)) (g1 2 (by decide)) rfl rfl, Or.inr ⟨?_, fun X a b => ?_⟩⟩, ?_⟩
  · rw [g1 3 (by decide)]; exact f2
  · exact (f3 X a b).frame (fun k _ _ => by rw [g1 k (by omega)])
  · refine jp_linear (z := jp_z w) (fun T => (jp_z_ok h.1 T).1) hz hS h0 (fun X a b => ?_) ?_ g2
    · rw [g1 4 (by decide)]; exact h4 X a b
    · rw [g1 8 (by decide)]; exact (f3 S h0 hS).2.1.2.2.1
theorem jp_okG : jo_OkG jp_Rl := by
  intro v w h i j hi hj hij
  have hf := h.fill
  obtain ⟨b, e1, e2⟩ := (hf.1.2.1 i j hi hj).val
  have hp : jp_Rl (jo_putV (jo_fill v) i j true (nI 6)) (jo_mset w i j (nI 6)) := jp_Rl.put hf.1 hi hj (Or.inr ⟨rfl, 6, Nat.le_refl _, rfl, rfl⟩)
  refine ⟨b, e1, ?_, fun w' k0 k1 => ?_⟩
  · have a1 := (jp_okQ v w h 31 (by decide) (by decide)).2.2.1
    have a2 := (jp_okQ _ _ hp 31 (by decide) (by decide)).2.2.1
    unfold jo_gnR jo_mgR jo_gn1
    rw [a1, a2]
  · have hr : jp_Rl (jo_gnV v i j b) (jo_mset (jo_mset w i j (nI 6)) i j (w 1 (i * 5 + j))) := jp_Rl.put hp.fill.1 hi hj e2
    refine hr.ref ?_ k1
    rw [k0, jp_mset_0, jp_mset_0]
theorem jp_ok : jo_Ok jp_Rl := ⟨jp_okS, jp_okQ, jp_okL, jp_okG⟩
set_option maxRecDepth 100000 in
theorem jp_ini0 : ∀ i, i < 5 → jo_xini 5 0 i = jo_mini 25 0 i ∧ jo_xini 5 0 i = nI 3 := by decide +kernel
set_option maxRecDepth 100000 in
theorem jp_ini1 : ∀ c, c < 25 → jo_xini 5 2 c = jo_b false ∧ jo_xini 5 1 c = nI 0 ∧ jo_mini 25 1 c = -1 := by decide +kernel
theorem jp_start : jp_Rl (jo_xini 5) (jo_mini 25) := by
  refine ⟨⟨fun i hi => ⟨(jp_ini0 i hi).1, 3, by decide, (jp_ini0 i hi).2⟩, fun i j hi hj => Or.inl (jp_ini1 _ (by omega)), fun i j hi hj => ?_⟩, Or.inl (by decide +kernel)⟩
  rw [(jp_ini1 (i * 5 + j) (by omega)).1, (jp_ini1 (j * 5 + i) (by omega)).1]
end
section
/-! THE LAW'S ENTRY: the two objects are made, then the loop -/
theorem jo_classes {s0 : State} {b0 : Addr} (ht0 : ∀ w ∈ lw_tbl, w.before #[Value.ref b0] s0 = true) : ∃ (dC : Nat → ClassId) (dI : Nat → Nat → Nat), ∀ (k : Nat) (q : vw_C), vwCl[k]? = some q → u_Kn s0 q.1 q.2.1 q.2.2 (dC k) (dI k) := by
  obtain ⟨c0_, iS0, hKn0⟩ := u_known (C := RX0) (T := TX0) (N := 14) (n := 14) ht0 (fun w h => lw_all_tbl (in_X0 w h)) (ht0 _ (lw_all_tbl q31))
  obtain ⟨c1_, iS1, hKn1⟩ := u_known (C := RX1) (T := TX1) (N := 11) (n := 11) ht0 (fun w h => lw_all_tbl (in_X1 w h)) (ht0 _ (lw_all_tbl q193))
  refine ⟨fun k => if k = 0 then c0_ else c1_, fun k => if k = 0 then iS0 else iS1, ?_⟩
  intro k q hq
  match k, hq with
  | 0, hq => cases hq; exact hKn0
  | 1, hq => cases hq; exact hKn1
  | k + 2, hq => simp [vwCl] at hq
set_option maxHeartbeats 8000000 in
set_option maxRecDepth 100000 in
theorem jo_start {Rl : jo_V → jo_V → Prop} (hOk : jo_Ok Rl) {v0 w0 : jo_V} (hv0 : jo_xini 5 = v0) (hw0 : jo_mini 25 = w0) (h0 : Rl v0 w0) {p : Program} {e : Env} {s : State} {m : MethodId} {below : List Frame} {meth : Method} {c : Code} (l : Launch) {b L : Nat} {xs : Nat → Int32} (hL : L ≤ 256) (C0 : lw_At p s m meth c b L xs) : W p l e room_1 s m #[Value.ref b] below meth c s.heap [] 0 0 (lw_Z below #[Value.ref b] s) (entryFrame m ([Value.ref b] : List Value).toArray 4) := by
  obtain ⟨hx, hb, hr, hml, hown, hts0, hX, hbl, hlocks, hgv⟩ := C0
  have hts : ∀ w ∈ lw_all, w.before #[Value.ref b] s = true := fun w h => hts0 w (lw_all_tbl h)
  obtain ⟨dC, dI, hKc⟩ := jo_classes hts0
  obtain ⟨D, hD_⟩ : ∃ D : va_G, D = (dC, dI) := ⟨_, rfl⟩
  have hK : va_K D vwCl [] s := by rw [hD_]; exact ⟨hKc, fun k q h => by simp at h⟩
  obtain ⟨A, hAe⟩ : ∃ A : Nat → Prop, A = fun q => s.heap.size ≤ q := ⟨_, rfl⟩
  have hA : ∀ q : Nat, s.heap.size ≤ q → A q := fun q h => by rw [hAe]; exact h
  have hA' : ∀ q : Nat, A q → s.heap.size ≤ q := fun q h => by rw [hAe] at h; exact h
  have hP : va_P D vwCl [] s.heap := fun k q h => by simp at h
  have hD : va_D A [] := ⟨fun i j p q h => by simp at h, fun k q h => by simp at h⟩
  have hS : va_S A s.heap s.heap [] := va_S.rf
  have S : CallFix p m c cL_law 4 s #[Value.ref b] lw_all "JoinOrdererLaw" := ⟨hx, hb, hml, hown, hts⟩
  rw [lg_entry_eq]
  have hl : jo_lo _ [some (.ref b), none, none, none] := jo_entry (As := [.ref b]) (nL := 4) (jo_cat rfl) (Nat.le_of_ble_eq_true rfl)
  generalize (lg_sl [Value.ref b] ++ List.replicate (4 - (lg_sl [Value.ref b]).length) Slot.unset).toArray = ls at hl ⊢
  refine va_new (ci := 0) (fs := xnul) (C := RX0) (T := TX0) (N := 14) hx hb hts in_X0 tyX0 tyX0_ok hown (hts _ q30) (hts _ q31) (hts _ q28) hK hP hD hS hA rfl (fun j hj => by rcases (show j = 0 ∨ j = 1 ∨ j = 2 ∨ j = 3 ∨ j = 4 ∨ j = 5 ∨ j = 6 ∨ j = 7 ∨ j = 8 ∨ j = 9 ∨ j = 10 ∨ j = 11 ∨ j = 12 ∨ j = 13 by omega) with rfl | rfl | rfl | rfl | rfl | rfl | rfl | rfl | rfl | rfl | rfl | rfl | rfl | rfl <;> rfl) (Nat.le_of_ble_eq_true rfl) (Nat.le_of_ble_eq_true rfl) dL_law_0 (fun q0 H hP hD hS => ?_)
  refine lv_dup hx hb dL_law_3 rfl ?_
  have hP : va_P D vwCl [(q0, .inr (0, xnul))] H := hP
  have hD : va_D A [(q0, .inr (0, xnul))] := hD
  have hFc : ∀ q, xiA q0 H.size q → A q := va_free (wc := [(q0, .inr (0, xnul))]) hD hS hA [0] rfl
  refine va_callv (va_runI (As := []) (rest := [.ref q0]) S (xM_init l D q0 H.size) (cwI 0 hts (lw_meth q34) rfl rfl rfl (hts _ q28) (hts _ q32) (hts _ q33) rfl (by decide +kernel) ⟨Nat.le_of_ble_eq_true rfl, Nat.le_of_ble_eq_true rfl⟩) ⟨fun a U g mk q => by obtain ⟨q0, q1, qP, qK, qD⟩ := q; exact ⟨q0, q1, qP, va_K.moved (u := U) (U := U.calling g mk a) (Vm.Alike.refl U.vm) qK, qD⟩, fun U hU hW => ⟨rfl, by rw [hU], by rw [hU]; exact hP, va_K.moved hW.alike hK, hD.weaken (fun _ _ _ _ => trivial)⟩⟩ rfl rfl hl.1 rfl (lv_room (Nat.le_of_ble_eq_true rfl)) dL_law_4 ⟨Nat.le_of_ble_eq_true rfl, Nat.le_of_ble_eq_true rfl⟩) hS (fun q _ h => hFc q h) hFc (fun u t H1 locs1 ht hvm hw1 hB hz1 hk1 hS => ?_)
  obtain ⟨hP1, hK1, hD1⟩ := hB
  rw [ht] at hP1
  have hK1 := va_K.moved hvm.symm hK1
  obtain ⟨a, d⟩ := u
  have hw1 : a 3 = q0 := hw1
  subst hw1
  have hP1 : va_P D vwCl (xW a d (jo_xini 5)) H1 := hP1
  have hD1 : va_D (xiA (a 3) H.size) (xW a d (jo_xini 5)) := hD1
  rw [hv0] at hP1 hD1
  have hK1 : va_K D vwCl (xT d) s := hK1
  have hD1 : va_D A (xW a d v0) := hD1.weaken (fun _ _ _ h => hFc _ h)
  refine lv_astore_n hx hb dL_law_7 rfl hl.has (Nat.le_of_ble_eq_true rfl) rfl (fun ls1 h' => ?_)
  have hl1 := hl.set (i := 1) (x := .ref (a 3)) (Nat.le_of_ble_eq_true rfl) rfl h'
  refine va_new (ci := 1) (fs := mnul) (C := RX1) (T := TX1) (N := 11) hx hb hts in_X1 tyX1 tyX1_ok hown (hts _ q192) (hts _ q193) (hts _ q29) hK1 hP1 hD1 hS hA rfl (fun j hj => by rcases (show j = 0 ∨ j = 1 ∨ j = 2 ∨ j = 3 ∨ j = 4 ∨ j = 5 ∨ j = 6 ∨ j = 7 ∨ j = 8 ∨ j = 9 ∨ j = 10 by omega) with rfl | rfl | rfl | rfl | rfl | rfl | rfl | rfl | rfl | rfl | rfl <;> rfl) (Nat.le_of_ble_eq_true rfl) (Nat.le_of_ble_eq_true rfl) dL_law_8 (fun q1 H2 hP hD hS => ?_)
  refine lv_dup hx hb dL_law_11 rfl ?_
  have hPc : va_P D vwCl [(q1, .inr (1, mnul))] H2 := hP.sub [14] rfl
  have hDc : va_D A [(q1, .inr (1, mnul))] := hD.sub [14] (by decide) rfl
  have hFc : ∀ q, miA q1 H2.size q → A q := va_free (wc := [(q1, .inr (1, mnul))]) hD hS hA [14] rfl
  refine va_callv (va_runI (As := []) (rest := [.ref q1]) S (mM_init l D q1 H2.size) (cwI 0 hts (lw_meth q196) rfl rfl rfl (hts _ q29) (hts _ q194) (hts _ q195) rfl (by decide +kernel) ⟨Nat.le_of_ble_eq_true rfl, Nat.le_of_ble_eq_true rfl⟩) ⟨fun a U g mk q => by obtain ⟨q0, q1, qP, qK, qD⟩ := q; exact ⟨q0, q1, qP, va_K.moved (u := U) (U := U.calling g mk a) (Vm.Alike.refl U.vm) qK, qD⟩, fun U hU hW => ⟨rfl, by rw [hU], by rw [hU]; exact hPc, va_K.moved hW.alike hK, hDc.weaken (fun _ _ _ _ => trivial)⟩⟩ rfl rfl hl1.1 rfl (lv_room (Nat.le_of_ble_eq_true rfl)) dL_law_12 ⟨Nat.le_of_ble_eq_true rfl, Nat.le_of_ble_eq_true rfl⟩) hS (fun q _ h => hFc q h) hFc (fun u t H3 locs3 ht3 hvm3 hw3 hB3 hz3 hk3 hS => ?_)
  obtain ⟨hP3, hK3, hD3⟩ := hB3
  rw [ht3] at hP3
  have hK3 := va_K.moved hvm3.symm hK3
  obtain ⟨b', d'⟩ := u
  have hw3 : b' 4 = q1 := hw3
  subst hw3
  have hP3 : va_P D vwCl (mW b' d' (jo_mini 25)) H3 := hP3
  have hD3 : va_D (miA (b' 4) H2.size) (mW b' d' (jo_mini 25)) := hD3
  rw [hw0] at hP3 hD3
  obtain ⟨hP4, hD4⟩ := va_join (wr := xW a d v0) (w1 := mW b' d' w0) hP hD [14] [0, 1, 2, 3, 4, 5, 6, 7, 8, 9, 10, 11, 12, 13] rfl rfl (by decide) (by decide) hk3 hFc hP3 hD3
  have hK4 : va_K D vwCl (xT d ++ mT d') s := hK1.app hK3
  refine lv_astore_n hx hb dL_law_15 rfl hl1.has (Nat.le_of_ble_eq_true rfl) rfl (fun ls2 h' => ?_)
  have hl2 := hl1.set (i := 2) (x := .ref (b' 4)) (Nat.le_of_ble_eq_true rfl) rfl h'
  refine lv_iconst (v := nI 0) hx hb dL_law_16 (by decide) ?_
  refine lv_istore_n hx hb dL_law_17 rfl hl2.has (Nat.le_of_ble_eq_true rfl) rfl (fun ls3 h' => ?_)
  have hl3 := hl2.set (i := 3) (x := .int (nI 0)) (Nat.le_of_ble_eq_true rfl) rfl h'
  obtain ⟨K, hKe⟩ : ∃ K : jo_C, K = (p, l, e, room_1, s, m, #[Value.ref b], below, meth, c, A, 0 + 1 + 13 + 1 + 6, 0 + 14 + 375 + 11 + 86, lw_Z below #[Value.ref b] s) := ⟨_, rfl⟩
  have F : jo_F K cL_law 4 "JoinOrdererLaw" 7 258 := by rw [hKe]; exact ⟨S, hA, hlocks, Nat.le_refl _, Nat.le_refl _, Nat.le_of_ble_eq_true rfl, Nat.le_of_ble_eq_true rfl⟩
  have hXK : jo_X K b L xs := by rw [hKe]; exact ⟨hX, hbl, fun q => absurd (hA' b q) (by omega), hL⟩
  have kend : ∀ v w L, lG K D a b' d d' v w 520 L [.int (nI 1)] := by
    intro v w L
    rw [hKe]
    intro hK H locs ls hP hD hS hl
    refine va_forget (fun q hq => hA' _ (hS.2.2 q hq)) ?_
    refine W.widen (k := 600000) (n := 7290000) (Nat.le_of_ble_eq_true rfl) (Nat.le_of_ble_eq_true rfl) ?_
    exact lw_ret hx hb hr hlocks dL_law_520
  have st := lB_loop F hXK hOk kend (L + 4) 0 _ _ (by omega) (Nat.zero_le _) h0
  rw [hKe] at st
  exact st hK4 H3 locs3 ls3 hP4 hD4 hS hl3
end
section
/-- YOUR PART: from the entry, for every script of at most 256 ints, the law comes to its end with true -/
theorem whole_start {p : Program} {e : Env} {s : State} {m : MethodId} {below : List Frame} {meth : Method} {c : Code} (l : Launch) {b L : Nat} {xs : Nat → Int32} (hL : L ≤ 256) (C0 : lw_At p s m meth c b L xs) : W p l e room_1 s m #[Value.ref b] below meth c s.heap [] 0 0 (lw_Z below #[Value.ref b] s) (entryFrame m ([Value.ref b] : List Value).toArray 4) := jo_start jp_ok rfl rfl jp_start l hL C0
set_option maxHeartbeats 4000000 in
theorem lw_walk (l : Launch) (b : Addr) (xs : List Int32) : MetFree l x (headSpec (Jvm.Cond.code x code maxLocals ret :: tables_1) room_1) (lw_P b xs) (fun _ _ _ _ _ => True) lw_Q := by
  refine MetFree.of_bodyS (code := code) (maxLocals := maxLocals) (ret := ret) (by decide) ?_ ?_
  · intro args s m h hn
    obtain ⟨meth, c, h1, h2, h3, h4, h5, h6, -, -⟩ := Cond.code_spec hn (atoms_spec (ws := Jvm.Cond.code x code maxLocals ret :: tables_1) h _ List.mem_cons_self)
    exact ⟨meth, c, h1, h2, h3, h4, h5, h6⟩
  · intro p e s m args below meth c s₁ B hml0 hP _
    obtain ⟨rfl, hx, hbd, hgv⟩ := hP
    obtain ⟨scr, harrAt, hlist, hof, hsmall⟩ := hx
    obtain ⟨hcb, hkn, -, -⟩ := State.arrayAt?_spec harrAt
    have hown : s.vm.findClass R_law = some m.cls := findClass_of_methodNamed B.named
    have hts0 : ∀ c ∈ (Jvm.Cond.code x code maxLocals ret :: tables_1), c.before #[Value.ref b] s = true := atoms_spec (ws := Jvm.Cond.code x code maxLocals ret :: tables_1) B.pre
    have hts : ∀ w ∈ lw_tbl, w.before #[Value.ref b] s = true := k2_hts_sels lw_privs (fun w hw => hts0 w (List.mem_cons_of_mem _ hw)) lw_privs_ok
    have hml : c.maxLocals = 4 := B.maxLocals_eq (hts0 _ List.mem_cons_self)
    have X₀ : Stand p l e room_1 s m #[Value.ref b] below meth c s₁ [] 0 0 := Stand.of_body B
    have hh0 : s₁.heap = s.heap := by rw [B.state]; rfl
    have hsz : scr.slots.size = xs.length := by rw [← Array.length_toList, hlist, List.length_map]
    have hval : ∀ j : Nat, j < xs.length → scr.slots[j]? = some (.int (xs.getD j 0)) := fun j hj => by
      rw [← Array.getElem?_toList, hlist]
      simp [hj]
    have hbl : b < s.heap.size := (Array.getElem?_eq_some_iff.mp hcb).1
    have hX : va_X b xs.length (fun j => xs.getD j 0) s s.heap := ⟨scr, hcb, hof, hkn, hsz, hval⟩
    have K : W p l e room_1 s m #[Value.ref b] below meth c s₁.heap [] 0 0 (lw_Z below #[Value.ref b] s) (entryFrame m ([Value.ref b] : List Value).toArray 4) := by
      rw [hh0]
      exact whole_start l hbd ⟨B.exec, B.bytes, B.returns, hml, hown, hts, hX, hbl, B.notSynchronized, hgv⟩
    obtain ⟨t, a1, o, b1, b2, b3⟩ := K s₁ rfl X₀
    exact ⟨t, o, a1, b1, b2, b3⟩
theorem lw_pre_spec {args : Array Value} {s : State} (h : (Jvm.Cond.and given_1 narrow_1).before args s = true) (hr : rest_1_c.before args s = true) : ∃ (b : Addr) (xs : List Int32), lw_P b xs args s := by
  have hs := flat_of_before _ h
  have hq := flat_of_before _ hr
  have hc : (Cond.count 1).before args s = true := hs _ (by decide +kernel)
  have harr : (Cond.arrayOf (.arg 0) .int).before args s = true := hs _ (by decide +kernel)
  have hle : (Cond.le (.length (.arg 0)) (.int 256)).before args s = true := hs _ (by decide +kernel)
  have hlen : (Cond.isInt (.length (.arg 0))).before args s = true := hq _ (by decide +kernel)
  have hall : (Cond.all (.arg 0) (.isInt (.elem (.arg 0) (.index 0)))).before args s = true := hq _ (by decide +kernel)
  obtain ⟨b, xs, hb, hx⟩ := State.ints_of_pre rfl harr hlen hall
  have hsm : xs.length < 2 ^ 31 := hx.choose_spec.2.2.2
  have hev : (Term.length (.arg 0)).eval args s none [] s = some (.int xs.length.toInt32) := hx.length_eval hb
  have hv := Cond.le_ints hev (show (Term.int 256).eval args s none [] s = some (.int 256) from rfl)
  have hd : xs.length.toInt32 ≤ 256 := by
    simpa [Cond.before, Cond.holds, hv] using hle
  have hN : xs.length ≤ 256 := (Int32.ofNat_le_ofNat hsm (by decide)).mp (show Int32.ofNat xs.length ≤ Int32.ofNat 256 from hd)
  exact ⟨b, xs, Cond.one_arg hc (show args[0]? = some (.ref b) from hb), hx, hN, h⟩
theorem lw_comes (l : Launch) : Comes l x (Jvm.Cond.code x code maxLocals ret :: tables_1) room_1 (fun tb e args s => Calls_1 tb e args s ∧ rest_1 tb e args s ∧ Pre_1 tb e args s)
    (fun _ _ args s o t => lw_Q args s o t) := by
  intro p e ha hc hk s m args below hf hfit hheap happ hpre
  obtain ⟨b, xs, hP⟩ := lw_pre_spec hpre.2.2 hpre.2.1
  obtain ⟨k, o, h1, h2, h3, hQ⟩ := lw_walk l b xs p e ha hc hk s m args below hf ((Spec.applies_iff_loose hf).mp happ).1 hP trivial
  exact ⟨k, o, h1, h2, h3, hQ⟩
theorem lw_frame {s t : State} {o : Outcome} {args : Array Value} (h : Framed s o t [] 600000 7290000) :
    Framed s o t (fieldLocs frame_1_writes args s ++ arrayLocs frame_1_arrays args s ++ staticLocs frame_1_statics s) 600000 7290000 := h
theorem lw_limb (L : Cond) (hL : ∀ (args : Array Value) (s t : State), L.after args s (.returned (some (.int 1))) t = true) :
    ArmFor flags0 classFile x code maxLocals ret World_1 tables_1 room_1 Calls_1 rest_1 Pre_1
      (fun tb e a s o t => postC L tb e a s o t ∧ Framed s o t (fieldLocs frame_1_writes a s ++ arrayLocs frame_1_arrays a s ++ staticLocs frame_1_statics s) 600000 7290000) := by
  intro l _ _ _ p e ha hc hk s m args below hf hfit hheap happ hpre
  obtain ⟨k, o, h1, h2, h3, rfl, hF⟩ := lw_comes l p e ha hc hk s m args below hf hfit hheap happ hpre
  exact ⟨k, _, h1, h2, h3, hL args s _, lw_frame hF⟩
theorem i_vc : Claimed_1_1 ∧ Claimed_1_2 := ⟨lw_limb limb_1_1 (fun args s t => by simp [limb_1_1, Cond.after, Cond.holds, Cond.value]), lw_limb limb_1_2 (fun args s t => Cond.after_iff.mpr (by
  first | (rw [show limb_1_2 = Cond.eq .result (.int 1) from rfl, Cond.eq_ints (x := 1) (y := 1) rfl rfl]; simp; done) | (simp [limb_1_2, Cond.value, Term.eval]; done)))⟩
end
