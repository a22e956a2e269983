section
-- ===== PART A: goes FIRST, ahead of the names: the tables' words, and 'selects' of the private methods out of them =====
/-- a private method of a class that the tables say can be made, by its rows of tables_1 -/
def lw_okq (q : MethodName × Nat) : Prop := (q.1.cls ≠ "java/lang/invoke/MethodHandle" ∧ q.1.cls ≠ "java/lang/invoke/VarHandle") ∧ Cond.instantiable q.1.cls q.2 ∈ tables_1 ∧ Cond.privateMethod q.1 ∈ tables_1 ∧ Cond.instanceMethod q.1 ∈ tables_1
set_option maxRecDepth 100000
theorem lw_t1 {w : Cond} (h : w ∈ tables_1_1) : w ∈ tables_1 := List.mem_append_left _ h
theorem lw_t2 {w : Cond} (h : w ∈ tables_1_2) : w ∈ tables_1 := List.mem_append_right _ h
theorem lw_p0 : lw_okq (⟨"MatchAction", "addEntry", "(III)I"⟩, 22) := ⟨⟨by decide +kernel, by decide +kernel⟩, lw_t1 (List.mem_of_getElem? (i := 4) rfl), lw_t1 (List.mem_of_getElem? (i := 90) rfl), lw_t1 (List.mem_of_getElem? (i := 91) rfl)⟩
theorem lw_p1 : lw_okq (⟨"MatchAction", "entryWith", "(I)I"⟩, 22) := ⟨⟨by decide +kernel, by decide +kernel⟩, lw_t1 (List.mem_of_getElem? (i := 4) rfl), lw_t1 (List.mem_of_getElem? (i := 104) rfl), lw_t1 (List.mem_of_getElem? (i := 105) rfl)⟩
theorem lw_p2 : lw_okq (⟨"MatchAction", "longestPrefix", "()I"⟩, 22) := ⟨⟨by decide +kernel, by decide +kernel⟩, lw_t1 (List.mem_of_getElem? (i := 4) rfl), lw_t1 (List.mem_of_getElem? (i := 124) rfl), lw_t1 (List.mem_of_getElem? (i := 125) rfl)⟩
theorem lw_p3 : lw_okq (⟨"MatchAction", "makeTree", "()V"⟩, 22) := ⟨⟨by decide +kernel, by decide +kernel⟩, lw_t1 (List.mem_of_getElem? (i := 4) rfl), lw_t1 (List.mem_of_getElem? (i := 128) rfl), lw_t1 (List.mem_of_getElem? (i := 129) rfl)⟩
theorem lw_p4 : lw_okq (⟨"MatchAction", "newNode", "()I"⟩, 22) := ⟨⟨by decide +kernel, by decide +kernel⟩, lw_t1 (List.mem_of_getElem? (i := 4) rfl), lw_t1 (List.mem_of_getElem? (i := 132) rfl), lw_t1 (List.mem_of_getElem? (i := 133) rfl)⟩
theorem lw_p5 : lw_okq (⟨"MatchAction", "nodeFor", "(II)I"⟩, 22) := ⟨⟨by decide +kernel, by decide +kernel⟩, lw_t1 (List.mem_of_getElem? (i := 4) rfl), lw_t1 (List.mem_of_getElem? (i := 136) rfl), lw_t1 (List.mem_of_getElem? (i := 137) rfl)⟩
theorem lw_p6 : lw_okq (⟨"MatchAction", "greatestPriority", "()I"⟩, 22) := ⟨⟨by decide +kernel, by decide +kernel⟩, lw_t1 (List.mem_of_getElem? (i := 4) rfl), lw_t1 (List.mem_of_getElem? (i := 140) rfl), lw_t1 (List.mem_of_getElem? (i := 141) rfl)⟩
theorem lw_p7 : lw_okq (⟨"MatchAction", "makeGroups", "()V"⟩, 22) := ⟨⟨by decide +kernel, by decide +kernel⟩, lw_t1 (List.mem_of_getElem? (i := 4) rfl), lw_t1 (List.mem_of_getElem? (i := 144) rfl), lw_t1 (List.mem_of_getElem? (i := 145) rfl)⟩
theorem lw_p8 : lw_okq (⟨"MatchAction", "noteGroup", "(I)V"⟩, 22) := ⟨⟨by decide +kernel, by decide +kernel⟩, lw_t1 (List.mem_of_getElem? (i := 4) rfl), lw_t1 (List.mem_of_getElem? (i := 148) rfl), lw_t1 (List.mem_of_getElem? (i := 149) rfl)⟩
theorem lw_p9 : lw_okq (⟨"MatchAction", "groupOf", "(I)I"⟩, 22) := ⟨⟨by decide +kernel, by decide +kernel⟩, lw_t1 (List.mem_of_getElem? (i := 4) rfl), lw_t1 (List.mem_of_getElem? (i := 152) rfl), lw_t1 (List.mem_of_getElem? (i := 153) rfl)⟩
theorem lw_p10 : lw_okq (⟨"MatchAction", "priorityOf", "(I)I"⟩, 22) := ⟨⟨by decide +kernel, by decide +kernel⟩, lw_t1 (List.mem_of_getElem? (i := 4) rfl), lw_t1 (List.mem_of_getElem? (i := 156) rfl), lw_t1 (List.mem_of_getElem? (i := 157) rfl)⟩
theorem lw_p11 : lw_okq (⟨"MatchAction", "sortGroups", "()V"⟩, 22) := ⟨⟨by decide +kernel, by decide +kernel⟩, lw_t1 (List.mem_of_getElem? (i := 4) rfl), lw_t1 (List.mem_of_getElem? (i := 160) rfl), lw_t1 (List.mem_of_getElem? (i := 161) rfl)⟩
theorem lw_p12 : lw_okq (⟨"MatchAction", "hang", "(I)V"⟩, 22) := ⟨⟨by decide +kernel, by decide +kernel⟩, lw_t1 (List.mem_of_getElem? (i := 4) rfl), lw_t1 (List.mem_of_getElem? (i := 164) rfl), lw_t1 (List.mem_of_getElem? (i := 165) rfl)⟩
theorem lw_p13 : lw_okq (⟨"MatchAction", "slotOf", "(I)I"⟩, 22) := ⟨⟨by decide +kernel, by decide +kernel⟩, lw_t1 (List.mem_of_getElem? (i := 4) rfl), lw_t1 (List.mem_of_getElem? (i := 168) rfl), lw_t1 (List.mem_of_getElem? (i := 169) rfl)⟩
theorem lw_p14 : lw_okq (⟨"MatchAction", "precedes", "(II)Z"⟩, 22) := ⟨⟨by decide +kernel, by decide +kernel⟩, lw_t1 (List.mem_of_getElem? (i := 4) rfl), lw_t1 (List.mem_of_getElem? (i := 172) rfl), lw_t1 (List.mem_of_getElem? (i := 173) rfl)⟩
theorem lw_p15 : lw_okq (⟨"MatchAction", "perform", "(I)Z"⟩, 22) := ⟨⟨by decide +kernel, by decide +kernel⟩, lw_t1 (List.mem_of_getElem? (i := 4) rfl), lw_t1 (List.mem_of_getElem? (i := 180) rfl), lw_t1 (List.mem_of_getElem? (i := 181) rfl)⟩
def lw_privs_1 : List (MethodName × Nat) := [(⟨"MatchAction", "addEntry", "(III)I"⟩, 22), (⟨"MatchAction", "entryWith", "(I)I"⟩, 22), (⟨"MatchAction", "longestPrefix", "()I"⟩, 22), (⟨"MatchAction", "makeTree", "()V"⟩, 22), (⟨"MatchAction", "newNode", "()I"⟩, 22), (⟨"MatchAction", "nodeFor", "(II)I"⟩, 22), (⟨"MatchAction", "greatestPriority", "()I"⟩, 22), (⟨"MatchAction", "makeGroups", "()V"⟩, 22), (⟨"MatchAction", "noteGroup", "(I)V"⟩, 22), (⟨"MatchAction", "groupOf", "(I)I"⟩, 22), (⟨"MatchAction", "priorityOf", "(I)I"⟩, 22), (⟨"MatchAction", "sortGroups", "()V"⟩, 22), (⟨"MatchAction", "hang", "(I)V"⟩, 22), (⟨"MatchAction", "slotOf", "(I)I"⟩, 22), (⟨"MatchAction", "precedes", "(II)Z"⟩, 22), (⟨"MatchAction", "perform", "(I)Z"⟩, 22)]
theorem lw_r1 : ∀ q ∈ lw_privs_1, lw_okq q := List.forall_mem_cons.mpr ⟨lw_p0, List.forall_mem_cons.mpr ⟨lw_p1, List.forall_mem_cons.mpr ⟨lw_p2, List.forall_mem_cons.mpr ⟨lw_p3, List.forall_mem_cons.mpr ⟨lw_p4, List.forall_mem_cons.mpr ⟨lw_p5, List.forall_mem_cons.mpr ⟨lw_p6, List.forall_mem_cons.mpr ⟨lw_p7, List.forall_mem_cons.mpr ⟨lw_p8, List.forall_mem_cons.mpr ⟨lw_p9, List.forall_mem_cons.mpr ⟨lw_p10, List.forall_mem_cons.mpr ⟨lw_p11, List.forall_mem_cons.mpr ⟨lw_p12, List.forall_mem_cons.mpr ⟨lw_p13, List.forall_mem_cons.mpr ⟨lw_p14, List.forall_mem_cons.mpr ⟨lw_p15, fun _ h => absurd h List.not_mem_nil⟩⟩⟩⟩⟩⟩⟩⟩⟩⟩⟩⟩⟩⟩⟩⟩
theorem lw_p16 : lw_okq (⟨"MatchAction", "prefixesOnWay", "()I"⟩, 22) := ⟨⟨by decide +kernel, by decide +kernel⟩, lw_t1 (List.mem_of_getElem? (i := 4) rfl), lw_t1 (List.mem_of_getElem? (i := 188) rfl), lw_t1 (List.mem_of_getElem? (i := 189) rfl)⟩
theorem lw_p17 : lw_okq (⟨"MatchAction", "maskedMatching", "()I"⟩, 22) := ⟨⟨by decide +kernel, by decide +kernel⟩, lw_t1 (List.mem_of_getElem? (i := 4) rfl), lw_t1 (List.mem_of_getElem? (i := 192) rfl), lw_t1 (List.mem_of_getElem? (i := 193) rfl)⟩
theorem lw_p18 : lw_okq (⟨"MatchActionModel", "isByte", "(I)Z"⟩, 13) := ⟨⟨by decide +kernel, by decide +kernel⟩, lw_t1 (List.mem_of_getElem? (i := 200) rfl), lw_t2 (List.mem_of_getElem? (i := 10) rfl), lw_t2 (List.mem_of_getElem? (i := 11) rfl)⟩
theorem lw_p19 : lw_okq (⟨"MatchActionModel", "add", "(IIII)I"⟩, 13) := ⟨⟨by decide +kernel, by decide +kernel⟩, lw_t1 (List.mem_of_getElem? (i := 200) rfl), lw_t2 (List.mem_of_getElem? (i := 18) rfl), lw_t2 (List.mem_of_getElem? (i := 19) rfl)⟩
theorem lw_p20 : lw_okq (⟨"MatchActionModel", "giveAction", "(I)V"⟩, 13) := ⟨⟨by decide +kernel, by decide +kernel⟩, lw_t1 (List.mem_of_getElem? (i := 200) rfl), lw_t2 (List.mem_of_getElem? (i := 22) rfl), lw_t2 (List.mem_of_getElem? (i := 23) rfl)⟩
theorem lw_p21 : lw_okq (⟨"MatchActionModel", "find", "(I)I"⟩, 13) := ⟨⟨by decide +kernel, by decide +kernel⟩, lw_t1 (List.mem_of_getElem? (i := 200) rfl), lw_t2 (List.mem_of_getElem? (i := 35) rfl), lw_t2 (List.mem_of_getElem? (i := 36) rfl)⟩
theorem lw_p22 : lw_okq (⟨"MatchActionModel", "shift", "(I)V"⟩, 13) := ⟨⟨by decide +kernel, by decide +kernel⟩, lw_t1 (List.mem_of_getElem? (i := 200) rfl), lw_t2 (List.mem_of_getElem? (i := 39) rfl), lw_t2 (List.mem_of_getElem? (i := 40) rfl)⟩
theorem lw_p23 : lw_okq (⟨"MatchActionModel", "isTable", "(I)Z"⟩, 13) := ⟨⟨by decide +kernel, by decide +kernel⟩, lw_t1 (List.mem_of_getElem? (i := 200) rfl), lw_t2 (List.mem_of_getElem? (i := 47) rfl), lw_t2 (List.mem_of_getElem? (i := 48) rfl)⟩
theorem lw_p24 : lw_okq (⟨"MatchActionModel", "taken", "(II)I"⟩, 13) := ⟨⟨by decide +kernel, by decide +kernel⟩, lw_t1 (List.mem_of_getElem? (i := 200) rfl), lw_t2 (List.mem_of_getElem? (i := 63) rfl), lw_t2 (List.mem_of_getElem? (i := 64) rfl)⟩
theorem lw_p25 : lw_okq (⟨"MatchActionModel", "fits", "(II)Z"⟩, 13) := ⟨⟨by decide +kernel, by decide +kernel⟩, lw_t1 (List.mem_of_getElem? (i := 200) rfl), lw_t2 (List.mem_of_getElem? (i := 67) rfl), lw_t2 (List.mem_of_getElem? (i := 68) rfl)⟩
theorem lw_p26 : lw_okq (⟨"MatchActionModel", "act", "(I)Z"⟩, 13) := ⟨⟨by decide +kernel, by decide +kernel⟩, lw_t1 (List.mem_of_getElem? (i := 200) rfl), lw_t2 (List.mem_of_getElem? (i := 75) rfl), lw_t2 (List.mem_of_getElem? (i := 76) rfl)⟩
def lw_privs_2 : List (MethodName × Nat) := [(⟨"MatchAction", "prefixesOnWay", "()I"⟩, 22), (⟨"MatchAction", "maskedMatching", "()I"⟩, 22), (⟨"MatchActionModel", "isByte", "(I)Z"⟩, 13), (⟨"MatchActionModel", "add", "(IIII)I"⟩, 13), (⟨"MatchActionModel", "giveAction", "(I)V"⟩, 13), (⟨"MatchActionModel", "find", "(I)I"⟩, 13), (⟨"MatchActionModel", "shift", "(I)V"⟩, 13), (⟨"MatchActionModel", "isTable", "(I)Z"⟩, 13), (⟨"MatchActionModel", "taken", "(II)I"⟩, 13), (⟨"MatchActionModel", "fits", "(II)Z"⟩, 13), (⟨"MatchActionModel", "act", "(I)Z"⟩, 13)]
theorem lw_r2 : ∀ q ∈ lw_privs_2, lw_okq q := List.forall_mem_cons.mpr ⟨lw_p16, List.forall_mem_cons.mpr ⟨lw_p17, List.forall_mem_cons.mpr ⟨lw_p18, List.forall_mem_cons.mpr ⟨lw_p19, List.forall_mem_cons.mpr ⟨lw_p20, List.forall_mem_cons.mpr ⟨lw_p21, List.forall_mem_cons.mpr ⟨lw_p22, List.forall_mem_cons.mpr ⟨lw_p23, List.forall_mem_cons.mpr ⟨lw_p24, List.forall_mem_cons.mpr ⟨lw_p25, List.forall_mem_cons.mpr ⟨lw_p26, fun _ h => absurd h List.not_mem_nil⟩⟩⟩⟩⟩⟩⟩⟩⟩⟩⟩
def lw_privs : List (MethodName × Nat) := lw_privs_1 ++ (lw_privs_2)
def lw_tbl : List Cond := k2_sels lw_privs ++ tables_1
theorem lw_privs_ok : ∀ q ∈ lw_privs, lw_okq q := by
  show ∀ q ∈ lw_privs_1 ++ (lw_privs_2), lw_okq q
  exact List.forall_mem_append.mpr ⟨lw_r1, lw_r2⟩
-- ===== ONE list of words for every method: the tables' words that hold all through a run =====
def lw_all : List Cond := lw_tbl.filter goodWord
/-- a word of the tables by its place: claim/WORDS.tsv -/
theorem lw_w {w : Cond} (i : Nat) (h : lw_tbl[i]? = some w) (g : goodWord w = true) : w ∈ lw_all := List.mem_filter.mpr ⟨List.mem_of_getElem? h, g⟩
theorem lw_all_tbl {w : Cond} (h : w ∈ lw_all) : w ∈ lw_tbl := (List.mem_filter.mp h).1
theorem lw_self : GoodIn lw_all lw_all := fun w h => ⟨h, good_of_word (List.mem_filter.mp h).2⟩
/-- a class's field words, by their places -/
theorem lw_in (ws : List Cond) (ps : List Nat) (hp : ws = ps.filterMap (fun i => lw_tbl[i]?)) (hg : ws.all goodWord = true) : ∀ w ∈ ws, w ∈ lw_all := by
  intro w h
  have h1 := List.all_eq_true.mp hg w h
  rw [hp] at h
  obtain ⟨i, -, hi⟩ := List.mem_filterMap.mp h
  exact lw_w i hi h1
/-- the words of a contract for the method y with code b, L locals, answer r -/
abbrev ws_ (y : MethodName) (b : ByteArray) (L : Nat) (r : Option FieldType) : List Cond := Cond.code y b L r :: lw_all
theorem lw_meth {y : MethodName} {b : ByteArray} {L : Nat} {r : Option FieldType} (h : Cond.code y b L r ∈ lw_all) : GoodIn lw_all (ws_ y b L r) := by
  intro w hw
  rcases List.mem_cons.mp hw with e | e
  · rw [e]
    exact lw_self _ h
  · exact lw_self _ e
theorem lw_app {a c : List Cond} (ha : ∀ w ∈ a, w ∈ lw_all) (hc : GoodIn lw_all c) : GoodIn lw_all (a ++ c) := by
  intro w hw
  rcases List.mem_append.mp hw with e | e
  · exact lw_self w (ha w e)
  · exact hc w e
/-- what a call through an object asks: cwV n hts (lw_V ..) -/
theorem lw_V {own : String} {idx : Nat} {C : String} {y : MethodName} {b : ByteArray} {L : Nat} {r : Option FieldType} (h1 : Cond.methodLink own idx y ∈ lw_all) (h2 : Cond.instanceMethod y ∈ lw_all) (h3 : Cond.selects C y y ∈ lw_all) (h4 : Cond.initialized C ∈ lw_all) (h5 : Cond.code y b L r ∈ lw_all) : GoodIn lw_all (wsV own idx C y (ws_ y b L r)) := by
  refine lw_app ?_ (lw_meth h5)
  intro w hw
  simp only [List.mem_cons, List.not_mem_nil, or_false] at hw
  rcases hw with e | e | e | e
  · rw [e]; exact h1
  · rw [e]; exact h2
  · rw [e]; exact h3
  · rw [e]; exact h4
/-- what a static call asks: va_cwS n hts (lw_S ..) -/
theorem lw_S {own : String} {idx : Nat} {y : MethodName} {b : ByteArray} {L : Nat} {r : Option FieldType} (h1 : Cond.methodLink own idx y ∈ lw_all) (h2 : Cond.static y ∈ lw_all) (h3 : Cond.initialized y.cls ∈ lw_all) (h4 : Cond.code y b L r ∈ lw_all) : GoodIn lw_all (va_wsS own idx y (ws_ y b L r)) := by
  refine lw_app ?_ (lw_meth h4)
  intro w hw
  simp only [List.mem_cons, List.not_mem_nil, or_false] at hw
  rcases hw with e | e | e
  · rw [e]; exact h1
  · rw [e]; exact h2
  · rw [e]; exact h3
/-- the words of a contract for a method WITH HANDLERS (hh: its table) -/
abbrev wsW_ (y : MethodName) (b : ByteArray) (L : Nat) (r : Option FieldType) (hh : List (Nat × Nat × Nat × Nat)) : List Cond := Cond.codeWith y b L r hh :: lw_all
theorem lw_methW {y : MethodName} {b : ByteArray} {L : Nat} {r : Option FieldType} {hh : List (Nat × Nat × Nat × Nat)} (h : Cond.codeWith y b L r hh ∈ lw_all) : GoodIn lw_all (wsW_ y b L r hh) := by
  intro w hw
  rcases List.mem_cons.mp hw with e | e
  · rw [e]
    exact lw_self _ h
  · exact lw_self _ e
/-- any list of words by their places (lw_in), good -/
theorem lw_good {ws : List Cond} (h : ∀ w ∈ ws, w ∈ lw_all) : GoodIn lw_all ws := fun w hw => lw_self w (h w hw)
/-- what a call of a method with handlers asks: vx_cwVW n hts (lw_VW ..), vx_cwSW n hts (lw_SW ..) -/
theorem lw_VW {own : String} {idx : Nat} {C : String} {y : MethodName} {b : ByteArray} {L : Nat} {r : Option FieldType} {hh : List (Nat × Nat × Nat × Nat)} (h1 : Cond.methodLink own idx y ∈ lw_all) (h2 : Cond.instanceMethod y ∈ lw_all) (h3 : Cond.selects C y y ∈ lw_all) (h4 : Cond.initialized C ∈ lw_all) (h5 : Cond.codeWith y b L r hh ∈ lw_all) : GoodIn lw_all (wsV own idx C y (wsW_ y b L r hh)) := by
  refine lw_app ?_ (lw_methW h5)
  intro w hw
  simp only [List.mem_cons, List.not_mem_nil, or_false] at hw
  rcases hw with e | e | e | e
  · rw [e]; exact h1
  · rw [e]; exact h2
  · rw [e]; exact h3
  · rw [e]; exact h4
theorem lw_SW {own : String} {idx : Nat} {y : MethodName} {b : ByteArray} {L : Nat} {r : Option FieldType} {hh : List (Nat × Nat × Nat × Nat)} (h1 : Cond.methodLink own idx y ∈ lw_all) (h2 : Cond.static y ∈ lw_all) (h3 : Cond.initialized y.cls ∈ lw_all) (h4 : Cond.codeWith y b L r hh ∈ lw_all) : GoodIn lw_all (va_wsS own idx y (wsW_ y b L r hh)) := by
  refine lw_app ?_ (lw_methW h4)
  intro w hw
  simp only [List.mem_cons, List.not_mem_nil, or_false] at hw
  rcases hw with e | e | e
  · rw [e]; exact h1
  · rw [e]; exact h2
  · rw [e]; exact h3
/-- a word by its place in its run of the tables -/
theorem lw_at {r : List Cond} (hr : ∀ w ∈ r, w ∈ lw_tbl) {w : Cond} (i : Nat) (h : r[i]? = some w) : w ∈ lw_tbl := hr w (List.mem_of_getElem? h)
theorem lw_g {w : Cond} (h : w ∈ lw_tbl) (g : goodWord w = true) : w ∈ lw_all := List.mem_filter.mpr ⟨h, g⟩
theorem lw_ms : ∀ w ∈ k2_sels lw_privs, w ∈ lw_tbl := fun w h => show w ∈ k2_sels lw_privs ++ tables_1 from List.mem_append_left _ h
theorem lw_m1 : ∀ w ∈ tables_1_1, w ∈ lw_tbl := fun w h => show w ∈ k2_sels lw_privs ++ tables_1 from List.mem_append_right (k2_sels lw_privs) (show w ∈ tables_1 from List.mem_append_left _ h)
theorem lw_m2 : ∀ w ∈ tables_1_2, w ∈ lw_tbl := fun w h => show w ∈ k2_sels lw_privs ++ tables_1 from List.mem_append_right (k2_sels lw_privs) (show w ∈ tables_1 from List.mem_append_right _ h)
theorem qs0 : (Cond.selects "MatchAction" ⟨"MatchAction", "addEntry", "(III)I"⟩ ⟨"MatchAction", "addEntry", "(III)I"⟩) ∈ lw_all := lw_g (lw_at lw_ms 0 rfl) rfl
theorem qs1 : (Cond.selects "MatchAction" ⟨"MatchAction", "entryWith", "(I)I"⟩ ⟨"MatchAction", "entryWith", "(I)I"⟩) ∈ lw_all := lw_g (lw_at lw_ms 1 rfl) rfl
theorem qs2 : (Cond.selects "MatchAction" ⟨"MatchAction", "longestPrefix", "()I"⟩ ⟨"MatchAction", "longestPrefix", "()I"⟩) ∈ lw_all := lw_g (lw_at lw_ms 2 rfl) rfl
theorem qs3 : (Cond.selects "MatchAction" ⟨"MatchAction", "makeTree", "()V"⟩ ⟨"MatchAction", "makeTree", "()V"⟩) ∈ lw_all := lw_g (lw_at lw_ms 3 rfl) rfl
theorem qs4 : (Cond.selects "MatchAction" ⟨"MatchAction", "newNode", "()I"⟩ ⟨"MatchAction", "newNode", "()I"⟩) ∈ lw_all := lw_g (lw_at lw_ms 4 rfl) rfl
theorem qs5 : (Cond.selects "MatchAction" ⟨"MatchAction", "nodeFor", "(II)I"⟩ ⟨"MatchAction", "nodeFor", "(II)I"⟩) ∈ lw_all := lw_g (lw_at lw_ms 5 rfl) rfl
theorem qs6 : (Cond.selects "MatchAction" ⟨"MatchAction", "greatestPriority", "()I"⟩ ⟨"MatchAction", "greatestPriority", "()I"⟩) ∈ lw_all := lw_g (lw_at lw_ms 6 rfl) rfl
theorem qs7 : (Cond.selects "MatchAction" ⟨"MatchAction", "makeGroups", "()V"⟩ ⟨"MatchAction", "makeGroups", "()V"⟩) ∈ lw_all := lw_g (lw_at lw_ms 7 rfl) rfl
theorem qs8 : (Cond.selects "MatchAction" ⟨"MatchAction", "noteGroup", "(I)V"⟩ ⟨"MatchAction", "noteGroup", "(I)V"⟩) ∈ lw_all := lw_g (lw_at lw_ms 8 rfl) rfl
theorem qs9 : (Cond.selects "MatchAction" ⟨"MatchAction", "groupOf", "(I)I"⟩ ⟨"MatchAction", "groupOf", "(I)I"⟩) ∈ lw_all := lw_g (lw_at lw_ms 9 rfl) rfl
theorem qs10 : (Cond.selects "MatchAction" ⟨"MatchAction", "priorityOf", "(I)I"⟩ ⟨"MatchAction", "priorityOf", "(I)I"⟩) ∈ lw_all := lw_g (lw_at lw_ms 10 rfl) rfl
theorem qs11 : (Cond.selects "MatchAction" ⟨"MatchAction", "sortGroups", "()V"⟩ ⟨"MatchAction", "sortGroups", "()V"⟩) ∈ lw_all := lw_g (lw_at lw_ms 11 rfl) rfl
theorem qs12 : (Cond.selects "MatchAction" ⟨"MatchAction", "hang", "(I)V"⟩ ⟨"MatchAction", "hang", "(I)V"⟩) ∈ lw_all := lw_g (lw_at lw_ms 12 rfl) rfl
theorem qs13 : (Cond.selects "MatchAction" ⟨"MatchAction", "slotOf", "(I)I"⟩ ⟨"MatchAction", "slotOf", "(I)I"⟩) ∈ lw_all := lw_g (lw_at lw_ms 13 rfl) rfl
theorem qs14 : (Cond.selects "MatchAction" ⟨"MatchAction", "precedes", "(II)Z"⟩ ⟨"MatchAction", "precedes", "(II)Z"⟩) ∈ lw_all := lw_g (lw_at lw_ms 14 rfl) rfl
theorem qs15 : (Cond.selects "MatchAction" ⟨"MatchAction", "perform", "(I)Z"⟩ ⟨"MatchAction", "perform", "(I)Z"⟩) ∈ lw_all := lw_g (lw_at lw_ms 15 rfl) rfl
theorem qs16 : (Cond.selects "MatchAction" ⟨"MatchAction", "prefixesOnWay", "()I"⟩ ⟨"MatchAction", "prefixesOnWay", "()I"⟩) ∈ lw_all := lw_g (lw_at lw_ms 16 rfl) rfl
theorem qs17 : (Cond.selects "MatchAction" ⟨"MatchAction", "maskedMatching", "()I"⟩ ⟨"MatchAction", "maskedMatching", "()I"⟩) ∈ lw_all := lw_g (lw_at lw_ms 17 rfl) rfl
theorem qs18 : (Cond.selects "MatchActionModel" ⟨"MatchActionModel", "isByte", "(I)Z"⟩ ⟨"MatchActionModel", "isByte", "(I)Z"⟩) ∈ lw_all := lw_g (lw_at lw_ms 18 rfl) rfl
theorem qs19 : (Cond.selects "MatchActionModel" ⟨"MatchActionModel", "add", "(IIII)I"⟩ ⟨"MatchActionModel", "add", "(IIII)I"⟩) ∈ lw_all := lw_g (lw_at lw_ms 19 rfl) rfl
theorem qs20 : (Cond.selects "MatchActionModel" ⟨"MatchActionModel", "giveAction", "(I)V"⟩ ⟨"MatchActionModel", "giveAction", "(I)V"⟩) ∈ lw_all := lw_g (lw_at lw_ms 20 rfl) rfl
theorem qs21 : (Cond.selects "MatchActionModel" ⟨"MatchActionModel", "find", "(I)I"⟩ ⟨"MatchActionModel", "find", "(I)I"⟩) ∈ lw_all := lw_g (lw_at lw_ms 21 rfl) rfl
theorem qs22 : (Cond.selects "MatchActionModel" ⟨"MatchActionModel", "shift", "(I)V"⟩ ⟨"MatchActionModel", "shift", "(I)V"⟩) ∈ lw_all := lw_g (lw_at lw_ms 22 rfl) rfl
theorem qs23 : (Cond.selects "MatchActionModel" ⟨"MatchActionModel", "isTable", "(I)Z"⟩ ⟨"MatchActionModel", "isTable", "(I)Z"⟩) ∈ lw_all := lw_g (lw_at lw_ms 23 rfl) rfl
theorem qs24 : (Cond.selects "MatchActionModel" ⟨"MatchActionModel", "taken", "(II)I"⟩ ⟨"MatchActionModel", "taken", "(II)I"⟩) ∈ lw_all := lw_g (lw_at lw_ms 24 rfl) rfl
theorem qs25 : (Cond.selects "MatchActionModel" ⟨"MatchActionModel", "fits", "(II)Z"⟩ ⟨"MatchActionModel", "fits", "(II)Z"⟩) ∈ lw_all := lw_g (lw_at lw_ms 25 rfl) rfl
theorem qs26 : (Cond.selects "MatchActionModel" ⟨"MatchActionModel", "act", "(I)Z"⟩ ⟨"MatchActionModel", "act", "(I)Z"⟩) ∈ lw_all := lw_g (lw_at lw_ms 26 rfl) rfl
end
section
/-! MatchAction -/
set_option maxRecDepth 100000
def RX0 : String := "MatchAction"
def TX0 : u_T := fun k => match k with
  | 0 => ("MatchAction", "draft", "I", false)
  | 1 => ("MatchAction", "nextHandle", "I", false)
  | 2 => ("MatchAction", "defaults", "[I", true)
  | 3 => ("MatchAction", "packet", "[I", true)
  | 4 => ("MatchAction", "entryCount", "[B", true)
  | 5 => ("MatchAction", "handles", "[I", true)
  | 6 => ("MatchAction", "actions", "[I", true)
  | 7 => ("MatchAction", "keys", "[I", true)
  | 8 => ("MatchAction", "widths", "[I", true)
  | 9 => ("MatchAction", "treeReady", "Z", false)
  | 10 => ("MatchAction", "nodeCount", "I", false)
  | 11 => ("MatchAction", "child", "[S", true)
  | 12 => ("MatchAction", "endsHere", "[B", true)
  | 13 => ("MatchAction", "endCount", "[B", true)
  | 14 => ("MatchAction", "partNode", "[S", true)
  | 15 => ("MatchAction", "partDepth", "[B", true)
  | 16 => ("MatchAction", "groupsReady", "Z", false)
  | 17 => ("MatchAction", "groupCount", "I", false)
  | 18 => ("MatchAction", "groupMask", "[I", true)
  | 19 => ("MatchAction", "groupTop", "[B", true)
  | 20 => ("MatchAction", "listFirst", "[B", true)
  | _ => ("MatchAction", "listNext", "[B", true)
def tyX0 : Nat → FieldType := fun k => match k with
  | 0 => .int
  | 1 => .int
  | 2 => .array .int
  | 3 => .array .int
  | 4 => .array .byte
  | 5 => .array .int
  | 6 => .array .int
  | 7 => .array .int
  | 8 => .array .int
  | 9 => .boolean
  | 10 => .int
  | 11 => .array .short
  | 12 => .array .byte
  | 13 => .array .byte
  | 14 => .array .short
  | 15 => .array .byte
  | 16 => .boolean
  | 17 => .int
  | 18 => .array .int
  | 19 => .array .byte
  | 20 => .array .byte
  | _ => .array .byte
abbrev wsX00 : List Cond := u_ws RX0 TX0 22
set_option maxRecDepth 100000 in
theorem nmX0 : ∀ a, a < 22 → ∀ b, b < 22 → a ≠ b → (TX0 a).2.1 ≠ (TX0 b).2.1 := by decide +kernel
set_option maxRecDepth 100000 in
theorem tyX0_ok : ∀ k, k < 22 → parseFieldDescriptor (TX0 k).2.2.1 = some (tyX0 k) := by decide +kernel
abbrev cX0_init : ByteArray := prog_1_method_1_code
def yX0_init : MethodName := ⟨RX0, "<init>", "()V"⟩
abbrev cX0_action : ByteArray := prog_1_method_2_code
def yX0_action : MethodName := ⟨RX0, "action", "(III)Z"⟩
abbrev cX0_addPrefix : ByteArray := prog_1_method_4_code
def yX0_addPrefix : MethodName := ⟨RX0, "addPrefix", "(II)I"⟩
abbrev cX0_addEntry : ByteArray := prog_1_method_6_code
def yX0_addEntry : MethodName := ⟨RX0, "addEntry", "(III)I"⟩
abbrev cX0_addMasked : ByteArray := prog_1_method_5_code
def yX0_addMasked : MethodName := ⟨RX0, "addMasked", "(III)I"⟩
abbrev cX0_remove : ByteArray := prog_1_method_8_code
def yX0_remove : MethodName := ⟨RX0, "remove", "(I)I"⟩
abbrev cX0_entryWith : ByteArray := prog_1_method_7_code
def yX0_entryWith : MethodName := ⟨RX0, "entryWith", "(I)I"⟩
abbrev cX0_setDefault : ByteArray := prog_1_method_9_code
def yX0_setDefault : MethodName := ⟨RX0, "setDefault", "(I)Z"⟩
abbrev cX0_field : ByteArray := prog_1_method_10_code
def yX0_field : MethodName := ⟨RX0, "field", "(II)Z"⟩
abbrev cX0_get : ByteArray := prog_1_method_11_code
def yX0_get : MethodName := ⟨RX0, "get", "(I)I"⟩
abbrev cX0_lookup : ByteArray := prog_1_method_12_code
def yX0_lookup : MethodName := ⟨RX0, "lookup", "(I)I"⟩
abbrev cX0_longestPrefix : ByteArray := prog_1_method_18_code
def yX0_longestPrefix : MethodName := ⟨RX0, "longestPrefix", "()I"⟩
abbrev cX0_makeTree : ByteArray := prog_1_method_16_code
def yX0_makeTree : MethodName := ⟨RX0, "makeTree", "()V"⟩
abbrev cX0_newNode : ByteArray := prog_1_method_15_code
def yX0_newNode : MethodName := ⟨RX0, "newNode", "()I"⟩
abbrev cX0_nodeFor : ByteArray := prog_1_method_17_code
def yX0_nodeFor : MethodName := ⟨RX0, "nodeFor", "(II)I"⟩
abbrev cX0_greatestPriority : ByteArray := prog_1_method_29_code
def yX0_greatestPriority : MethodName := ⟨RX0, "greatestPriority", "()I"⟩
abbrev cX0_makeGroups : ByteArray := prog_1_method_23_code
def yX0_makeGroups : MethodName := ⟨RX0, "makeGroups", "()V"⟩
abbrev cX0_noteGroup : ByteArray := prog_1_method_25_code
def yX0_noteGroup : MethodName := ⟨RX0, "noteGroup", "(I)V"⟩
abbrev cX0_groupOf : ByteArray := prog_1_method_24_code
def yX0_groupOf : MethodName := ⟨RX0, "groupOf", "(I)I"⟩
abbrev cX0_priorityOf : ByteArray := prog_1_method_21_code
def yX0_priorityOf : MethodName := ⟨RX0, "priorityOf", "(I)I"⟩
abbrev cX0_sortGroups : ByteArray := prog_1_method_26_code
def yX0_sortGroups : MethodName := ⟨RX0, "sortGroups", "()V"⟩
abbrev cX0_hang : ByteArray := prog_1_method_28_code
def yX0_hang : MethodName := ⟨RX0, "hang", "(I)V"⟩
abbrev cX0_slotOf : ByteArray := prog_1_method_22_code
def yX0_slotOf : MethodName := ⟨RX0, "slotOf", "(I)I"⟩
abbrev cX0_precedes : ByteArray := prog_1_method_27_code
def yX0_precedes : MethodName := ⟨RX0, "precedes", "(II)Z"⟩
abbrev cX0_process : ByteArray := prog_1_method_13_code
def yX0_process : MethodName := ⟨RX0, "process", "()I"⟩
abbrev cX0_perform : ByteArray := prog_1_method_3_code
def yX0_perform : MethodName := ⟨RX0, "perform", "(I)Z"⟩
abbrev cX0_matching : ByteArray := prog_1_method_14_code
def yX0_matching : MethodName := ⟨RX0, "matching", "(I)I"⟩
abbrev cX0_prefixesOnWay : ByteArray := prog_1_method_19_code
def yX0_prefixesOnWay : MethodName := ⟨RX0, "prefixesOnWay", "()I"⟩
abbrev cX0_maskedMatching : ByteArray := prog_1_method_30_code
def yX0_maskedMatching : MethodName := ⟨RX0, "maskedMatching", "()I"⟩
abbrev cX0_owned : ByteArray := prog_1_method_20_code
def yX0_owned : MethodName := ⟨RX0, "owned", "(I)I"⟩
theorem q28 : (Jvm.Cond.initialized "MatchAction") ∈ lw_all := lw_g (lw_at lw_m1 1 rfl) rfl
theorem q31 : (Jvm.Cond.instantiable "MatchAction" (22 : Nat)) ∈ lw_all := lw_g (lw_at lw_m1 4 rfl) rfl
theorem q33 : (Jvm.Cond.instanceMethod ({ cls := "MatchAction", name := "<init>", desc := "()V" } : Jvm.MethodName)) ∈ lw_all := lw_g (lw_at lw_m1 6 rfl) rfl
theorem q34 : (Jvm.Cond.code ({ cls := "MatchAction", name := "<init>", desc := "()V" } : Jvm.MethodName) prog_1_method_1_code (2 : Nat) (Option.none : Option Jvm.ClassFile.FieldType)) ∈ lw_all := lw_g (lw_at lw_m1 7 rfl) rfl
theorem q35 : (Jvm.Cond.methodLink "MatchAction" (1 : Nat) ({ cls := "java/lang/Object", name := "<init>", desc := "()V" } : Jvm.MethodName)) ∈ lw_all := lw_g (lw_at lw_m1 8 rfl) rfl
theorem q38 : (Jvm.Cond.fieldLink "MatchAction" (60 : Nat) "MatchAction" "draft" "I") ∈ lw_all := lw_g (lw_at lw_m1 11 rfl) rfl
theorem q39 : (Jvm.Cond.fieldLink "MatchAction" (77 : Nat) "MatchAction" "nextHandle" "I") ∈ lw_all := lw_g (lw_at lw_m1 12 rfl) rfl
theorem q40 : (Jvm.Cond.fieldLink "MatchAction" (7 : Nat) "MatchAction" "defaults" "[I") ∈ lw_all := lw_g (lw_at lw_m1 13 rfl) rfl
theorem q41 : (Jvm.Cond.fieldLink "MatchAction" (13 : Nat) "MatchAction" "packet" "[I") ∈ lw_all := lw_g (lw_at lw_m1 14 rfl) rfl
theorem q42 : (Jvm.Cond.fieldLink "MatchAction" (16 : Nat) "MatchAction" "entryCount" "[B") ∈ lw_all := lw_g (lw_at lw_m1 15 rfl) rfl
theorem q43 : (Jvm.Cond.fieldLink "MatchAction" (20 : Nat) "MatchAction" "handles" "[I") ∈ lw_all := lw_g (lw_at lw_m1 16 rfl) rfl
theorem q44 : (Jvm.Cond.fieldLink "MatchAction" (23 : Nat) "MatchAction" "actions" "[I") ∈ lw_all := lw_g (lw_at lw_m1 17 rfl) rfl
theorem q45 : (Jvm.Cond.fieldLink "MatchAction" (26 : Nat) "MatchAction" "keys" "[I") ∈ lw_all := lw_g (lw_at lw_m1 18 rfl) rfl
theorem q46 : (Jvm.Cond.fieldLink "MatchAction" (29 : Nat) "MatchAction" "widths" "[I") ∈ lw_all := lw_g (lw_at lw_m1 19 rfl) rfl
theorem q47 : (Jvm.Cond.fieldLink "MatchAction" (64 : Nat) "MatchAction" "treeReady" "Z") ∈ lw_all := lw_g (lw_at lw_m1 20 rfl) rfl
theorem q48 : (Jvm.Cond.fieldLink "MatchAction" (101 : Nat) "MatchAction" "nodeCount" "I") ∈ lw_all := lw_g (lw_at lw_m1 21 rfl) rfl
theorem q49 : (Jvm.Cond.fieldLink "MatchAction" (32 : Nat) "MatchAction" "child" "[S") ∈ lw_all := lw_g (lw_at lw_m1 22 rfl) rfl
theorem q50 : (Jvm.Cond.fieldLink "MatchAction" (36 : Nat) "MatchAction" "endsHere" "[B") ∈ lw_all := lw_g (lw_at lw_m1 23 rfl) rfl
theorem q51 : (Jvm.Cond.fieldLink "MatchAction" (39 : Nat) "MatchAction" "endCount" "[B") ∈ lw_all := lw_g (lw_at lw_m1 24 rfl) rfl
theorem q52 : (Jvm.Cond.fieldLink "MatchAction" (42 : Nat) "MatchAction" "partNode" "[S") ∈ lw_all := lw_g (lw_at lw_m1 25 rfl) rfl
theorem q53 : (Jvm.Cond.fieldLink "MatchAction" (45 : Nat) "MatchAction" "partDepth" "[B") ∈ lw_all := lw_g (lw_at lw_m1 26 rfl) rfl
theorem q54 : (Jvm.Cond.fieldLink "MatchAction" (73 : Nat) "MatchAction" "groupsReady" "Z") ∈ lw_all := lw_g (lw_at lw_m1 27 rfl) rfl
theorem q55 : (Jvm.Cond.fieldLink "MatchAction" (114 : Nat) "MatchAction" "groupCount" "I") ∈ lw_all := lw_g (lw_at lw_m1 28 rfl) rfl
theorem q56 : (Jvm.Cond.fieldLink "MatchAction" (48 : Nat) "MatchAction" "groupMask" "[I") ∈ lw_all := lw_g (lw_at lw_m1 29 rfl) rfl
theorem q57 : (Jvm.Cond.fieldLink "MatchAction" (51 : Nat) "MatchAction" "groupTop" "[B") ∈ lw_all := lw_g (lw_at lw_m1 30 rfl) rfl
theorem q58 : (Jvm.Cond.fieldLink "MatchAction" (54 : Nat) "MatchAction" "listFirst" "[B") ∈ lw_all := lw_g (lw_at lw_m1 31 rfl) rfl
theorem q59 : (Jvm.Cond.fieldLink "MatchAction" (57 : Nat) "MatchAction" "listNext" "[B") ∈ lw_all := lw_g (lw_at lw_m1 32 rfl) rfl
theorem q60 : (Jvm.Cond.lays "MatchAction" "MatchAction" "draft" "I") ∈ lw_all := lw_g (lw_at lw_m1 33 rfl) rfl
theorem q61 : (Jvm.Cond.soleField "MatchAction" "draft") ∈ lw_all := lw_g (lw_at lw_m1 34 rfl) rfl
theorem q62 : (Jvm.Cond.lays "MatchAction" "MatchAction" "nextHandle" "I") ∈ lw_all := lw_g (lw_at lw_m1 35 rfl) rfl
theorem q63 : (Jvm.Cond.soleField "MatchAction" "nextHandle") ∈ lw_all := lw_g (lw_at lw_m1 36 rfl) rfl
theorem q64 : (Jvm.Cond.laysFinal "MatchAction" "MatchAction" "defaults" "[I") ∈ lw_all := lw_g (lw_at lw_m1 37 rfl) rfl
theorem q65 : (Jvm.Cond.soleField "MatchAction" "defaults") ∈ lw_all := lw_g (lw_at lw_m1 38 rfl) rfl
theorem q66 : (Jvm.Cond.laysFinal "MatchAction" "MatchAction" "packet" "[I") ∈ lw_all := lw_g (lw_at lw_m1 39 rfl) rfl
theorem q67 : (Jvm.Cond.soleField "MatchAction" "packet") ∈ lw_all := lw_g (lw_at lw_m1 40 rfl) rfl
theorem q68 : (Jvm.Cond.laysFinal "MatchAction" "MatchAction" "entryCount" "[B") ∈ lw_all := lw_g (lw_at lw_m1 41 rfl) rfl
theorem q69 : (Jvm.Cond.soleField "MatchAction" "entryCount") ∈ lw_all := lw_g (lw_at lw_m1 42 rfl) rfl
theorem q70 : (Jvm.Cond.laysFinal "MatchAction" "MatchAction" "handles" "[I") ∈ lw_all := lw_g (lw_at lw_m1 43 rfl) rfl
theorem q71 : (Jvm.Cond.soleField "MatchAction" "handles") ∈ lw_all := lw_g (lw_at lw_m1 44 rfl) rfl
theorem q72 : (Jvm.Cond.laysFinal "MatchAction" "MatchAction" "actions" "[I") ∈ lw_all := lw_g (lw_at lw_m1 45 rfl) rfl
theorem q73 : (Jvm.Cond.soleField "MatchAction" "actions") ∈ lw_all := lw_g (lw_at lw_m1 46 rfl) rfl
theorem q74 : (Jvm.Cond.laysFinal "MatchAction" "MatchAction" "keys" "[I") ∈ lw_all := lw_g (lw_at lw_m1 47 rfl) rfl
theorem q75 : (Jvm.Cond.soleField "MatchAction" "keys") ∈ lw_all := lw_g (lw_at lw_m1 48 rfl) rfl
theorem q76 : (Jvm.Cond.laysFinal "MatchAction" "MatchAction" "widths" "[I") ∈ lw_all := lw_g (lw_at lw_m1 49 rfl) rfl
theorem q77 : (Jvm.Cond.soleField "MatchAction" "widths") ∈ lw_all := lw_g (lw_at lw_m1 50 rfl) rfl
theorem q78 : (Jvm.Cond.lays "MatchAction" "MatchAction" "treeReady" "Z") ∈ lw_all := lw_g (lw_at lw_m1 51 rfl) rfl
theorem q79 : (Jvm.Cond.soleField "MatchAction" "treeReady") ∈ lw_all := lw_g (lw_at lw_m1 52 rfl) rfl
theorem q80 : (Jvm.Cond.lays "MatchAction" "MatchAction" "nodeCount" "I") ∈ lw_all := lw_g (lw_at lw_m1 53 rfl) rfl
theorem q81 : (Jvm.Cond.soleField "MatchAction" "nodeCount") ∈ lw_all := lw_g (lw_at lw_m1 54 rfl) rfl
theorem q82 : (Jvm.Cond.laysFinal "MatchAction" "MatchAction" "child" "[S") ∈ lw_all := lw_g (lw_at lw_m1 55 rfl) rfl
theorem q83 : (Jvm.Cond.soleField "MatchAction" "child") ∈ lw_all := lw_g (lw_at lw_m1 56 rfl) rfl
theorem q84 : (Jvm.Cond.laysFinal "MatchAction" "MatchAction" "endsHere" "[B") ∈ lw_all := lw_g (lw_at lw_m1 57 rfl) rfl
theorem q85 : (Jvm.Cond.soleField "MatchAction" "endsHere") ∈ lw_all := lw_g (lw_at lw_m1 58 rfl) rfl
theorem q86 : (Jvm.Cond.laysFinal "MatchAction" "MatchAction" "endCount" "[B") ∈ lw_all := lw_g (lw_at lw_m1 59 rfl) rfl
theorem q87 : (Jvm.Cond.soleField "MatchAction" "endCount") ∈ lw_all := lw_g (lw_at lw_m1 60 rfl) rfl
theorem q88 : (Jvm.Cond.laysFinal "MatchAction" "MatchAction" "partNode" "[S") ∈ lw_all := lw_g (lw_at lw_m1 61 rfl) rfl
theorem q89 : (Jvm.Cond.soleField "MatchAction" "partNode") ∈ lw_all := lw_g (lw_at lw_m1 62 rfl) rfl
theorem q90 : (Jvm.Cond.laysFinal "MatchAction" "MatchAction" "partDepth" "[B") ∈ lw_all := lw_g (lw_at lw_m1 63 rfl) rfl
theorem q91 : (Jvm.Cond.soleField "MatchAction" "partDepth") ∈ lw_all := lw_g (lw_at lw_m1 64 rfl) rfl
theorem q92 : (Jvm.Cond.lays "MatchAction" "MatchAction" "groupsReady" "Z") ∈ lw_all := lw_g (lw_at lw_m1 65 rfl) rfl
theorem q93 : (Jvm.Cond.soleField "MatchAction" "groupsReady") ∈ lw_all := lw_g (lw_at lw_m1 66 rfl) rfl
theorem q94 : (Jvm.Cond.lays "MatchAction" "MatchAction" "groupCount" "I") ∈ lw_all := lw_g (lw_at lw_m1 67 rfl) rfl
theorem q95 : (Jvm.Cond.soleField "MatchAction" "groupCount") ∈ lw_all := lw_g (lw_at lw_m1 68 rfl) rfl
theorem q96 : (Jvm.Cond.laysFinal "MatchAction" "MatchAction" "groupMask" "[I") ∈ lw_all := lw_g (lw_at lw_m1 69 rfl) rfl
theorem q97 : (Jvm.Cond.soleField "MatchAction" "groupMask") ∈ lw_all := lw_g (lw_at lw_m1 70 rfl) rfl
theorem q98 : (Jvm.Cond.laysFinal "MatchAction" "MatchAction" "groupTop" "[B") ∈ lw_all := lw_g (lw_at lw_m1 71 rfl) rfl
theorem q99 : (Jvm.Cond.soleField "MatchAction" "groupTop") ∈ lw_all := lw_g (lw_at lw_m1 72 rfl) rfl
theorem q100 : (Jvm.Cond.laysFinal "MatchAction" "MatchAction" "listFirst" "[B") ∈ lw_all := lw_g (lw_at lw_m1 73 rfl) rfl
theorem q101 : (Jvm.Cond.soleField "MatchAction" "listFirst") ∈ lw_all := lw_g (lw_at lw_m1 74 rfl) rfl
theorem q102 : (Jvm.Cond.laysFinal "MatchAction" "MatchAction" "listNext" "[B") ∈ lw_all := lw_g (lw_at lw_m1 75 rfl) rfl
theorem q103 : (Jvm.Cond.soleField "MatchAction" "listNext") ∈ lw_all := lw_g (lw_at lw_m1 76 rfl) rfl
theorem q104 : (Jvm.Cond.superclass "MatchAction" "java/lang/Object") ∈ lw_all := lw_g (lw_at lw_m1 77 rfl) rfl
theorem q109 : (Jvm.Cond.instanceMethod ({ cls := "MatchAction", name := "action", desc := "(III)Z" } : Jvm.MethodName)) ∈ lw_all := lw_g (lw_at lw_m1 82 rfl) rfl
theorem q110 : (Jvm.Cond.selects "MatchAction" ({ cls := "MatchAction", name := "action", desc := "(III)Z" } : Jvm.MethodName) ({ cls := "MatchAction", name := "action", desc := "(III)Z" } : Jvm.MethodName)) ∈ lw_all := lw_g (lw_at lw_m1 83 rfl) rfl
theorem q111 : (Jvm.Cond.code ({ cls := "MatchAction", name := "action", desc := "(III)Z" } : Jvm.MethodName) prog_1_method_2_code (4 : Nat) (Option.some Jvm.ClassFile.FieldType.boolean)) ∈ lw_all := lw_g (lw_at lw_m1 84 rfl) rfl
theorem q113 : (Jvm.Cond.instanceMethod ({ cls := "MatchAction", name := "addPrefix", desc := "(II)I" } : Jvm.MethodName)) ∈ lw_all := lw_g (lw_at lw_m1 86 rfl) rfl
theorem q114 : (Jvm.Cond.selects "MatchAction" ({ cls := "MatchAction", name := "addPrefix", desc := "(II)I" } : Jvm.MethodName) ({ cls := "MatchAction", name := "addPrefix", desc := "(II)I" } : Jvm.MethodName)) ∈ lw_all := lw_g (lw_at lw_m1 87 rfl) rfl
theorem q115 : (Jvm.Cond.code ({ cls := "MatchAction", name := "addPrefix", desc := "(II)I" } : Jvm.MethodName) prog_1_method_4_code (3 : Nat) (Option.some Jvm.ClassFile.FieldType.int)) ∈ lw_all := lw_g (lw_at lw_m1 88 rfl) rfl
theorem q116 : (Jvm.Cond.methodLink "MatchAction" (68 : Nat) ({ cls := "MatchAction", name := "addEntry", desc := "(III)I" } : Jvm.MethodName)) ∈ lw_all := lw_g (lw_at lw_m1 89 rfl) rfl
theorem q117 : (Jvm.Cond.privateMethod ({ cls := "MatchAction", name := "addEntry", desc := "(III)I" } : Jvm.MethodName)) ∈ lw_tbl := lw_at lw_m1 90 rfl
theorem q118 : (Jvm.Cond.instanceMethod ({ cls := "MatchAction", name := "addEntry", desc := "(III)I" } : Jvm.MethodName)) ∈ lw_all := lw_g (lw_at lw_m1 91 rfl) rfl
theorem q119 : (Jvm.Cond.code ({ cls := "MatchAction", name := "addEntry", desc := "(III)I" } : Jvm.MethodName) prog_1_method_6_code (5 : Nat) (Option.some Jvm.ClassFile.FieldType.int)) ∈ lw_all := lw_g (lw_at lw_m1 92 rfl) rfl
theorem q121 : (Jvm.Cond.instanceMethod ({ cls := "MatchAction", name := "addMasked", desc := "(III)I" } : Jvm.MethodName)) ∈ lw_all := lw_g (lw_at lw_m1 94 rfl) rfl
theorem q122 : (Jvm.Cond.selects "MatchAction" ({ cls := "MatchAction", name := "addMasked", desc := "(III)I" } : Jvm.MethodName) ({ cls := "MatchAction", name := "addMasked", desc := "(III)I" } : Jvm.MethodName)) ∈ lw_all := lw_g (lw_at lw_m1 95 rfl) rfl
theorem q123 : (Jvm.Cond.code ({ cls := "MatchAction", name := "addMasked", desc := "(III)I" } : Jvm.MethodName) prog_1_method_5_code (6 : Nat) (Option.some Jvm.ClassFile.FieldType.int)) ∈ lw_all := lw_g (lw_at lw_m1 96 rfl) rfl
theorem q124 : (Jvm.Cond.constant "MatchAction" (72 : Nat) (65535 : Int32)) ∈ lw_all := lw_g (lw_at lw_m1 97 rfl) rfl
theorem q125 : (Jvm.Cond.constant "MatchAction" (76 : Nat) (65280 : Int32)) ∈ lw_all := lw_g (lw_at lw_m1 98 rfl) rfl
theorem q127 : (Jvm.Cond.instanceMethod ({ cls := "MatchAction", name := "remove", desc := "(I)I" } : Jvm.MethodName)) ∈ lw_all := lw_g (lw_at lw_m1 100 rfl) rfl
theorem q128 : (Jvm.Cond.selects "MatchAction" ({ cls := "MatchAction", name := "remove", desc := "(I)I" } : Jvm.MethodName) ({ cls := "MatchAction", name := "remove", desc := "(I)I" } : Jvm.MethodName)) ∈ lw_all := lw_g (lw_at lw_m1 101 rfl) rfl
theorem q129 : (Jvm.Cond.code ({ cls := "MatchAction", name := "remove", desc := "(I)I" } : Jvm.MethodName) prog_1_method_8_code (4 : Nat) (Option.some Jvm.ClassFile.FieldType.int)) ∈ lw_all := lw_g (lw_at lw_m1 102 rfl) rfl
theorem q130 : (Jvm.Cond.methodLink "MatchAction" (80 : Nat) ({ cls := "MatchAction", name := "entryWith", desc := "(I)I" } : Jvm.MethodName)) ∈ lw_all := lw_g (lw_at lw_m1 103 rfl) rfl
theorem q131 : (Jvm.Cond.privateMethod ({ cls := "MatchAction", name := "entryWith", desc := "(I)I" } : Jvm.MethodName)) ∈ lw_tbl := lw_at lw_m1 104 rfl
theorem q132 : (Jvm.Cond.instanceMethod ({ cls := "MatchAction", name := "entryWith", desc := "(I)I" } : Jvm.MethodName)) ∈ lw_all := lw_g (lw_at lw_m1 105 rfl) rfl
theorem q133 : (Jvm.Cond.code ({ cls := "MatchAction", name := "entryWith", desc := "(I)I" } : Jvm.MethodName) prog_1_method_7_code (3 : Nat) (Option.some Jvm.ClassFile.FieldType.int)) ∈ lw_all := lw_g (lw_at lw_m1 106 rfl) rfl
theorem q135 : (Jvm.Cond.instanceMethod ({ cls := "MatchAction", name := "setDefault", desc := "(I)Z" } : Jvm.MethodName)) ∈ lw_all := lw_g (lw_at lw_m1 108 rfl) rfl
theorem q136 : (Jvm.Cond.selects "MatchAction" ({ cls := "MatchAction", name := "setDefault", desc := "(I)Z" } : Jvm.MethodName) ({ cls := "MatchAction", name := "setDefault", desc := "(I)Z" } : Jvm.MethodName)) ∈ lw_all := lw_g (lw_at lw_m1 109 rfl) rfl
theorem q137 : (Jvm.Cond.code ({ cls := "MatchAction", name := "setDefault", desc := "(I)Z" } : Jvm.MethodName) prog_1_method_9_code (2 : Nat) (Option.some Jvm.ClassFile.FieldType.boolean)) ∈ lw_all := lw_g (lw_at lw_m1 110 rfl) rfl
theorem q139 : (Jvm.Cond.instanceMethod ({ cls := "MatchAction", name := "field", desc := "(II)Z" } : Jvm.MethodName)) ∈ lw_all := lw_g (lw_at lw_m1 112 rfl) rfl
theorem q140 : (Jvm.Cond.selects "MatchAction" ({ cls := "MatchAction", name := "field", desc := "(II)Z" } : Jvm.MethodName) ({ cls := "MatchAction", name := "field", desc := "(II)Z" } : Jvm.MethodName)) ∈ lw_all := lw_g (lw_at lw_m1 113 rfl) rfl
theorem q141 : (Jvm.Cond.code ({ cls := "MatchAction", name := "field", desc := "(II)Z" } : Jvm.MethodName) prog_1_method_10_code (3 : Nat) (Option.some Jvm.ClassFile.FieldType.boolean)) ∈ lw_all := lw_g (lw_at lw_m1 114 rfl) rfl
theorem q143 : (Jvm.Cond.instanceMethod ({ cls := "MatchAction", name := "get", desc := "(I)I" } : Jvm.MethodName)) ∈ lw_all := lw_g (lw_at lw_m1 116 rfl) rfl
theorem q144 : (Jvm.Cond.selects "MatchAction" ({ cls := "MatchAction", name := "get", desc := "(I)I" } : Jvm.MethodName) ({ cls := "MatchAction", name := "get", desc := "(I)I" } : Jvm.MethodName)) ∈ lw_all := lw_g (lw_at lw_m1 117 rfl) rfl
theorem q145 : (Jvm.Cond.code ({ cls := "MatchAction", name := "get", desc := "(I)I" } : Jvm.MethodName) prog_1_method_11_code (2 : Nat) (Option.some Jvm.ClassFile.FieldType.int)) ∈ lw_all := lw_g (lw_at lw_m1 118 rfl) rfl
theorem q147 : (Jvm.Cond.instanceMethod ({ cls := "MatchAction", name := "lookup", desc := "(I)I" } : Jvm.MethodName)) ∈ lw_all := lw_g (lw_at lw_m1 120 rfl) rfl
theorem q148 : (Jvm.Cond.selects "MatchAction" ({ cls := "MatchAction", name := "lookup", desc := "(I)I" } : Jvm.MethodName) ({ cls := "MatchAction", name := "lookup", desc := "(I)I" } : Jvm.MethodName)) ∈ lw_all := lw_g (lw_at lw_m1 121 rfl) rfl
theorem q149 : (Jvm.Cond.code ({ cls := "MatchAction", name := "lookup", desc := "(I)I" } : Jvm.MethodName) prog_1_method_12_code (3 : Nat) (Option.some Jvm.ClassFile.FieldType.int)) ∈ lw_all := lw_g (lw_at lw_m1 122 rfl) rfl
theorem q150 : (Jvm.Cond.methodLink "MatchAction" (84 : Nat) ({ cls := "MatchAction", name := "longestPrefix", desc := "()I" } : Jvm.MethodName)) ∈ lw_all := lw_g (lw_at lw_m1 123 rfl) rfl
theorem q151 : (Jvm.Cond.privateMethod ({ cls := "MatchAction", name := "longestPrefix", desc := "()I" } : Jvm.MethodName)) ∈ lw_tbl := lw_at lw_m1 124 rfl
theorem q152 : (Jvm.Cond.instanceMethod ({ cls := "MatchAction", name := "longestPrefix", desc := "()I" } : Jvm.MethodName)) ∈ lw_all := lw_g (lw_at lw_m1 125 rfl) rfl
theorem q153 : (Jvm.Cond.code ({ cls := "MatchAction", name := "longestPrefix", desc := "()I" } : Jvm.MethodName) prog_1_method_18_code (4 : Nat) (Option.some Jvm.ClassFile.FieldType.int)) ∈ lw_all := lw_g (lw_at lw_m1 126 rfl) rfl
theorem q154 : (Jvm.Cond.methodLink "MatchAction" (111 : Nat) ({ cls := "MatchAction", name := "makeTree", desc := "()V" } : Jvm.MethodName)) ∈ lw_all := lw_g (lw_at lw_m1 127 rfl) rfl
theorem q155 : (Jvm.Cond.privateMethod ({ cls := "MatchAction", name := "makeTree", desc := "()V" } : Jvm.MethodName)) ∈ lw_tbl := lw_at lw_m1 128 rfl
theorem q156 : (Jvm.Cond.instanceMethod ({ cls := "MatchAction", name := "makeTree", desc := "()V" } : Jvm.MethodName)) ∈ lw_all := lw_g (lw_at lw_m1 129 rfl) rfl
theorem q157 : (Jvm.Cond.code ({ cls := "MatchAction", name := "makeTree", desc := "()V" } : Jvm.MethodName) prog_1_method_16_code (3 : Nat) (Option.none : Option Jvm.ClassFile.FieldType)) ∈ lw_all := lw_g (lw_at lw_m1 130 rfl) rfl
theorem q158 : (Jvm.Cond.methodLink "MatchAction" (104 : Nat) ({ cls := "MatchAction", name := "newNode", desc := "()I" } : Jvm.MethodName)) ∈ lw_all := lw_g (lw_at lw_m1 131 rfl) rfl
theorem q159 : (Jvm.Cond.privateMethod ({ cls := "MatchAction", name := "newNode", desc := "()I" } : Jvm.MethodName)) ∈ lw_tbl := lw_at lw_m1 132 rfl
theorem q160 : (Jvm.Cond.instanceMethod ({ cls := "MatchAction", name := "newNode", desc := "()I" } : Jvm.MethodName)) ∈ lw_all := lw_g (lw_at lw_m1 133 rfl) rfl
theorem q161 : (Jvm.Cond.code ({ cls := "MatchAction", name := "newNode", desc := "()I" } : Jvm.MethodName) prog_1_method_15_code (2 : Nat) (Option.some Jvm.ClassFile.FieldType.int)) ∈ lw_all := lw_g (lw_at lw_m1 134 rfl) rfl
theorem q162 : (Jvm.Cond.methodLink "MatchAction" (107 : Nat) ({ cls := "MatchAction", name := "nodeFor", desc := "(II)I" } : Jvm.MethodName)) ∈ lw_all := lw_g (lw_at lw_m1 135 rfl) rfl
theorem q163 : (Jvm.Cond.privateMethod ({ cls := "MatchAction", name := "nodeFor", desc := "(II)I" } : Jvm.MethodName)) ∈ lw_tbl := lw_at lw_m1 136 rfl
theorem q164 : (Jvm.Cond.instanceMethod ({ cls := "MatchAction", name := "nodeFor", desc := "(II)I" } : Jvm.MethodName)) ∈ lw_all := lw_g (lw_at lw_m1 137 rfl) rfl
theorem q165 : (Jvm.Cond.code ({ cls := "MatchAction", name := "nodeFor", desc := "(II)I" } : Jvm.MethodName) prog_1_method_17_code (7 : Nat) (Option.some Jvm.ClassFile.FieldType.int)) ∈ lw_all := lw_g (lw_at lw_m1 138 rfl) rfl
theorem q166 : (Jvm.Cond.methodLink "MatchAction" (88 : Nat) ({ cls := "MatchAction", name := "greatestPriority", desc := "()I" } : Jvm.MethodName)) ∈ lw_all := lw_g (lw_at lw_m1 139 rfl) rfl
theorem q167 : (Jvm.Cond.privateMethod ({ cls := "MatchAction", name := "greatestPriority", desc := "()I" } : Jvm.MethodName)) ∈ lw_tbl := lw_at lw_m1 140 rfl
theorem q168 : (Jvm.Cond.instanceMethod ({ cls := "MatchAction", name := "greatestPriority", desc := "()I" } : Jvm.MethodName)) ∈ lw_all := lw_g (lw_at lw_m1 141 rfl) rfl
theorem q169 : (Jvm.Cond.code ({ cls := "MatchAction", name := "greatestPriority", desc := "()I" } : Jvm.MethodName) prog_1_method_29_code (6 : Nat) (Option.some Jvm.ClassFile.FieldType.int)) ∈ lw_all := lw_g (lw_at lw_m1 142 rfl) rfl
theorem q170 : (Jvm.Cond.methodLink "MatchAction" (140 : Nat) ({ cls := "MatchAction", name := "makeGroups", desc := "()V" } : Jvm.MethodName)) ∈ lw_all := lw_g (lw_at lw_m1 143 rfl) rfl
theorem q171 : (Jvm.Cond.privateMethod ({ cls := "MatchAction", name := "makeGroups", desc := "()V" } : Jvm.MethodName)) ∈ lw_tbl := lw_at lw_m1 144 rfl
theorem q172 : (Jvm.Cond.instanceMethod ({ cls := "MatchAction", name := "makeGroups", desc := "()V" } : Jvm.MethodName)) ∈ lw_all := lw_g (lw_at lw_m1 145 rfl) rfl
theorem q173 : (Jvm.Cond.code ({ cls := "MatchAction", name := "makeGroups", desc := "()V" } : Jvm.MethodName) prog_1_method_23_code (2 : Nat) (Option.none : Option Jvm.ClassFile.FieldType)) ∈ lw_all := lw_g (lw_at lw_m1 146 rfl) rfl
theorem q174 : (Jvm.Cond.methodLink "MatchAction" (117 : Nat) ({ cls := "MatchAction", name := "noteGroup", desc := "(I)V" } : Jvm.MethodName)) ∈ lw_all := lw_g (lw_at lw_m1 147 rfl) rfl
theorem q175 : (Jvm.Cond.privateMethod ({ cls := "MatchAction", name := "noteGroup", desc := "(I)V" } : Jvm.MethodName)) ∈ lw_tbl := lw_at lw_m1 148 rfl
theorem q176 : (Jvm.Cond.instanceMethod ({ cls := "MatchAction", name := "noteGroup", desc := "(I)V" } : Jvm.MethodName)) ∈ lw_all := lw_g (lw_at lw_m1 149 rfl) rfl
theorem q177 : (Jvm.Cond.code ({ cls := "MatchAction", name := "noteGroup", desc := "(I)V" } : Jvm.MethodName) prog_1_method_25_code (3 : Nat) (Option.none : Option Jvm.ClassFile.FieldType)) ∈ lw_all := lw_g (lw_at lw_m1 150 rfl) rfl
theorem q178 : (Jvm.Cond.methodLink "MatchAction" (127 : Nat) ({ cls := "MatchAction", name := "groupOf", desc := "(I)I" } : Jvm.MethodName)) ∈ lw_all := lw_g (lw_at lw_m1 151 rfl) rfl
theorem q179 : (Jvm.Cond.privateMethod ({ cls := "MatchAction", name := "groupOf", desc := "(I)I" } : Jvm.MethodName)) ∈ lw_tbl := lw_at lw_m1 152 rfl
theorem q180 : (Jvm.Cond.instanceMethod ({ cls := "MatchAction", name := "groupOf", desc := "(I)I" } : Jvm.MethodName)) ∈ lw_all := lw_g (lw_at lw_m1 153 rfl) rfl
theorem q181 : (Jvm.Cond.code ({ cls := "MatchAction", name := "groupOf", desc := "(I)I" } : Jvm.MethodName) prog_1_method_24_code (3 : Nat) (Option.some Jvm.ClassFile.FieldType.int)) ∈ lw_all := lw_g (lw_at lw_m1 154 rfl) rfl
theorem q182 : (Jvm.Cond.methodLink "MatchAction" (130 : Nat) ({ cls := "MatchAction", name := "priorityOf", desc := "(I)I" } : Jvm.MethodName)) ∈ lw_all := lw_g (lw_at lw_m1 155 rfl) rfl
theorem q183 : (Jvm.Cond.privateMethod ({ cls := "MatchAction", name := "priorityOf", desc := "(I)I" } : Jvm.MethodName)) ∈ lw_tbl := lw_at lw_m1 156 rfl
theorem q184 : (Jvm.Cond.instanceMethod ({ cls := "MatchAction", name := "priorityOf", desc := "(I)I" } : Jvm.MethodName)) ∈ lw_all := lw_g (lw_at lw_m1 157 rfl) rfl
theorem q185 : (Jvm.Cond.code ({ cls := "MatchAction", name := "priorityOf", desc := "(I)I" } : Jvm.MethodName) prog_1_method_21_code (2 : Nat) (Option.some Jvm.ClassFile.FieldType.int)) ∈ lw_all := lw_g (lw_at lw_m1 158 rfl) rfl
theorem q186 : (Jvm.Cond.methodLink "MatchAction" (121 : Nat) ({ cls := "MatchAction", name := "sortGroups", desc := "()V" } : Jvm.MethodName)) ∈ lw_all := lw_g (lw_at lw_m1 159 rfl) rfl
theorem q187 : (Jvm.Cond.privateMethod ({ cls := "MatchAction", name := "sortGroups", desc := "()V" } : Jvm.MethodName)) ∈ lw_tbl := lw_at lw_m1 160 rfl
theorem q188 : (Jvm.Cond.instanceMethod ({ cls := "MatchAction", name := "sortGroups", desc := "()V" } : Jvm.MethodName)) ∈ lw_all := lw_g (lw_at lw_m1 161 rfl) rfl
theorem q189 : (Jvm.Cond.code ({ cls := "MatchAction", name := "sortGroups", desc := "()V" } : Jvm.MethodName) prog_1_method_26_code (5 : Nat) (Option.none : Option Jvm.ClassFile.FieldType)) ∈ lw_all := lw_g (lw_at lw_m1 162 rfl) rfl
theorem q190 : (Jvm.Cond.methodLink "MatchAction" (124 : Nat) ({ cls := "MatchAction", name := "hang", desc := "(I)V" } : Jvm.MethodName)) ∈ lw_all := lw_g (lw_at lw_m1 163 rfl) rfl
theorem q191 : (Jvm.Cond.privateMethod ({ cls := "MatchAction", name := "hang", desc := "(I)V" } : Jvm.MethodName)) ∈ lw_tbl := lw_at lw_m1 164 rfl
theorem q192 : (Jvm.Cond.instanceMethod ({ cls := "MatchAction", name := "hang", desc := "(I)V" } : Jvm.MethodName)) ∈ lw_all := lw_g (lw_at lw_m1 165 rfl) rfl
theorem q193 : (Jvm.Cond.code ({ cls := "MatchAction", name := "hang", desc := "(I)V" } : Jvm.MethodName) prog_1_method_28_code (5 : Nat) (Option.none : Option Jvm.ClassFile.FieldType)) ∈ lw_all := lw_g (lw_at lw_m1 166 rfl) rfl
theorem q194 : (Jvm.Cond.methodLink "MatchAction" (133 : Nat) ({ cls := "MatchAction", name := "slotOf", desc := "(I)I" } : Jvm.MethodName)) ∈ lw_all := lw_g (lw_at lw_m1 167 rfl) rfl
theorem q195 : (Jvm.Cond.privateMethod ({ cls := "MatchAction", name := "slotOf", desc := "(I)I" } : Jvm.MethodName)) ∈ lw_tbl := lw_at lw_m1 168 rfl
theorem q196 : (Jvm.Cond.instanceMethod ({ cls := "MatchAction", name := "slotOf", desc := "(I)I" } : Jvm.MethodName)) ∈ lw_all := lw_g (lw_at lw_m1 169 rfl) rfl
theorem q197 : (Jvm.Cond.code ({ cls := "MatchAction", name := "slotOf", desc := "(I)I" } : Jvm.MethodName) prog_1_method_22_code (2 : Nat) (Option.some Jvm.ClassFile.FieldType.int)) ∈ lw_all := lw_g (lw_at lw_m1 170 rfl) rfl
theorem q198 : (Jvm.Cond.methodLink "MatchAction" (136 : Nat) ({ cls := "MatchAction", name := "precedes", desc := "(II)Z" } : Jvm.MethodName)) ∈ lw_all := lw_g (lw_at lw_m1 171 rfl) rfl
theorem q199 : (Jvm.Cond.privateMethod ({ cls := "MatchAction", name := "precedes", desc := "(II)Z" } : Jvm.MethodName)) ∈ lw_tbl := lw_at lw_m1 172 rfl
theorem q200 : (Jvm.Cond.instanceMethod ({ cls := "MatchAction", name := "precedes", desc := "(II)Z" } : Jvm.MethodName)) ∈ lw_all := lw_g (lw_at lw_m1 173 rfl) rfl
theorem q201 : (Jvm.Cond.code ({ cls := "MatchAction", name := "precedes", desc := "(II)Z" } : Jvm.MethodName) prog_1_method_27_code (5 : Nat) (Option.some Jvm.ClassFile.FieldType.boolean)) ∈ lw_all := lw_g (lw_at lw_m1 174 rfl) rfl
theorem q203 : (Jvm.Cond.instanceMethod ({ cls := "MatchAction", name := "process", desc := "()I" } : Jvm.MethodName)) ∈ lw_all := lw_g (lw_at lw_m1 176 rfl) rfl
theorem q204 : (Jvm.Cond.selects "MatchAction" ({ cls := "MatchAction", name := "process", desc := "()I" } : Jvm.MethodName) ({ cls := "MatchAction", name := "process", desc := "()I" } : Jvm.MethodName)) ∈ lw_all := lw_g (lw_at lw_m1 177 rfl) rfl
theorem q205 : (Jvm.Cond.code ({ cls := "MatchAction", name := "process", desc := "()I" } : Jvm.MethodName) prog_1_method_13_code (4 : Nat) (Option.some Jvm.ClassFile.FieldType.int)) ∈ lw_all := lw_g (lw_at lw_m1 178 rfl) rfl
theorem q206 : (Jvm.Cond.methodLink "MatchAction" (91 : Nat) ({ cls := "MatchAction", name := "perform", desc := "(I)Z" } : Jvm.MethodName)) ∈ lw_all := lw_g (lw_at lw_m1 179 rfl) rfl
theorem q207 : (Jvm.Cond.privateMethod ({ cls := "MatchAction", name := "perform", desc := "(I)Z" } : Jvm.MethodName)) ∈ lw_tbl := lw_at lw_m1 180 rfl
theorem q208 : (Jvm.Cond.instanceMethod ({ cls := "MatchAction", name := "perform", desc := "(I)Z" } : Jvm.MethodName)) ∈ lw_all := lw_g (lw_at lw_m1 181 rfl) rfl
theorem q209 : (Jvm.Cond.code ({ cls := "MatchAction", name := "perform", desc := "(I)Z" } : Jvm.MethodName) prog_1_method_3_code (5 : Nat) (Option.some Jvm.ClassFile.FieldType.boolean)) ∈ lw_all := lw_g (lw_at lw_m1 182 rfl) rfl
theorem q211 : (Jvm.Cond.instanceMethod ({ cls := "MatchAction", name := "matching", desc := "(I)I" } : Jvm.MethodName)) ∈ lw_all := lw_g (lw_at lw_m1 184 rfl) rfl
theorem q212 : (Jvm.Cond.selects "MatchAction" ({ cls := "MatchAction", name := "matching", desc := "(I)I" } : Jvm.MethodName) ({ cls := "MatchAction", name := "matching", desc := "(I)I" } : Jvm.MethodName)) ∈ lw_all := lw_g (lw_at lw_m1 185 rfl) rfl
theorem q213 : (Jvm.Cond.code ({ cls := "MatchAction", name := "matching", desc := "(I)I" } : Jvm.MethodName) prog_1_method_14_code (2 : Nat) (Option.some Jvm.ClassFile.FieldType.int)) ∈ lw_all := lw_g (lw_at lw_m1 186 rfl) rfl
theorem q214 : (Jvm.Cond.methodLink "MatchAction" (95 : Nat) ({ cls := "MatchAction", name := "prefixesOnWay", desc := "()I" } : Jvm.MethodName)) ∈ lw_all := lw_g (lw_at lw_m1 187 rfl) rfl
theorem q215 : (Jvm.Cond.privateMethod ({ cls := "MatchAction", name := "prefixesOnWay", desc := "()I" } : Jvm.MethodName)) ∈ lw_tbl := lw_at lw_m1 188 rfl
theorem q216 : (Jvm.Cond.instanceMethod ({ cls := "MatchAction", name := "prefixesOnWay", desc := "()I" } : Jvm.MethodName)) ∈ lw_all := lw_g (lw_at lw_m1 189 rfl) rfl
theorem q217 : (Jvm.Cond.code ({ cls := "MatchAction", name := "prefixesOnWay", desc := "()I" } : Jvm.MethodName) prog_1_method_19_code (4 : Nat) (Option.some Jvm.ClassFile.FieldType.int)) ∈ lw_all := lw_g (lw_at lw_m1 190 rfl) rfl
theorem q218 : (Jvm.Cond.methodLink "MatchAction" (98 : Nat) ({ cls := "MatchAction", name := "maskedMatching", desc := "()I" } : Jvm.MethodName)) ∈ lw_all := lw_g (lw_at lw_m1 191 rfl) rfl
theorem q219 : (Jvm.Cond.privateMethod ({ cls := "MatchAction", name := "maskedMatching", desc := "()I" } : Jvm.MethodName)) ∈ lw_tbl := lw_at lw_m1 192 rfl
theorem q220 : (Jvm.Cond.instanceMethod ({ cls := "MatchAction", name := "maskedMatching", desc := "()I" } : Jvm.MethodName)) ∈ lw_all := lw_g (lw_at lw_m1 193 rfl) rfl
theorem q221 : (Jvm.Cond.code ({ cls := "MatchAction", name := "maskedMatching", desc := "()I" } : Jvm.MethodName) prog_1_method_30_code (6 : Nat) (Option.some Jvm.ClassFile.FieldType.int)) ∈ lw_all := lw_g (lw_at lw_m1 194 rfl) rfl
theorem q223 : (Jvm.Cond.instanceMethod ({ cls := "MatchAction", name := "owned", desc := "(I)I" } : Jvm.MethodName)) ∈ lw_all := lw_g (lw_at lw_m1 196 rfl) rfl
theorem q224 : (Jvm.Cond.selects "MatchAction" ({ cls := "MatchAction", name := "owned", desc := "(I)I" } : Jvm.MethodName) ({ cls := "MatchAction", name := "owned", desc := "(I)I" } : Jvm.MethodName)) ∈ lw_all := lw_g (lw_at lw_m1 197 rfl) rfl
theorem q225 : (Jvm.Cond.code ({ cls := "MatchAction", name := "owned", desc := "(I)I" } : Jvm.MethodName) prog_1_method_20_code (8 : Nat) (Option.some Jvm.ClassFile.FieldType.int)) ∈ lw_all := lw_g (lw_at lw_m1 198 rfl) rfl
theorem in_X0 : ∀ w ∈ wsX00, w ∈ lw_all := lw_in wsX00 [60, 62, 64, 66, 68, 70, 72, 74, 76, 78, 80, 82, 84, 86, 88, 90, 92, 94, 96, 98, 100, 102] (by decide +kernel) (by decide +kernel)
end
section
set_option maxRecDepth 100000
theorem dX0_init_0 : decode cX0_init 0 = .ok (.aload_n 0, 1) := by decide +kernel
theorem dX0_init_1 : decode cX0_init 1 = .ok (.invokespecial 1, 3) := by decide +kernel
theorem dX0_init_4 : decode cX0_init 4 = .ok (.aload_n 0, 1) := by decide +kernel
theorem dX0_init_5 : decode cX0_init 5 = .ok (.iconst 2, 1) := by decide +kernel
theorem dX0_init_6 : decode cX0_init 6 = .ok (.newarray .int, 2) := by decide +kernel
theorem dX0_init_8 : decode cX0_init 8 = .ok (.putfield 7, 3) := by decide +kernel
theorem dX0_init_11 : decode cX0_init 11 = .ok (.aload_n 0, 1) := by decide +kernel
theorem dX0_init_12 : decode cX0_init 12 = .ok (.iconst 4, 1) := by decide +kernel
theorem dX0_init_13 : decode cX0_init 13 = .ok (.newarray .int, 2) := by decide +kernel
theorem dX0_init_15 : decode cX0_init 15 = .ok (.putfield 13, 3) := by decide +kernel
theorem dX0_init_18 : decode cX0_init 18 = .ok (.aload_n 0, 1) := by decide +kernel
theorem dX0_init_19 : decode cX0_init 19 = .ok (.iconst 2, 1) := by decide +kernel
theorem dX0_init_20 : decode cX0_init 20 = .ok (.newarray .byte, 2) := by decide +kernel
theorem dX0_init_22 : decode cX0_init 22 = .ok (.putfield 16, 3) := by decide +kernel
theorem dX0_init_25 : decode cX0_init 25 = .ok (.aload_n 0, 1) := by decide +kernel
theorem dX0_init_26 : decode cX0_init 26 = .ok (.bipush 32, 2) := by decide +kernel
theorem dX0_init_28 : decode cX0_init 28 = .ok (.newarray .int, 2) := by decide +kernel
theorem dX0_init_30 : decode cX0_init 30 = .ok (.putfield 20, 3) := by decide +kernel
theorem dX0_init_33 : decode cX0_init 33 = .ok (.aload_n 0, 1) := by decide +kernel
theorem dX0_init_34 : decode cX0_init 34 = .ok (.bipush 32, 2) := by decide +kernel
theorem dX0_init_36 : decode cX0_init 36 = .ok (.newarray .int, 2) := by decide +kernel
theorem dX0_init_38 : decode cX0_init 38 = .ok (.putfield 23, 3) := by decide +kernel
theorem dX0_init_41 : decode cX0_init 41 = .ok (.aload_n 0, 1) := by decide +kernel
theorem dX0_init_42 : decode cX0_init 42 = .ok (.bipush 32, 2) := by decide +kernel
theorem dX0_init_44 : decode cX0_init 44 = .ok (.newarray .int, 2) := by decide +kernel
theorem dX0_init_46 : decode cX0_init 46 = .ok (.putfield 26, 3) := by decide +kernel
theorem dX0_init_49 : decode cX0_init 49 = .ok (.aload_n 0, 1) := by decide +kernel
theorem dX0_init_50 : decode cX0_init 50 = .ok (.bipush 32, 2) := by decide +kernel
theorem dX0_init_52 : decode cX0_init 52 = .ok (.newarray .int, 2) := by decide +kernel
theorem dX0_init_54 : decode cX0_init 54 = .ok (.putfield 29, 3) := by decide +kernel
theorem dX0_init_57 : decode cX0_init 57 = .ok (.aload_n 0, 1) := by decide +kernel
theorem dX0_init_58 : decode cX0_init 58 = .ok (.sipush 258, 3) := by decide +kernel
theorem dX0_init_61 : decode cX0_init 61 = .ok (.newarray .short, 2) := by decide +kernel
theorem dX0_init_63 : decode cX0_init 63 = .ok (.putfield 32, 3) := by decide +kernel
theorem dX0_init_66 : decode cX0_init 66 = .ok (.aload_n 0, 1) := by decide +kernel
theorem dX0_init_67 : decode cX0_init 67 = .ok (.sipush 129, 3) := by decide +kernel
theorem dX0_init_70 : decode cX0_init 70 = .ok (.newarray .byte, 2) := by decide +kernel
theorem dX0_init_72 : decode cX0_init 72 = .ok (.putfield 36, 3) := by decide +kernel
theorem dX0_init_75 : decode cX0_init 75 = .ok (.aload_n 0, 1) := by decide +kernel
theorem dX0_init_76 : decode cX0_init 76 = .ok (.sipush 129, 3) := by decide +kernel
theorem dX0_init_79 : decode cX0_init 79 = .ok (.newarray .byte, 2) := by decide +kernel
theorem dX0_init_81 : decode cX0_init 81 = .ok (.putfield 39, 3) := by decide +kernel
theorem dX0_init_84 : decode cX0_init 84 = .ok (.aload_n 0, 1) := by decide +kernel
theorem dX0_init_85 : decode cX0_init 85 = .ok (.bipush 20, 2) := by decide +kernel
theorem dX0_init_87 : decode cX0_init 87 = .ok (.newarray .short, 2) := by decide +kernel
theorem dX0_init_89 : decode cX0_init 89 = .ok (.putfield 42, 3) := by decide +kernel
theorem dX0_init_92 : decode cX0_init 92 = .ok (.aload_n 0, 1) := by decide +kernel
theorem dX0_init_93 : decode cX0_init 93 = .ok (.bipush 20, 2) := by decide +kernel
theorem dX0_init_95 : decode cX0_init 95 = .ok (.newarray .byte, 2) := by decide +kernel
theorem dX0_init_97 : decode cX0_init 97 = .ok (.putfield 45, 3) := by decide +kernel
theorem dX0_init_100 : decode cX0_init 100 = .ok (.aload_n 0, 1) := by decide +kernel
theorem dX0_init_101 : decode cX0_init 101 = .ok (.bipush 16, 2) := by decide +kernel
theorem dX0_init_103 : decode cX0_init 103 = .ok (.newarray .int, 2) := by decide +kernel
theorem dX0_init_105 : decode cX0_init 105 = .ok (.putfield 48, 3) := by decide +kernel
theorem dX0_init_108 : decode cX0_init 108 = .ok (.aload_n 0, 1) := by decide +kernel
theorem dX0_init_109 : decode cX0_init 109 = .ok (.bipush 16, 2) := by decide +kernel
theorem dX0_init_111 : decode cX0_init 111 = .ok (.newarray .byte, 2) := by decide +kernel
theorem dX0_init_113 : decode cX0_init 113 = .ok (.putfield 51, 3) := by decide +kernel
theorem dX0_init_116 : decode cX0_init 116 = .ok (.aload_n 0, 1) := by decide +kernel
theorem dX0_init_117 : decode cX0_init 117 = .ok (.sipush 128, 3) := by decide +kernel
theorem dX0_init_120 : decode cX0_init 120 = .ok (.newarray .byte, 2) := by decide +kernel
theorem dX0_init_122 : decode cX0_init 122 = .ok (.putfield 54, 3) := by decide +kernel
theorem dX0_init_125 : decode cX0_init 125 = .ok (.aload_n 0, 1) := by decide +kernel
theorem dX0_init_126 : decode cX0_init 126 = .ok (.bipush 32, 2) := by decide +kernel
theorem dX0_init_128 : decode cX0_init 128 = .ok (.newarray .byte, 2) := by decide +kernel
theorem dX0_init_130 : decode cX0_init 130 = .ok (.putfield 57, 3) := by decide +kernel
theorem dX0_init_133 : decode cX0_init 133 = .ok (.aload_n 0, 1) := by decide +kernel
theorem dX0_init_134 : decode cX0_init 134 = .ok (.iconst 3, 1) := by decide +kernel
theorem dX0_init_135 : decode cX0_init 135 = .ok (.putfield 60, 3) := by decide +kernel
theorem dX0_init_138 : decode cX0_init 138 = .ok (.aload_n 0, 1) := by decide +kernel
theorem dX0_init_139 : decode cX0_init 139 = .ok (.getfield 7, 3) := by decide +kernel
theorem dX0_init_142 : decode cX0_init 142 = .ok (.iconst 0, 1) := by decide +kernel
theorem dX0_init_143 : decode cX0_init 143 = .ok (.iconst 3, 1) := by decide +kernel
theorem dX0_init_144 : decode cX0_init 144 = .ok (.iastore, 1) := by decide +kernel
theorem dX0_init_145 : decode cX0_init 145 = .ok (.aload_n 0, 1) := by decide +kernel
theorem dX0_init_146 : decode cX0_init 146 = .ok (.getfield 7, 3) := by decide +kernel
theorem dX0_init_149 : decode cX0_init 149 = .ok (.iconst 1, 1) := by decide +kernel
theorem dX0_init_150 : decode cX0_init 150 = .ok (.iconst 3, 1) := by decide +kernel
theorem dX0_init_151 : decode cX0_init 151 = .ok (.iastore, 1) := by decide +kernel
theorem dX0_init_152 : decode cX0_init 152 = .ok (.iconst 0, 1) := by decide +kernel
theorem dX0_init_153 : decode cX0_init 153 = .ok (.istore_n 1, 1) := by decide +kernel
theorem dX0_init_154 : decode cX0_init 154 = .ok (.iload_n 1, 1) := by decide +kernel
theorem dX0_init_155 : decode cX0_init 155 = .ok (.bipush 32, 2) := by decide +kernel
theorem dX0_init_157 : decode cX0_init 157 = .ok (.if_icmp .ge 16, 3) := by decide +kernel
theorem dX0_init_160 : decode cX0_init 160 = .ok (.aload_n 0, 1) := by decide +kernel
theorem dX0_init_161 : decode cX0_init 161 = .ok (.getfield 20, 3) := by decide +kernel
theorem dX0_init_164 : decode cX0_init 164 = .ok (.iload_n 1, 1) := by decide +kernel
theorem dX0_init_165 : decode cX0_init 165 = .ok (.iconst (-1), 1) := by decide +kernel
theorem dX0_init_166 : decode cX0_init 166 = .ok (.iastore, 1) := by decide +kernel
theorem dX0_init_167 : decode cX0_init 167 = .ok (.iinc 1 1, 3) := by decide +kernel
theorem dX0_init_170 : decode cX0_init 170 = .ok (.goto (-16), 3) := by decide +kernel
theorem dX0_init_173 : decode cX0_init 173 = .ok (.return_, 1) := by decide +kernel
theorem dX0_action_0 : decode cX0_action 0 = .ok (.iload_n 1, 1) := by decide +kernel
theorem dX0_action_1 : decode cX0_action 1 = .ok (.ifCond .lt 28, 3) := by decide +kernel
theorem dX0_action_4 : decode cX0_action 4 = .ok (.iload_n 1, 1) := by decide +kernel
theorem dX0_action_5 : decode cX0_action 5 = .ok (.iconst 4, 1) := by decide +kernel
theorem dX0_action_6 : decode cX0_action 6 = .ok (.if_icmp .gt 23, 3) := by decide +kernel
theorem dX0_action_9 : decode cX0_action 9 = .ok (.iload_n 2, 1) := by decide +kernel
theorem dX0_action_10 : decode cX0_action 10 = .ok (.ifCond .lt 19, 3) := by decide +kernel
theorem dX0_action_13 : decode cX0_action 13 = .ok (.iload_n 2, 1) := by decide +kernel
theorem dX0_action_14 : decode cX0_action 14 = .ok (.iconst 3, 1) := by decide +kernel
theorem dX0_action_15 : decode cX0_action 15 = .ok (.if_icmp .gt 14, 3) := by decide +kernel
theorem dX0_action_18 : decode cX0_action 18 = .ok (.iload_n 3, 1) := by decide +kernel
theorem dX0_action_19 : decode cX0_action 19 = .ok (.ifCond .lt 10, 3) := by decide +kernel
theorem dX0_action_22 : decode cX0_action 22 = .ok (.iload_n 3, 1) := by decide +kernel
theorem dX0_action_23 : decode cX0_action 23 = .ok (.sipush 255, 3) := by decide +kernel
theorem dX0_action_26 : decode cX0_action 26 = .ok (.if_icmp .le 5, 3) := by decide +kernel
theorem dX0_action_29 : decode cX0_action 29 = .ok (.iconst 0, 1) := by decide +kernel
theorem dX0_action_30 : decode cX0_action 30 = .ok (.ireturn, 1) := by decide +kernel
theorem dX0_action_31 : decode cX0_action 31 = .ok (.aload_n 0, 1) := by decide +kernel
theorem dX0_action_32 : decode cX0_action 32 = .ok (.iload_n 1, 1) := by decide +kernel
theorem dX0_action_33 : decode cX0_action 33 = .ok (.iload_n 2, 1) := by decide +kernel
theorem dX0_action_34 : decode cX0_action 34 = .ok (.iconst 3, 1) := by decide +kernel
theorem dX0_action_35 : decode cX0_action 35 = .ok (.ishl, 1) := by decide +kernel
theorem dX0_action_36 : decode cX0_action 36 = .ok (.ior, 1) := by decide +kernel
theorem dX0_action_37 : decode cX0_action 37 = .ok (.iload_n 3, 1) := by decide +kernel
theorem dX0_action_38 : decode cX0_action 38 = .ok (.iconst 5, 1) := by decide +kernel
theorem dX0_action_39 : decode cX0_action 39 = .ok (.ishl, 1) := by decide +kernel
theorem dX0_action_40 : decode cX0_action 40 = .ok (.ior, 1) := by decide +kernel
theorem dX0_action_41 : decode cX0_action 41 = .ok (.putfield 60, 3) := by decide +kernel
theorem dX0_action_44 : decode cX0_action 44 = .ok (.iconst 1, 1) := by decide +kernel
theorem dX0_action_45 : decode cX0_action 45 = .ok (.ireturn, 1) := by decide +kernel
theorem dX0_addPrefix_0 : decode cX0_addPrefix 0 = .ok (.aload_n 0, 1) := by decide +kernel
theorem dX0_addPrefix_1 : decode cX0_addPrefix 1 = .ok (.getfield 16, 3) := by decide +kernel
theorem dX0_addPrefix_4 : decode cX0_addPrefix 4 = .ok (.iconst 0, 1) := by decide +kernel
theorem dX0_addPrefix_5 : decode cX0_addPrefix 5 = .ok (.baload, 1) := by decide +kernel
theorem dX0_addPrefix_6 : decode cX0_addPrefix 6 = .ok (.bipush 16, 2) := by decide +kernel
theorem dX0_addPrefix_8 : decode cX0_addPrefix 8 = .ok (.if_icmp .lt 6, 3) := by decide +kernel
theorem dX0_addPrefix_11 : decode cX0_addPrefix 11 = .ok (.bipush (-2), 2) := by decide +kernel
theorem dX0_addPrefix_13 : decode cX0_addPrefix 13 = .ok (.ireturn, 1) := by decide +kernel
theorem dX0_addPrefix_14 : decode cX0_addPrefix 14 = .ok (.iload_n 1, 1) := by decide +kernel
theorem dX0_addPrefix_15 : decode cX0_addPrefix 15 = .ok (.ifCond .lt 20, 3) := by decide +kernel
theorem dX0_addPrefix_18 : decode cX0_addPrefix 18 = .ok (.iload_n 1, 1) := by decide +kernel
theorem dX0_addPrefix_19 : decode cX0_addPrefix 19 = .ok (.sipush 255, 3) := by decide +kernel
theorem dX0_addPrefix_22 : decode cX0_addPrefix 22 = .ok (.if_icmp .gt 13, 3) := by decide +kernel
theorem dX0_addPrefix_25 : decode cX0_addPrefix 25 = .ok (.iload_n 2, 1) := by decide +kernel
theorem dX0_addPrefix_26 : decode cX0_addPrefix 26 = .ok (.ifCond .lt 9, 3) := by decide +kernel
theorem dX0_addPrefix_29 : decode cX0_addPrefix 29 = .ok (.iload_n 2, 1) := by decide +kernel
theorem dX0_addPrefix_30 : decode cX0_addPrefix 30 = .ok (.bipush 8, 2) := by decide +kernel
theorem dX0_addPrefix_32 : decode cX0_addPrefix 32 = .ok (.if_icmp .le 5, 3) := by decide +kernel
theorem dX0_addPrefix_35 : decode cX0_addPrefix 35 = .ok (.iconst (-1), 1) := by decide +kernel
theorem dX0_addPrefix_36 : decode cX0_addPrefix 36 = .ok (.ireturn, 1) := by decide +kernel
theorem dX0_addPrefix_37 : decode cX0_addPrefix 37 = .ok (.aload_n 0, 1) := by decide +kernel
theorem dX0_addPrefix_38 : decode cX0_addPrefix 38 = .ok (.iconst 0, 1) := by decide +kernel
theorem dX0_addPrefix_39 : decode cX0_addPrefix 39 = .ok (.putfield 64, 3) := by decide +kernel
theorem dX0_addPrefix_42 : decode cX0_addPrefix 42 = .ok (.aload_n 0, 1) := by decide +kernel
theorem dX0_addPrefix_43 : decode cX0_addPrefix 43 = .ok (.iconst 0, 1) := by decide +kernel
theorem dX0_addPrefix_44 : decode cX0_addPrefix 44 = .ok (.iload_n 1, 1) := by decide +kernel
theorem dX0_addPrefix_45 : decode cX0_addPrefix 45 = .ok (.iload_n 2, 1) := by decide +kernel
theorem dX0_addPrefix_46 : decode cX0_addPrefix 46 = .ok (.invokevirtual 68, 3) := by decide +kernel
theorem dX0_addPrefix_49 : decode cX0_addPrefix 49 = .ok (.ireturn, 1) := by decide +kernel
theorem dX0_addEntry_0 : decode cX0_addEntry 0 = .ok (.bipush 16, 2) := by decide +kernel
theorem dX0_addEntry_2 : decode cX0_addEntry 2 = .ok (.iload_n 1, 1) := by decide +kernel
theorem dX0_addEntry_3 : decode cX0_addEntry 3 = .ok (.imul, 1) := by decide +kernel
theorem dX0_addEntry_4 : decode cX0_addEntry 4 = .ok (.istore 4, 2) := by decide +kernel
theorem dX0_addEntry_6 : decode cX0_addEntry 6 = .ok (.aload_n 0, 1) := by decide +kernel
theorem dX0_addEntry_7 : decode cX0_addEntry 7 = .ok (.getfield 20, 3) := by decide +kernel
theorem dX0_addEntry_10 : decode cX0_addEntry 10 = .ok (.iload 4, 2) := by decide +kernel
theorem dX0_addEntry_12 : decode cX0_addEntry 12 = .ok (.iaload, 1) := by decide +kernel
theorem dX0_addEntry_13 : decode cX0_addEntry 13 = .ok (.ifCond .lt 9, 3) := by decide +kernel
theorem dX0_addEntry_16 : decode cX0_addEntry 16 = .ok (.iinc 4 1, 3) := by decide +kernel
theorem dX0_addEntry_19 : decode cX0_addEntry 19 = .ok (.goto (-13), 3) := by decide +kernel
theorem dX0_addEntry_22 : decode cX0_addEntry 22 = .ok (.aload_n 0, 1) := by decide +kernel
theorem dX0_addEntry_23 : decode cX0_addEntry 23 = .ok (.getfield 20, 3) := by decide +kernel
theorem dX0_addEntry_26 : decode cX0_addEntry 26 = .ok (.iload 4, 2) := by decide +kernel
theorem dX0_addEntry_28 : decode cX0_addEntry 28 = .ok (.aload_n 0, 1) := by decide +kernel
theorem dX0_addEntry_29 : decode cX0_addEntry 29 = .ok (.getfield 77, 3) := by decide +kernel
theorem dX0_addEntry_32 : decode cX0_addEntry 32 = .ok (.iastore, 1) := by decide +kernel
theorem dX0_addEntry_33 : decode cX0_addEntry 33 = .ok (.aload_n 0, 1) := by decide +kernel
theorem dX0_addEntry_34 : decode cX0_addEntry 34 = .ok (.getfield 23, 3) := by decide +kernel
theorem dX0_addEntry_37 : decode cX0_addEntry 37 = .ok (.iload 4, 2) := by decide +kernel
theorem dX0_addEntry_39 : decode cX0_addEntry 39 = .ok (.aload_n 0, 1) := by decide +kernel
theorem dX0_addEntry_40 : decode cX0_addEntry 40 = .ok (.getfield 60, 3) := by decide +kernel
theorem dX0_addEntry_43 : decode cX0_addEntry 43 = .ok (.iastore, 1) := by decide +kernel
theorem dX0_addEntry_44 : decode cX0_addEntry 44 = .ok (.aload_n 0, 1) := by decide +kernel
theorem dX0_addEntry_45 : decode cX0_addEntry 45 = .ok (.getfield 26, 3) := by decide +kernel
theorem dX0_addEntry_48 : decode cX0_addEntry 48 = .ok (.iload 4, 2) := by decide +kernel
theorem dX0_addEntry_50 : decode cX0_addEntry 50 = .ok (.iload_n 2, 1) := by decide +kernel
theorem dX0_addEntry_51 : decode cX0_addEntry 51 = .ok (.iastore, 1) := by decide +kernel
theorem dX0_addEntry_52 : decode cX0_addEntry 52 = .ok (.aload_n 0, 1) := by decide +kernel
theorem dX0_addEntry_53 : decode cX0_addEntry 53 = .ok (.getfield 29, 3) := by decide +kernel
theorem dX0_addEntry_56 : decode cX0_addEntry 56 = .ok (.iload 4, 2) := by decide +kernel
theorem dX0_addEntry_58 : decode cX0_addEntry 58 = .ok (.iload_n 3, 1) := by decide +kernel
theorem dX0_addEntry_59 : decode cX0_addEntry 59 = .ok (.iastore, 1) := by decide +kernel
theorem dX0_addEntry_60 : decode cX0_addEntry 60 = .ok (.aload_n 0, 1) := by decide +kernel
theorem dX0_addEntry_61 : decode cX0_addEntry 61 = .ok (.getfield 16, 3) := by decide +kernel
theorem dX0_addEntry_64 : decode cX0_addEntry 64 = .ok (.iload_n 1, 1) := by decide +kernel
theorem dX0_addEntry_65 : decode cX0_addEntry 65 = .ok (.dup2, 1) := by decide +kernel
theorem dX0_addEntry_66 : decode cX0_addEntry 66 = .ok (.baload, 1) := by decide +kernel
theorem dX0_addEntry_67 : decode cX0_addEntry 67 = .ok (.iconst 1, 1) := by decide +kernel
theorem dX0_addEntry_68 : decode cX0_addEntry 68 = .ok (.iadd, 1) := by decide +kernel
theorem dX0_addEntry_69 : decode cX0_addEntry 69 = .ok (.i2b, 1) := by decide +kernel
theorem dX0_addEntry_70 : decode cX0_addEntry 70 = .ok (.bastore, 1) := by decide +kernel
theorem dX0_addEntry_71 : decode cX0_addEntry 71 = .ok (.aload_n 0, 1) := by decide +kernel
theorem dX0_addEntry_72 : decode cX0_addEntry 72 = .ok (.dup, 1) := by decide +kernel
theorem dX0_addEntry_73 : decode cX0_addEntry 73 = .ok (.getfield 77, 3) := by decide +kernel
theorem dX0_addEntry_76 : decode cX0_addEntry 76 = .ok (.iconst 1, 1) := by decide +kernel
theorem dX0_addEntry_77 : decode cX0_addEntry 77 = .ok (.iadd, 1) := by decide +kernel
theorem dX0_addEntry_78 : decode cX0_addEntry 78 = .ok (.putfield 77, 3) := by decide +kernel
theorem dX0_addEntry_81 : decode cX0_addEntry 81 = .ok (.aload_n 0, 1) := by decide +kernel
theorem dX0_addEntry_82 : decode cX0_addEntry 82 = .ok (.getfield 77, 3) := by decide +kernel
theorem dX0_addEntry_85 : decode cX0_addEntry 85 = .ok (.iconst 1, 1) := by decide +kernel
theorem dX0_addEntry_86 : decode cX0_addEntry 86 = .ok (.isub, 1) := by decide +kernel
theorem dX0_addEntry_87 : decode cX0_addEntry 87 = .ok (.ireturn, 1) := by decide +kernel
theorem dX0_addMasked_0 : decode cX0_addMasked 0 = .ok (.aload_n 0, 1) := by decide +kernel
theorem dX0_addMasked_1 : decode cX0_addMasked 1 = .ok (.getfield 16, 3) := by decide +kernel
theorem dX0_addMasked_4 : decode cX0_addMasked 4 = .ok (.iconst 1, 1) := by decide +kernel
theorem dX0_addMasked_5 : decode cX0_addMasked 5 = .ok (.baload, 1) := by decide +kernel
theorem dX0_addMasked_6 : decode cX0_addMasked 6 = .ok (.bipush 16, 2) := by decide +kernel
theorem dX0_addMasked_8 : decode cX0_addMasked 8 = .ok (.if_icmp .lt 6, 3) := by decide +kernel
theorem dX0_addMasked_11 : decode cX0_addMasked 11 = .ok (.bipush (-2), 2) := by decide +kernel
theorem dX0_addMasked_13 : decode cX0_addMasked 13 = .ok (.ireturn, 1) := by decide +kernel
theorem dX0_addMasked_14 : decode cX0_addMasked 14 = .ok (.iload_n 1, 1) := by decide +kernel
theorem dX0_addMasked_15 : decode cX0_addMasked 15 = .ok (.ifCond .lt 29, 3) := by decide +kernel
theorem dX0_addMasked_18 : decode cX0_addMasked 18 = .ok (.iload_n 1, 1) := by decide +kernel
theorem dX0_addMasked_19 : decode cX0_addMasked 19 = .ok (.ldc 72, 2) := by decide +kernel
theorem dX0_addMasked_21 : decode cX0_addMasked 21 = .ok (.if_icmp .gt 23, 3) := by decide +kernel
theorem dX0_addMasked_24 : decode cX0_addMasked 24 = .ok (.iload_n 2, 1) := by decide +kernel
theorem dX0_addMasked_25 : decode cX0_addMasked 25 = .ok (.ifCond .lt 19, 3) := by decide +kernel
theorem dX0_addMasked_28 : decode cX0_addMasked 28 = .ok (.iload_n 2, 1) := by decide +kernel
theorem dX0_addMasked_29 : decode cX0_addMasked 29 = .ok (.ldc 72, 2) := by decide +kernel
theorem dX0_addMasked_31 : decode cX0_addMasked 31 = .ok (.if_icmp .gt 13, 3) := by decide +kernel
theorem dX0_addMasked_34 : decode cX0_addMasked 34 = .ok (.iload_n 3, 1) := by decide +kernel
theorem dX0_addMasked_35 : decode cX0_addMasked 35 = .ok (.ifCond .lt 9, 3) := by decide +kernel
theorem dX0_addMasked_38 : decode cX0_addMasked 38 = .ok (.iload_n 3, 1) := by decide +kernel
theorem dX0_addMasked_39 : decode cX0_addMasked 39 = .ok (.bipush 15, 2) := by decide +kernel
theorem dX0_addMasked_41 : decode cX0_addMasked 41 = .ok (.if_icmp .le 5, 3) := by decide +kernel
theorem dX0_addMasked_44 : decode cX0_addMasked 44 = .ok (.iconst (-1), 1) := by decide +kernel
theorem dX0_addMasked_45 : decode cX0_addMasked 45 = .ok (.ireturn, 1) := by decide +kernel
theorem dX0_addMasked_46 : decode cX0_addMasked 46 = .ok (.aload_n 0, 1) := by decide +kernel
theorem dX0_addMasked_47 : decode cX0_addMasked 47 = .ok (.iconst 0, 1) := by decide +kernel
theorem dX0_addMasked_48 : decode cX0_addMasked 48 = .ok (.putfield 73, 3) := by decide +kernel
theorem dX0_addMasked_51 : decode cX0_addMasked 51 = .ok (.iload_n 1, 1) := by decide +kernel
theorem dX0_addMasked_52 : decode cX0_addMasked 52 = .ok (.sipush 255, 3) := by decide +kernel
theorem dX0_addMasked_55 : decode cX0_addMasked 55 = .ok (.iand, 1) := by decide +kernel
theorem dX0_addMasked_56 : decode cX0_addMasked 56 = .ok (.bipush 8, 2) := by decide +kernel
theorem dX0_addMasked_58 : decode cX0_addMasked 58 = .ok (.ishl, 1) := by decide +kernel
theorem dX0_addMasked_59 : decode cX0_addMasked 59 = .ok (.iload_n 2, 1) := by decide +kernel
theorem dX0_addMasked_60 : decode cX0_addMasked 60 = .ok (.sipush 255, 3) := by decide +kernel
theorem dX0_addMasked_63 : decode cX0_addMasked 63 = .ok (.iand, 1) := by decide +kernel
theorem dX0_addMasked_64 : decode cX0_addMasked 64 = .ok (.ior, 1) := by decide +kernel
theorem dX0_addMasked_65 : decode cX0_addMasked 65 = .ok (.istore 4, 2) := by decide +kernel
theorem dX0_addMasked_67 : decode cX0_addMasked 67 = .ok (.iload_n 1, 1) := by decide +kernel
theorem dX0_addMasked_68 : decode cX0_addMasked 68 = .ok (.ldc 76, 2) := by decide +kernel
theorem dX0_addMasked_70 : decode cX0_addMasked 70 = .ok (.iand, 1) := by decide +kernel
theorem dX0_addMasked_71 : decode cX0_addMasked 71 = .ok (.iload_n 2, 1) := by decide +kernel
theorem dX0_addMasked_72 : decode cX0_addMasked 72 = .ok (.bipush 8, 2) := by decide +kernel
theorem dX0_addMasked_74 : decode cX0_addMasked 74 = .ok (.ishr, 1) := by decide +kernel
theorem dX0_addMasked_75 : decode cX0_addMasked 75 = .ok (.ior, 1) := by decide +kernel
theorem dX0_addMasked_76 : decode cX0_addMasked 76 = .ok (.istore 5, 2) := by decide +kernel
theorem dX0_addMasked_78 : decode cX0_addMasked 78 = .ok (.aload_n 0, 1) := by decide +kernel
theorem dX0_addMasked_79 : decode cX0_addMasked 79 = .ok (.iconst 1, 1) := by decide +kernel
theorem dX0_addMasked_80 : decode cX0_addMasked 80 = .ok (.iload 5, 2) := by decide +kernel
theorem dX0_addMasked_82 : decode cX0_addMasked 82 = .ok (.iload 4, 2) := by decide +kernel
theorem dX0_addMasked_84 : decode cX0_addMasked 84 = .ok (.iand, 1) := by decide +kernel
theorem dX0_addMasked_85 : decode cX0_addMasked 85 = .ok (.iload_n 3, 1) := by decide +kernel
theorem dX0_addMasked_86 : decode cX0_addMasked 86 = .ok (.bipush 16, 2) := by decide +kernel
theorem dX0_addMasked_88 : decode cX0_addMasked 88 = .ok (.ishl, 1) := by decide +kernel
theorem dX0_addMasked_89 : decode cX0_addMasked 89 = .ok (.ior, 1) := by decide +kernel
theorem dX0_addMasked_90 : decode cX0_addMasked 90 = .ok (.iload 4, 2) := by decide +kernel
theorem dX0_addMasked_92 : decode cX0_addMasked 92 = .ok (.invokevirtual 68, 3) := by decide +kernel
theorem dX0_addMasked_95 : decode cX0_addMasked 95 = .ok (.ireturn, 1) := by decide +kernel
theorem dX0_remove_0 : decode cX0_remove 0 = .ok (.aload_n 0, 1) := by decide +kernel
theorem dX0_remove_1 : decode cX0_remove 1 = .ok (.iload_n 1, 1) := by decide +kernel
theorem dX0_remove_2 : decode cX0_remove 2 = .ok (.invokevirtual 80, 3) := by decide +kernel
theorem dX0_remove_5 : decode cX0_remove 5 = .ok (.istore_n 2, 1) := by decide +kernel
theorem dX0_remove_6 : decode cX0_remove 6 = .ok (.iload_n 2, 1) := by decide +kernel
theorem dX0_remove_7 : decode cX0_remove 7 = .ok (.ifCond .ge 6, 3) := by decide +kernel
theorem dX0_remove_10 : decode cX0_remove 10 = .ok (.bipush (-3), 2) := by decide +kernel
theorem dX0_remove_12 : decode cX0_remove 12 = .ok (.ireturn, 1) := by decide +kernel
theorem dX0_remove_13 : decode cX0_remove 13 = .ok (.iload_n 2, 1) := by decide +kernel
theorem dX0_remove_14 : decode cX0_remove 14 = .ok (.bipush 16, 2) := by decide +kernel
theorem dX0_remove_16 : decode cX0_remove 16 = .ok (.idiv, 1) := by decide +kernel
theorem dX0_remove_17 : decode cX0_remove 17 = .ok (.istore_n 3, 1) := by decide +kernel
theorem dX0_remove_18 : decode cX0_remove 18 = .ok (.aload_n 0, 1) := by decide +kernel
theorem dX0_remove_19 : decode cX0_remove 19 = .ok (.getfield 20, 3) := by decide +kernel
theorem dX0_remove_22 : decode cX0_remove 22 = .ok (.iload_n 2, 1) := by decide +kernel
theorem dX0_remove_23 : decode cX0_remove 23 = .ok (.iconst (-1), 1) := by decide +kernel
theorem dX0_remove_24 : decode cX0_remove 24 = .ok (.iastore, 1) := by decide +kernel
theorem dX0_remove_25 : decode cX0_remove 25 = .ok (.aload_n 0, 1) := by decide +kernel
theorem dX0_remove_26 : decode cX0_remove 26 = .ok (.getfield 16, 3) := by decide +kernel
theorem dX0_remove_29 : decode cX0_remove 29 = .ok (.iload_n 3, 1) := by decide +kernel
theorem dX0_remove_30 : decode cX0_remove 30 = .ok (.dup2, 1) := by decide +kernel
theorem dX0_remove_31 : decode cX0_remove 31 = .ok (.baload, 1) := by decide +kernel
theorem dX0_remove_32 : decode cX0_remove 32 = .ok (.iconst 1, 1) := by decide +kernel
theorem dX0_remove_33 : decode cX0_remove 33 = .ok (.isub, 1) := by decide +kernel
theorem dX0_remove_34 : decode cX0_remove 34 = .ok (.i2b, 1) := by decide +kernel
theorem dX0_remove_35 : decode cX0_remove 35 = .ok (.bastore, 1) := by decide +kernel
theorem dX0_remove_36 : decode cX0_remove 36 = .ok (.aload_n 0, 1) := by decide +kernel
theorem dX0_remove_37 : decode cX0_remove 37 = .ok (.iconst 0, 1) := by decide +kernel
theorem dX0_remove_38 : decode cX0_remove 38 = .ok (.putfield 64, 3) := by decide +kernel
theorem dX0_remove_41 : decode cX0_remove 41 = .ok (.aload_n 0, 1) := by decide +kernel
theorem dX0_remove_42 : decode cX0_remove 42 = .ok (.iconst 0, 1) := by decide +kernel
theorem dX0_remove_43 : decode cX0_remove 43 = .ok (.putfield 73, 3) := by decide +kernel
theorem dX0_remove_46 : decode cX0_remove 46 = .ok (.aload_n 0, 1) := by decide +kernel
theorem dX0_remove_47 : decode cX0_remove 47 = .ok (.getfield 16, 3) := by decide +kernel
theorem dX0_remove_50 : decode cX0_remove 50 = .ok (.iload_n 3, 1) := by decide +kernel
theorem dX0_remove_51 : decode cX0_remove 51 = .ok (.baload, 1) := by decide +kernel
theorem dX0_remove_52 : decode cX0_remove 52 = .ok (.ireturn, 1) := by decide +kernel
theorem dX0_entryWith_0 : decode cX0_entryWith 0 = .ok (.iload_n 1, 1) := by decide +kernel
theorem dX0_entryWith_1 : decode cX0_entryWith 1 = .ok (.ifCond .ge 5, 3) := by decide +kernel
theorem dX0_entryWith_4 : decode cX0_entryWith 4 = .ok (.iconst (-1), 1) := by decide +kernel
theorem dX0_entryWith_5 : decode cX0_entryWith 5 = .ok (.ireturn, 1) := by decide +kernel
theorem dX0_entryWith_6 : decode cX0_entryWith 6 = .ok (.iconst 0, 1) := by decide +kernel
theorem dX0_entryWith_7 : decode cX0_entryWith 7 = .ok (.istore_n 2, 1) := by decide +kernel
theorem dX0_entryWith_8 : decode cX0_entryWith 8 = .ok (.iload_n 2, 1) := by decide +kernel
theorem dX0_entryWith_9 : decode cX0_entryWith 9 = .ok (.bipush 32, 2) := by decide +kernel
theorem dX0_entryWith_11 : decode cX0_entryWith 11 = .ok (.if_icmp .ge 21, 3) := by decide +kernel
theorem dX0_entryWith_14 : decode cX0_entryWith 14 = .ok (.aload_n 0, 1) := by decide +kernel
theorem dX0_entryWith_15 : decode cX0_entryWith 15 = .ok (.getfield 20, 3) := by decide +kernel
theorem dX0_entryWith_18 : decode cX0_entryWith 18 = .ok (.iload_n 2, 1) := by decide +kernel
theorem dX0_entryWith_19 : decode cX0_entryWith 19 = .ok (.iaload, 1) := by decide +kernel
theorem dX0_entryWith_20 : decode cX0_entryWith 20 = .ok (.iload_n 1, 1) := by decide +kernel
theorem dX0_entryWith_21 : decode cX0_entryWith 21 = .ok (.if_icmp .ne 5, 3) := by decide +kernel
theorem dX0_entryWith_24 : decode cX0_entryWith 24 = .ok (.iload_n 2, 1) := by decide +kernel
theorem dX0_entryWith_25 : decode cX0_entryWith 25 = .ok (.ireturn, 1) := by decide +kernel
theorem dX0_entryWith_26 : decode cX0_entryWith 26 = .ok (.iinc 2 1, 3) := by decide +kernel
theorem dX0_entryWith_29 : decode cX0_entryWith 29 = .ok (.goto (-21), 3) := by decide +kernel
theorem dX0_entryWith_32 : decode cX0_entryWith 32 = .ok (.iconst (-1), 1) := by decide +kernel
theorem dX0_entryWith_33 : decode cX0_entryWith 33 = .ok (.ireturn, 1) := by decide +kernel
theorem dX0_setDefault_0 : decode cX0_setDefault 0 = .ok (.iload_n 1, 1) := by decide +kernel
theorem dX0_setDefault_1 : decode cX0_setDefault 1 = .ok (.ifCond .lt 8, 3) := by decide +kernel
theorem dX0_setDefault_4 : decode cX0_setDefault 4 = .ok (.iload_n 1, 1) := by decide +kernel
theorem dX0_setDefault_5 : decode cX0_setDefault 5 = .ok (.iconst 1, 1) := by decide +kernel
theorem dX0_setDefault_6 : decode cX0_setDefault 6 = .ok (.if_icmp .le 5, 3) := by decide +kernel
theorem dX0_setDefault_9 : decode cX0_setDefault 9 = .ok (.iconst 0, 1) := by decide +kernel
theorem dX0_setDefault_10 : decode cX0_setDefault 10 = .ok (.ireturn, 1) := by decide +kernel
theorem dX0_setDefault_11 : decode cX0_setDefault 11 = .ok (.aload_n 0, 1) := by decide +kernel
theorem dX0_setDefault_12 : decode cX0_setDefault 12 = .ok (.getfield 7, 3) := by decide +kernel
theorem dX0_setDefault_15 : decode cX0_setDefault 15 = .ok (.iload_n 1, 1) := by decide +kernel
theorem dX0_setDefault_16 : decode cX0_setDefault 16 = .ok (.aload_n 0, 1) := by decide +kernel
theorem dX0_setDefault_17 : decode cX0_setDefault 17 = .ok (.getfield 60, 3) := by decide +kernel
theorem dX0_setDefault_20 : decode cX0_setDefault 20 = .ok (.iastore, 1) := by decide +kernel
theorem dX0_setDefault_21 : decode cX0_setDefault 21 = .ok (.iconst 1, 1) := by decide +kernel
theorem dX0_setDefault_22 : decode cX0_setDefault 22 = .ok (.ireturn, 1) := by decide +kernel
theorem dX0_field_0 : decode cX0_field 0 = .ok (.iload_n 1, 1) := by decide +kernel
theorem dX0_field_1 : decode cX0_field 1 = .ok (.ifCond .lt 19, 3) := by decide +kernel
theorem dX0_field_4 : decode cX0_field 4 = .ok (.iload_n 1, 1) := by decide +kernel
theorem dX0_field_5 : decode cX0_field 5 = .ok (.iconst 3, 1) := by decide +kernel
theorem dX0_field_6 : decode cX0_field 6 = .ok (.if_icmp .gt 14, 3) := by decide +kernel
theorem dX0_field_9 : decode cX0_field 9 = .ok (.iload_n 2, 1) := by decide +kernel
theorem dX0_field_10 : decode cX0_field 10 = .ok (.ifCond .lt 10, 3) := by decide +kernel
theorem dX0_field_13 : decode cX0_field 13 = .ok (.iload_n 2, 1) := by decide +kernel
theorem dX0_field_14 : decode cX0_field 14 = .ok (.sipush 255, 3) := by decide +kernel
theorem dX0_field_17 : decode cX0_field 17 = .ok (.if_icmp .le 5, 3) := by decide +kernel
theorem dX0_field_20 : decode cX0_field 20 = .ok (.iconst 0, 1) := by decide +kernel
theorem dX0_field_21 : decode cX0_field 21 = .ok (.ireturn, 1) := by decide +kernel
theorem dX0_field_22 : decode cX0_field 22 = .ok (.aload_n 0, 1) := by decide +kernel
theorem dX0_field_23 : decode cX0_field 23 = .ok (.getfield 13, 3) := by decide +kernel
theorem dX0_field_26 : decode cX0_field 26 = .ok (.iload_n 1, 1) := by decide +kernel
theorem dX0_field_27 : decode cX0_field 27 = .ok (.iload_n 2, 1) := by decide +kernel
theorem dX0_field_28 : decode cX0_field 28 = .ok (.iastore, 1) := by decide +kernel
theorem dX0_field_29 : decode cX0_field 29 = .ok (.iconst 1, 1) := by decide +kernel
theorem dX0_field_30 : decode cX0_field 30 = .ok (.ireturn, 1) := by decide +kernel
theorem dX0_get_0 : decode cX0_get 0 = .ok (.iload_n 1, 1) := by decide +kernel
theorem dX0_get_1 : decode cX0_get 1 = .ok (.ifCond .lt 8, 3) := by decide +kernel
theorem dX0_get_4 : decode cX0_get 4 = .ok (.iload_n 1, 1) := by decide +kernel
theorem dX0_get_5 : decode cX0_get 5 = .ok (.iconst 3, 1) := by decide +kernel
theorem dX0_get_6 : decode cX0_get 6 = .ok (.if_icmp .le 7, 3) := by decide +kernel
theorem dX0_get_9 : decode cX0_get 9 = .ok (.iconst (-1), 1) := by decide +kernel
theorem dX0_get_10 : decode cX0_get 10 = .ok (.goto 9, 3) := by decide +kernel
theorem dX0_get_13 : decode cX0_get 13 = .ok (.aload_n 0, 1) := by decide +kernel
theorem dX0_get_14 : decode cX0_get 14 = .ok (.getfield 13, 3) := by decide +kernel
theorem dX0_get_17 : decode cX0_get 17 = .ok (.iload_n 1, 1) := by decide +kernel
theorem dX0_get_18 : decode cX0_get 18 = .ok (.iaload, 1) := by decide +kernel
theorem dX0_get_19 : decode cX0_get 19 = .ok (.ireturn, 1) := by decide +kernel
theorem dX0_lookup_0 : decode cX0_lookup 0 = .ok (.iload_n 1, 1) := by decide +kernel
theorem dX0_lookup_1 : decode cX0_lookup 1 = .ok (.ifCond .lt 8, 3) := by decide +kernel
theorem dX0_lookup_4 : decode cX0_lookup 4 = .ok (.iload_n 1, 1) := by decide +kernel
theorem dX0_lookup_5 : decode cX0_lookup 5 = .ok (.iconst 1, 1) := by decide +kernel
theorem dX0_lookup_6 : decode cX0_lookup 6 = .ok (.if_icmp .le 5, 3) := by decide +kernel
theorem dX0_lookup_9 : decode cX0_lookup 9 = .ok (.iconst (-1), 1) := by decide +kernel
theorem dX0_lookup_10 : decode cX0_lookup 10 = .ok (.ireturn, 1) := by decide +kernel
theorem dX0_lookup_11 : decode cX0_lookup 11 = .ok (.iload_n 1, 1) := by decide +kernel
theorem dX0_lookup_12 : decode cX0_lookup 12 = .ok (.ifCond .ne 10, 3) := by decide +kernel
theorem dX0_lookup_15 : decode cX0_lookup 15 = .ok (.aload_n 0, 1) := by decide +kernel
theorem dX0_lookup_16 : decode cX0_lookup 16 = .ok (.invokevirtual 84, 3) := by decide +kernel
theorem dX0_lookup_19 : decode cX0_lookup 19 = .ok (.goto 7, 3) := by decide +kernel
theorem dX0_lookup_22 : decode cX0_lookup 22 = .ok (.aload_n 0, 1) := by decide +kernel
theorem dX0_lookup_23 : decode cX0_lookup 23 = .ok (.invokevirtual 88, 3) := by decide +kernel
theorem dX0_lookup_26 : decode cX0_lookup 26 = .ok (.istore_n 2, 1) := by decide +kernel
theorem dX0_lookup_27 : decode cX0_lookup 27 = .ok (.iload_n 2, 1) := by decide +kernel
theorem dX0_lookup_28 : decode cX0_lookup 28 = .ok (.ifCond .ge 8, 3) := by decide +kernel
theorem dX0_lookup_31 : decode cX0_lookup 31 = .ok (.bipush (-3), 2) := by decide +kernel
theorem dX0_lookup_33 : decode cX0_lookup 33 = .ok (.goto 9, 3) := by decide +kernel
theorem dX0_lookup_36 : decode cX0_lookup 36 = .ok (.aload_n 0, 1) := by decide +kernel
theorem dX0_lookup_37 : decode cX0_lookup 37 = .ok (.getfield 20, 3) := by decide +kernel
theorem dX0_lookup_40 : decode cX0_lookup 40 = .ok (.iload_n 2, 1) := by decide +kernel
theorem dX0_lookup_41 : decode cX0_lookup 41 = .ok (.iaload, 1) := by decide +kernel
theorem dX0_lookup_42 : decode cX0_lookup 42 = .ok (.ireturn, 1) := by decide +kernel
theorem dX0_longestPrefix_0 : decode cX0_longestPrefix 0 = .ok (.aload_n 0, 1) := by decide +kernel
theorem dX0_longestPrefix_1 : decode cX0_longestPrefix 1 = .ok (.invokevirtual 111, 3) := by decide +kernel
theorem dX0_longestPrefix_4 : decode cX0_longestPrefix 4 = .ok (.iconst (-1), 1) := by decide +kernel
theorem dX0_longestPrefix_5 : decode cX0_longestPrefix 5 = .ok (.istore_n 1, 1) := by decide +kernel
theorem dX0_longestPrefix_6 : decode cX0_longestPrefix 6 = .ok (.iconst 0, 1) := by decide +kernel
theorem dX0_longestPrefix_7 : decode cX0_longestPrefix 7 = .ok (.istore_n 2, 1) := by decide +kernel
theorem dX0_longestPrefix_8 : decode cX0_longestPrefix 8 = .ok (.bipush 7, 2) := by decide +kernel
theorem dX0_longestPrefix_10 : decode cX0_longestPrefix 10 = .ok (.istore_n 3, 1) := by decide +kernel
theorem dX0_longestPrefix_11 : decode cX0_longestPrefix 11 = .ok (.iload_n 2, 1) := by decide +kernel
theorem dX0_longestPrefix_12 : decode cX0_longestPrefix 12 = .ok (.ifCond .lt 53, 3) := by decide +kernel
theorem dX0_longestPrefix_15 : decode cX0_longestPrefix 15 = .ok (.aload_n 0, 1) := by decide +kernel
theorem dX0_longestPrefix_16 : decode cX0_longestPrefix 16 = .ok (.getfield 36, 3) := by decide +kernel
theorem dX0_longestPrefix_19 : decode cX0_longestPrefix 19 = .ok (.iload_n 2, 1) := by decide +kernel
theorem dX0_longestPrefix_20 : decode cX0_longestPrefix 20 = .ok (.baload, 1) := by decide +kernel
theorem dX0_longestPrefix_21 : decode cX0_longestPrefix 21 = .ok (.ifCond .lt 10, 3) := by decide +kernel
theorem dX0_longestPrefix_24 : decode cX0_longestPrefix 24 = .ok (.aload_n 0, 1) := by decide +kernel
theorem dX0_longestPrefix_25 : decode cX0_longestPrefix 25 = .ok (.getfield 36, 3) := by decide +kernel
theorem dX0_longestPrefix_28 : decode cX0_longestPrefix 28 = .ok (.iload_n 2, 1) := by decide +kernel
theorem dX0_longestPrefix_29 : decode cX0_longestPrefix 29 = .ok (.baload, 1) := by decide +kernel
theorem dX0_longestPrefix_30 : decode cX0_longestPrefix 30 = .ok (.istore_n 1, 1) := by decide +kernel
theorem dX0_longestPrefix_31 : decode cX0_longestPrefix 31 = .ok (.iload_n 3, 1) := by decide +kernel
theorem dX0_longestPrefix_32 : decode cX0_longestPrefix 32 = .ok (.ifCond .ge 7, 3) := by decide +kernel
theorem dX0_longestPrefix_35 : decode cX0_longestPrefix 35 = .ok (.iconst (-1), 1) := by decide +kernel
theorem dX0_longestPrefix_36 : decode cX0_longestPrefix 36 = .ok (.goto 22, 3) := by decide +kernel
theorem dX0_longestPrefix_39 : decode cX0_longestPrefix 39 = .ok (.aload_n 0, 1) := by decide +kernel
theorem dX0_longestPrefix_40 : decode cX0_longestPrefix 40 = .ok (.getfield 32, 3) := by decide +kernel
theorem dX0_longestPrefix_43 : decode cX0_longestPrefix 43 = .ok (.iconst 2, 1) := by decide +kernel
theorem dX0_longestPrefix_44 : decode cX0_longestPrefix 44 = .ok (.iload_n 2, 1) := by decide +kernel
theorem dX0_longestPrefix_45 : decode cX0_longestPrefix 45 = .ok (.imul, 1) := by decide +kernel
theorem dX0_longestPrefix_46 : decode cX0_longestPrefix 46 = .ok (.aload_n 0, 1) := by decide +kernel
theorem dX0_longestPrefix_47 : decode cX0_longestPrefix 47 = .ok (.getfield 13, 3) := by decide +kernel
theorem dX0_longestPrefix_50 : decode cX0_longestPrefix 50 = .ok (.iconst 0, 1) := by decide +kernel
theorem dX0_longestPrefix_51 : decode cX0_longestPrefix 51 = .ok (.iaload, 1) := by decide +kernel
theorem dX0_longestPrefix_52 : decode cX0_longestPrefix 52 = .ok (.iload_n 3, 1) := by decide +kernel
theorem dX0_longestPrefix_53 : decode cX0_longestPrefix 53 = .ok (.ishr, 1) := by decide +kernel
theorem dX0_longestPrefix_54 : decode cX0_longestPrefix 54 = .ok (.iconst 1, 1) := by decide +kernel
theorem dX0_longestPrefix_55 : decode cX0_longestPrefix 55 = .ok (.iand, 1) := by decide +kernel
theorem dX0_longestPrefix_56 : decode cX0_longestPrefix 56 = .ok (.iadd, 1) := by decide +kernel
theorem dX0_longestPrefix_57 : decode cX0_longestPrefix 57 = .ok (.saload, 1) := by decide +kernel
theorem dX0_longestPrefix_58 : decode cX0_longestPrefix 58 = .ok (.istore_n 2, 1) := by decide +kernel
theorem dX0_longestPrefix_59 : decode cX0_longestPrefix 59 = .ok (.iinc 3 (-1), 3) := by decide +kernel
theorem dX0_longestPrefix_62 : decode cX0_longestPrefix 62 = .ok (.goto (-51), 3) := by decide +kernel
theorem dX0_longestPrefix_65 : decode cX0_longestPrefix 65 = .ok (.iload_n 1, 1) := by decide +kernel
theorem dX0_longestPrefix_66 : decode cX0_longestPrefix 66 = .ok (.ireturn, 1) := by decide +kernel
theorem dX0_makeTree_0 : decode cX0_makeTree 0 = .ok (.aload_n 0, 1) := by decide +kernel
theorem dX0_makeTree_1 : decode cX0_makeTree 1 = .ok (.getfield 64, 3) := by decide +kernel
theorem dX0_makeTree_4 : decode cX0_makeTree 4 = .ok (.ifCond .eq 4, 3) := by decide +kernel
theorem dX0_makeTree_7 : decode cX0_makeTree 7 = .ok (.return_, 1) := by decide +kernel
theorem dX0_makeTree_8 : decode cX0_makeTree 8 = .ok (.aload_n 0, 1) := by decide +kernel
theorem dX0_makeTree_9 : decode cX0_makeTree 9 = .ok (.iconst 1, 1) := by decide +kernel
theorem dX0_makeTree_10 : decode cX0_makeTree 10 = .ok (.putfield 64, 3) := by decide +kernel
theorem dX0_makeTree_13 : decode cX0_makeTree 13 = .ok (.aload_n 0, 1) := by decide +kernel
theorem dX0_makeTree_14 : decode cX0_makeTree 14 = .ok (.iconst 0, 1) := by decide +kernel
theorem dX0_makeTree_15 : decode cX0_makeTree 15 = .ok (.putfield 101, 3) := by decide +kernel
theorem dX0_makeTree_18 : decode cX0_makeTree 18 = .ok (.aload_n 0, 1) := by decide +kernel
theorem dX0_makeTree_19 : decode cX0_makeTree 19 = .ok (.invokevirtual 104, 3) := by decide +kernel
theorem dX0_makeTree_22 : decode cX0_makeTree 22 = .ok (.pop, 1) := by decide +kernel
theorem dX0_makeTree_23 : decode cX0_makeTree 23 = .ok (.iconst 0, 1) := by decide +kernel
theorem dX0_makeTree_24 : decode cX0_makeTree 24 = .ok (.istore_n 1, 1) := by decide +kernel
theorem dX0_makeTree_25 : decode cX0_makeTree 25 = .ok (.iload_n 1, 1) := by decide +kernel
end
section
set_option maxRecDepth 100000
theorem dX0_makeTree_26 : decode cX0_makeTree 26 = .ok (.bipush 16, 2) := by decide +kernel
theorem dX0_makeTree_28 : decode cX0_makeTree 28 = .ok (.if_icmp .ge 86, 3) := by decide +kernel
theorem dX0_makeTree_31 : decode cX0_makeTree 31 = .ok (.aload_n 0, 1) := by decide +kernel
theorem dX0_makeTree_32 : decode cX0_makeTree 32 = .ok (.getfield 20, 3) := by decide +kernel
theorem dX0_makeTree_35 : decode cX0_makeTree 35 = .ok (.iload_n 1, 1) := by decide +kernel
theorem dX0_makeTree_36 : decode cX0_makeTree 36 = .ok (.iaload, 1) := by decide +kernel
theorem dX0_makeTree_37 : decode cX0_makeTree 37 = .ok (.ifCond .ge 6, 3) := by decide +kernel
theorem dX0_makeTree_40 : decode cX0_makeTree 40 = .ok (.goto 68, 3) := by decide +kernel
theorem dX0_makeTree_43 : decode cX0_makeTree 43 = .ok (.aload_n 0, 1) := by decide +kernel
theorem dX0_makeTree_44 : decode cX0_makeTree 44 = .ok (.aload_n 0, 1) := by decide +kernel
theorem dX0_makeTree_45 : decode cX0_makeTree 45 = .ok (.getfield 26, 3) := by decide +kernel
theorem dX0_makeTree_48 : decode cX0_makeTree 48 = .ok (.iload_n 1, 1) := by decide +kernel
theorem dX0_makeTree_49 : decode cX0_makeTree 49 = .ok (.iaload, 1) := by decide +kernel
theorem dX0_makeTree_50 : decode cX0_makeTree 50 = .ok (.aload_n 0, 1) := by decide +kernel
theorem dX0_makeTree_51 : decode cX0_makeTree 51 = .ok (.getfield 29, 3) := by decide +kernel
theorem dX0_makeTree_54 : decode cX0_makeTree 54 = .ok (.iload_n 1, 1) := by decide +kernel
theorem dX0_makeTree_55 : decode cX0_makeTree 55 = .ok (.iaload, 1) := by decide +kernel
theorem dX0_makeTree_56 : decode cX0_makeTree 56 = .ok (.invokevirtual 107, 3) := by decide +kernel
theorem dX0_makeTree_59 : decode cX0_makeTree 59 = .ok (.istore_n 2, 1) := by decide +kernel
theorem dX0_makeTree_60 : decode cX0_makeTree 60 = .ok (.aload_n 0, 1) := by decide +kernel
theorem dX0_makeTree_61 : decode cX0_makeTree 61 = .ok (.getfield 39, 3) := by decide +kernel
theorem dX0_makeTree_64 : decode cX0_makeTree 64 = .ok (.iload_n 2, 1) := by decide +kernel
theorem dX0_makeTree_65 : decode cX0_makeTree 65 = .ok (.dup2, 1) := by decide +kernel
theorem dX0_makeTree_66 : decode cX0_makeTree 66 = .ok (.baload, 1) := by decide +kernel
theorem dX0_makeTree_67 : decode cX0_makeTree 67 = .ok (.iconst 1, 1) := by decide +kernel
theorem dX0_makeTree_68 : decode cX0_makeTree 68 = .ok (.iadd, 1) := by decide +kernel
theorem dX0_makeTree_69 : decode cX0_makeTree 69 = .ok (.i2b, 1) := by decide +kernel
theorem dX0_makeTree_70 : decode cX0_makeTree 70 = .ok (.bastore, 1) := by decide +kernel
theorem dX0_makeTree_71 : decode cX0_makeTree 71 = .ok (.aload_n 0, 1) := by decide +kernel
theorem dX0_makeTree_72 : decode cX0_makeTree 72 = .ok (.getfield 36, 3) := by decide +kernel
theorem dX0_makeTree_75 : decode cX0_makeTree 75 = .ok (.iload_n 2, 1) := by decide +kernel
theorem dX0_makeTree_76 : decode cX0_makeTree 76 = .ok (.baload, 1) := by decide +kernel
theorem dX0_makeTree_77 : decode cX0_makeTree 77 = .ok (.ifCond .lt 23, 3) := by decide +kernel
theorem dX0_makeTree_80 : decode cX0_makeTree 80 = .ok (.aload_n 0, 1) := by decide +kernel
theorem dX0_makeTree_81 : decode cX0_makeTree 81 = .ok (.getfield 20, 3) := by decide +kernel
theorem dX0_makeTree_84 : decode cX0_makeTree 84 = .ok (.iload_n 1, 1) := by decide +kernel
theorem dX0_makeTree_85 : decode cX0_makeTree 85 = .ok (.iaload, 1) := by decide +kernel
theorem dX0_makeTree_86 : decode cX0_makeTree 86 = .ok (.aload_n 0, 1) := by decide +kernel
theorem dX0_makeTree_87 : decode cX0_makeTree 87 = .ok (.getfield 20, 3) := by decide +kernel
theorem dX0_makeTree_90 : decode cX0_makeTree 90 = .ok (.aload_n 0, 1) := by decide +kernel
theorem dX0_makeTree_91 : decode cX0_makeTree 91 = .ok (.getfield 36, 3) := by decide +kernel
theorem dX0_makeTree_94 : decode cX0_makeTree 94 = .ok (.iload_n 2, 1) := by decide +kernel
theorem dX0_makeTree_95 : decode cX0_makeTree 95 = .ok (.baload, 1) := by decide +kernel
theorem dX0_makeTree_96 : decode cX0_makeTree 96 = .ok (.iaload, 1) := by decide +kernel
theorem dX0_makeTree_97 : decode cX0_makeTree 97 = .ok (.if_icmp .ge 11, 3) := by decide +kernel
theorem dX0_makeTree_100 : decode cX0_makeTree 100 = .ok (.aload_n 0, 1) := by decide +kernel
theorem dX0_makeTree_101 : decode cX0_makeTree 101 = .ok (.getfield 36, 3) := by decide +kernel
theorem dX0_makeTree_104 : decode cX0_makeTree 104 = .ok (.iload_n 2, 1) := by decide +kernel
theorem dX0_makeTree_105 : decode cX0_makeTree 105 = .ok (.iload_n 1, 1) := by decide +kernel
theorem dX0_makeTree_106 : decode cX0_makeTree 106 = .ok (.i2b, 1) := by decide +kernel
theorem dX0_makeTree_107 : decode cX0_makeTree 107 = .ok (.bastore, 1) := by decide +kernel
theorem dX0_makeTree_108 : decode cX0_makeTree 108 = .ok (.iinc 1 1, 3) := by decide +kernel
theorem dX0_makeTree_111 : decode cX0_makeTree 111 = .ok (.goto (-86), 3) := by decide +kernel
theorem dX0_makeTree_114 : decode cX0_makeTree 114 = .ok (.return_, 1) := by decide +kernel
theorem dX0_newNode_0 : decode cX0_newNode 0 = .ok (.aload_n 0, 1) := by decide +kernel
theorem dX0_newNode_1 : decode cX0_newNode 1 = .ok (.getfield 101, 3) := by decide +kernel
theorem dX0_newNode_4 : decode cX0_newNode 4 = .ok (.istore_n 1, 1) := by decide +kernel
theorem dX0_newNode_5 : decode cX0_newNode 5 = .ok (.aload_n 0, 1) := by decide +kernel
theorem dX0_newNode_6 : decode cX0_newNode 6 = .ok (.dup, 1) := by decide +kernel
theorem dX0_newNode_7 : decode cX0_newNode 7 = .ok (.getfield 101, 3) := by decide +kernel
theorem dX0_newNode_10 : decode cX0_newNode 10 = .ok (.iconst 1, 1) := by decide +kernel
theorem dX0_newNode_11 : decode cX0_newNode 11 = .ok (.iadd, 1) := by decide +kernel
theorem dX0_newNode_12 : decode cX0_newNode 12 = .ok (.putfield 101, 3) := by decide +kernel
theorem dX0_newNode_15 : decode cX0_newNode 15 = .ok (.aload_n 0, 1) := by decide +kernel
theorem dX0_newNode_16 : decode cX0_newNode 16 = .ok (.getfield 32, 3) := by decide +kernel
theorem dX0_newNode_19 : decode cX0_newNode 19 = .ok (.iconst 2, 1) := by decide +kernel
theorem dX0_newNode_20 : decode cX0_newNode 20 = .ok (.iload_n 1, 1) := by decide +kernel
theorem dX0_newNode_21 : decode cX0_newNode 21 = .ok (.imul, 1) := by decide +kernel
theorem dX0_newNode_22 : decode cX0_newNode 22 = .ok (.iconst (-1), 1) := by decide +kernel
theorem dX0_newNode_23 : decode cX0_newNode 23 = .ok (.sastore, 1) := by decide +kernel
theorem dX0_newNode_24 : decode cX0_newNode 24 = .ok (.aload_n 0, 1) := by decide +kernel
theorem dX0_newNode_25 : decode cX0_newNode 25 = .ok (.getfield 32, 3) := by decide +kernel
theorem dX0_newNode_28 : decode cX0_newNode 28 = .ok (.iconst 2, 1) := by decide +kernel
theorem dX0_newNode_29 : decode cX0_newNode 29 = .ok (.iload_n 1, 1) := by decide +kernel
theorem dX0_newNode_30 : decode cX0_newNode 30 = .ok (.imul, 1) := by decide +kernel
theorem dX0_newNode_31 : decode cX0_newNode 31 = .ok (.iconst 1, 1) := by decide +kernel
theorem dX0_newNode_32 : decode cX0_newNode 32 = .ok (.iadd, 1) := by decide +kernel
theorem dX0_newNode_33 : decode cX0_newNode 33 = .ok (.iconst (-1), 1) := by decide +kernel
theorem dX0_newNode_34 : decode cX0_newNode 34 = .ok (.sastore, 1) := by decide +kernel
theorem dX0_newNode_35 : decode cX0_newNode 35 = .ok (.aload_n 0, 1) := by decide +kernel
theorem dX0_newNode_36 : decode cX0_newNode 36 = .ok (.getfield 36, 3) := by decide +kernel
theorem dX0_newNode_39 : decode cX0_newNode 39 = .ok (.iload_n 1, 1) := by decide +kernel
theorem dX0_newNode_40 : decode cX0_newNode 40 = .ok (.iconst (-1), 1) := by decide +kernel
theorem dX0_newNode_41 : decode cX0_newNode 41 = .ok (.bastore, 1) := by decide +kernel
theorem dX0_newNode_42 : decode cX0_newNode 42 = .ok (.aload_n 0, 1) := by decide +kernel
theorem dX0_newNode_43 : decode cX0_newNode 43 = .ok (.getfield 39, 3) := by decide +kernel
theorem dX0_newNode_46 : decode cX0_newNode 46 = .ok (.iload_n 1, 1) := by decide +kernel
theorem dX0_newNode_47 : decode cX0_newNode 47 = .ok (.iconst 0, 1) := by decide +kernel
theorem dX0_newNode_48 : decode cX0_newNode 48 = .ok (.bastore, 1) := by decide +kernel
theorem dX0_newNode_49 : decode cX0_newNode 49 = .ok (.iload_n 1, 1) := by decide +kernel
theorem dX0_newNode_50 : decode cX0_newNode 50 = .ok (.ireturn, 1) := by decide +kernel
theorem dX0_nodeFor_0 : decode cX0_nodeFor 0 = .ok (.iconst 0, 1) := by decide +kernel
theorem dX0_nodeFor_1 : decode cX0_nodeFor 1 = .ok (.istore_n 3, 1) := by decide +kernel
theorem dX0_nodeFor_2 : decode cX0_nodeFor 2 = .ok (.bipush 7, 2) := by decide +kernel
theorem dX0_nodeFor_4 : decode cX0_nodeFor 4 = .ok (.istore 4, 2) := by decide +kernel
theorem dX0_nodeFor_6 : decode cX0_nodeFor 6 = .ok (.iload 4, 2) := by decide +kernel
theorem dX0_nodeFor_8 : decode cX0_nodeFor 8 = .ok (.bipush 7, 2) := by decide +kernel
theorem dX0_nodeFor_10 : decode cX0_nodeFor 10 = .ok (.iload_n 2, 1) := by decide +kernel
theorem dX0_nodeFor_11 : decode cX0_nodeFor 11 = .ok (.isub, 1) := by decide +kernel
theorem dX0_nodeFor_12 : decode cX0_nodeFor 12 = .ok (.if_icmp .le 55, 3) := by decide +kernel
theorem dX0_nodeFor_15 : decode cX0_nodeFor 15 = .ok (.iconst 2, 1) := by decide +kernel
theorem dX0_nodeFor_16 : decode cX0_nodeFor 16 = .ok (.iload_n 3, 1) := by decide +kernel
theorem dX0_nodeFor_17 : decode cX0_nodeFor 17 = .ok (.imul, 1) := by decide +kernel
theorem dX0_nodeFor_18 : decode cX0_nodeFor 18 = .ok (.iload_n 1, 1) := by decide +kernel
theorem dX0_nodeFor_19 : decode cX0_nodeFor 19 = .ok (.iload 4, 2) := by decide +kernel
theorem dX0_nodeFor_21 : decode cX0_nodeFor 21 = .ok (.ishr, 1) := by decide +kernel
theorem dX0_nodeFor_22 : decode cX0_nodeFor 22 = .ok (.iconst 1, 1) := by decide +kernel
theorem dX0_nodeFor_23 : decode cX0_nodeFor 23 = .ok (.iand, 1) := by decide +kernel
theorem dX0_nodeFor_24 : decode cX0_nodeFor 24 = .ok (.iadd, 1) := by decide +kernel
theorem dX0_nodeFor_25 : decode cX0_nodeFor 25 = .ok (.istore 5, 2) := by decide +kernel
theorem dX0_nodeFor_27 : decode cX0_nodeFor 27 = .ok (.aload_n 0, 1) := by decide +kernel
theorem dX0_nodeFor_28 : decode cX0_nodeFor 28 = .ok (.getfield 32, 3) := by decide +kernel
theorem dX0_nodeFor_31 : decode cX0_nodeFor 31 = .ok (.iload 5, 2) := by decide +kernel
theorem dX0_nodeFor_33 : decode cX0_nodeFor 33 = .ok (.saload, 1) := by decide +kernel
theorem dX0_nodeFor_34 : decode cX0_nodeFor 34 = .ok (.ifCond .ge 19, 3) := by decide +kernel
theorem dX0_nodeFor_37 : decode cX0_nodeFor 37 = .ok (.aload_n 0, 1) := by decide +kernel
theorem dX0_nodeFor_38 : decode cX0_nodeFor 38 = .ok (.invokevirtual 104, 3) := by decide +kernel
theorem dX0_nodeFor_41 : decode cX0_nodeFor 41 = .ok (.istore 6, 2) := by decide +kernel
theorem dX0_nodeFor_43 : decode cX0_nodeFor 43 = .ok (.aload_n 0, 1) := by decide +kernel
theorem dX0_nodeFor_44 : decode cX0_nodeFor 44 = .ok (.getfield 32, 3) := by decide +kernel
theorem dX0_nodeFor_47 : decode cX0_nodeFor 47 = .ok (.iload 5, 2) := by decide +kernel
theorem dX0_nodeFor_49 : decode cX0_nodeFor 49 = .ok (.iload 6, 2) := by decide +kernel
theorem dX0_nodeFor_51 : decode cX0_nodeFor 51 = .ok (.i2s, 1) := by decide +kernel
theorem dX0_nodeFor_52 : decode cX0_nodeFor 52 = .ok (.sastore, 1) := by decide +kernel
theorem dX0_nodeFor_53 : decode cX0_nodeFor 53 = .ok (.aload_n 0, 1) := by decide +kernel
theorem dX0_nodeFor_54 : decode cX0_nodeFor 54 = .ok (.getfield 32, 3) := by decide +kernel
theorem dX0_nodeFor_57 : decode cX0_nodeFor 57 = .ok (.iload 5, 2) := by decide +kernel
theorem dX0_nodeFor_59 : decode cX0_nodeFor 59 = .ok (.saload, 1) := by decide +kernel
theorem dX0_nodeFor_60 : decode cX0_nodeFor 60 = .ok (.istore_n 3, 1) := by decide +kernel
theorem dX0_nodeFor_61 : decode cX0_nodeFor 61 = .ok (.iinc 4 (-1), 3) := by decide +kernel
theorem dX0_nodeFor_64 : decode cX0_nodeFor 64 = .ok (.goto (-58), 3) := by decide +kernel
theorem dX0_nodeFor_67 : decode cX0_nodeFor 67 = .ok (.iload_n 3, 1) := by decide +kernel
theorem dX0_nodeFor_68 : decode cX0_nodeFor 68 = .ok (.ireturn, 1) := by decide +kernel
theorem dX0_greatestPriority_0 : decode cX0_greatestPriority 0 = .ok (.aload_n 0, 1) := by decide +kernel
theorem dX0_greatestPriority_1 : decode cX0_greatestPriority 1 = .ok (.invokevirtual 140, 3) := by decide +kernel
theorem dX0_greatestPriority_4 : decode cX0_greatestPriority 4 = .ok (.aload_n 0, 1) := by decide +kernel
theorem dX0_greatestPriority_5 : decode cX0_greatestPriority 5 = .ok (.getfield 13, 3) := by decide +kernel
theorem dX0_greatestPriority_8 : decode cX0_greatestPriority 8 = .ok (.iconst 1, 1) := by decide +kernel
theorem dX0_greatestPriority_9 : decode cX0_greatestPriority 9 = .ok (.iaload, 1) := by decide +kernel
theorem dX0_greatestPriority_10 : decode cX0_greatestPriority 10 = .ok (.bipush 8, 2) := by decide +kernel
theorem dX0_greatestPriority_12 : decode cX0_greatestPriority 12 = .ok (.ishl, 1) := by decide +kernel
theorem dX0_greatestPriority_13 : decode cX0_greatestPriority 13 = .ok (.aload_n 0, 1) := by decide +kernel
theorem dX0_greatestPriority_14 : decode cX0_greatestPriority 14 = .ok (.getfield 13, 3) := by decide +kernel
theorem dX0_greatestPriority_17 : decode cX0_greatestPriority 17 = .ok (.iconst 2, 1) := by decide +kernel
theorem dX0_greatestPriority_18 : decode cX0_greatestPriority 18 = .ok (.iaload, 1) := by decide +kernel
theorem dX0_greatestPriority_19 : decode cX0_greatestPriority 19 = .ok (.ior, 1) := by decide +kernel
theorem dX0_greatestPriority_20 : decode cX0_greatestPriority 20 = .ok (.istore_n 1, 1) := by decide +kernel
theorem dX0_greatestPriority_21 : decode cX0_greatestPriority 21 = .ok (.iconst (-1), 1) := by decide +kernel
theorem dX0_greatestPriority_22 : decode cX0_greatestPriority 22 = .ok (.istore_n 2, 1) := by decide +kernel
theorem dX0_greatestPriority_23 : decode cX0_greatestPriority 23 = .ok (.iconst 0, 1) := by decide +kernel
theorem dX0_greatestPriority_24 : decode cX0_greatestPriority 24 = .ok (.istore_n 3, 1) := by decide +kernel
theorem dX0_greatestPriority_25 : decode cX0_greatestPriority 25 = .ok (.iload_n 3, 1) := by decide +kernel
theorem dX0_greatestPriority_26 : decode cX0_greatestPriority 26 = .ok (.aload_n 0, 1) := by decide +kernel
theorem dX0_greatestPriority_27 : decode cX0_greatestPriority 27 = .ok (.getfield 114, 3) := by decide +kernel
theorem dX0_greatestPriority_30 : decode cX0_greatestPriority 30 = .ok (.if_icmp .ge 111, 3) := by decide +kernel
theorem dX0_greatestPriority_33 : decode cX0_greatestPriority 33 = .ok (.iload_n 2, 1) := by decide +kernel
theorem dX0_greatestPriority_34 : decode cX0_greatestPriority 34 = .ok (.ifCond .lt 19, 3) := by decide +kernel
theorem dX0_greatestPriority_37 : decode cX0_greatestPriority 37 = .ok (.aload_n 0, 1) := by decide +kernel
theorem dX0_greatestPriority_38 : decode cX0_greatestPriority 38 = .ok (.getfield 51, 3) := by decide +kernel
theorem dX0_greatestPriority_41 : decode cX0_greatestPriority 41 = .ok (.iload_n 3, 1) := by decide +kernel
theorem dX0_greatestPriority_42 : decode cX0_greatestPriority 42 = .ok (.baload, 1) := by decide +kernel
theorem dX0_greatestPriority_43 : decode cX0_greatestPriority 43 = .ok (.aload_n 0, 1) := by decide +kernel
theorem dX0_greatestPriority_44 : decode cX0_greatestPriority 44 = .ok (.iload_n 2, 1) := by decide +kernel
theorem dX0_greatestPriority_45 : decode cX0_greatestPriority 45 = .ok (.invokevirtual 130, 3) := by decide +kernel
theorem dX0_greatestPriority_48 : decode cX0_greatestPriority 48 = .ok (.if_icmp .ge 5, 3) := by decide +kernel
theorem dX0_greatestPriority_51 : decode cX0_greatestPriority 51 = .ok (.iload_n 2, 1) := by decide +kernel
theorem dX0_greatestPriority_52 : decode cX0_greatestPriority 52 = .ok (.ireturn, 1) := by decide +kernel
theorem dX0_greatestPriority_53 : decode cX0_greatestPriority 53 = .ok (.iload_n 1, 1) := by decide +kernel
theorem dX0_greatestPriority_54 : decode cX0_greatestPriority 54 = .ok (.aload_n 0, 1) := by decide +kernel
theorem dX0_greatestPriority_55 : decode cX0_greatestPriority 55 = .ok (.getfield 48, 3) := by decide +kernel
theorem dX0_greatestPriority_58 : decode cX0_greatestPriority 58 = .ok (.iload_n 3, 1) := by decide +kernel
theorem dX0_greatestPriority_59 : decode cX0_greatestPriority 59 = .ok (.iaload, 1) := by decide +kernel
theorem dX0_greatestPriority_60 : decode cX0_greatestPriority 60 = .ok (.iand, 1) := by decide +kernel
theorem dX0_greatestPriority_61 : decode cX0_greatestPriority 61 = .ok (.istore 4, 2) := by decide +kernel
theorem dX0_greatestPriority_63 : decode cX0_greatestPriority 63 = .ok (.aload_n 0, 1) := by decide +kernel
theorem dX0_greatestPriority_64 : decode cX0_greatestPriority 64 = .ok (.getfield 54, 3) := by decide +kernel
theorem dX0_greatestPriority_67 : decode cX0_greatestPriority 67 = .ok (.bipush 8, 2) := by decide +kernel
theorem dX0_greatestPriority_69 : decode cX0_greatestPriority 69 = .ok (.iload_n 3, 1) := by decide +kernel
theorem dX0_greatestPriority_70 : decode cX0_greatestPriority 70 = .ok (.imul, 1) := by decide +kernel
theorem dX0_greatestPriority_71 : decode cX0_greatestPriority 71 = .ok (.aload_n 0, 1) := by decide +kernel
theorem dX0_greatestPriority_72 : decode cX0_greatestPriority 72 = .ok (.iload 4, 2) := by decide +kernel
theorem dX0_greatestPriority_74 : decode cX0_greatestPriority 74 = .ok (.invokevirtual 133, 3) := by decide +kernel
theorem dX0_greatestPriority_77 : decode cX0_greatestPriority 77 = .ok (.iadd, 1) := by decide +kernel
theorem dX0_greatestPriority_78 : decode cX0_greatestPriority 78 = .ok (.baload, 1) := by decide +kernel
theorem dX0_greatestPriority_79 : decode cX0_greatestPriority 79 = .ok (.istore 5, 2) := by decide +kernel
theorem dX0_greatestPriority_81 : decode cX0_greatestPriority 81 = .ok (.iload 5, 2) := by decide +kernel
theorem dX0_greatestPriority_83 : decode cX0_greatestPriority 83 = .ok (.ifCond .lt 30, 3) := by decide +kernel
theorem dX0_greatestPriority_86 : decode cX0_greatestPriority 86 = .ok (.aload_n 0, 1) := by decide +kernel
theorem dX0_greatestPriority_87 : decode cX0_greatestPriority 87 = .ok (.getfield 26, 3) := by decide +kernel
theorem dX0_greatestPriority_90 : decode cX0_greatestPriority 90 = .ok (.iload 5, 2) := by decide +kernel
theorem dX0_greatestPriority_92 : decode cX0_greatestPriority 92 = .ok (.iaload, 1) := by decide +kernel
theorem dX0_greatestPriority_93 : decode cX0_greatestPriority 93 = .ok (.ldc 72, 2) := by decide +kernel
theorem dX0_greatestPriority_95 : decode cX0_greatestPriority 95 = .ok (.iand, 1) := by decide +kernel
theorem dX0_greatestPriority_96 : decode cX0_greatestPriority 96 = .ok (.iload 4, 2) := by decide +kernel
theorem dX0_greatestPriority_98 : decode cX0_greatestPriority 98 = .ok (.if_icmp .eq 15, 3) := by decide +kernel
theorem dX0_greatestPriority_101 : decode cX0_greatestPriority 101 = .ok (.aload_n 0, 1) := by decide +kernel
theorem dX0_greatestPriority_102 : decode cX0_greatestPriority 102 = .ok (.getfield 57, 3) := by decide +kernel
theorem dX0_greatestPriority_105 : decode cX0_greatestPriority 105 = .ok (.iload 5, 2) := by decide +kernel
theorem dX0_greatestPriority_107 : decode cX0_greatestPriority 107 = .ok (.baload, 1) := by decide +kernel
theorem dX0_greatestPriority_108 : decode cX0_greatestPriority 108 = .ok (.istore 5, 2) := by decide +kernel
theorem dX0_greatestPriority_110 : decode cX0_greatestPriority 110 = .ok (.goto (-29), 3) := by decide +kernel
theorem dX0_greatestPriority_113 : decode cX0_greatestPriority 113 = .ok (.iload 5, 2) := by decide +kernel
theorem dX0_greatestPriority_115 : decode cX0_greatestPriority 115 = .ok (.ifCond .lt 20, 3) := by decide +kernel
theorem dX0_greatestPriority_118 : decode cX0_greatestPriority 118 = .ok (.iload_n 2, 1) := by decide +kernel
theorem dX0_greatestPriority_119 : decode cX0_greatestPriority 119 = .ok (.ifCond .lt 13, 3) := by decide +kernel
theorem dX0_greatestPriority_122 : decode cX0_greatestPriority 122 = .ok (.aload_n 0, 1) := by decide +kernel
theorem dX0_greatestPriority_123 : decode cX0_greatestPriority 123 = .ok (.iload 5, 2) := by decide +kernel
theorem dX0_greatestPriority_125 : decode cX0_greatestPriority 125 = .ok (.iload_n 2, 1) := by decide +kernel
theorem dX0_greatestPriority_126 : decode cX0_greatestPriority 126 = .ok (.invokevirtual 136, 3) := by decide +kernel
theorem dX0_greatestPriority_129 : decode cX0_greatestPriority 129 = .ok (.ifCond .eq 6, 3) := by decide +kernel
theorem dX0_greatestPriority_132 : decode cX0_greatestPriority 132 = .ok (.iload 5, 2) := by decide +kernel
theorem dX0_greatestPriority_134 : decode cX0_greatestPriority 134 = .ok (.istore_n 2, 1) := by decide +kernel
theorem dX0_greatestPriority_135 : decode cX0_greatestPriority 135 = .ok (.iinc 3 1, 3) := by decide +kernel
theorem dX0_greatestPriority_138 : decode cX0_greatestPriority 138 = .ok (.goto (-113), 3) := by decide +kernel
theorem dX0_greatestPriority_141 : decode cX0_greatestPriority 141 = .ok (.iload_n 2, 1) := by decide +kernel
theorem dX0_greatestPriority_142 : decode cX0_greatestPriority 142 = .ok (.ireturn, 1) := by decide +kernel
theorem dX0_makeGroups_0 : decode cX0_makeGroups 0 = .ok (.aload_n 0, 1) := by decide +kernel
theorem dX0_makeGroups_1 : decode cX0_makeGroups 1 = .ok (.getfield 73, 3) := by decide +kernel
theorem dX0_makeGroups_4 : decode cX0_makeGroups 4 = .ok (.ifCond .eq 4, 3) := by decide +kernel
theorem dX0_makeGroups_7 : decode cX0_makeGroups 7 = .ok (.return_, 1) := by decide +kernel
theorem dX0_makeGroups_8 : decode cX0_makeGroups 8 = .ok (.aload_n 0, 1) := by decide +kernel
theorem dX0_makeGroups_9 : decode cX0_makeGroups 9 = .ok (.iconst 1, 1) := by decide +kernel
theorem dX0_makeGroups_10 : decode cX0_makeGroups 10 = .ok (.putfield 73, 3) := by decide +kernel
theorem dX0_makeGroups_13 : decode cX0_makeGroups 13 = .ok (.aload_n 0, 1) := by decide +kernel
theorem dX0_makeGroups_14 : decode cX0_makeGroups 14 = .ok (.iconst 0, 1) := by decide +kernel
theorem dX0_makeGroups_15 : decode cX0_makeGroups 15 = .ok (.putfield 114, 3) := by decide +kernel
theorem dX0_makeGroups_18 : decode cX0_makeGroups 18 = .ok (.iconst 0, 1) := by decide +kernel
theorem dX0_makeGroups_19 : decode cX0_makeGroups 19 = .ok (.istore_n 1, 1) := by decide +kernel
theorem dX0_makeGroups_20 : decode cX0_makeGroups 20 = .ok (.iload_n 1, 1) := by decide +kernel
theorem dX0_makeGroups_21 : decode cX0_makeGroups 21 = .ok (.sipush 128, 3) := by decide +kernel
theorem dX0_makeGroups_24 : decode cX0_makeGroups 24 = .ok (.if_icmp .ge 16, 3) := by decide +kernel
theorem dX0_makeGroups_27 : decode cX0_makeGroups 27 = .ok (.aload_n 0, 1) := by decide +kernel
theorem dX0_makeGroups_28 : decode cX0_makeGroups 28 = .ok (.getfield 54, 3) := by decide +kernel
theorem dX0_makeGroups_31 : decode cX0_makeGroups 31 = .ok (.iload_n 1, 1) := by decide +kernel
theorem dX0_makeGroups_32 : decode cX0_makeGroups 32 = .ok (.iconst (-1), 1) := by decide +kernel
theorem dX0_makeGroups_33 : decode cX0_makeGroups 33 = .ok (.bastore, 1) := by decide +kernel
theorem dX0_makeGroups_34 : decode cX0_makeGroups 34 = .ok (.iinc 1 1, 3) := by decide +kernel
theorem dX0_makeGroups_37 : decode cX0_makeGroups 37 = .ok (.goto (-17), 3) := by decide +kernel
theorem dX0_makeGroups_40 : decode cX0_makeGroups 40 = .ok (.bipush 16, 2) := by decide +kernel
theorem dX0_makeGroups_42 : decode cX0_makeGroups 42 = .ok (.istore_n 1, 1) := by decide +kernel
theorem dX0_makeGroups_43 : decode cX0_makeGroups 43 = .ok (.iload_n 1, 1) := by decide +kernel
theorem dX0_makeGroups_44 : decode cX0_makeGroups 44 = .ok (.bipush 32, 2) := by decide +kernel
theorem dX0_makeGroups_46 : decode cX0_makeGroups 46 = .ok (.if_icmp .ge 23, 3) := by decide +kernel
theorem dX0_makeGroups_49 : decode cX0_makeGroups 49 = .ok (.aload_n 0, 1) := by decide +kernel
theorem dX0_makeGroups_50 : decode cX0_makeGroups 50 = .ok (.getfield 20, 3) := by decide +kernel
theorem dX0_makeGroups_53 : decode cX0_makeGroups 53 = .ok (.iload_n 1, 1) := by decide +kernel
theorem dX0_makeGroups_54 : decode cX0_makeGroups 54 = .ok (.iaload, 1) := by decide +kernel
theorem dX0_makeGroups_55 : decode cX0_makeGroups 55 = .ok (.ifCond .lt 8, 3) := by decide +kernel
theorem dX0_makeGroups_58 : decode cX0_makeGroups 58 = .ok (.aload_n 0, 1) := by decide +kernel
theorem dX0_makeGroups_59 : decode cX0_makeGroups 59 = .ok (.iload_n 1, 1) := by decide +kernel
theorem dX0_makeGroups_60 : decode cX0_makeGroups 60 = .ok (.invokevirtual 117, 3) := by decide +kernel
theorem dX0_makeGroups_63 : decode cX0_makeGroups 63 = .ok (.iinc 1 1, 3) := by decide +kernel
theorem dX0_makeGroups_66 : decode cX0_makeGroups 66 = .ok (.goto (-23), 3) := by decide +kernel
theorem dX0_makeGroups_69 : decode cX0_makeGroups 69 = .ok (.aload_n 0, 1) := by decide +kernel
theorem dX0_makeGroups_70 : decode cX0_makeGroups 70 = .ok (.invokevirtual 121, 3) := by decide +kernel
theorem dX0_makeGroups_73 : decode cX0_makeGroups 73 = .ok (.bipush 16, 2) := by decide +kernel
theorem dX0_makeGroups_75 : decode cX0_makeGroups 75 = .ok (.istore_n 1, 1) := by decide +kernel
theorem dX0_makeGroups_76 : decode cX0_makeGroups 76 = .ok (.iload_n 1, 1) := by decide +kernel
theorem dX0_makeGroups_77 : decode cX0_makeGroups 77 = .ok (.bipush 32, 2) := by decide +kernel
theorem dX0_makeGroups_79 : decode cX0_makeGroups 79 = .ok (.if_icmp .ge 23, 3) := by decide +kernel
theorem dX0_makeGroups_82 : decode cX0_makeGroups 82 = .ok (.aload_n 0, 1) := by decide +kernel
theorem dX0_makeGroups_83 : decode cX0_makeGroups 83 = .ok (.getfield 20, 3) := by decide +kernel
theorem dX0_makeGroups_86 : decode cX0_makeGroups 86 = .ok (.iload_n 1, 1) := by decide +kernel
theorem dX0_makeGroups_87 : decode cX0_makeGroups 87 = .ok (.iaload, 1) := by decide +kernel
theorem dX0_makeGroups_88 : decode cX0_makeGroups 88 = .ok (.ifCond .lt 8, 3) := by decide +kernel
theorem dX0_makeGroups_91 : decode cX0_makeGroups 91 = .ok (.aload_n 0, 1) := by decide +kernel
theorem dX0_makeGroups_92 : decode cX0_makeGroups 92 = .ok (.iload_n 1, 1) := by decide +kernel
theorem dX0_makeGroups_93 : decode cX0_makeGroups 93 = .ok (.invokevirtual 124, 3) := by decide +kernel
theorem dX0_makeGroups_96 : decode cX0_makeGroups 96 = .ok (.iinc 1 1, 3) := by decide +kernel
theorem dX0_makeGroups_99 : decode cX0_makeGroups 99 = .ok (.goto (-23), 3) := by decide +kernel
theorem dX0_makeGroups_102 : decode cX0_makeGroups 102 = .ok (.return_, 1) := by decide +kernel
theorem dX0_noteGroup_0 : decode cX0_noteGroup 0 = .ok (.aload_n 0, 1) := by decide +kernel
theorem dX0_noteGroup_1 : decode cX0_noteGroup 1 = .ok (.aload_n 0, 1) := by decide +kernel
theorem dX0_noteGroup_2 : decode cX0_noteGroup 2 = .ok (.getfield 29, 3) := by decide +kernel
theorem dX0_noteGroup_5 : decode cX0_noteGroup 5 = .ok (.iload_n 1, 1) := by decide +kernel
theorem dX0_noteGroup_6 : decode cX0_noteGroup 6 = .ok (.iaload, 1) := by decide +kernel
theorem dX0_noteGroup_7 : decode cX0_noteGroup 7 = .ok (.invokevirtual 127, 3) := by decide +kernel
theorem dX0_noteGroup_10 : decode cX0_noteGroup 10 = .ok (.istore_n 2, 1) := by decide +kernel
theorem dX0_noteGroup_11 : decode cX0_noteGroup 11 = .ok (.iload_n 2, 1) := by decide +kernel
theorem dX0_noteGroup_12 : decode cX0_noteGroup 12 = .ok (.ifCond .ge 37, 3) := by decide +kernel
theorem dX0_noteGroup_15 : decode cX0_noteGroup 15 = .ok (.aload_n 0, 1) := by decide +kernel
theorem dX0_noteGroup_16 : decode cX0_noteGroup 16 = .ok (.getfield 114, 3) := by decide +kernel
theorem dX0_noteGroup_19 : decode cX0_noteGroup 19 = .ok (.istore_n 2, 1) := by decide +kernel
theorem dX0_noteGroup_20 : decode cX0_noteGroup 20 = .ok (.aload_n 0, 1) := by decide +kernel
theorem dX0_noteGroup_21 : decode cX0_noteGroup 21 = .ok (.dup, 1) := by decide +kernel
theorem dX0_noteGroup_22 : decode cX0_noteGroup 22 = .ok (.getfield 114, 3) := by decide +kernel
theorem dX0_noteGroup_25 : decode cX0_noteGroup 25 = .ok (.iconst 1, 1) := by decide +kernel
theorem dX0_noteGroup_26 : decode cX0_noteGroup 26 = .ok (.iadd, 1) := by decide +kernel
theorem dX0_noteGroup_27 : decode cX0_noteGroup 27 = .ok (.putfield 114, 3) := by decide +kernel
theorem dX0_noteGroup_30 : decode cX0_noteGroup 30 = .ok (.aload_n 0, 1) := by decide +kernel
theorem dX0_noteGroup_31 : decode cX0_noteGroup 31 = .ok (.getfield 48, 3) := by decide +kernel
theorem dX0_noteGroup_34 : decode cX0_noteGroup 34 = .ok (.iload_n 2, 1) := by decide +kernel
theorem dX0_noteGroup_35 : decode cX0_noteGroup 35 = .ok (.aload_n 0, 1) := by decide +kernel
theorem dX0_noteGroup_36 : decode cX0_noteGroup 36 = .ok (.getfield 29, 3) := by decide +kernel
theorem dX0_noteGroup_39 : decode cX0_noteGroup 39 = .ok (.iload_n 1, 1) := by decide +kernel
theorem dX0_noteGroup_40 : decode cX0_noteGroup 40 = .ok (.iaload, 1) := by decide +kernel
theorem dX0_noteGroup_41 : decode cX0_noteGroup 41 = .ok (.iastore, 1) := by decide +kernel
theorem dX0_noteGroup_42 : decode cX0_noteGroup 42 = .ok (.aload_n 0, 1) := by decide +kernel
theorem dX0_noteGroup_43 : decode cX0_noteGroup 43 = .ok (.getfield 51, 3) := by decide +kernel
theorem dX0_noteGroup_46 : decode cX0_noteGroup 46 = .ok (.iload_n 2, 1) := by decide +kernel
theorem dX0_noteGroup_47 : decode cX0_noteGroup 47 = .ok (.iconst 0, 1) := by decide +kernel
theorem dX0_noteGroup_48 : decode cX0_noteGroup 48 = .ok (.bastore, 1) := by decide +kernel
theorem dX0_noteGroup_49 : decode cX0_noteGroup 49 = .ok (.aload_n 0, 1) := by decide +kernel
theorem dX0_noteGroup_50 : decode cX0_noteGroup 50 = .ok (.iload_n 1, 1) := by decide +kernel
theorem dX0_noteGroup_51 : decode cX0_noteGroup 51 = .ok (.invokevirtual 130, 3) := by decide +kernel
theorem dX0_noteGroup_54 : decode cX0_noteGroup 54 = .ok (.aload_n 0, 1) := by decide +kernel
theorem dX0_noteGroup_55 : decode cX0_noteGroup 55 = .ok (.getfield 51, 3) := by decide +kernel
theorem dX0_noteGroup_58 : decode cX0_noteGroup 58 = .ok (.iload_n 2, 1) := by decide +kernel
theorem dX0_noteGroup_59 : decode cX0_noteGroup 59 = .ok (.baload, 1) := by decide +kernel
theorem dX0_noteGroup_60 : decode cX0_noteGroup 60 = .ok (.if_icmp .le 19, 3) := by decide +kernel
theorem dX0_noteGroup_63 : decode cX0_noteGroup 63 = .ok (.aload_n 0, 1) := by decide +kernel
theorem dX0_noteGroup_64 : decode cX0_noteGroup 64 = .ok (.getfield 51, 3) := by decide +kernel
theorem dX0_noteGroup_67 : decode cX0_noteGroup 67 = .ok (.iload_n 2, 1) := by decide +kernel
theorem dX0_noteGroup_68 : decode cX0_noteGroup 68 = .ok (.aload_n 0, 1) := by decide +kernel
theorem dX0_noteGroup_69 : decode cX0_noteGroup 69 = .ok (.getfield 26, 3) := by decide +kernel
theorem dX0_noteGroup_72 : decode cX0_noteGroup 72 = .ok (.iload_n 1, 1) := by decide +kernel
theorem dX0_noteGroup_73 : decode cX0_noteGroup 73 = .ok (.iaload, 1) := by decide +kernel
theorem dX0_noteGroup_74 : decode cX0_noteGroup 74 = .ok (.bipush 16, 2) := by decide +kernel
theorem dX0_noteGroup_76 : decode cX0_noteGroup 76 = .ok (.ishr, 1) := by decide +kernel
theorem dX0_noteGroup_77 : decode cX0_noteGroup 77 = .ok (.i2b, 1) := by decide +kernel
theorem dX0_noteGroup_78 : decode cX0_noteGroup 78 = .ok (.bastore, 1) := by decide +kernel
theorem dX0_noteGroup_79 : decode cX0_noteGroup 79 = .ok (.return_, 1) := by decide +kernel
theorem dX0_groupOf_0 : decode cX0_groupOf 0 = .ok (.iconst 0, 1) := by decide +kernel
theorem dX0_groupOf_1 : decode cX0_groupOf 1 = .ok (.istore_n 2, 1) := by decide +kernel
theorem dX0_groupOf_2 : decode cX0_groupOf 2 = .ok (.iload_n 2, 1) := by decide +kernel
theorem dX0_groupOf_3 : decode cX0_groupOf 3 = .ok (.aload_n 0, 1) := by decide +kernel
theorem dX0_groupOf_4 : decode cX0_groupOf 4 = .ok (.getfield 114, 3) := by decide +kernel
theorem dX0_groupOf_7 : decode cX0_groupOf 7 = .ok (.if_icmp .ge 21, 3) := by decide +kernel
theorem dX0_groupOf_10 : decode cX0_groupOf 10 = .ok (.aload_n 0, 1) := by decide +kernel
theorem dX0_groupOf_11 : decode cX0_groupOf 11 = .ok (.getfield 48, 3) := by decide +kernel
theorem dX0_groupOf_14 : decode cX0_groupOf 14 = .ok (.iload_n 2, 1) := by decide +kernel
theorem dX0_groupOf_15 : decode cX0_groupOf 15 = .ok (.iaload, 1) := by decide +kernel
theorem dX0_groupOf_16 : decode cX0_groupOf 16 = .ok (.iload_n 1, 1) := by decide +kernel
theorem dX0_groupOf_17 : decode cX0_groupOf 17 = .ok (.if_icmp .ne 5, 3) := by decide +kernel
theorem dX0_groupOf_20 : decode cX0_groupOf 20 = .ok (.iload_n 2, 1) := by decide +kernel
theorem dX0_groupOf_21 : decode cX0_groupOf 21 = .ok (.ireturn, 1) := by decide +kernel
theorem dX0_groupOf_22 : decode cX0_groupOf 22 = .ok (.iinc 2 1, 3) := by decide +kernel
theorem dX0_groupOf_25 : decode cX0_groupOf 25 = .ok (.goto (-23), 3) := by decide +kernel
theorem dX0_groupOf_28 : decode cX0_groupOf 28 = .ok (.iconst (-1), 1) := by decide +kernel
theorem dX0_groupOf_29 : decode cX0_groupOf 29 = .ok (.ireturn, 1) := by decide +kernel
theorem dX0_priorityOf_0 : decode cX0_priorityOf 0 = .ok (.aload_n 0, 1) := by decide +kernel
theorem dX0_priorityOf_1 : decode cX0_priorityOf 1 = .ok (.getfield 26, 3) := by decide +kernel
theorem dX0_priorityOf_4 : decode cX0_priorityOf 4 = .ok (.iload_n 1, 1) := by decide +kernel
theorem dX0_priorityOf_5 : decode cX0_priorityOf 5 = .ok (.iaload, 1) := by decide +kernel
theorem dX0_priorityOf_6 : decode cX0_priorityOf 6 = .ok (.bipush 16, 2) := by decide +kernel
theorem dX0_priorityOf_8 : decode cX0_priorityOf 8 = .ok (.ishr, 1) := by decide +kernel
theorem dX0_priorityOf_9 : decode cX0_priorityOf 9 = .ok (.ireturn, 1) := by decide +kernel
theorem dX0_sortGroups_0 : decode cX0_sortGroups 0 = .ok (.iconst 1, 1) := by decide +kernel
theorem dX0_sortGroups_1 : decode cX0_sortGroups 1 = .ok (.istore_n 1, 1) := by decide +kernel
theorem dX0_sortGroups_2 : decode cX0_sortGroups 2 = .ok (.iload_n 1, 1) := by decide +kernel
theorem dX0_sortGroups_3 : decode cX0_sortGroups 3 = .ok (.aload_n 0, 1) := by decide +kernel
theorem dX0_sortGroups_4 : decode cX0_sortGroups 4 = .ok (.getfield 114, 3) := by decide +kernel
theorem dX0_sortGroups_7 : decode cX0_sortGroups 7 = .ok (.if_icmp .ge 98, 3) := by decide +kernel
theorem dX0_sortGroups_10 : decode cX0_sortGroups 10 = .ok (.aload_n 0, 1) := by decide +kernel
theorem dX0_sortGroups_11 : decode cX0_sortGroups 11 = .ok (.getfield 48, 3) := by decide +kernel
theorem dX0_sortGroups_14 : decode cX0_sortGroups 14 = .ok (.iload_n 1, 1) := by decide +kernel
theorem dX0_sortGroups_15 : decode cX0_sortGroups 15 = .ok (.iaload, 1) := by decide +kernel
theorem dX0_sortGroups_16 : decode cX0_sortGroups 16 = .ok (.istore_n 2, 1) := by decide +kernel
theorem dX0_sortGroups_17 : decode cX0_sortGroups 17 = .ok (.aload_n 0, 1) := by decide +kernel
theorem dX0_sortGroups_18 : decode cX0_sortGroups 18 = .ok (.getfield 51, 3) := by decide +kernel
theorem dX0_sortGroups_21 : decode cX0_sortGroups 21 = .ok (.iload_n 1, 1) := by decide +kernel
theorem dX0_sortGroups_22 : decode cX0_sortGroups 22 = .ok (.baload, 1) := by decide +kernel
theorem dX0_sortGroups_23 : decode cX0_sortGroups 23 = .ok (.istore_n 3, 1) := by decide +kernel
theorem dX0_sortGroups_24 : decode cX0_sortGroups 24 = .ok (.iload_n 1, 1) := by decide +kernel
theorem dX0_sortGroups_25 : decode cX0_sortGroups 25 = .ok (.istore 4, 2) := by decide +kernel
theorem dX0_sortGroups_27 : decode cX0_sortGroups 27 = .ok (.iload 4, 2) := by decide +kernel
theorem dX0_sortGroups_29 : decode cX0_sortGroups 29 = .ok (.ifCond .le 54, 3) := by decide +kernel
theorem dX0_sortGroups_32 : decode cX0_sortGroups 32 = .ok (.aload_n 0, 1) := by decide +kernel
theorem dX0_sortGroups_33 : decode cX0_sortGroups 33 = .ok (.getfield 51, 3) := by decide +kernel
theorem dX0_sortGroups_36 : decode cX0_sortGroups 36 = .ok (.iload 4, 2) := by decide +kernel
theorem dX0_sortGroups_38 : decode cX0_sortGroups 38 = .ok (.iconst 1, 1) := by decide +kernel
theorem dX0_sortGroups_39 : decode cX0_sortGroups 39 = .ok (.isub, 1) := by decide +kernel
theorem dX0_sortGroups_40 : decode cX0_sortGroups 40 = .ok (.baload, 1) := by decide +kernel
theorem dX0_sortGroups_41 : decode cX0_sortGroups 41 = .ok (.iload_n 3, 1) := by decide +kernel
theorem dX0_sortGroups_42 : decode cX0_sortGroups 42 = .ok (.if_icmp .ge 41, 3) := by decide +kernel
theorem dX0_sortGroups_45 : decode cX0_sortGroups 45 = .ok (.aload_n 0, 1) := by decide +kernel
theorem dX0_sortGroups_46 : decode cX0_sortGroups 46 = .ok (.getfield 48, 3) := by decide +kernel
theorem dX0_sortGroups_49 : decode cX0_sortGroups 49 = .ok (.iload 4, 2) := by decide +kernel
theorem dX0_sortGroups_51 : decode cX0_sortGroups 51 = .ok (.aload_n 0, 1) := by decide +kernel
theorem dX0_sortGroups_52 : decode cX0_sortGroups 52 = .ok (.getfield 48, 3) := by decide +kernel
theorem dX0_sortGroups_55 : decode cX0_sortGroups 55 = .ok (.iload 4, 2) := by decide +kernel
theorem dX0_sortGroups_57 : decode cX0_sortGroups 57 = .ok (.iconst 1, 1) := by decide +kernel
theorem dX0_sortGroups_58 : decode cX0_sortGroups 58 = .ok (.isub, 1) := by decide +kernel
theorem dX0_sortGroups_59 : decode cX0_sortGroups 59 = .ok (.iaload, 1) := by decide +kernel
theorem dX0_sortGroups_60 : decode cX0_sortGroups 60 = .ok (.iastore, 1) := by decide +kernel
theorem dX0_sortGroups_61 : decode cX0_sortGroups 61 = .ok (.aload_n 0, 1) := by decide +kernel
theorem dX0_sortGroups_62 : decode cX0_sortGroups 62 = .ok (.getfield 51, 3) := by decide +kernel
theorem dX0_sortGroups_65 : decode cX0_sortGroups 65 = .ok (.iload 4, 2) := by decide +kernel
theorem dX0_sortGroups_67 : decode cX0_sortGroups 67 = .ok (.aload_n 0, 1) := by decide +kernel
theorem dX0_sortGroups_68 : decode cX0_sortGroups 68 = .ok (.getfield 51, 3) := by decide +kernel
theorem dX0_sortGroups_71 : decode cX0_sortGroups 71 = .ok (.iload 4, 2) := by decide +kernel
theorem dX0_sortGroups_73 : decode cX0_sortGroups 73 = .ok (.iconst 1, 1) := by decide +kernel
theorem dX0_sortGroups_74 : decode cX0_sortGroups 74 = .ok (.isub, 1) := by decide +kernel
theorem dX0_sortGroups_75 : decode cX0_sortGroups 75 = .ok (.baload, 1) := by decide +kernel
theorem dX0_sortGroups_76 : decode cX0_sortGroups 76 = .ok (.bastore, 1) := by decide +kernel
theorem dX0_sortGroups_77 : decode cX0_sortGroups 77 = .ok (.iinc 4 (-1), 3) := by decide +kernel
theorem dX0_sortGroups_80 : decode cX0_sortGroups 80 = .ok (.goto (-53), 3) := by decide +kernel
theorem dX0_sortGroups_83 : decode cX0_sortGroups 83 = .ok (.aload_n 0, 1) := by decide +kernel
theorem dX0_sortGroups_84 : decode cX0_sortGroups 84 = .ok (.getfield 48, 3) := by decide +kernel
theorem dX0_sortGroups_87 : decode cX0_sortGroups 87 = .ok (.iload 4, 2) := by decide +kernel
theorem dX0_sortGroups_89 : decode cX0_sortGroups 89 = .ok (.iload_n 2, 1) := by decide +kernel
theorem dX0_sortGroups_90 : decode cX0_sortGroups 90 = .ok (.iastore, 1) := by decide +kernel
theorem dX0_sortGroups_91 : decode cX0_sortGroups 91 = .ok (.aload_n 0, 1) := by decide +kernel
theorem dX0_sortGroups_92 : decode cX0_sortGroups 92 = .ok (.getfield 51, 3) := by decide +kernel
theorem dX0_sortGroups_95 : decode cX0_sortGroups 95 = .ok (.iload 4, 2) := by decide +kernel
theorem dX0_sortGroups_97 : decode cX0_sortGroups 97 = .ok (.iload_n 3, 1) := by decide +kernel
theorem dX0_sortGroups_98 : decode cX0_sortGroups 98 = .ok (.bastore, 1) := by decide +kernel
theorem dX0_sortGroups_99 : decode cX0_sortGroups 99 = .ok (.iinc 1 1, 3) := by decide +kernel
theorem dX0_sortGroups_102 : decode cX0_sortGroups 102 = .ok (.goto (-100), 3) := by decide +kernel
theorem dX0_sortGroups_105 : decode cX0_sortGroups 105 = .ok (.return_, 1) := by decide +kernel
theorem dX0_hang_0 : decode cX0_hang 0 = .ok (.bipush 8, 2) := by decide +kernel
theorem dX0_hang_2 : decode cX0_hang 2 = .ok (.aload_n 0, 1) := by decide +kernel
theorem dX0_hang_3 : decode cX0_hang 3 = .ok (.aload_n 0, 1) := by decide +kernel
theorem dX0_hang_4 : decode cX0_hang 4 = .ok (.getfield 29, 3) := by decide +kernel
theorem dX0_hang_7 : decode cX0_hang 7 = .ok (.iload_n 1, 1) := by decide +kernel
theorem dX0_hang_8 : decode cX0_hang 8 = .ok (.iaload, 1) := by decide +kernel
theorem dX0_hang_9 : decode cX0_hang 9 = .ok (.invokevirtual 127, 3) := by decide +kernel
theorem dX0_hang_12 : decode cX0_hang 12 = .ok (.imul, 1) := by decide +kernel
theorem dX0_hang_13 : decode cX0_hang 13 = .ok (.aload_n 0, 1) := by decide +kernel
theorem dX0_hang_14 : decode cX0_hang 14 = .ok (.aload_n 0, 1) := by decide +kernel
theorem dX0_hang_15 : decode cX0_hang 15 = .ok (.getfield 26, 3) := by decide +kernel
theorem dX0_hang_18 : decode cX0_hang 18 = .ok (.iload_n 1, 1) := by decide +kernel
theorem dX0_hang_19 : decode cX0_hang 19 = .ok (.iaload, 1) := by decide +kernel
theorem dX0_hang_20 : decode cX0_hang 20 = .ok (.ldc 72, 2) := by decide +kernel
theorem dX0_hang_22 : decode cX0_hang 22 = .ok (.iand, 1) := by decide +kernel
theorem dX0_hang_23 : decode cX0_hang 23 = .ok (.invokevirtual 133, 3) := by decide +kernel
theorem dX0_hang_26 : decode cX0_hang 26 = .ok (.iadd, 1) := by decide +kernel
theorem dX0_hang_27 : decode cX0_hang 27 = .ok (.istore_n 2, 1) := by decide +kernel
theorem dX0_hang_28 : decode cX0_hang 28 = .ok (.iconst (-1), 1) := by decide +kernel
theorem dX0_hang_29 : decode cX0_hang 29 = .ok (.istore_n 3, 1) := by decide +kernel
theorem dX0_hang_30 : decode cX0_hang 30 = .ok (.aload_n 0, 1) := by decide +kernel
theorem dX0_hang_31 : decode cX0_hang 31 = .ok (.getfield 54, 3) := by decide +kernel
theorem dX0_hang_34 : decode cX0_hang 34 = .ok (.iload_n 2, 1) := by decide +kernel
theorem dX0_hang_35 : decode cX0_hang 35 = .ok (.baload, 1) := by decide +kernel
theorem dX0_hang_36 : decode cX0_hang 36 = .ok (.istore 4, 2) := by decide +kernel
theorem dX0_hang_38 : decode cX0_hang 38 = .ok (.iload 4, 2) := by decide +kernel
theorem dX0_hang_40 : decode cX0_hang 40 = .ok (.ifCond .lt 28, 3) := by decide +kernel
theorem dX0_hang_43 : decode cX0_hang 43 = .ok (.aload_n 0, 1) := by decide +kernel
theorem dX0_hang_44 : decode cX0_hang 44 = .ok (.iload 4, 2) := by decide +kernel
theorem dX0_hang_46 : decode cX0_hang 46 = .ok (.iload_n 1, 1) := by decide +kernel
theorem dX0_hang_47 : decode cX0_hang 47 = .ok (.invokevirtual 136, 3) := by decide +kernel
theorem dX0_hang_50 : decode cX0_hang 50 = .ok (.ifCond .eq 18, 3) := by decide +kernel
theorem dX0_hang_53 : decode cX0_hang 53 = .ok (.iload 4, 2) := by decide +kernel
theorem dX0_hang_55 : decode cX0_hang 55 = .ok (.istore_n 3, 1) := by decide +kernel
theorem dX0_hang_56 : decode cX0_hang 56 = .ok (.aload_n 0, 1) := by decide +kernel
theorem dX0_hang_57 : decode cX0_hang 57 = .ok (.getfield 57, 3) := by decide +kernel
theorem dX0_hang_60 : decode cX0_hang 60 = .ok (.iload 4, 2) := by decide +kernel
theorem dX0_hang_62 : decode cX0_hang 62 = .ok (.baload, 1) := by decide +kernel
theorem dX0_hang_63 : decode cX0_hang 63 = .ok (.istore 4, 2) := by decide +kernel
theorem dX0_hang_65 : decode cX0_hang 65 = .ok (.goto (-27), 3) := by decide +kernel
end
section
set_option maxRecDepth 100000
theorem dX0_hang_68 : decode cX0_hang 68 = .ok (.aload_n 0, 1) := by decide +kernel
theorem dX0_hang_69 : decode cX0_hang 69 = .ok (.getfield 57, 3) := by decide +kernel
theorem dX0_hang_72 : decode cX0_hang 72 = .ok (.iload_n 1, 1) := by decide +kernel
theorem dX0_hang_73 : decode cX0_hang 73 = .ok (.iload 4, 2) := by decide +kernel
theorem dX0_hang_75 : decode cX0_hang 75 = .ok (.i2b, 1) := by decide +kernel
theorem dX0_hang_76 : decode cX0_hang 76 = .ok (.bastore, 1) := by decide +kernel
theorem dX0_hang_77 : decode cX0_hang 77 = .ok (.iload_n 3, 1) := by decide +kernel
theorem dX0_hang_78 : decode cX0_hang 78 = .ok (.ifCond .ge 14, 3) := by decide +kernel
theorem dX0_hang_81 : decode cX0_hang 81 = .ok (.aload_n 0, 1) := by decide +kernel
theorem dX0_hang_82 : decode cX0_hang 82 = .ok (.getfield 54, 3) := by decide +kernel
theorem dX0_hang_85 : decode cX0_hang 85 = .ok (.iload_n 2, 1) := by decide +kernel
theorem dX0_hang_86 : decode cX0_hang 86 = .ok (.iload_n 1, 1) := by decide +kernel
theorem dX0_hang_87 : decode cX0_hang 87 = .ok (.i2b, 1) := by decide +kernel
theorem dX0_hang_88 : decode cX0_hang 88 = .ok (.bastore, 1) := by decide +kernel
theorem dX0_hang_89 : decode cX0_hang 89 = .ok (.goto 11, 3) := by decide +kernel
theorem dX0_hang_92 : decode cX0_hang 92 = .ok (.aload_n 0, 1) := by decide +kernel
theorem dX0_hang_93 : decode cX0_hang 93 = .ok (.getfield 57, 3) := by decide +kernel
theorem dX0_hang_96 : decode cX0_hang 96 = .ok (.iload_n 3, 1) := by decide +kernel
theorem dX0_hang_97 : decode cX0_hang 97 = .ok (.iload_n 1, 1) := by decide +kernel
theorem dX0_hang_98 : decode cX0_hang 98 = .ok (.i2b, 1) := by decide +kernel
theorem dX0_hang_99 : decode cX0_hang 99 = .ok (.bastore, 1) := by decide +kernel
theorem dX0_hang_100 : decode cX0_hang 100 = .ok (.return_, 1) := by decide +kernel
theorem dX0_slotOf_0 : decode cX0_slotOf 0 = .ok (.iload_n 1, 1) := by decide +kernel
theorem dX0_slotOf_1 : decode cX0_slotOf 1 = .ok (.iload_n 1, 1) := by decide +kernel
theorem dX0_slotOf_2 : decode cX0_slotOf 2 = .ok (.iconst 3, 1) := by decide +kernel
theorem dX0_slotOf_3 : decode cX0_slotOf 3 = .ok (.ishr, 1) := by decide +kernel
theorem dX0_slotOf_4 : decode cX0_slotOf 4 = .ok (.ixor, 1) := by decide +kernel
theorem dX0_slotOf_5 : decode cX0_slotOf 5 = .ok (.iload_n 1, 1) := by decide +kernel
theorem dX0_slotOf_6 : decode cX0_slotOf 6 = .ok (.bipush 8, 2) := by decide +kernel
theorem dX0_slotOf_8 : decode cX0_slotOf 8 = .ok (.ishr, 1) := by decide +kernel
theorem dX0_slotOf_9 : decode cX0_slotOf 9 = .ok (.ixor, 1) := by decide +kernel
theorem dX0_slotOf_10 : decode cX0_slotOf 10 = .ok (.iload_n 1, 1) := by decide +kernel
theorem dX0_slotOf_11 : decode cX0_slotOf 11 = .ok (.bipush 11, 2) := by decide +kernel
theorem dX0_slotOf_13 : decode cX0_slotOf 13 = .ok (.ishr, 1) := by decide +kernel
theorem dX0_slotOf_14 : decode cX0_slotOf 14 = .ok (.ixor, 1) := by decide +kernel
theorem dX0_slotOf_15 : decode cX0_slotOf 15 = .ok (.bipush 7, 2) := by decide +kernel
theorem dX0_slotOf_17 : decode cX0_slotOf 17 = .ok (.iand, 1) := by decide +kernel
theorem dX0_slotOf_18 : decode cX0_slotOf 18 = .ok (.ireturn, 1) := by decide +kernel
theorem dX0_precedes_0 : decode cX0_precedes 0 = .ok (.aload_n 0, 1) := by decide +kernel
theorem dX0_precedes_1 : decode cX0_precedes 1 = .ok (.iload_n 1, 1) := by decide +kernel
theorem dX0_precedes_2 : decode cX0_precedes 2 = .ok (.invokevirtual 130, 3) := by decide +kernel
theorem dX0_precedes_5 : decode cX0_precedes 5 = .ok (.istore_n 3, 1) := by decide +kernel
theorem dX0_precedes_6 : decode cX0_precedes 6 = .ok (.aload_n 0, 1) := by decide +kernel
theorem dX0_precedes_7 : decode cX0_precedes 7 = .ok (.iload_n 2, 1) := by decide +kernel
theorem dX0_precedes_8 : decode cX0_precedes 8 = .ok (.invokevirtual 130, 3) := by decide +kernel
theorem dX0_precedes_11 : decode cX0_precedes 11 = .ok (.istore 4, 2) := by decide +kernel
theorem dX0_precedes_13 : decode cX0_precedes 13 = .ok (.iload_n 3, 1) := by decide +kernel
theorem dX0_precedes_14 : decode cX0_precedes 14 = .ok (.iload 4, 2) := by decide +kernel
theorem dX0_precedes_16 : decode cX0_precedes 16 = .ok (.if_icmp .gt 24, 3) := by decide +kernel
theorem dX0_precedes_19 : decode cX0_precedes 19 = .ok (.iload_n 3, 1) := by decide +kernel
theorem dX0_precedes_20 : decode cX0_precedes 20 = .ok (.iload 4, 2) := by decide +kernel
theorem dX0_precedes_22 : decode cX0_precedes 22 = .ok (.if_icmp .ne 22, 3) := by decide +kernel
theorem dX0_precedes_25 : decode cX0_precedes 25 = .ok (.aload_n 0, 1) := by decide +kernel
theorem dX0_precedes_26 : decode cX0_precedes 26 = .ok (.getfield 20, 3) := by decide +kernel
theorem dX0_precedes_29 : decode cX0_precedes 29 = .ok (.iload_n 1, 1) := by decide +kernel
theorem dX0_precedes_30 : decode cX0_precedes 30 = .ok (.iaload, 1) := by decide +kernel
theorem dX0_precedes_31 : decode cX0_precedes 31 = .ok (.aload_n 0, 1) := by decide +kernel
theorem dX0_precedes_32 : decode cX0_precedes 32 = .ok (.getfield 20, 3) := by decide +kernel
theorem dX0_precedes_35 : decode cX0_precedes 35 = .ok (.iload_n 2, 1) := by decide +kernel
theorem dX0_precedes_36 : decode cX0_precedes 36 = .ok (.iaload, 1) := by decide +kernel
theorem dX0_precedes_37 : decode cX0_precedes 37 = .ok (.if_icmp .ge 7, 3) := by decide +kernel
theorem dX0_precedes_40 : decode cX0_precedes 40 = .ok (.iconst 1, 1) := by decide +kernel
theorem dX0_precedes_41 : decode cX0_precedes 41 = .ok (.goto 4, 3) := by decide +kernel
theorem dX0_precedes_44 : decode cX0_precedes 44 = .ok (.iconst 0, 1) := by decide +kernel
theorem dX0_precedes_45 : decode cX0_precedes 45 = .ok (.ireturn, 1) := by decide +kernel
theorem dX0_process_0 : decode cX0_process 0 = .ok (.aload_n 0, 1) := by decide +kernel
theorem dX0_process_1 : decode cX0_process 1 = .ok (.invokevirtual 84, 3) := by decide +kernel
theorem dX0_process_4 : decode cX0_process 4 = .ok (.istore_n 1, 1) := by decide +kernel
theorem dX0_process_5 : decode cX0_process 5 = .ok (.aload_n 0, 1) := by decide +kernel
theorem dX0_process_6 : decode cX0_process 6 = .ok (.iload_n 1, 1) := by decide +kernel
theorem dX0_process_7 : decode cX0_process 7 = .ok (.ifCond .ge 12, 3) := by decide +kernel
theorem dX0_process_10 : decode cX0_process 10 = .ok (.aload_n 0, 1) := by decide +kernel
theorem dX0_process_11 : decode cX0_process 11 = .ok (.getfield 7, 3) := by decide +kernel
theorem dX0_process_14 : decode cX0_process 14 = .ok (.iconst 0, 1) := by decide +kernel
theorem dX0_process_15 : decode cX0_process 15 = .ok (.iaload, 1) := by decide +kernel
theorem dX0_process_16 : decode cX0_process 16 = .ok (.goto 9, 3) := by decide +kernel
theorem dX0_process_19 : decode cX0_process 19 = .ok (.aload_n 0, 1) := by decide +kernel
theorem dX0_process_20 : decode cX0_process 20 = .ok (.getfield 23, 3) := by decide +kernel
theorem dX0_process_23 : decode cX0_process 23 = .ok (.iload_n 1, 1) := by decide +kernel
theorem dX0_process_24 : decode cX0_process 24 = .ok (.iaload, 1) := by decide +kernel
theorem dX0_process_25 : decode cX0_process 25 = .ok (.invokevirtual 91, 3) := by decide +kernel
theorem dX0_process_28 : decode cX0_process 28 = .ok (.istore_n 2, 1) := by decide +kernel
theorem dX0_process_29 : decode cX0_process 29 = .ok (.iload_n 2, 1) := by decide +kernel
theorem dX0_process_30 : decode cX0_process 30 = .ok (.ifCond .ne 5, 3) := by decide +kernel
theorem dX0_process_33 : decode cX0_process 33 = .ok (.iconst 0, 1) := by decide +kernel
theorem dX0_process_34 : decode cX0_process 34 = .ok (.ireturn, 1) := by decide +kernel
theorem dX0_process_35 : decode cX0_process 35 = .ok (.aload_n 0, 1) := by decide +kernel
theorem dX0_process_36 : decode cX0_process 36 = .ok (.invokevirtual 88, 3) := by decide +kernel
theorem dX0_process_39 : decode cX0_process 39 = .ok (.istore_n 3, 1) := by decide +kernel
theorem dX0_process_40 : decode cX0_process 40 = .ok (.aload_n 0, 1) := by decide +kernel
theorem dX0_process_41 : decode cX0_process 41 = .ok (.iload_n 3, 1) := by decide +kernel
theorem dX0_process_42 : decode cX0_process 42 = .ok (.ifCond .ge 12, 3) := by decide +kernel
theorem dX0_process_45 : decode cX0_process 45 = .ok (.aload_n 0, 1) := by decide +kernel
theorem dX0_process_46 : decode cX0_process 46 = .ok (.getfield 7, 3) := by decide +kernel
theorem dX0_process_49 : decode cX0_process 49 = .ok (.iconst 1, 1) := by decide +kernel
theorem dX0_process_50 : decode cX0_process 50 = .ok (.iaload, 1) := by decide +kernel
theorem dX0_process_51 : decode cX0_process 51 = .ok (.goto 9, 3) := by decide +kernel
theorem dX0_process_54 : decode cX0_process 54 = .ok (.aload_n 0, 1) := by decide +kernel
theorem dX0_process_55 : decode cX0_process 55 = .ok (.getfield 23, 3) := by decide +kernel
theorem dX0_process_58 : decode cX0_process 58 = .ok (.iload_n 3, 1) := by decide +kernel
theorem dX0_process_59 : decode cX0_process 59 = .ok (.iaload, 1) := by decide +kernel
theorem dX0_process_60 : decode cX0_process 60 = .ok (.invokevirtual 91, 3) := by decide +kernel
theorem dX0_process_63 : decode cX0_process 63 = .ok (.ifCond .eq 7, 3) := by decide +kernel
theorem dX0_process_66 : decode cX0_process 66 = .ok (.iconst 1, 1) := by decide +kernel
theorem dX0_process_67 : decode cX0_process 67 = .ok (.goto 4, 3) := by decide +kernel
theorem dX0_process_70 : decode cX0_process 70 = .ok (.iconst 0, 1) := by decide +kernel
theorem dX0_process_71 : decode cX0_process 71 = .ok (.ireturn, 1) := by decide +kernel
theorem dX0_perform_0 : decode cX0_perform 0 = .ok (.iload_n 1, 1) := by decide +kernel
theorem dX0_perform_1 : decode cX0_perform 1 = .ok (.bipush 7, 2) := by decide +kernel
theorem dX0_perform_3 : decode cX0_perform 3 = .ok (.iand, 1) := by decide +kernel
theorem dX0_perform_4 : decode cX0_perform 4 = .ok (.istore_n 2, 1) := by decide +kernel
theorem dX0_perform_5 : decode cX0_perform 5 = .ok (.iload_n 1, 1) := by decide +kernel
theorem dX0_perform_6 : decode cX0_perform 6 = .ok (.iconst 3, 1) := by decide +kernel
theorem dX0_perform_7 : decode cX0_perform 7 = .ok (.ishr, 1) := by decide +kernel
theorem dX0_perform_8 : decode cX0_perform 8 = .ok (.iconst 3, 1) := by decide +kernel
theorem dX0_perform_9 : decode cX0_perform 9 = .ok (.iand, 1) := by decide +kernel
theorem dX0_perform_10 : decode cX0_perform 10 = .ok (.istore_n 3, 1) := by decide +kernel
theorem dX0_perform_11 : decode cX0_perform 11 = .ok (.iload_n 1, 1) := by decide +kernel
theorem dX0_perform_12 : decode cX0_perform 12 = .ok (.iconst 5, 1) := by decide +kernel
theorem dX0_perform_13 : decode cX0_perform 13 = .ok (.ishr, 1) := by decide +kernel
theorem dX0_perform_14 : decode cX0_perform 14 = .ok (.istore 4, 2) := by decide +kernel
theorem dX0_perform_16 : decode cX0_perform 16 = .ok (.iload_n 2, 1) := by decide +kernel
theorem dX0_perform_17 : decode cX0_perform 17 = .ok (.ifCond .ne 11, 3) := by decide +kernel
theorem dX0_perform_20 : decode cX0_perform 20 = .ok (.aload_n 0, 1) := by decide +kernel
theorem dX0_perform_21 : decode cX0_perform 21 = .ok (.getfield 13, 3) := by decide +kernel
theorem dX0_perform_24 : decode cX0_perform 24 = .ok (.iload_n 3, 1) := by decide +kernel
theorem dX0_perform_25 : decode cX0_perform 25 = .ok (.iload 4, 2) := by decide +kernel
theorem dX0_perform_27 : decode cX0_perform 27 = .ok (.iastore, 1) := by decide +kernel
theorem dX0_perform_28 : decode cX0_perform 28 = .ok (.iload_n 2, 1) := by decide +kernel
theorem dX0_perform_29 : decode cX0_perform 29 = .ok (.iconst 1, 1) := by decide +kernel
theorem dX0_perform_30 : decode cX0_perform 30 = .ok (.if_icmp .ne 22, 3) := by decide +kernel
theorem dX0_perform_33 : decode cX0_perform 33 = .ok (.aload_n 0, 1) := by decide +kernel
theorem dX0_perform_34 : decode cX0_perform 34 = .ok (.getfield 13, 3) := by decide +kernel
theorem dX0_perform_37 : decode cX0_perform 37 = .ok (.iload_n 3, 1) := by decide +kernel
theorem dX0_perform_38 : decode cX0_perform 38 = .ok (.aload_n 0, 1) := by decide +kernel
theorem dX0_perform_39 : decode cX0_perform 39 = .ok (.getfield 13, 3) := by decide +kernel
theorem dX0_perform_42 : decode cX0_perform 42 = .ok (.iload_n 3, 1) := by decide +kernel
theorem dX0_perform_43 : decode cX0_perform 43 = .ok (.iaload, 1) := by decide +kernel
theorem dX0_perform_44 : decode cX0_perform 44 = .ok (.iload 4, 2) := by decide +kernel
theorem dX0_perform_46 : decode cX0_perform 46 = .ok (.iadd, 1) := by decide +kernel
theorem dX0_perform_47 : decode cX0_perform 47 = .ok (.sipush 255, 3) := by decide +kernel
theorem dX0_perform_50 : decode cX0_perform 50 = .ok (.iand, 1) := by decide +kernel
theorem dX0_perform_51 : decode cX0_perform 51 = .ok (.iastore, 1) := by decide +kernel
theorem dX0_perform_52 : decode cX0_perform 52 = .ok (.iload_n 2, 1) := by decide +kernel
theorem dX0_perform_53 : decode cX0_perform 53 = .ok (.iconst 2, 1) := by decide +kernel
theorem dX0_perform_54 : decode cX0_perform 54 = .ok (.if_icmp .ne 18, 3) := by decide +kernel
theorem dX0_perform_57 : decode cX0_perform 57 = .ok (.aload_n 0, 1) := by decide +kernel
theorem dX0_perform_58 : decode cX0_perform 58 = .ok (.getfield 13, 3) := by decide +kernel
theorem dX0_perform_61 : decode cX0_perform 61 = .ok (.iload_n 3, 1) := by decide +kernel
theorem dX0_perform_62 : decode cX0_perform 62 = .ok (.aload_n 0, 1) := by decide +kernel
theorem dX0_perform_63 : decode cX0_perform 63 = .ok (.getfield 13, 3) := by decide +kernel
theorem dX0_perform_66 : decode cX0_perform 66 = .ok (.iload 4, 2) := by decide +kernel
theorem dX0_perform_68 : decode cX0_perform 68 = .ok (.iconst 3, 1) := by decide +kernel
theorem dX0_perform_69 : decode cX0_perform 69 = .ok (.iand, 1) := by decide +kernel
theorem dX0_perform_70 : decode cX0_perform 70 = .ok (.iaload, 1) := by decide +kernel
theorem dX0_perform_71 : decode cX0_perform 71 = .ok (.iastore, 1) := by decide +kernel
theorem dX0_perform_72 : decode cX0_perform 72 = .ok (.iload_n 2, 1) := by decide +kernel
theorem dX0_perform_73 : decode cX0_perform 73 = .ok (.iconst 4, 1) := by decide +kernel
theorem dX0_perform_74 : decode cX0_perform 74 = .ok (.if_icmp .eq 7, 3) := by decide +kernel
theorem dX0_perform_77 : decode cX0_perform 77 = .ok (.iconst 1, 1) := by decide +kernel
theorem dX0_perform_78 : decode cX0_perform 78 = .ok (.goto 4, 3) := by decide +kernel
theorem dX0_perform_81 : decode cX0_perform 81 = .ok (.iconst 0, 1) := by decide +kernel
theorem dX0_perform_82 : decode cX0_perform 82 = .ok (.ireturn, 1) := by decide +kernel
theorem dX0_matching_0 : decode cX0_matching 0 = .ok (.iload_n 1, 1) := by decide +kernel
theorem dX0_matching_1 : decode cX0_matching 1 = .ok (.ifCond .lt 8, 3) := by decide +kernel
theorem dX0_matching_4 : decode cX0_matching 4 = .ok (.iload_n 1, 1) := by decide +kernel
theorem dX0_matching_5 : decode cX0_matching 5 = .ok (.iconst 1, 1) := by decide +kernel
theorem dX0_matching_6 : decode cX0_matching 6 = .ok (.if_icmp .le 5, 3) := by decide +kernel
theorem dX0_matching_9 : decode cX0_matching 9 = .ok (.iconst (-1), 1) := by decide +kernel
theorem dX0_matching_10 : decode cX0_matching 10 = .ok (.ireturn, 1) := by decide +kernel
theorem dX0_matching_11 : decode cX0_matching 11 = .ok (.iload_n 1, 1) := by decide +kernel
theorem dX0_matching_12 : decode cX0_matching 12 = .ok (.ifCond .ne 10, 3) := by decide +kernel
theorem dX0_matching_15 : decode cX0_matching 15 = .ok (.aload_n 0, 1) := by decide +kernel
theorem dX0_matching_16 : decode cX0_matching 16 = .ok (.invokevirtual 95, 3) := by decide +kernel
theorem dX0_matching_19 : decode cX0_matching 19 = .ok (.goto 7, 3) := by decide +kernel
theorem dX0_matching_22 : decode cX0_matching 22 = .ok (.aload_n 0, 1) := by decide +kernel
theorem dX0_matching_23 : decode cX0_matching 23 = .ok (.invokevirtual 98, 3) := by decide +kernel
theorem dX0_matching_26 : decode cX0_matching 26 = .ok (.ireturn, 1) := by decide +kernel
theorem dX0_prefixesOnWay_0 : decode cX0_prefixesOnWay 0 = .ok (.aload_n 0, 1) := by decide +kernel
theorem dX0_prefixesOnWay_1 : decode cX0_prefixesOnWay 1 = .ok (.invokevirtual 111, 3) := by decide +kernel
theorem dX0_prefixesOnWay_4 : decode cX0_prefixesOnWay 4 = .ok (.iconst 0, 1) := by decide +kernel
theorem dX0_prefixesOnWay_5 : decode cX0_prefixesOnWay 5 = .ok (.istore_n 1, 1) := by decide +kernel
theorem dX0_prefixesOnWay_6 : decode cX0_prefixesOnWay 6 = .ok (.iconst 0, 1) := by decide +kernel
theorem dX0_prefixesOnWay_7 : decode cX0_prefixesOnWay 7 = .ok (.istore_n 2, 1) := by decide +kernel
theorem dX0_prefixesOnWay_8 : decode cX0_prefixesOnWay 8 = .ok (.bipush 7, 2) := by decide +kernel
theorem dX0_prefixesOnWay_10 : decode cX0_prefixesOnWay 10 = .ok (.istore_n 3, 1) := by decide +kernel
theorem dX0_prefixesOnWay_11 : decode cX0_prefixesOnWay 11 = .ok (.iload_n 2, 1) := by decide +kernel
theorem dX0_prefixesOnWay_12 : decode cX0_prefixesOnWay 12 = .ok (.ifCond .lt 46, 3) := by decide +kernel
theorem dX0_prefixesOnWay_15 : decode cX0_prefixesOnWay 15 = .ok (.iload_n 1, 1) := by decide +kernel
theorem dX0_prefixesOnWay_16 : decode cX0_prefixesOnWay 16 = .ok (.aload_n 0, 1) := by decide +kernel
theorem dX0_prefixesOnWay_17 : decode cX0_prefixesOnWay 17 = .ok (.getfield 39, 3) := by decide +kernel
theorem dX0_prefixesOnWay_20 : decode cX0_prefixesOnWay 20 = .ok (.iload_n 2, 1) := by decide +kernel
theorem dX0_prefixesOnWay_21 : decode cX0_prefixesOnWay 21 = .ok (.baload, 1) := by decide +kernel
theorem dX0_prefixesOnWay_22 : decode cX0_prefixesOnWay 22 = .ok (.iadd, 1) := by decide +kernel
theorem dX0_prefixesOnWay_23 : decode cX0_prefixesOnWay 23 = .ok (.istore_n 1, 1) := by decide +kernel
theorem dX0_prefixesOnWay_24 : decode cX0_prefixesOnWay 24 = .ok (.iload_n 3, 1) := by decide +kernel
theorem dX0_prefixesOnWay_25 : decode cX0_prefixesOnWay 25 = .ok (.ifCond .ge 7, 3) := by decide +kernel
theorem dX0_prefixesOnWay_28 : decode cX0_prefixesOnWay 28 = .ok (.iconst (-1), 1) := by decide +kernel
theorem dX0_prefixesOnWay_29 : decode cX0_prefixesOnWay 29 = .ok (.goto 22, 3) := by decide +kernel
theorem dX0_prefixesOnWay_32 : decode cX0_prefixesOnWay 32 = .ok (.aload_n 0, 1) := by decide +kernel
theorem dX0_prefixesOnWay_33 : decode cX0_prefixesOnWay 33 = .ok (.getfield 32, 3) := by decide +kernel
theorem dX0_prefixesOnWay_36 : decode cX0_prefixesOnWay 36 = .ok (.iconst 2, 1) := by decide +kernel
theorem dX0_prefixesOnWay_37 : decode cX0_prefixesOnWay 37 = .ok (.iload_n 2, 1) := by decide +kernel
theorem dX0_prefixesOnWay_38 : decode cX0_prefixesOnWay 38 = .ok (.imul, 1) := by decide +kernel
theorem dX0_prefixesOnWay_39 : decode cX0_prefixesOnWay 39 = .ok (.aload_n 0, 1) := by decide +kernel
theorem dX0_prefixesOnWay_40 : decode cX0_prefixesOnWay 40 = .ok (.getfield 13, 3) := by decide +kernel
theorem dX0_prefixesOnWay_43 : decode cX0_prefixesOnWay 43 = .ok (.iconst 0, 1) := by decide +kernel
theorem dX0_prefixesOnWay_44 : decode cX0_prefixesOnWay 44 = .ok (.iaload, 1) := by decide +kernel
theorem dX0_prefixesOnWay_45 : decode cX0_prefixesOnWay 45 = .ok (.iload_n 3, 1) := by decide +kernel
theorem dX0_prefixesOnWay_46 : decode cX0_prefixesOnWay 46 = .ok (.ishr, 1) := by decide +kernel
theorem dX0_prefixesOnWay_47 : decode cX0_prefixesOnWay 47 = .ok (.iconst 1, 1) := by decide +kernel
theorem dX0_prefixesOnWay_48 : decode cX0_prefixesOnWay 48 = .ok (.iand, 1) := by decide +kernel
theorem dX0_prefixesOnWay_49 : decode cX0_prefixesOnWay 49 = .ok (.iadd, 1) := by decide +kernel
theorem dX0_prefixesOnWay_50 : decode cX0_prefixesOnWay 50 = .ok (.saload, 1) := by decide +kernel
theorem dX0_prefixesOnWay_51 : decode cX0_prefixesOnWay 51 = .ok (.istore_n 2, 1) := by decide +kernel
theorem dX0_prefixesOnWay_52 : decode cX0_prefixesOnWay 52 = .ok (.iinc 3 (-1), 3) := by decide +kernel
theorem dX0_prefixesOnWay_55 : decode cX0_prefixesOnWay 55 = .ok (.goto (-44), 3) := by decide +kernel
theorem dX0_prefixesOnWay_58 : decode cX0_prefixesOnWay 58 = .ok (.iload_n 1, 1) := by decide +kernel
theorem dX0_prefixesOnWay_59 : decode cX0_prefixesOnWay 59 = .ok (.ireturn, 1) := by decide +kernel
theorem dX0_maskedMatching_0 : decode cX0_maskedMatching 0 = .ok (.aload_n 0, 1) := by decide +kernel
theorem dX0_maskedMatching_1 : decode cX0_maskedMatching 1 = .ok (.invokevirtual 140, 3) := by decide +kernel
theorem dX0_maskedMatching_4 : decode cX0_maskedMatching 4 = .ok (.aload_n 0, 1) := by decide +kernel
theorem dX0_maskedMatching_5 : decode cX0_maskedMatching 5 = .ok (.getfield 13, 3) := by decide +kernel
theorem dX0_maskedMatching_8 : decode cX0_maskedMatching 8 = .ok (.iconst 1, 1) := by decide +kernel
theorem dX0_maskedMatching_9 : decode cX0_maskedMatching 9 = .ok (.iaload, 1) := by decide +kernel
theorem dX0_maskedMatching_10 : decode cX0_maskedMatching 10 = .ok (.bipush 8, 2) := by decide +kernel
theorem dX0_maskedMatching_12 : decode cX0_maskedMatching 12 = .ok (.ishl, 1) := by decide +kernel
theorem dX0_maskedMatching_13 : decode cX0_maskedMatching 13 = .ok (.aload_n 0, 1) := by decide +kernel
theorem dX0_maskedMatching_14 : decode cX0_maskedMatching 14 = .ok (.getfield 13, 3) := by decide +kernel
theorem dX0_maskedMatching_17 : decode cX0_maskedMatching 17 = .ok (.iconst 2, 1) := by decide +kernel
theorem dX0_maskedMatching_18 : decode cX0_maskedMatching 18 = .ok (.iaload, 1) := by decide +kernel
theorem dX0_maskedMatching_19 : decode cX0_maskedMatching 19 = .ok (.ior, 1) := by decide +kernel
theorem dX0_maskedMatching_20 : decode cX0_maskedMatching 20 = .ok (.istore_n 1, 1) := by decide +kernel
theorem dX0_maskedMatching_21 : decode cX0_maskedMatching 21 = .ok (.iconst 0, 1) := by decide +kernel
theorem dX0_maskedMatching_22 : decode cX0_maskedMatching 22 = .ok (.istore_n 2, 1) := by decide +kernel
theorem dX0_maskedMatching_23 : decode cX0_maskedMatching 23 = .ok (.iconst 0, 1) := by decide +kernel
theorem dX0_maskedMatching_24 : decode cX0_maskedMatching 24 = .ok (.istore_n 3, 1) := by decide +kernel
theorem dX0_maskedMatching_25 : decode cX0_maskedMatching 25 = .ok (.iload_n 3, 1) := by decide +kernel
theorem dX0_maskedMatching_26 : decode cX0_maskedMatching 26 = .ok (.aload_n 0, 1) := by decide +kernel
theorem dX0_maskedMatching_27 : decode cX0_maskedMatching 27 = .ok (.getfield 114, 3) := by decide +kernel
theorem dX0_maskedMatching_30 : decode cX0_maskedMatching 30 = .ok (.if_icmp .ge 72, 3) := by decide +kernel
theorem dX0_maskedMatching_33 : decode cX0_maskedMatching 33 = .ok (.iload_n 1, 1) := by decide +kernel
theorem dX0_maskedMatching_34 : decode cX0_maskedMatching 34 = .ok (.aload_n 0, 1) := by decide +kernel
theorem dX0_maskedMatching_35 : decode cX0_maskedMatching 35 = .ok (.getfield 48, 3) := by decide +kernel
theorem dX0_maskedMatching_38 : decode cX0_maskedMatching 38 = .ok (.iload_n 3, 1) := by decide +kernel
theorem dX0_maskedMatching_39 : decode cX0_maskedMatching 39 = .ok (.iaload, 1) := by decide +kernel
theorem dX0_maskedMatching_40 : decode cX0_maskedMatching 40 = .ok (.iand, 1) := by decide +kernel
theorem dX0_maskedMatching_41 : decode cX0_maskedMatching 41 = .ok (.istore 4, 2) := by decide +kernel
theorem dX0_maskedMatching_43 : decode cX0_maskedMatching 43 = .ok (.aload_n 0, 1) := by decide +kernel
theorem dX0_maskedMatching_44 : decode cX0_maskedMatching 44 = .ok (.getfield 54, 3) := by decide +kernel
theorem dX0_maskedMatching_47 : decode cX0_maskedMatching 47 = .ok (.bipush 8, 2) := by decide +kernel
theorem dX0_maskedMatching_49 : decode cX0_maskedMatching 49 = .ok (.iload_n 3, 1) := by decide +kernel
theorem dX0_maskedMatching_50 : decode cX0_maskedMatching 50 = .ok (.imul, 1) := by decide +kernel
theorem dX0_maskedMatching_51 : decode cX0_maskedMatching 51 = .ok (.aload_n 0, 1) := by decide +kernel
theorem dX0_maskedMatching_52 : decode cX0_maskedMatching 52 = .ok (.iload 4, 2) := by decide +kernel
theorem dX0_maskedMatching_54 : decode cX0_maskedMatching 54 = .ok (.invokevirtual 133, 3) := by decide +kernel
theorem dX0_maskedMatching_57 : decode cX0_maskedMatching 57 = .ok (.iadd, 1) := by decide +kernel
theorem dX0_maskedMatching_58 : decode cX0_maskedMatching 58 = .ok (.baload, 1) := by decide +kernel
theorem dX0_maskedMatching_59 : decode cX0_maskedMatching 59 = .ok (.istore 5, 2) := by decide +kernel
theorem dX0_maskedMatching_61 : decode cX0_maskedMatching 61 = .ok (.iload 5, 2) := by decide +kernel
theorem dX0_maskedMatching_63 : decode cX0_maskedMatching 63 = .ok (.ifCond .lt 33, 3) := by decide +kernel
theorem dX0_maskedMatching_66 : decode cX0_maskedMatching 66 = .ok (.aload_n 0, 1) := by decide +kernel
theorem dX0_maskedMatching_67 : decode cX0_maskedMatching 67 = .ok (.getfield 26, 3) := by decide +kernel
theorem dX0_maskedMatching_70 : decode cX0_maskedMatching 70 = .ok (.iload 5, 2) := by decide +kernel
theorem dX0_maskedMatching_72 : decode cX0_maskedMatching 72 = .ok (.iaload, 1) := by decide +kernel
theorem dX0_maskedMatching_73 : decode cX0_maskedMatching 73 = .ok (.ldc 72, 2) := by decide +kernel
theorem dX0_maskedMatching_75 : decode cX0_maskedMatching 75 = .ok (.iand, 1) := by decide +kernel
theorem dX0_maskedMatching_76 : decode cX0_maskedMatching 76 = .ok (.iload 4, 2) := by decide +kernel
theorem dX0_maskedMatching_78 : decode cX0_maskedMatching 78 = .ok (.if_icmp .ne 6, 3) := by decide +kernel
theorem dX0_maskedMatching_81 : decode cX0_maskedMatching 81 = .ok (.iinc 2 1, 3) := by decide +kernel
theorem dX0_maskedMatching_84 : decode cX0_maskedMatching 84 = .ok (.aload_n 0, 1) := by decide +kernel
theorem dX0_maskedMatching_85 : decode cX0_maskedMatching 85 = .ok (.getfield 57, 3) := by decide +kernel
theorem dX0_maskedMatching_88 : decode cX0_maskedMatching 88 = .ok (.iload 5, 2) := by decide +kernel
theorem dX0_maskedMatching_90 : decode cX0_maskedMatching 90 = .ok (.baload, 1) := by decide +kernel
theorem dX0_maskedMatching_91 : decode cX0_maskedMatching 91 = .ok (.istore 5, 2) := by decide +kernel
theorem dX0_maskedMatching_93 : decode cX0_maskedMatching 93 = .ok (.goto (-32), 3) := by decide +kernel
theorem dX0_maskedMatching_96 : decode cX0_maskedMatching 96 = .ok (.iinc 3 1, 3) := by decide +kernel
theorem dX0_maskedMatching_99 : decode cX0_maskedMatching 99 = .ok (.goto (-74), 3) := by decide +kernel
theorem dX0_maskedMatching_102 : decode cX0_maskedMatching 102 = .ok (.iload_n 2, 1) := by decide +kernel
theorem dX0_maskedMatching_103 : decode cX0_maskedMatching 103 = .ok (.ireturn, 1) := by decide +kernel
theorem dX0_owned_0 : decode cX0_owned 0 = .ok (.aload_n 0, 1) := by decide +kernel
theorem dX0_owned_1 : decode cX0_owned 1 = .ok (.iload_n 1, 1) := by decide +kernel
theorem dX0_owned_2 : decode cX0_owned 2 = .ok (.invokevirtual 80, 3) := by decide +kernel
theorem dX0_owned_5 : decode cX0_owned 5 = .ok (.istore_n 2, 1) := by decide +kernel
theorem dX0_owned_6 : decode cX0_owned 6 = .ok (.iload_n 2, 1) := by decide +kernel
theorem dX0_owned_7 : decode cX0_owned 7 = .ok (.ifCond .lt 9, 3) := by decide +kernel
theorem dX0_owned_10 : decode cX0_owned 10 = .ok (.iload_n 2, 1) := by decide +kernel
theorem dX0_owned_11 : decode cX0_owned 11 = .ok (.bipush 16, 2) := by decide +kernel
theorem dX0_owned_13 : decode cX0_owned 13 = .ok (.if_icmp .lt 6, 3) := by decide +kernel
theorem dX0_owned_16 : decode cX0_owned 16 = .ok (.bipush (-3), 2) := by decide +kernel
theorem dX0_owned_18 : decode cX0_owned 18 = .ok (.ireturn, 1) := by decide +kernel
theorem dX0_owned_19 : decode cX0_owned 19 = .ok (.aload_n 0, 1) := by decide +kernel
theorem dX0_owned_20 : decode cX0_owned 20 = .ok (.invokevirtual 111, 3) := by decide +kernel
theorem dX0_owned_23 : decode cX0_owned 23 = .ok (.aload_n 0, 1) := by decide +kernel
theorem dX0_owned_24 : decode cX0_owned 24 = .ok (.aload_n 0, 1) := by decide +kernel
theorem dX0_owned_25 : decode cX0_owned 25 = .ok (.getfield 26, 3) := by decide +kernel
theorem dX0_owned_28 : decode cX0_owned 28 = .ok (.iload_n 2, 1) := by decide +kernel
theorem dX0_owned_29 : decode cX0_owned 29 = .ok (.iaload, 1) := by decide +kernel
theorem dX0_owned_30 : decode cX0_owned 30 = .ok (.aload_n 0, 1) := by decide +kernel
theorem dX0_owned_31 : decode cX0_owned 31 = .ok (.getfield 29, 3) := by decide +kernel
theorem dX0_owned_34 : decode cX0_owned 34 = .ok (.iload_n 2, 1) := by decide +kernel
theorem dX0_owned_35 : decode cX0_owned 35 = .ok (.iaload, 1) := by decide +kernel
theorem dX0_owned_36 : decode cX0_owned 36 = .ok (.invokevirtual 107, 3) := by decide +kernel
theorem dX0_owned_39 : decode cX0_owned 39 = .ok (.istore_n 3, 1) := by decide +kernel
theorem dX0_owned_40 : decode cX0_owned 40 = .ok (.aload_n 0, 1) := by decide +kernel
theorem dX0_owned_41 : decode cX0_owned 41 = .ok (.getfield 36, 3) := by decide +kernel
theorem dX0_owned_44 : decode cX0_owned 44 = .ok (.iload_n 3, 1) := by decide +kernel
theorem dX0_owned_45 : decode cX0_owned 45 = .ok (.baload, 1) := by decide +kernel
theorem dX0_owned_46 : decode cX0_owned 46 = .ok (.iload_n 2, 1) := by decide +kernel
theorem dX0_owned_47 : decode cX0_owned 47 = .ok (.if_icmp .eq 5, 3) := by decide +kernel
theorem dX0_owned_50 : decode cX0_owned 50 = .ok (.iconst 0, 1) := by decide +kernel
theorem dX0_owned_51 : decode cX0_owned 51 = .ok (.ireturn, 1) := by decide +kernel
theorem dX0_owned_52 : decode cX0_owned 52 = .ok (.iconst 0, 1) := by decide +kernel
theorem dX0_owned_53 : decode cX0_owned 53 = .ok (.istore 4, 2) := by decide +kernel
theorem dX0_owned_55 : decode cX0_owned 55 = .ok (.iconst 1, 1) := by decide +kernel
theorem dX0_owned_56 : decode cX0_owned 56 = .ok (.istore 5, 2) := by decide +kernel
theorem dX0_owned_58 : decode cX0_owned 58 = .ok (.aload_n 0, 1) := by decide +kernel
theorem dX0_owned_59 : decode cX0_owned 59 = .ok (.getfield 42, 3) := by decide +kernel
theorem dX0_owned_62 : decode cX0_owned 62 = .ok (.iconst 0, 1) := by decide +kernel
theorem dX0_owned_63 : decode cX0_owned 63 = .ok (.iload_n 3, 1) := by decide +kernel
theorem dX0_owned_64 : decode cX0_owned 64 = .ok (.i2s, 1) := by decide +kernel
theorem dX0_owned_65 : decode cX0_owned 65 = .ok (.sastore, 1) := by decide +kernel
theorem dX0_owned_66 : decode cX0_owned 66 = .ok (.aload_n 0, 1) := by decide +kernel
theorem dX0_owned_67 : decode cX0_owned 67 = .ok (.getfield 45, 3) := by decide +kernel
theorem dX0_owned_70 : decode cX0_owned 70 = .ok (.iconst 0, 1) := by decide +kernel
theorem dX0_owned_71 : decode cX0_owned 71 = .ok (.aload_n 0, 1) := by decide +kernel
theorem dX0_owned_72 : decode cX0_owned 72 = .ok (.getfield 29, 3) := by decide +kernel
theorem dX0_owned_75 : decode cX0_owned 75 = .ok (.iload_n 2, 1) := by decide +kernel
theorem dX0_owned_76 : decode cX0_owned 76 = .ok (.iaload, 1) := by decide +kernel
theorem dX0_owned_77 : decode cX0_owned 77 = .ok (.i2b, 1) := by decide +kernel
theorem dX0_owned_78 : decode cX0_owned 78 = .ok (.bastore, 1) := by decide +kernel
theorem dX0_owned_79 : decode cX0_owned 79 = .ok (.iload 5, 2) := by decide +kernel
theorem dX0_owned_81 : decode cX0_owned 81 = .ok (.ifCond .le 141, 3) := by decide +kernel
theorem dX0_owned_84 : decode cX0_owned 84 = .ok (.iinc 5 (-1), 3) := by decide +kernel
theorem dX0_owned_87 : decode cX0_owned 87 = .ok (.aload_n 0, 1) := by decide +kernel
theorem dX0_owned_88 : decode cX0_owned 88 = .ok (.getfield 42, 3) := by decide +kernel
theorem dX0_owned_91 : decode cX0_owned 91 = .ok (.iload 5, 2) := by decide +kernel
theorem dX0_owned_93 : decode cX0_owned 93 = .ok (.saload, 1) := by decide +kernel
theorem dX0_owned_94 : decode cX0_owned 94 = .ok (.istore 6, 2) := by decide +kernel
theorem dX0_owned_96 : decode cX0_owned 96 = .ok (.aload_n 0, 1) := by decide +kernel
theorem dX0_owned_97 : decode cX0_owned 97 = .ok (.getfield 45, 3) := by decide +kernel
theorem dX0_owned_100 : decode cX0_owned 100 = .ok (.iload 5, 2) := by decide +kernel
theorem dX0_owned_102 : decode cX0_owned 102 = .ok (.baload, 1) := by decide +kernel
theorem dX0_owned_103 : decode cX0_owned 103 = .ok (.istore 7, 2) := by decide +kernel
theorem dX0_owned_105 : decode cX0_owned 105 = .ok (.iload 6, 2) := by decide +kernel
theorem dX0_owned_107 : decode cX0_owned 107 = .ok (.ifCond .ge 18, 3) := by decide +kernel
theorem dX0_owned_110 : decode cX0_owned 110 = .ok (.iload 4, 2) := by decide +kernel
theorem dX0_owned_112 : decode cX0_owned 112 = .ok (.iconst 1, 1) := by decide +kernel
theorem dX0_owned_113 : decode cX0_owned 113 = .ok (.bipush 8, 2) := by decide +kernel
theorem dX0_owned_115 : decode cX0_owned 115 = .ok (.iload 7, 2) := by decide +kernel
theorem dX0_owned_117 : decode cX0_owned 117 = .ok (.isub, 1) := by decide +kernel
theorem dX0_owned_118 : decode cX0_owned 118 = .ok (.ishl, 1) := by decide +kernel
theorem dX0_owned_119 : decode cX0_owned 119 = .ok (.iadd, 1) := by decide +kernel
theorem dX0_owned_120 : decode cX0_owned 120 = .ok (.istore 4, 2) := by decide +kernel
theorem dX0_owned_122 : decode cX0_owned 122 = .ok (.goto 97, 3) := by decide +kernel
theorem dX0_owned_125 : decode cX0_owned 125 = .ok (.iload 6, 2) := by decide +kernel
theorem dX0_owned_127 : decode cX0_owned 127 = .ok (.iload_n 3, 1) := by decide +kernel
theorem dX0_owned_128 : decode cX0_owned 128 = .ok (.if_icmp .eq 13, 3) := by decide +kernel
theorem dX0_owned_131 : decode cX0_owned 131 = .ok (.aload_n 0, 1) := by decide +kernel
theorem dX0_owned_132 : decode cX0_owned 132 = .ok (.getfield 36, 3) := by decide +kernel
theorem dX0_owned_135 : decode cX0_owned 135 = .ok (.iload 6, 2) := by decide +kernel
theorem dX0_owned_137 : decode cX0_owned 137 = .ok (.baload, 1) := by decide +kernel
theorem dX0_owned_138 : decode cX0_owned 138 = .ok (.ifCond .ge 81, 3) := by decide +kernel
theorem dX0_owned_141 : decode cX0_owned 141 = .ok (.iload 7, 2) := by decide +kernel
theorem dX0_owned_143 : decode cX0_owned 143 = .ok (.bipush 8, 2) := by decide +kernel
theorem dX0_owned_145 : decode cX0_owned 145 = .ok (.if_icmp .ne 9, 3) := by decide +kernel
theorem dX0_owned_148 : decode cX0_owned 148 = .ok (.iinc 4 1, 3) := by decide +kernel
theorem dX0_owned_151 : decode cX0_owned 151 = .ok (.goto (-72), 3) := by decide +kernel
theorem dX0_owned_154 : decode cX0_owned 154 = .ok (.aload_n 0, 1) := by decide +kernel
theorem dX0_owned_155 : decode cX0_owned 155 = .ok (.getfield 42, 3) := by decide +kernel
theorem dX0_owned_158 : decode cX0_owned 158 = .ok (.iload 5, 2) := by decide +kernel
theorem dX0_owned_160 : decode cX0_owned 160 = .ok (.aload_n 0, 1) := by decide +kernel
theorem dX0_owned_161 : decode cX0_owned 161 = .ok (.getfield 32, 3) := by decide +kernel
theorem dX0_owned_164 : decode cX0_owned 164 = .ok (.iconst 2, 1) := by decide +kernel
theorem dX0_owned_165 : decode cX0_owned 165 = .ok (.iload 6, 2) := by decide +kernel
theorem dX0_owned_167 : decode cX0_owned 167 = .ok (.imul, 1) := by decide +kernel
theorem dX0_owned_168 : decode cX0_owned 168 = .ok (.saload, 1) := by decide +kernel
theorem dX0_owned_169 : decode cX0_owned 169 = .ok (.sastore, 1) := by decide +kernel
theorem dX0_owned_170 : decode cX0_owned 170 = .ok (.aload_n 0, 1) := by decide +kernel
theorem dX0_owned_171 : decode cX0_owned 171 = .ok (.getfield 45, 3) := by decide +kernel
theorem dX0_owned_174 : decode cX0_owned 174 = .ok (.iload 5, 2) := by decide +kernel
theorem dX0_owned_176 : decode cX0_owned 176 = .ok (.iload 7, 2) := by decide +kernel
theorem dX0_owned_178 : decode cX0_owned 178 = .ok (.iconst 1, 1) := by decide +kernel
theorem dX0_owned_179 : decode cX0_owned 179 = .ok (.iadd, 1) := by decide +kernel
theorem dX0_owned_180 : decode cX0_owned 180 = .ok (.i2b, 1) := by decide +kernel
theorem dX0_owned_181 : decode cX0_owned 181 = .ok (.bastore, 1) := by decide +kernel
theorem dX0_owned_182 : decode cX0_owned 182 = .ok (.aload_n 0, 1) := by decide +kernel
theorem dX0_owned_183 : decode cX0_owned 183 = .ok (.getfield 42, 3) := by decide +kernel
theorem dX0_owned_186 : decode cX0_owned 186 = .ok (.iload 5, 2) := by decide +kernel
theorem dX0_owned_188 : decode cX0_owned 188 = .ok (.iconst 1, 1) := by decide +kernel
theorem dX0_owned_189 : decode cX0_owned 189 = .ok (.iadd, 1) := by decide +kernel
theorem dX0_owned_190 : decode cX0_owned 190 = .ok (.aload_n 0, 1) := by decide +kernel
theorem dX0_owned_191 : decode cX0_owned 191 = .ok (.getfield 32, 3) := by decide +kernel
theorem dX0_owned_194 : decode cX0_owned 194 = .ok (.iconst 2, 1) := by decide +kernel
theorem dX0_owned_195 : decode cX0_owned 195 = .ok (.iload 6, 2) := by decide +kernel
theorem dX0_owned_197 : decode cX0_owned 197 = .ok (.imul, 1) := by decide +kernel
theorem dX0_owned_198 : decode cX0_owned 198 = .ok (.iconst 1, 1) := by decide +kernel
theorem dX0_owned_199 : decode cX0_owned 199 = .ok (.iadd, 1) := by decide +kernel
theorem dX0_owned_200 : decode cX0_owned 200 = .ok (.saload, 1) := by decide +kernel
theorem dX0_owned_201 : decode cX0_owned 201 = .ok (.sastore, 1) := by decide +kernel
theorem dX0_owned_202 : decode cX0_owned 202 = .ok (.aload_n 0, 1) := by decide +kernel
theorem dX0_owned_203 : decode cX0_owned 203 = .ok (.getfield 45, 3) := by decide +kernel
theorem dX0_owned_206 : decode cX0_owned 206 = .ok (.iload 5, 2) := by decide +kernel
theorem dX0_owned_208 : decode cX0_owned 208 = .ok (.iconst 1, 1) := by decide +kernel
theorem dX0_owned_209 : decode cX0_owned 209 = .ok (.iadd, 1) := by decide +kernel
theorem dX0_owned_210 : decode cX0_owned 210 = .ok (.iload 7, 2) := by decide +kernel
theorem dX0_owned_212 : decode cX0_owned 212 = .ok (.iconst 1, 1) := by decide +kernel
theorem dX0_owned_213 : decode cX0_owned 213 = .ok (.iadd, 1) := by decide +kernel
theorem dX0_owned_214 : decode cX0_owned 214 = .ok (.i2b, 1) := by decide +kernel
theorem dX0_owned_215 : decode cX0_owned 215 = .ok (.bastore, 1) := by decide +kernel
theorem dX0_owned_216 : decode cX0_owned 216 = .ok (.iinc 5 2, 3) := by decide +kernel
theorem dX0_owned_219 : decode cX0_owned 219 = .ok (.goto (-140), 3) := by decide +kernel
theorem dX0_owned_222 : decode cX0_owned 222 = .ok (.iload 4, 2) := by decide +kernel
theorem dX0_owned_224 : decode cX0_owned 224 = .ok (.ireturn, 1) := by decide +kernel
end
section
/-! MatchActionModel -/
set_option maxRecDepth 100000
def RX1 : String := "MatchActionModel"
def TX1 : u_T := fun k => match k with
  | 0 => ("MatchActionModel", "fields", "[I", false)
  | 1 => ("MatchActionModel", "kind", "I", false)
  | 2 => ("MatchActionModel", "place", "I", false)
  | 3 => ("MatchActionModel", "number", "I", false)
  | 4 => ("MatchActionModel", "handles", "I", false)
  | 5 => ("MatchActionModel", "count", "[I", false)
  | 6 => ("MatchActionModel", "handle", "[I", false)
  | 7 => ("MatchActionModel", "a", "[I", false)
  | 8 => ("MatchActionModel", "b", "[I", false)
  | 9 => ("MatchActionModel", "rank", "[I", false)
  | 10 => ("MatchActionModel", "kinds", "[I", false)
  | 11 => ("MatchActionModel", "places", "[I", false)
  | _ => ("MatchActionModel", "numbers", "[I", false)
def tyX1 : Nat → FieldType := fun k => match k with
  | 0 => .array .int
  | 1 => .int
  | 2 => .int
  | 3 => .int
  | 4 => .int
  | 5 => .array .int
  | 6 => .array .int
  | 7 => .array .int
  | 8 => .array .int
  | 9 => .array .int
  | 10 => .array .int
  | 11 => .array .int
  | _ => .array .int
abbrev wsX10 : List Cond := u_ws RX1 TX1 13
set_option maxRecDepth 100000 in
theorem nmX1 : ∀ a, a < 13 → ∀ b, b < 13 → a ≠ b → (TX1 a).2.1 ≠ (TX1 b).2.1 := by decide +kernel
set_option maxRecDepth 100000 in
theorem tyX1_ok : ∀ k, k < 13 → parseFieldDescriptor (TX1 k).2.2.1 = some (tyX1 k) := by decide +kernel
abbrev cX1_init : ByteArray := prog_3_method_1_code
def yX1_init : MethodName := ⟨RX1, "<init>", "()V"⟩
abbrev cX1_action : ByteArray := prog_3_method_3_code
def yX1_action : MethodName := ⟨RX1, "action", "(III)Z"⟩
abbrev cX1_isByte : ByteArray := prog_3_method_2_code
def yX1_isByte : MethodName := ⟨RX1, "isByte", "(I)Z"⟩
abbrev cX1_addPrefix : ByteArray := prog_3_method_6_code
def yX1_addPrefix : MethodName := ⟨RX1, "addPrefix", "(II)I"⟩
abbrev cX1_add : ByteArray := prog_3_method_5_code
def yX1_add : MethodName := ⟨RX1, "add", "(IIII)I"⟩
abbrev cX1_giveAction : ByteArray := prog_3_method_4_code
def yX1_giveAction : MethodName := ⟨RX1, "giveAction", "(I)V"⟩
abbrev cX1_addMasked : ByteArray := prog_3_method_7_code
def yX1_addMasked : MethodName := ⟨RX1, "addMasked", "(III)I"⟩
abbrev cX1_remove : ByteArray := prog_3_method_10_code
def yX1_remove : MethodName := ⟨RX1, "remove", "(I)I"⟩
abbrev cX1_find : ByteArray := prog_3_method_9_code
def yX1_find : MethodName := ⟨RX1, "find", "(I)I"⟩
abbrev cX1_shift : ByteArray := prog_3_method_8_code
def yX1_shift : MethodName := ⟨RX1, "shift", "(I)V"⟩
abbrev cX1_setDefault : ByteArray := prog_3_method_12_code
def yX1_setDefault : MethodName := ⟨RX1, "setDefault", "(I)Z"⟩
abbrev cX1_isTable : ByteArray := prog_3_method_11_code
def yX1_isTable : MethodName := ⟨RX1, "isTable", "(I)Z"⟩
abbrev cX1_field : ByteArray := prog_3_method_13_code
def yX1_field : MethodName := ⟨RX1, "field", "(II)Z"⟩
abbrev cX1_get : ByteArray := prog_3_method_14_code
def yX1_get : MethodName := ⟨RX1, "get", "(I)I"⟩
abbrev cX1_lookup : ByteArray := prog_3_method_17_code
def yX1_lookup : MethodName := ⟨RX1, "lookup", "(I)I"⟩
abbrev cX1_taken : ByteArray := prog_3_method_16_code
def yX1_taken : MethodName := ⟨RX1, "taken", "(II)I"⟩
abbrev cX1_fits : ByteArray := prog_3_method_15_code
def yX1_fits : MethodName := ⟨RX1, "fits", "(II)Z"⟩
abbrev cX1_process : ByteArray := prog_3_method_19_code
def yX1_process : MethodName := ⟨RX1, "process", "()I"⟩
abbrev cX1_act : ByteArray := prog_3_method_18_code
def yX1_act : MethodName := ⟨RX1, "act", "(I)Z"⟩
abbrev cX1_matching : ByteArray := prog_3_method_20_code
def yX1_matching : MethodName := ⟨RX1, "matching", "(I)I"⟩
abbrev cX1_owned : ByteArray := prog_3_method_21_code
def yX1_owned : MethodName := ⟨RX1, "owned", "(I)I"⟩
theorem q29 : (Jvm.Cond.initialized "MatchActionModel") ∈ lw_all := lw_g (lw_at lw_m1 2 rfl) rfl
theorem q227 : (Jvm.Cond.instantiable "MatchActionModel" (13 : Nat)) ∈ lw_all := lw_g (lw_at lw_m1 200 rfl) rfl
theorem q229 : (Jvm.Cond.instanceMethod ({ cls := "MatchActionModel", name := "<init>", desc := "()V" } : Jvm.MethodName)) ∈ lw_all := lw_g (lw_at lw_m1 202 rfl) rfl
theorem q230 : (Jvm.Cond.code ({ cls := "MatchActionModel", name := "<init>", desc := "()V" } : Jvm.MethodName) prog_3_method_1_code (1 : Nat) (Option.none : Option Jvm.ClassFile.FieldType)) ∈ lw_all := lw_g (lw_at lw_m1 203 rfl) rfl
theorem q231 : (Jvm.Cond.methodLink "MatchActionModel" (1 : Nat) ({ cls := "java/lang/Object", name := "<init>", desc := "()V" } : Jvm.MethodName)) ∈ lw_all := lw_g (lw_at lw_m1 204 rfl) rfl
theorem q232 : (Jvm.Cond.fieldLink "MatchActionModel" (7 : Nat) "MatchActionModel" "fields" "[I") ∈ lw_all := lw_g (lw_at lw_m1 205 rfl) rfl
theorem q233 : (Jvm.Cond.fieldLink "MatchActionModel" (13 : Nat) "MatchActionModel" "kind" "I") ∈ lw_all := lw_g (lw_at lw_m1 206 rfl) rfl
theorem q234 : (Jvm.Cond.fieldLink "MatchActionModel" (17 : Nat) "MatchActionModel" "place" "I") ∈ lw_all := lw_g (lw_at lw_m1 207 rfl) rfl
theorem q235 : (Jvm.Cond.fieldLink "MatchActionModel" (20 : Nat) "MatchActionModel" "number" "I") ∈ lw_all := lw_g (lw_at lw_m1 208 rfl) rfl
theorem q236 : (Jvm.Cond.fieldLink "MatchActionModel" (23 : Nat) "MatchActionModel" "handles" "I") ∈ lw_all := lw_g (lw_at lw_m1 209 rfl) rfl
theorem q237 : (Jvm.Cond.fieldLink "MatchActionModel" (26 : Nat) "MatchActionModel" "count" "[I") ∈ lw_all := lw_g (lw_at lw_m1 210 rfl) rfl
theorem q238 : (Jvm.Cond.fieldLink "MatchActionModel" (29 : Nat) "MatchActionModel" "handle" "[I") ∈ lw_all := lw_g (lw_at lw_m1 211 rfl) rfl
theorem q239 : (Jvm.Cond.fieldLink "MatchActionModel" (32 : Nat) "MatchActionModel" "a" "[I") ∈ lw_all := lw_g (lw_at lw_m1 212 rfl) rfl
theorem q240 : (Jvm.Cond.fieldLink "MatchActionModel" (35 : Nat) "MatchActionModel" "b" "[I") ∈ lw_all := lw_g (lw_at lw_m1 213 rfl) rfl
theorem q241 : (Jvm.Cond.fieldLink "MatchActionModel" (38 : Nat) "MatchActionModel" "rank" "[I") ∈ lw_all := lw_g (lw_at lw_m1 214 rfl) rfl
theorem q242 : (Jvm.Cond.fieldLink "MatchActionModel" (41 : Nat) "MatchActionModel" "kinds" "[I") ∈ lw_all := lw_g (lw_at lw_m1 215 rfl) rfl
theorem q243 : (Jvm.Cond.fieldLink "MatchActionModel" (44 : Nat) "MatchActionModel" "places" "[I") ∈ lw_all := lw_g (lw_at lw_m1 216 rfl) rfl
theorem q244 : (Jvm.Cond.fieldLink "MatchActionModel" (47 : Nat) "MatchActionModel" "numbers" "[I") ∈ lw_all := lw_g (lw_at lw_m1 217 rfl) rfl
theorem q245 : (Jvm.Cond.lays "MatchActionModel" "MatchActionModel" "fields" "[I") ∈ lw_all := lw_g (lw_at lw_m1 218 rfl) rfl
theorem q246 : (Jvm.Cond.soleField "MatchActionModel" "fields") ∈ lw_all := lw_g (lw_at lw_m1 219 rfl) rfl
theorem q247 : (Jvm.Cond.lays "MatchActionModel" "MatchActionModel" "kind" "I") ∈ lw_all := lw_g (lw_at lw_m1 220 rfl) rfl
theorem q248 : (Jvm.Cond.soleField "MatchActionModel" "kind") ∈ lw_all := lw_g (lw_at lw_m1 221 rfl) rfl
theorem q249 : (Jvm.Cond.lays "MatchActionModel" "MatchActionModel" "place" "I") ∈ lw_all := lw_g (lw_at lw_m1 222 rfl) rfl
theorem q250 : (Jvm.Cond.soleField "MatchActionModel" "place") ∈ lw_all := lw_g (lw_at lw_m1 223 rfl) rfl
theorem q251 : (Jvm.Cond.lays "MatchActionModel" "MatchActionModel" "number" "I") ∈ lw_all := lw_g (lw_at lw_m1 224 rfl) rfl
theorem q252 : (Jvm.Cond.soleField "MatchActionModel" "number") ∈ lw_all := lw_g (lw_at lw_m1 225 rfl) rfl
theorem q253 : (Jvm.Cond.lays "MatchActionModel" "MatchActionModel" "handles" "I") ∈ lw_all := lw_g (lw_at lw_m1 226 rfl) rfl
theorem q254 : (Jvm.Cond.soleField "MatchActionModel" "handles") ∈ lw_all := lw_g (lw_at lw_m1 227 rfl) rfl
theorem q255 : (Jvm.Cond.lays "MatchActionModel" "MatchActionModel" "count" "[I") ∈ lw_all := lw_g (lw_at lw_m1 228 rfl) rfl
theorem q256 : (Jvm.Cond.soleField "MatchActionModel" "count") ∈ lw_all := lw_g (lw_at lw_m1 229 rfl) rfl
theorem q257 : (Jvm.Cond.lays "MatchActionModel" "MatchActionModel" "handle" "[I") ∈ lw_all := lw_g (lw_at lw_m1 230 rfl) rfl
theorem q258 : (Jvm.Cond.soleField "MatchActionModel" "handle") ∈ lw_all := lw_g (lw_at lw_m1 231 rfl) rfl
theorem q259 : (Jvm.Cond.lays "MatchActionModel" "MatchActionModel" "a" "[I") ∈ lw_all := lw_g (lw_at lw_m1 232 rfl) rfl
theorem q260 : (Jvm.Cond.soleField "MatchActionModel" "a") ∈ lw_all := lw_g (lw_at lw_m1 233 rfl) rfl
theorem q261 : (Jvm.Cond.lays "MatchActionModel" "MatchActionModel" "b" "[I") ∈ lw_all := lw_g (lw_at lw_m1 234 rfl) rfl
theorem q262 : (Jvm.Cond.soleField "MatchActionModel" "b") ∈ lw_all := lw_g (lw_at lw_m1 235 rfl) rfl
theorem q263 : (Jvm.Cond.lays "MatchActionModel" "MatchActionModel" "rank" "[I") ∈ lw_all := lw_g (lw_at lw_m1 236 rfl) rfl
theorem q264 : (Jvm.Cond.soleField "MatchActionModel" "rank") ∈ lw_all := lw_g (lw_at lw_m1 237 rfl) rfl
theorem q265 : (Jvm.Cond.lays "MatchActionModel" "MatchActionModel" "kinds" "[I") ∈ lw_all := lw_g (lw_at lw_m1 238 rfl) rfl
theorem q266 : (Jvm.Cond.soleField "MatchActionModel" "kinds") ∈ lw_all := lw_g (lw_at lw_m1 239 rfl) rfl
theorem q267 : (Jvm.Cond.lays "MatchActionModel" "MatchActionModel" "places" "[I") ∈ lw_all := lw_g (lw_at lw_m2 0 rfl) rfl
theorem q268 : (Jvm.Cond.soleField "MatchActionModel" "places") ∈ lw_all := lw_g (lw_at lw_m2 1 rfl) rfl
theorem q269 : (Jvm.Cond.lays "MatchActionModel" "MatchActionModel" "numbers" "[I") ∈ lw_all := lw_g (lw_at lw_m2 2 rfl) rfl
theorem q270 : (Jvm.Cond.soleField "MatchActionModel" "numbers") ∈ lw_all := lw_g (lw_at lw_m2 3 rfl) rfl
theorem q271 : (Jvm.Cond.superclass "MatchActionModel" "java/lang/Object") ∈ lw_all := lw_g (lw_at lw_m2 4 rfl) rfl
theorem q273 : (Jvm.Cond.instanceMethod ({ cls := "MatchActionModel", name := "action", desc := "(III)Z" } : Jvm.MethodName)) ∈ lw_all := lw_g (lw_at lw_m2 6 rfl) rfl
theorem q274 : (Jvm.Cond.selects "MatchActionModel" ({ cls := "MatchActionModel", name := "action", desc := "(III)Z" } : Jvm.MethodName) ({ cls := "MatchActionModel", name := "action", desc := "(III)Z" } : Jvm.MethodName)) ∈ lw_all := lw_g (lw_at lw_m2 7 rfl) rfl
theorem q275 : (Jvm.Cond.code ({ cls := "MatchActionModel", name := "action", desc := "(III)Z" } : Jvm.MethodName) prog_3_method_3_code (4 : Nat) (Option.some Jvm.ClassFile.FieldType.boolean)) ∈ lw_all := lw_g (lw_at lw_m2 8 rfl) rfl
theorem q276 : (Jvm.Cond.methodLink "MatchActionModel" (50 : Nat) ({ cls := "MatchActionModel", name := "isByte", desc := "(I)Z" } : Jvm.MethodName)) ∈ lw_all := lw_g (lw_at lw_m2 9 rfl) rfl
theorem q277 : (Jvm.Cond.privateMethod ({ cls := "MatchActionModel", name := "isByte", desc := "(I)Z" } : Jvm.MethodName)) ∈ lw_tbl := lw_at lw_m2 10 rfl
theorem q278 : (Jvm.Cond.instanceMethod ({ cls := "MatchActionModel", name := "isByte", desc := "(I)Z" } : Jvm.MethodName)) ∈ lw_all := lw_g (lw_at lw_m2 11 rfl) rfl
theorem q279 : (Jvm.Cond.code ({ cls := "MatchActionModel", name := "isByte", desc := "(I)Z" } : Jvm.MethodName) prog_3_method_2_code (2 : Nat) (Option.some Jvm.ClassFile.FieldType.boolean)) ∈ lw_all := lw_g (lw_at lw_m2 12 rfl) rfl
theorem q281 : (Jvm.Cond.instanceMethod ({ cls := "MatchActionModel", name := "addPrefix", desc := "(II)I" } : Jvm.MethodName)) ∈ lw_all := lw_g (lw_at lw_m2 14 rfl) rfl
theorem q282 : (Jvm.Cond.selects "MatchActionModel" ({ cls := "MatchActionModel", name := "addPrefix", desc := "(II)I" } : Jvm.MethodName) ({ cls := "MatchActionModel", name := "addPrefix", desc := "(II)I" } : Jvm.MethodName)) ∈ lw_all := lw_g (lw_at lw_m2 15 rfl) rfl
theorem q283 : (Jvm.Cond.code ({ cls := "MatchActionModel", name := "addPrefix", desc := "(II)I" } : Jvm.MethodName) prog_3_method_6_code (3 : Nat) (Option.some Jvm.ClassFile.FieldType.int)) ∈ lw_all := lw_g (lw_at lw_m2 16 rfl) rfl
theorem q284 : (Jvm.Cond.methodLink "MatchActionModel" (58 : Nat) ({ cls := "MatchActionModel", name := "add", desc := "(IIII)I" } : Jvm.MethodName)) ∈ lw_all := lw_g (lw_at lw_m2 17 rfl) rfl
theorem q285 : (Jvm.Cond.privateMethod ({ cls := "MatchActionModel", name := "add", desc := "(IIII)I" } : Jvm.MethodName)) ∈ lw_tbl := lw_at lw_m2 18 rfl
theorem q286 : (Jvm.Cond.instanceMethod ({ cls := "MatchActionModel", name := "add", desc := "(IIII)I" } : Jvm.MethodName)) ∈ lw_all := lw_g (lw_at lw_m2 19 rfl) rfl
theorem q287 : (Jvm.Cond.code ({ cls := "MatchActionModel", name := "add", desc := "(IIII)I" } : Jvm.MethodName) prog_3_method_5_code (6 : Nat) (Option.some Jvm.ClassFile.FieldType.int)) ∈ lw_all := lw_g (lw_at lw_m2 20 rfl) rfl
theorem q288 : (Jvm.Cond.methodLink "MatchActionModel" (54 : Nat) ({ cls := "MatchActionModel", name := "giveAction", desc := "(I)V" } : Jvm.MethodName)) ∈ lw_all := lw_g (lw_at lw_m2 21 rfl) rfl
theorem q289 : (Jvm.Cond.privateMethod ({ cls := "MatchActionModel", name := "giveAction", desc := "(I)V" } : Jvm.MethodName)) ∈ lw_tbl := lw_at lw_m2 22 rfl
theorem q290 : (Jvm.Cond.instanceMethod ({ cls := "MatchActionModel", name := "giveAction", desc := "(I)V" } : Jvm.MethodName)) ∈ lw_all := lw_g (lw_at lw_m2 23 rfl) rfl
theorem q291 : (Jvm.Cond.code ({ cls := "MatchActionModel", name := "giveAction", desc := "(I)V" } : Jvm.MethodName) prog_3_method_4_code (2 : Nat) (Option.none : Option Jvm.ClassFile.FieldType)) ∈ lw_all := lw_g (lw_at lw_m2 24 rfl) rfl
theorem q293 : (Jvm.Cond.instanceMethod ({ cls := "MatchActionModel", name := "addMasked", desc := "(III)I" } : Jvm.MethodName)) ∈ lw_all := lw_g (lw_at lw_m2 26 rfl) rfl
theorem q294 : (Jvm.Cond.selects "MatchActionModel" ({ cls := "MatchActionModel", name := "addMasked", desc := "(III)I" } : Jvm.MethodName) ({ cls := "MatchActionModel", name := "addMasked", desc := "(III)I" } : Jvm.MethodName)) ∈ lw_all := lw_g (lw_at lw_m2 27 rfl) rfl
theorem q295 : (Jvm.Cond.code ({ cls := "MatchActionModel", name := "addMasked", desc := "(III)I" } : Jvm.MethodName) prog_3_method_7_code (4 : Nat) (Option.some Jvm.ClassFile.FieldType.int)) ∈ lw_all := lw_g (lw_at lw_m2 28 rfl) rfl
theorem q296 : (Jvm.Cond.constant "MatchActionModel" (62 : Nat) (65535 : Int32)) ∈ lw_all := lw_g (lw_at lw_m2 29 rfl) rfl
theorem q298 : (Jvm.Cond.instanceMethod ({ cls := "MatchActionModel", name := "remove", desc := "(I)I" } : Jvm.MethodName)) ∈ lw_all := lw_g (lw_at lw_m2 31 rfl) rfl
theorem q299 : (Jvm.Cond.selects "MatchActionModel" ({ cls := "MatchActionModel", name := "remove", desc := "(I)I" } : Jvm.MethodName) ({ cls := "MatchActionModel", name := "remove", desc := "(I)I" } : Jvm.MethodName)) ∈ lw_all := lw_g (lw_at lw_m2 32 rfl) rfl
theorem q300 : (Jvm.Cond.code ({ cls := "MatchActionModel", name := "remove", desc := "(I)I" } : Jvm.MethodName) prog_3_method_10_code (5 : Nat) (Option.some Jvm.ClassFile.FieldType.int)) ∈ lw_all := lw_g (lw_at lw_m2 33 rfl) rfl
theorem q301 : (Jvm.Cond.methodLink "MatchActionModel" (63 : Nat) ({ cls := "MatchActionModel", name := "find", desc := "(I)I" } : Jvm.MethodName)) ∈ lw_all := lw_g (lw_at lw_m2 34 rfl) rfl
theorem q302 : (Jvm.Cond.privateMethod ({ cls := "MatchActionModel", name := "find", desc := "(I)I" } : Jvm.MethodName)) ∈ lw_tbl := lw_at lw_m2 35 rfl
theorem q303 : (Jvm.Cond.instanceMethod ({ cls := "MatchActionModel", name := "find", desc := "(I)I" } : Jvm.MethodName)) ∈ lw_all := lw_g (lw_at lw_m2 36 rfl) rfl
theorem q304 : (Jvm.Cond.code ({ cls := "MatchActionModel", name := "find", desc := "(I)I" } : Jvm.MethodName) prog_3_method_9_code (3 : Nat) (Option.some Jvm.ClassFile.FieldType.int)) ∈ lw_all := lw_g (lw_at lw_m2 37 rfl) rfl
theorem q305 : (Jvm.Cond.methodLink "MatchActionModel" (67 : Nat) ({ cls := "MatchActionModel", name := "shift", desc := "(I)V" } : Jvm.MethodName)) ∈ lw_all := lw_g (lw_at lw_m2 38 rfl) rfl
theorem q306 : (Jvm.Cond.privateMethod ({ cls := "MatchActionModel", name := "shift", desc := "(I)V" } : Jvm.MethodName)) ∈ lw_tbl := lw_at lw_m2 39 rfl
theorem q307 : (Jvm.Cond.instanceMethod ({ cls := "MatchActionModel", name := "shift", desc := "(I)V" } : Jvm.MethodName)) ∈ lw_all := lw_g (lw_at lw_m2 40 rfl) rfl
theorem q308 : (Jvm.Cond.code ({ cls := "MatchActionModel", name := "shift", desc := "(I)V" } : Jvm.MethodName) prog_3_method_8_code (2 : Nat) (Option.none : Option Jvm.ClassFile.FieldType)) ∈ lw_all := lw_g (lw_at lw_m2 41 rfl) rfl
theorem q310 : (Jvm.Cond.instanceMethod ({ cls := "MatchActionModel", name := "setDefault", desc := "(I)Z" } : Jvm.MethodName)) ∈ lw_all := lw_g (lw_at lw_m2 43 rfl) rfl
theorem q311 : (Jvm.Cond.selects "MatchActionModel" ({ cls := "MatchActionModel", name := "setDefault", desc := "(I)Z" } : Jvm.MethodName) ({ cls := "MatchActionModel", name := "setDefault", desc := "(I)Z" } : Jvm.MethodName)) ∈ lw_all := lw_g (lw_at lw_m2 44 rfl) rfl
theorem q312 : (Jvm.Cond.code ({ cls := "MatchActionModel", name := "setDefault", desc := "(I)Z" } : Jvm.MethodName) prog_3_method_12_code (2 : Nat) (Option.some Jvm.ClassFile.FieldType.boolean)) ∈ lw_all := lw_g (lw_at lw_m2 45 rfl) rfl
theorem q313 : (Jvm.Cond.methodLink "MatchActionModel" (70 : Nat) ({ cls := "MatchActionModel", name := "isTable", desc := "(I)Z" } : Jvm.MethodName)) ∈ lw_all := lw_g (lw_at lw_m2 46 rfl) rfl
theorem q314 : (Jvm.Cond.privateMethod ({ cls := "MatchActionModel", name := "isTable", desc := "(I)Z" } : Jvm.MethodName)) ∈ lw_tbl := lw_at lw_m2 47 rfl
theorem q315 : (Jvm.Cond.instanceMethod ({ cls := "MatchActionModel", name := "isTable", desc := "(I)Z" } : Jvm.MethodName)) ∈ lw_all := lw_g (lw_at lw_m2 48 rfl) rfl
theorem q316 : (Jvm.Cond.code ({ cls := "MatchActionModel", name := "isTable", desc := "(I)Z" } : Jvm.MethodName) prog_3_method_11_code (2 : Nat) (Option.some Jvm.ClassFile.FieldType.boolean)) ∈ lw_all := lw_g (lw_at lw_m2 49 rfl) rfl
theorem q318 : (Jvm.Cond.instanceMethod ({ cls := "MatchActionModel", name := "field", desc := "(II)Z" } : Jvm.MethodName)) ∈ lw_all := lw_g (lw_at lw_m2 51 rfl) rfl
theorem q319 : (Jvm.Cond.selects "MatchActionModel" ({ cls := "MatchActionModel", name := "field", desc := "(II)Z" } : Jvm.MethodName) ({ cls := "MatchActionModel", name := "field", desc := "(II)Z" } : Jvm.MethodName)) ∈ lw_all := lw_g (lw_at lw_m2 52 rfl) rfl
theorem q320 : (Jvm.Cond.code ({ cls := "MatchActionModel", name := "field", desc := "(II)Z" } : Jvm.MethodName) prog_3_method_13_code (3 : Nat) (Option.some Jvm.ClassFile.FieldType.boolean)) ∈ lw_all := lw_g (lw_at lw_m2 53 rfl) rfl
theorem q322 : (Jvm.Cond.instanceMethod ({ cls := "MatchActionModel", name := "get", desc := "(I)I" } : Jvm.MethodName)) ∈ lw_all := lw_g (lw_at lw_m2 55 rfl) rfl
theorem q323 : (Jvm.Cond.selects "MatchActionModel" ({ cls := "MatchActionModel", name := "get", desc := "(I)I" } : Jvm.MethodName) ({ cls := "MatchActionModel", name := "get", desc := "(I)I" } : Jvm.MethodName)) ∈ lw_all := lw_g (lw_at lw_m2 56 rfl) rfl
theorem q324 : (Jvm.Cond.code ({ cls := "MatchActionModel", name := "get", desc := "(I)I" } : Jvm.MethodName) prog_3_method_14_code (2 : Nat) (Option.some Jvm.ClassFile.FieldType.int)) ∈ lw_all := lw_g (lw_at lw_m2 57 rfl) rfl
theorem q326 : (Jvm.Cond.instanceMethod ({ cls := "MatchActionModel", name := "lookup", desc := "(I)I" } : Jvm.MethodName)) ∈ lw_all := lw_g (lw_at lw_m2 59 rfl) rfl
theorem q327 : (Jvm.Cond.selects "MatchActionModel" ({ cls := "MatchActionModel", name := "lookup", desc := "(I)I" } : Jvm.MethodName) ({ cls := "MatchActionModel", name := "lookup", desc := "(I)I" } : Jvm.MethodName)) ∈ lw_all := lw_g (lw_at lw_m2 60 rfl) rfl
theorem q328 : (Jvm.Cond.code ({ cls := "MatchActionModel", name := "lookup", desc := "(I)I" } : Jvm.MethodName) prog_3_method_17_code (3 : Nat) (Option.some Jvm.ClassFile.FieldType.int)) ∈ lw_all := lw_g (lw_at lw_m2 61 rfl) rfl
theorem q329 : (Jvm.Cond.methodLink "MatchActionModel" (77 : Nat) ({ cls := "MatchActionModel", name := "taken", desc := "(II)I" } : Jvm.MethodName)) ∈ lw_all := lw_g (lw_at lw_m2 62 rfl) rfl
theorem q330 : (Jvm.Cond.privateMethod ({ cls := "MatchActionModel", name := "taken", desc := "(II)I" } : Jvm.MethodName)) ∈ lw_tbl := lw_at lw_m2 63 rfl
theorem q331 : (Jvm.Cond.instanceMethod ({ cls := "MatchActionModel", name := "taken", desc := "(II)I" } : Jvm.MethodName)) ∈ lw_all := lw_g (lw_at lw_m2 64 rfl) rfl
theorem q332 : (Jvm.Cond.code ({ cls := "MatchActionModel", name := "taken", desc := "(II)I" } : Jvm.MethodName) prog_3_method_16_code (5 : Nat) (Option.some Jvm.ClassFile.FieldType.int)) ∈ lw_all := lw_g (lw_at lw_m2 65 rfl) rfl
theorem q333 : (Jvm.Cond.methodLink "MatchActionModel" (73 : Nat) ({ cls := "MatchActionModel", name := "fits", desc := "(II)Z" } : Jvm.MethodName)) ∈ lw_all := lw_g (lw_at lw_m2 66 rfl) rfl
theorem q334 : (Jvm.Cond.privateMethod ({ cls := "MatchActionModel", name := "fits", desc := "(II)Z" } : Jvm.MethodName)) ∈ lw_tbl := lw_at lw_m2 67 rfl
theorem q335 : (Jvm.Cond.instanceMethod ({ cls := "MatchActionModel", name := "fits", desc := "(II)Z" } : Jvm.MethodName)) ∈ lw_all := lw_g (lw_at lw_m2 68 rfl) rfl
theorem q336 : (Jvm.Cond.code ({ cls := "MatchActionModel", name := "fits", desc := "(II)Z" } : Jvm.MethodName) prog_3_method_15_code (4 : Nat) (Option.some Jvm.ClassFile.FieldType.boolean)) ∈ lw_all := lw_g (lw_at lw_m2 69 rfl) rfl
theorem q338 : (Jvm.Cond.instanceMethod ({ cls := "MatchActionModel", name := "process", desc := "()I" } : Jvm.MethodName)) ∈ lw_all := lw_g (lw_at lw_m2 71 rfl) rfl
theorem q339 : (Jvm.Cond.selects "MatchActionModel" ({ cls := "MatchActionModel", name := "process", desc := "()I" } : Jvm.MethodName) ({ cls := "MatchActionModel", name := "process", desc := "()I" } : Jvm.MethodName)) ∈ lw_all := lw_g (lw_at lw_m2 72 rfl) rfl
theorem q340 : (Jvm.Cond.code ({ cls := "MatchActionModel", name := "process", desc := "()I" } : Jvm.MethodName) prog_3_method_19_code (3 : Nat) (Option.some Jvm.ClassFile.FieldType.int)) ∈ lw_all := lw_g (lw_at lw_m2 73 rfl) rfl
theorem q341 : (Jvm.Cond.methodLink "MatchActionModel" (81 : Nat) ({ cls := "MatchActionModel", name := "act", desc := "(I)Z" } : Jvm.MethodName)) ∈ lw_all := lw_g (lw_at lw_m2 74 rfl) rfl
theorem q342 : (Jvm.Cond.privateMethod ({ cls := "MatchActionModel", name := "act", desc := "(I)Z" } : Jvm.MethodName)) ∈ lw_tbl := lw_at lw_m2 75 rfl
theorem q343 : (Jvm.Cond.instanceMethod ({ cls := "MatchActionModel", name := "act", desc := "(I)Z" } : Jvm.MethodName)) ∈ lw_all := lw_g (lw_at lw_m2 76 rfl) rfl
theorem q344 : (Jvm.Cond.code ({ cls := "MatchActionModel", name := "act", desc := "(I)Z" } : Jvm.MethodName) prog_3_method_18_code (4 : Nat) (Option.some Jvm.ClassFile.FieldType.boolean)) ∈ lw_all := lw_g (lw_at lw_m2 77 rfl) rfl
theorem q346 : (Jvm.Cond.instanceMethod ({ cls := "MatchActionModel", name := "matching", desc := "(I)I" } : Jvm.MethodName)) ∈ lw_all := lw_g (lw_at lw_m2 79 rfl) rfl
theorem q347 : (Jvm.Cond.selects "MatchActionModel" ({ cls := "MatchActionModel", name := "matching", desc := "(I)I" } : Jvm.MethodName) ({ cls := "MatchActionModel", name := "matching", desc := "(I)I" } : Jvm.MethodName)) ∈ lw_all := lw_g (lw_at lw_m2 80 rfl) rfl
theorem q348 : (Jvm.Cond.code ({ cls := "MatchActionModel", name := "matching", desc := "(I)I" } : Jvm.MethodName) prog_3_method_20_code (4 : Nat) (Option.some Jvm.ClassFile.FieldType.int)) ∈ lw_all := lw_g (lw_at lw_m2 81 rfl) rfl
theorem q350 : (Jvm.Cond.instanceMethod ({ cls := "MatchActionModel", name := "owned", desc := "(I)I" } : Jvm.MethodName)) ∈ lw_all := lw_g (lw_at lw_m2 83 rfl) rfl
theorem q351 : (Jvm.Cond.selects "MatchActionModel" ({ cls := "MatchActionModel", name := "owned", desc := "(I)I" } : Jvm.MethodName) ({ cls := "MatchActionModel", name := "owned", desc := "(I)I" } : Jvm.MethodName)) ∈ lw_all := lw_g (lw_at lw_m2 84 rfl) rfl
theorem q352 : (Jvm.Cond.code ({ cls := "MatchActionModel", name := "owned", desc := "(I)I" } : Jvm.MethodName) prog_3_method_21_code (5 : Nat) (Option.some Jvm.ClassFile.FieldType.int)) ∈ lw_all := lw_g (lw_at lw_m2 85 rfl) rfl
theorem in_X1 : ∀ w ∈ wsX10, w ∈ lw_all := lw_in wsX10 [245, 247, 249, 251, 253, 255, 257, 259, 261, 263, 265, 267, 269] (by decide +kernel) (by decide +kernel)
end
section
set_option maxRecDepth 100000
theorem dX1_init_0 : decode cX1_init 0 = .ok (.aload_n 0, 1) := by decide +kernel
theorem dX1_init_1 : decode cX1_init 1 = .ok (.invokespecial 1, 3) := by decide +kernel
theorem dX1_init_4 : decode cX1_init 4 = .ok (.aload_n 0, 1) := by decide +kernel
theorem dX1_init_5 : decode cX1_init 5 = .ok (.iconst 4, 1) := by decide +kernel
theorem dX1_init_6 : decode cX1_init 6 = .ok (.newarray .int, 2) := by decide +kernel
theorem dX1_init_8 : decode cX1_init 8 = .ok (.putfield 7, 3) := by decide +kernel
theorem dX1_init_11 : decode cX1_init 11 = .ok (.aload_n 0, 1) := by decide +kernel
theorem dX1_init_12 : decode cX1_init 12 = .ok (.iconst 3, 1) := by decide +kernel
theorem dX1_init_13 : decode cX1_init 13 = .ok (.putfield 13, 3) := by decide +kernel
theorem dX1_init_16 : decode cX1_init 16 = .ok (.aload_n 0, 1) := by decide +kernel
theorem dX1_init_17 : decode cX1_init 17 = .ok (.iconst 0, 1) := by decide +kernel
theorem dX1_init_18 : decode cX1_init 18 = .ok (.putfield 17, 3) := by decide +kernel
theorem dX1_init_21 : decode cX1_init 21 = .ok (.aload_n 0, 1) := by decide +kernel
theorem dX1_init_22 : decode cX1_init 22 = .ok (.iconst 0, 1) := by decide +kernel
theorem dX1_init_23 : decode cX1_init 23 = .ok (.putfield 20, 3) := by decide +kernel
theorem dX1_init_26 : decode cX1_init 26 = .ok (.aload_n 0, 1) := by decide +kernel
theorem dX1_init_27 : decode cX1_init 27 = .ok (.iconst 0, 1) := by decide +kernel
theorem dX1_init_28 : decode cX1_init 28 = .ok (.putfield 23, 3) := by decide +kernel
theorem dX1_init_31 : decode cX1_init 31 = .ok (.aload_n 0, 1) := by decide +kernel
theorem dX1_init_32 : decode cX1_init 32 = .ok (.iconst 2, 1) := by decide +kernel
theorem dX1_init_33 : decode cX1_init 33 = .ok (.newarray .int, 2) := by decide +kernel
theorem dX1_init_35 : decode cX1_init 35 = .ok (.putfield 26, 3) := by decide +kernel
theorem dX1_init_38 : decode cX1_init 38 = .ok (.aload_n 0, 1) := by decide +kernel
theorem dX1_init_39 : decode cX1_init 39 = .ok (.bipush 32, 2) := by decide +kernel
theorem dX1_init_41 : decode cX1_init 41 = .ok (.newarray .int, 2) := by decide +kernel
theorem dX1_init_43 : decode cX1_init 43 = .ok (.putfield 29, 3) := by decide +kernel
theorem dX1_init_46 : decode cX1_init 46 = .ok (.aload_n 0, 1) := by decide +kernel
theorem dX1_init_47 : decode cX1_init 47 = .ok (.bipush 32, 2) := by decide +kernel
theorem dX1_init_49 : decode cX1_init 49 = .ok (.newarray .int, 2) := by decide +kernel
theorem dX1_init_51 : decode cX1_init 51 = .ok (.putfield 32, 3) := by decide +kernel
theorem dX1_init_54 : decode cX1_init 54 = .ok (.aload_n 0, 1) := by decide +kernel
theorem dX1_init_55 : decode cX1_init 55 = .ok (.bipush 32, 2) := by decide +kernel
theorem dX1_init_57 : decode cX1_init 57 = .ok (.newarray .int, 2) := by decide +kernel
theorem dX1_init_59 : decode cX1_init 59 = .ok (.putfield 35, 3) := by decide +kernel
theorem dX1_init_62 : decode cX1_init 62 = .ok (.aload_n 0, 1) := by decide +kernel
theorem dX1_init_63 : decode cX1_init 63 = .ok (.bipush 32, 2) := by decide +kernel
theorem dX1_init_65 : decode cX1_init 65 = .ok (.newarray .int, 2) := by decide +kernel
theorem dX1_init_67 : decode cX1_init 67 = .ok (.putfield 38, 3) := by decide +kernel
theorem dX1_init_70 : decode cX1_init 70 = .ok (.aload_n 0, 1) := by decide +kernel
theorem dX1_init_71 : decode cX1_init 71 = .ok (.bipush 34, 2) := by decide +kernel
theorem dX1_init_73 : decode cX1_init 73 = .ok (.newarray .int, 2) := by decide +kernel
theorem dX1_init_75 : decode cX1_init 75 = .ok (.putfield 41, 3) := by decide +kernel
theorem dX1_init_78 : decode cX1_init 78 = .ok (.aload_n 0, 1) := by decide +kernel
theorem dX1_init_79 : decode cX1_init 79 = .ok (.bipush 34, 2) := by decide +kernel
theorem dX1_init_81 : decode cX1_init 81 = .ok (.newarray .int, 2) := by decide +kernel
theorem dX1_init_83 : decode cX1_init 83 = .ok (.putfield 44, 3) := by decide +kernel
theorem dX1_init_86 : decode cX1_init 86 = .ok (.aload_n 0, 1) := by decide +kernel
theorem dX1_init_87 : decode cX1_init 87 = .ok (.bipush 34, 2) := by decide +kernel
theorem dX1_init_89 : decode cX1_init 89 = .ok (.newarray .int, 2) := by decide +kernel
theorem dX1_init_91 : decode cX1_init 91 = .ok (.putfield 47, 3) := by decide +kernel
theorem dX1_init_94 : decode cX1_init 94 = .ok (.aload_n 0, 1) := by decide +kernel
theorem dX1_init_95 : decode cX1_init 95 = .ok (.getfield 41, 3) := by decide +kernel
theorem dX1_init_98 : decode cX1_init 98 = .ok (.bipush 32, 2) := by decide +kernel
theorem dX1_init_100 : decode cX1_init 100 = .ok (.iconst 3, 1) := by decide +kernel
theorem dX1_init_101 : decode cX1_init 101 = .ok (.iastore, 1) := by decide +kernel
theorem dX1_init_102 : decode cX1_init 102 = .ok (.aload_n 0, 1) := by decide +kernel
theorem dX1_init_103 : decode cX1_init 103 = .ok (.getfield 41, 3) := by decide +kernel
theorem dX1_init_106 : decode cX1_init 106 = .ok (.bipush 33, 2) := by decide +kernel
theorem dX1_init_108 : decode cX1_init 108 = .ok (.iconst 3, 1) := by decide +kernel
theorem dX1_init_109 : decode cX1_init 109 = .ok (.iastore, 1) := by decide +kernel
theorem dX1_init_110 : decode cX1_init 110 = .ok (.return_, 1) := by decide +kernel
theorem dX1_action_0 : decode cX1_action 0 = .ok (.iload_n 1, 1) := by decide +kernel
theorem dX1_action_1 : decode cX1_action 1 = .ok (.ifCond .lt 25, 3) := by decide +kernel
theorem dX1_action_4 : decode cX1_action 4 = .ok (.iload_n 1, 1) := by decide +kernel
theorem dX1_action_5 : decode cX1_action 5 = .ok (.iconst 4, 1) := by decide +kernel
theorem dX1_action_6 : decode cX1_action 6 = .ok (.if_icmp .gt 20, 3) := by decide +kernel
theorem dX1_action_9 : decode cX1_action 9 = .ok (.iload_n 2, 1) := by decide +kernel
theorem dX1_action_10 : decode cX1_action 10 = .ok (.ifCond .lt 16, 3) := by decide +kernel
theorem dX1_action_13 : decode cX1_action 13 = .ok (.iload_n 2, 1) := by decide +kernel
theorem dX1_action_14 : decode cX1_action 14 = .ok (.iconst 3, 1) := by decide +kernel
theorem dX1_action_15 : decode cX1_action 15 = .ok (.if_icmp .gt 11, 3) := by decide +kernel
theorem dX1_action_18 : decode cX1_action 18 = .ok (.aload_n 0, 1) := by decide +kernel
theorem dX1_action_19 : decode cX1_action 19 = .ok (.iload_n 3, 1) := by decide +kernel
theorem dX1_action_20 : decode cX1_action 20 = .ok (.invokevirtual 50, 3) := by decide +kernel
theorem dX1_action_23 : decode cX1_action 23 = .ok (.ifCond .ne 5, 3) := by decide +kernel
theorem dX1_action_26 : decode cX1_action 26 = .ok (.iconst 0, 1) := by decide +kernel
theorem dX1_action_27 : decode cX1_action 27 = .ok (.ireturn, 1) := by decide +kernel
theorem dX1_action_28 : decode cX1_action 28 = .ok (.aload_n 0, 1) := by decide +kernel
theorem dX1_action_29 : decode cX1_action 29 = .ok (.iload_n 1, 1) := by decide +kernel
theorem dX1_action_30 : decode cX1_action 30 = .ok (.putfield 13, 3) := by decide +kernel
theorem dX1_action_33 : decode cX1_action 33 = .ok (.aload_n 0, 1) := by decide +kernel
theorem dX1_action_34 : decode cX1_action 34 = .ok (.iload_n 2, 1) := by decide +kernel
theorem dX1_action_35 : decode cX1_action 35 = .ok (.putfield 17, 3) := by decide +kernel
theorem dX1_action_38 : decode cX1_action 38 = .ok (.aload_n 0, 1) := by decide +kernel
theorem dX1_action_39 : decode cX1_action 39 = .ok (.iload_n 3, 1) := by decide +kernel
theorem dX1_action_40 : decode cX1_action 40 = .ok (.putfield 20, 3) := by decide +kernel
theorem dX1_action_43 : decode cX1_action 43 = .ok (.iconst 1, 1) := by decide +kernel
theorem dX1_action_44 : decode cX1_action 44 = .ok (.ireturn, 1) := by decide +kernel
theorem dX1_isByte_0 : decode cX1_isByte 0 = .ok (.iload_n 1, 1) := by decide +kernel
theorem dX1_isByte_1 : decode cX1_isByte 1 = .ok (.ifCond .lt 14, 3) := by decide +kernel
theorem dX1_isByte_4 : decode cX1_isByte 4 = .ok (.iload_n 1, 1) := by decide +kernel
theorem dX1_isByte_5 : decode cX1_isByte 5 = .ok (.sipush 255, 3) := by decide +kernel
theorem dX1_isByte_8 : decode cX1_isByte 8 = .ok (.if_icmp .gt 7, 3) := by decide +kernel
theorem dX1_isByte_11 : decode cX1_isByte 11 = .ok (.iconst 1, 1) := by decide +kernel
theorem dX1_isByte_12 : decode cX1_isByte 12 = .ok (.goto 4, 3) := by decide +kernel
theorem dX1_isByte_15 : decode cX1_isByte 15 = .ok (.iconst 0, 1) := by decide +kernel
theorem dX1_isByte_16 : decode cX1_isByte 16 = .ok (.ireturn, 1) := by decide +kernel
theorem dX1_addPrefix_0 : decode cX1_addPrefix 0 = .ok (.aload_n 0, 1) := by decide +kernel
theorem dX1_addPrefix_1 : decode cX1_addPrefix 1 = .ok (.getfield 26, 3) := by decide +kernel
theorem dX1_addPrefix_4 : decode cX1_addPrefix 4 = .ok (.iconst 0, 1) := by decide +kernel
theorem dX1_addPrefix_5 : decode cX1_addPrefix 5 = .ok (.iaload, 1) := by decide +kernel
theorem dX1_addPrefix_6 : decode cX1_addPrefix 6 = .ok (.bipush 16, 2) := by decide +kernel
theorem dX1_addPrefix_8 : decode cX1_addPrefix 8 = .ok (.if_icmp .ne 6, 3) := by decide +kernel
theorem dX1_addPrefix_11 : decode cX1_addPrefix 11 = .ok (.bipush (-2), 2) := by decide +kernel
theorem dX1_addPrefix_13 : decode cX1_addPrefix 13 = .ok (.ireturn, 1) := by decide +kernel
theorem dX1_addPrefix_14 : decode cX1_addPrefix 14 = .ok (.aload_n 0, 1) := by decide +kernel
theorem dX1_addPrefix_15 : decode cX1_addPrefix 15 = .ok (.iload_n 1, 1) := by decide +kernel
theorem dX1_addPrefix_16 : decode cX1_addPrefix 16 = .ok (.invokevirtual 50, 3) := by decide +kernel
theorem dX1_addPrefix_19 : decode cX1_addPrefix 19 = .ok (.ifCond .eq 13, 3) := by decide +kernel
theorem dX1_addPrefix_22 : decode cX1_addPrefix 22 = .ok (.iload_n 2, 1) := by decide +kernel
theorem dX1_addPrefix_23 : decode cX1_addPrefix 23 = .ok (.ifCond .lt 9, 3) := by decide +kernel
theorem dX1_addPrefix_26 : decode cX1_addPrefix 26 = .ok (.iload_n 2, 1) := by decide +kernel
theorem dX1_addPrefix_27 : decode cX1_addPrefix 27 = .ok (.bipush 8, 2) := by decide +kernel
theorem dX1_addPrefix_29 : decode cX1_addPrefix 29 = .ok (.if_icmp .le 5, 3) := by decide +kernel
theorem dX1_addPrefix_32 : decode cX1_addPrefix 32 = .ok (.iconst (-1), 1) := by decide +kernel
theorem dX1_addPrefix_33 : decode cX1_addPrefix 33 = .ok (.ireturn, 1) := by decide +kernel
theorem dX1_addPrefix_34 : decode cX1_addPrefix 34 = .ok (.aload_n 0, 1) := by decide +kernel
theorem dX1_addPrefix_35 : decode cX1_addPrefix 35 = .ok (.iconst 0, 1) := by decide +kernel
theorem dX1_addPrefix_36 : decode cX1_addPrefix 36 = .ok (.iload_n 1, 1) := by decide +kernel
theorem dX1_addPrefix_37 : decode cX1_addPrefix 37 = .ok (.iload_n 2, 1) := by decide +kernel
theorem dX1_addPrefix_38 : decode cX1_addPrefix 38 = .ok (.iload_n 2, 1) := by decide +kernel
theorem dX1_addPrefix_39 : decode cX1_addPrefix 39 = .ok (.invokevirtual 58, 3) := by decide +kernel
theorem dX1_addPrefix_42 : decode cX1_addPrefix 42 = .ok (.ireturn, 1) := by decide +kernel
theorem dX1_add_0 : decode cX1_add 0 = .ok (.bipush 16, 2) := by decide +kernel
theorem dX1_add_2 : decode cX1_add 2 = .ok (.iload_n 1, 1) := by decide +kernel
theorem dX1_add_3 : decode cX1_add 3 = .ok (.imul, 1) := by decide +kernel
theorem dX1_add_4 : decode cX1_add 4 = .ok (.aload_n 0, 1) := by decide +kernel
theorem dX1_add_5 : decode cX1_add 5 = .ok (.getfield 26, 3) := by decide +kernel
theorem dX1_add_8 : decode cX1_add 8 = .ok (.iload_n 1, 1) := by decide +kernel
theorem dX1_add_9 : decode cX1_add 9 = .ok (.iaload, 1) := by decide +kernel
theorem dX1_add_10 : decode cX1_add 10 = .ok (.iadd, 1) := by decide +kernel
theorem dX1_add_11 : decode cX1_add 11 = .ok (.istore 5, 2) := by decide +kernel
theorem dX1_add_13 : decode cX1_add 13 = .ok (.aload_n 0, 1) := by decide +kernel
theorem dX1_add_14 : decode cX1_add 14 = .ok (.getfield 32, 3) := by decide +kernel
theorem dX1_add_17 : decode cX1_add 17 = .ok (.iload 5, 2) := by decide +kernel
theorem dX1_add_19 : decode cX1_add 19 = .ok (.iload_n 2, 1) := by decide +kernel
theorem dX1_add_20 : decode cX1_add 20 = .ok (.iastore, 1) := by decide +kernel
theorem dX1_add_21 : decode cX1_add 21 = .ok (.aload_n 0, 1) := by decide +kernel
theorem dX1_add_22 : decode cX1_add 22 = .ok (.getfield 35, 3) := by decide +kernel
theorem dX1_add_25 : decode cX1_add 25 = .ok (.iload 5, 2) := by decide +kernel
theorem dX1_add_27 : decode cX1_add 27 = .ok (.iload_n 3, 1) := by decide +kernel
theorem dX1_add_28 : decode cX1_add 28 = .ok (.iastore, 1) := by decide +kernel
theorem dX1_add_29 : decode cX1_add 29 = .ok (.aload_n 0, 1) := by decide +kernel
theorem dX1_add_30 : decode cX1_add 30 = .ok (.getfield 38, 3) := by decide +kernel
theorem dX1_add_33 : decode cX1_add 33 = .ok (.iload 5, 2) := by decide +kernel
theorem dX1_add_35 : decode cX1_add 35 = .ok (.iload 4, 2) := by decide +kernel
theorem dX1_add_37 : decode cX1_add 37 = .ok (.iastore, 1) := by decide +kernel
theorem dX1_add_38 : decode cX1_add 38 = .ok (.aload_n 0, 1) := by decide +kernel
theorem dX1_add_39 : decode cX1_add 39 = .ok (.getfield 29, 3) := by decide +kernel
theorem dX1_add_42 : decode cX1_add 42 = .ok (.iload 5, 2) := by decide +kernel
theorem dX1_add_44 : decode cX1_add 44 = .ok (.aload_n 0, 1) := by decide +kernel
theorem dX1_add_45 : decode cX1_add 45 = .ok (.getfield 23, 3) := by decide +kernel
theorem dX1_add_48 : decode cX1_add 48 = .ok (.iastore, 1) := by decide +kernel
theorem dX1_add_49 : decode cX1_add 49 = .ok (.aload_n 0, 1) := by decide +kernel
theorem dX1_add_50 : decode cX1_add 50 = .ok (.iload 5, 2) := by decide +kernel
theorem dX1_add_52 : decode cX1_add 52 = .ok (.invokevirtual 54, 3) := by decide +kernel
theorem dX1_add_55 : decode cX1_add 55 = .ok (.aload_n 0, 1) := by decide +kernel
theorem dX1_add_56 : decode cX1_add 56 = .ok (.getfield 26, 3) := by decide +kernel
theorem dX1_add_59 : decode cX1_add 59 = .ok (.iload_n 1, 1) := by decide +kernel
theorem dX1_add_60 : decode cX1_add 60 = .ok (.dup2, 1) := by decide +kernel
theorem dX1_add_61 : decode cX1_add 61 = .ok (.iaload, 1) := by decide +kernel
theorem dX1_add_62 : decode cX1_add 62 = .ok (.iconst 1, 1) := by decide +kernel
theorem dX1_add_63 : decode cX1_add 63 = .ok (.iadd, 1) := by decide +kernel
theorem dX1_add_64 : decode cX1_add 64 = .ok (.iastore, 1) := by decide +kernel
theorem dX1_add_65 : decode cX1_add 65 = .ok (.aload_n 0, 1) := by decide +kernel
theorem dX1_add_66 : decode cX1_add 66 = .ok (.dup, 1) := by decide +kernel
theorem dX1_add_67 : decode cX1_add 67 = .ok (.getfield 23, 3) := by decide +kernel
theorem dX1_add_70 : decode cX1_add 70 = .ok (.iconst 1, 1) := by decide +kernel
theorem dX1_add_71 : decode cX1_add 71 = .ok (.iadd, 1) := by decide +kernel
theorem dX1_add_72 : decode cX1_add 72 = .ok (.putfield 23, 3) := by decide +kernel
theorem dX1_add_75 : decode cX1_add 75 = .ok (.aload_n 0, 1) := by decide +kernel
theorem dX1_add_76 : decode cX1_add 76 = .ok (.getfield 23, 3) := by decide +kernel
theorem dX1_add_79 : decode cX1_add 79 = .ok (.iconst 1, 1) := by decide +kernel
theorem dX1_add_80 : decode cX1_add 80 = .ok (.isub, 1) := by decide +kernel
theorem dX1_add_81 : decode cX1_add 81 = .ok (.ireturn, 1) := by decide +kernel
theorem dX1_giveAction_0 : decode cX1_giveAction 0 = .ok (.aload_n 0, 1) := by decide +kernel
theorem dX1_giveAction_1 : decode cX1_giveAction 1 = .ok (.getfield 41, 3) := by decide +kernel
theorem dX1_giveAction_4 : decode cX1_giveAction 4 = .ok (.iload_n 1, 1) := by decide +kernel
theorem dX1_giveAction_5 : decode cX1_giveAction 5 = .ok (.aload_n 0, 1) := by decide +kernel
theorem dX1_giveAction_6 : decode cX1_giveAction 6 = .ok (.getfield 13, 3) := by decide +kernel
theorem dX1_giveAction_9 : decode cX1_giveAction 9 = .ok (.iastore, 1) := by decide +kernel
theorem dX1_giveAction_10 : decode cX1_giveAction 10 = .ok (.aload_n 0, 1) := by decide +kernel
theorem dX1_giveAction_11 : decode cX1_giveAction 11 = .ok (.getfield 44, 3) := by decide +kernel
theorem dX1_giveAction_14 : decode cX1_giveAction 14 = .ok (.iload_n 1, 1) := by decide +kernel
theorem dX1_giveAction_15 : decode cX1_giveAction 15 = .ok (.aload_n 0, 1) := by decide +kernel
theorem dX1_giveAction_16 : decode cX1_giveAction 16 = .ok (.getfield 17, 3) := by decide +kernel
theorem dX1_giveAction_19 : decode cX1_giveAction 19 = .ok (.iastore, 1) := by decide +kernel
theorem dX1_giveAction_20 : decode cX1_giveAction 20 = .ok (.aload_n 0, 1) := by decide +kernel
theorem dX1_giveAction_21 : decode cX1_giveAction 21 = .ok (.getfield 47, 3) := by decide +kernel
theorem dX1_giveAction_24 : decode cX1_giveAction 24 = .ok (.iload_n 1, 1) := by decide +kernel
theorem dX1_giveAction_25 : decode cX1_giveAction 25 = .ok (.aload_n 0, 1) := by decide +kernel
theorem dX1_giveAction_26 : decode cX1_giveAction 26 = .ok (.getfield 20, 3) := by decide +kernel
theorem dX1_giveAction_29 : decode cX1_giveAction 29 = .ok (.iastore, 1) := by decide +kernel
theorem dX1_giveAction_30 : decode cX1_giveAction 30 = .ok (.return_, 1) := by decide +kernel
theorem dX1_addMasked_0 : decode cX1_addMasked 0 = .ok (.aload_n 0, 1) := by decide +kernel
theorem dX1_addMasked_1 : decode cX1_addMasked 1 = .ok (.getfield 26, 3) := by decide +kernel
theorem dX1_addMasked_4 : decode cX1_addMasked 4 = .ok (.iconst 1, 1) := by decide +kernel
theorem dX1_addMasked_5 : decode cX1_addMasked 5 = .ok (.iaload, 1) := by decide +kernel
theorem dX1_addMasked_6 : decode cX1_addMasked 6 = .ok (.bipush 16, 2) := by decide +kernel
theorem dX1_addMasked_8 : decode cX1_addMasked 8 = .ok (.if_icmp .ne 6, 3) := by decide +kernel
theorem dX1_addMasked_11 : decode cX1_addMasked 11 = .ok (.bipush (-2), 2) := by decide +kernel
theorem dX1_addMasked_13 : decode cX1_addMasked 13 = .ok (.ireturn, 1) := by decide +kernel
theorem dX1_addMasked_14 : decode cX1_addMasked 14 = .ok (.iload_n 1, 1) := by decide +kernel
theorem dX1_addMasked_15 : decode cX1_addMasked 15 = .ok (.ifCond .lt 29, 3) := by decide +kernel
theorem dX1_addMasked_18 : decode cX1_addMasked 18 = .ok (.iload_n 1, 1) := by decide +kernel
theorem dX1_addMasked_19 : decode cX1_addMasked 19 = .ok (.ldc 62, 2) := by decide +kernel
theorem dX1_addMasked_21 : decode cX1_addMasked 21 = .ok (.if_icmp .gt 23, 3) := by decide +kernel
theorem dX1_addMasked_24 : decode cX1_addMasked 24 = .ok (.iload_n 2, 1) := by decide +kernel
theorem dX1_addMasked_25 : decode cX1_addMasked 25 = .ok (.ifCond .lt 19, 3) := by decide +kernel
theorem dX1_addMasked_28 : decode cX1_addMasked 28 = .ok (.iload_n 2, 1) := by decide +kernel
theorem dX1_addMasked_29 : decode cX1_addMasked 29 = .ok (.ldc 62, 2) := by decide +kernel
theorem dX1_addMasked_31 : decode cX1_addMasked 31 = .ok (.if_icmp .gt 13, 3) := by decide +kernel
theorem dX1_addMasked_34 : decode cX1_addMasked 34 = .ok (.iload_n 3, 1) := by decide +kernel
theorem dX1_addMasked_35 : decode cX1_addMasked 35 = .ok (.ifCond .lt 9, 3) := by decide +kernel
theorem dX1_addMasked_38 : decode cX1_addMasked 38 = .ok (.iload_n 3, 1) := by decide +kernel
theorem dX1_addMasked_39 : decode cX1_addMasked 39 = .ok (.bipush 15, 2) := by decide +kernel
theorem dX1_addMasked_41 : decode cX1_addMasked 41 = .ok (.if_icmp .le 5, 3) := by decide +kernel
theorem dX1_addMasked_44 : decode cX1_addMasked 44 = .ok (.iconst (-1), 1) := by decide +kernel
theorem dX1_addMasked_45 : decode cX1_addMasked 45 = .ok (.ireturn, 1) := by decide +kernel
theorem dX1_addMasked_46 : decode cX1_addMasked 46 = .ok (.aload_n 0, 1) := by decide +kernel
theorem dX1_addMasked_47 : decode cX1_addMasked 47 = .ok (.iconst 1, 1) := by decide +kernel
theorem dX1_addMasked_48 : decode cX1_addMasked 48 = .ok (.iload_n 1, 1) := by decide +kernel
theorem dX1_addMasked_49 : decode cX1_addMasked 49 = .ok (.iload_n 2, 1) := by decide +kernel
theorem dX1_addMasked_50 : decode cX1_addMasked 50 = .ok (.iload_n 3, 1) := by decide +kernel
theorem dX1_addMasked_51 : decode cX1_addMasked 51 = .ok (.invokevirtual 58, 3) := by decide +kernel
theorem dX1_addMasked_54 : decode cX1_addMasked 54 = .ok (.ireturn, 1) := by decide +kernel
theorem dX1_remove_0 : decode cX1_remove 0 = .ok (.aload_n 0, 1) := by decide +kernel
theorem dX1_remove_1 : decode cX1_remove 1 = .ok (.iload_n 1, 1) := by decide +kernel
theorem dX1_remove_2 : decode cX1_remove 2 = .ok (.invokevirtual 63, 3) := by decide +kernel
theorem dX1_remove_5 : decode cX1_remove 5 = .ok (.istore_n 2, 1) := by decide +kernel
theorem dX1_remove_6 : decode cX1_remove 6 = .ok (.iload_n 2, 1) := by decide +kernel
theorem dX1_remove_7 : decode cX1_remove 7 = .ok (.ifCond .ge 6, 3) := by decide +kernel
theorem dX1_remove_10 : decode cX1_remove 10 = .ok (.bipush (-3), 2) := by decide +kernel
theorem dX1_remove_12 : decode cX1_remove 12 = .ok (.ireturn, 1) := by decide +kernel
theorem dX1_remove_13 : decode cX1_remove 13 = .ok (.iload_n 2, 1) := by decide +kernel
theorem dX1_remove_14 : decode cX1_remove 14 = .ok (.bipush 16, 2) := by decide +kernel
theorem dX1_remove_16 : decode cX1_remove 16 = .ok (.idiv, 1) := by decide +kernel
theorem dX1_remove_17 : decode cX1_remove 17 = .ok (.istore_n 3, 1) := by decide +kernel
theorem dX1_remove_18 : decode cX1_remove 18 = .ok (.iload_n 2, 1) := by decide +kernel
theorem dX1_remove_19 : decode cX1_remove 19 = .ok (.istore 4, 2) := by decide +kernel
theorem dX1_remove_21 : decode cX1_remove 21 = .ok (.iload 4, 2) := by decide +kernel
theorem dX1_remove_23 : decode cX1_remove 23 = .ok (.bipush 16, 2) := by decide +kernel
theorem dX1_remove_25 : decode cX1_remove 25 = .ok (.iload_n 3, 1) := by decide +kernel
theorem dX1_remove_26 : decode cX1_remove 26 = .ok (.imul, 1) := by decide +kernel
theorem dX1_remove_27 : decode cX1_remove 27 = .ok (.aload_n 0, 1) := by decide +kernel
theorem dX1_remove_28 : decode cX1_remove 28 = .ok (.getfield 26, 3) := by decide +kernel
theorem dX1_remove_31 : decode cX1_remove 31 = .ok (.iload_n 3, 1) := by decide +kernel
theorem dX1_remove_32 : decode cX1_remove 32 = .ok (.iaload, 1) := by decide +kernel
theorem dX1_remove_33 : decode cX1_remove 33 = .ok (.iadd, 1) := by decide +kernel
theorem dX1_remove_34 : decode cX1_remove 34 = .ok (.iconst 1, 1) := by decide +kernel
theorem dX1_remove_35 : decode cX1_remove 35 = .ok (.isub, 1) := by decide +kernel
theorem dX1_remove_36 : decode cX1_remove 36 = .ok (.if_icmp .ge 15, 3) := by decide +kernel
theorem dX1_remove_39 : decode cX1_remove 39 = .ok (.aload_n 0, 1) := by decide +kernel
theorem dX1_remove_40 : decode cX1_remove 40 = .ok (.iload 4, 2) := by decide +kernel
theorem dX1_remove_42 : decode cX1_remove 42 = .ok (.invokevirtual 67, 3) := by decide +kernel
theorem dX1_remove_45 : decode cX1_remove 45 = .ok (.iinc 4 1, 3) := by decide +kernel
theorem dX1_remove_48 : decode cX1_remove 48 = .ok (.goto (-27), 3) := by decide +kernel
theorem dX1_remove_51 : decode cX1_remove 51 = .ok (.aload_n 0, 1) := by decide +kernel
theorem dX1_remove_52 : decode cX1_remove 52 = .ok (.getfield 26, 3) := by decide +kernel
theorem dX1_remove_55 : decode cX1_remove 55 = .ok (.iload_n 3, 1) := by decide +kernel
theorem dX1_remove_56 : decode cX1_remove 56 = .ok (.dup2, 1) := by decide +kernel
theorem dX1_remove_57 : decode cX1_remove 57 = .ok (.iaload, 1) := by decide +kernel
theorem dX1_remove_58 : decode cX1_remove 58 = .ok (.iconst 1, 1) := by decide +kernel
theorem dX1_remove_59 : decode cX1_remove 59 = .ok (.isub, 1) := by decide +kernel
theorem dX1_remove_60 : decode cX1_remove 60 = .ok (.iastore, 1) := by decide +kernel
theorem dX1_remove_61 : decode cX1_remove 61 = .ok (.aload_n 0, 1) := by decide +kernel
theorem dX1_remove_62 : decode cX1_remove 62 = .ok (.getfield 26, 3) := by decide +kernel
theorem dX1_remove_65 : decode cX1_remove 65 = .ok (.iload_n 3, 1) := by decide +kernel
theorem dX1_remove_66 : decode cX1_remove 66 = .ok (.iaload, 1) := by decide +kernel
theorem dX1_remove_67 : decode cX1_remove 67 = .ok (.ireturn, 1) := by decide +kernel
theorem dX1_find_0 : decode cX1_find 0 = .ok (.iconst 0, 1) := by decide +kernel
theorem dX1_find_1 : decode cX1_find 1 = .ok (.istore_n 2, 1) := by decide +kernel
theorem dX1_find_2 : decode cX1_find 2 = .ok (.iload_n 2, 1) := by decide +kernel
theorem dX1_find_3 : decode cX1_find 3 = .ok (.bipush 32, 2) := by decide +kernel
theorem dX1_find_5 : decode cX1_find 5 = .ok (.if_icmp .ge 37, 3) := by decide +kernel
theorem dX1_find_8 : decode cX1_find 8 = .ok (.iload_n 2, 1) := by decide +kernel
theorem dX1_find_9 : decode cX1_find 9 = .ok (.bipush 16, 2) := by decide +kernel
theorem dX1_find_11 : decode cX1_find 11 = .ok (.irem, 1) := by decide +kernel
theorem dX1_find_12 : decode cX1_find 12 = .ok (.aload_n 0, 1) := by decide +kernel
theorem dX1_find_13 : decode cX1_find 13 = .ok (.getfield 26, 3) := by decide +kernel
theorem dX1_find_16 : decode cX1_find 16 = .ok (.iload_n 2, 1) := by decide +kernel
theorem dX1_find_17 : decode cX1_find 17 = .ok (.bipush 16, 2) := by decide +kernel
theorem dX1_find_19 : decode cX1_find 19 = .ok (.idiv, 1) := by decide +kernel
theorem dX1_find_20 : decode cX1_find 20 = .ok (.iaload, 1) := by decide +kernel
theorem dX1_find_21 : decode cX1_find 21 = .ok (.if_icmp .ge 15, 3) := by decide +kernel
theorem dX1_find_24 : decode cX1_find 24 = .ok (.aload_n 0, 1) := by decide +kernel
theorem dX1_find_25 : decode cX1_find 25 = .ok (.getfield 29, 3) := by decide +kernel
theorem dX1_find_28 : decode cX1_find 28 = .ok (.iload_n 2, 1) := by decide +kernel
theorem dX1_find_29 : decode cX1_find 29 = .ok (.iaload, 1) := by decide +kernel
theorem dX1_find_30 : decode cX1_find 30 = .ok (.iload_n 1, 1) := by decide +kernel
theorem dX1_find_31 : decode cX1_find 31 = .ok (.if_icmp .ne 5, 3) := by decide +kernel
theorem dX1_find_34 : decode cX1_find 34 = .ok (.iload_n 2, 1) := by decide +kernel
theorem dX1_find_35 : decode cX1_find 35 = .ok (.ireturn, 1) := by decide +kernel
theorem dX1_find_36 : decode cX1_find 36 = .ok (.iinc 2 1, 3) := by decide +kernel
theorem dX1_find_39 : decode cX1_find 39 = .ok (.goto (-37), 3) := by decide +kernel
theorem dX1_find_42 : decode cX1_find 42 = .ok (.iconst (-1), 1) := by decide +kernel
theorem dX1_find_43 : decode cX1_find 43 = .ok (.ireturn, 1) := by decide +kernel
theorem dX1_shift_0 : decode cX1_shift 0 = .ok (.aload_n 0, 1) := by decide +kernel
theorem dX1_shift_1 : decode cX1_shift 1 = .ok (.getfield 29, 3) := by decide +kernel
theorem dX1_shift_4 : decode cX1_shift 4 = .ok (.iload_n 1, 1) := by decide +kernel
theorem dX1_shift_5 : decode cX1_shift 5 = .ok (.aload_n 0, 1) := by decide +kernel
theorem dX1_shift_6 : decode cX1_shift 6 = .ok (.getfield 29, 3) := by decide +kernel
theorem dX1_shift_9 : decode cX1_shift 9 = .ok (.iload_n 1, 1) := by decide +kernel
theorem dX1_shift_10 : decode cX1_shift 10 = .ok (.iconst 1, 1) := by decide +kernel
theorem dX1_shift_11 : decode cX1_shift 11 = .ok (.iadd, 1) := by decide +kernel
theorem dX1_shift_12 : decode cX1_shift 12 = .ok (.iaload, 1) := by decide +kernel
theorem dX1_shift_13 : decode cX1_shift 13 = .ok (.iastore, 1) := by decide +kernel
theorem dX1_shift_14 : decode cX1_shift 14 = .ok (.aload_n 0, 1) := by decide +kernel
theorem dX1_shift_15 : decode cX1_shift 15 = .ok (.getfield 32, 3) := by decide +kernel
theorem dX1_shift_18 : decode cX1_shift 18 = .ok (.iload_n 1, 1) := by decide +kernel
theorem dX1_shift_19 : decode cX1_shift 19 = .ok (.aload_n 0, 1) := by decide +kernel
theorem dX1_shift_20 : decode cX1_shift 20 = .ok (.getfield 32, 3) := by decide +kernel
theorem dX1_shift_23 : decode cX1_shift 23 = .ok (.iload_n 1, 1) := by decide +kernel
theorem dX1_shift_24 : decode cX1_shift 24 = .ok (.iconst 1, 1) := by decide +kernel
theorem dX1_shift_25 : decode cX1_shift 25 = .ok (.iadd, 1) := by decide +kernel
theorem dX1_shift_26 : decode cX1_shift 26 = .ok (.iaload, 1) := by decide +kernel
theorem dX1_shift_27 : decode cX1_shift 27 = .ok (.iastore, 1) := by decide +kernel
theorem dX1_shift_28 : decode cX1_shift 28 = .ok (.aload_n 0, 1) := by decide +kernel
theorem dX1_shift_29 : decode cX1_shift 29 = .ok (.getfield 35, 3) := by decide +kernel
theorem dX1_shift_32 : decode cX1_shift 32 = .ok (.iload_n 1, 1) := by decide +kernel
theorem dX1_shift_33 : decode cX1_shift 33 = .ok (.aload_n 0, 1) := by decide +kernel
theorem dX1_shift_34 : decode cX1_shift 34 = .ok (.getfield 35, 3) := by decide +kernel
theorem dX1_shift_37 : decode cX1_shift 37 = .ok (.iload_n 1, 1) := by decide +kernel
theorem dX1_shift_38 : decode cX1_shift 38 = .ok (.iconst 1, 1) := by decide +kernel
theorem dX1_shift_39 : decode cX1_shift 39 = .ok (.iadd, 1) := by decide +kernel
theorem dX1_shift_40 : decode cX1_shift 40 = .ok (.iaload, 1) := by decide +kernel
theorem dX1_shift_41 : decode cX1_shift 41 = .ok (.iastore, 1) := by decide +kernel
theorem dX1_shift_42 : decode cX1_shift 42 = .ok (.aload_n 0, 1) := by decide +kernel
theorem dX1_shift_43 : decode cX1_shift 43 = .ok (.getfield 38, 3) := by decide +kernel
theorem dX1_shift_46 : decode cX1_shift 46 = .ok (.iload_n 1, 1) := by decide +kernel
theorem dX1_shift_47 : decode cX1_shift 47 = .ok (.aload_n 0, 1) := by decide +kernel
theorem dX1_shift_48 : decode cX1_shift 48 = .ok (.getfield 38, 3) := by decide +kernel
theorem dX1_shift_51 : decode cX1_shift 51 = .ok (.iload_n 1, 1) := by decide +kernel
theorem dX1_shift_52 : decode cX1_shift 52 = .ok (.iconst 1, 1) := by decide +kernel
theorem dX1_shift_53 : decode cX1_shift 53 = .ok (.iadd, 1) := by decide +kernel
theorem dX1_shift_54 : decode cX1_shift 54 = .ok (.iaload, 1) := by decide +kernel
theorem dX1_shift_55 : decode cX1_shift 55 = .ok (.iastore, 1) := by decide +kernel
theorem dX1_shift_56 : decode cX1_shift 56 = .ok (.aload_n 0, 1) := by decide +kernel
theorem dX1_shift_57 : decode cX1_shift 57 = .ok (.getfield 41, 3) := by decide +kernel
theorem dX1_shift_60 : decode cX1_shift 60 = .ok (.iload_n 1, 1) := by decide +kernel
theorem dX1_shift_61 : decode cX1_shift 61 = .ok (.aload_n 0, 1) := by decide +kernel
theorem dX1_shift_62 : decode cX1_shift 62 = .ok (.getfield 41, 3) := by decide +kernel
theorem dX1_shift_65 : decode cX1_shift 65 = .ok (.iload_n 1, 1) := by decide +kernel
theorem dX1_shift_66 : decode cX1_shift 66 = .ok (.iconst 1, 1) := by decide +kernel
theorem dX1_shift_67 : decode cX1_shift 67 = .ok (.iadd, 1) := by decide +kernel
theorem dX1_shift_68 : decode cX1_shift 68 = .ok (.iaload, 1) := by decide +kernel
theorem dX1_shift_69 : decode cX1_shift 69 = .ok (.iastore, 1) := by decide +kernel
theorem dX1_shift_70 : decode cX1_shift 70 = .ok (.aload_n 0, 1) := by decide +kernel
theorem dX1_shift_71 : decode cX1_shift 71 = .ok (.getfield 44, 3) := by decide +kernel
theorem dX1_shift_74 : decode cX1_shift 74 = .ok (.iload_n 1, 1) := by decide +kernel
theorem dX1_shift_75 : decode cX1_shift 75 = .ok (.aload_n 0, 1) := by decide +kernel
theorem dX1_shift_76 : decode cX1_shift 76 = .ok (.getfield 44, 3) := by decide +kernel
theorem dX1_shift_79 : decode cX1_shift 79 = .ok (.iload_n 1, 1) := by decide +kernel
theorem dX1_shift_80 : decode cX1_shift 80 = .ok (.iconst 1, 1) := by decide +kernel
theorem dX1_shift_81 : decode cX1_shift 81 = .ok (.iadd, 1) := by decide +kernel
theorem dX1_shift_82 : decode cX1_shift 82 = .ok (.iaload, 1) := by decide +kernel
theorem dX1_shift_83 : decode cX1_shift 83 = .ok (.iastore, 1) := by decide +kernel
theorem dX1_shift_84 : decode cX1_shift 84 = .ok (.aload_n 0, 1) := by decide +kernel
theorem dX1_shift_85 : decode cX1_shift 85 = .ok (.getfield 47, 3) := by decide +kernel
theorem dX1_shift_88 : decode cX1_shift 88 = .ok (.iload_n 1, 1) := by decide +kernel
theorem dX1_shift_89 : decode cX1_shift 89 = .ok (.aload_n 0, 1) := by decide +kernel
theorem dX1_shift_90 : decode cX1_shift 90 = .ok (.getfield 47, 3) := by decide +kernel
theorem dX1_shift_93 : decode cX1_shift 93 = .ok (.iload_n 1, 1) := by decide +kernel
theorem dX1_shift_94 : decode cX1_shift 94 = .ok (.iconst 1, 1) := by decide +kernel
theorem dX1_shift_95 : decode cX1_shift 95 = .ok (.iadd, 1) := by decide +kernel
theorem dX1_shift_96 : decode cX1_shift 96 = .ok (.iaload, 1) := by decide +kernel
theorem dX1_shift_97 : decode cX1_shift 97 = .ok (.iastore, 1) := by decide +kernel
theorem dX1_shift_98 : decode cX1_shift 98 = .ok (.return_, 1) := by decide +kernel
theorem dX1_setDefault_0 : decode cX1_setDefault 0 = .ok (.aload_n 0, 1) := by decide +kernel
theorem dX1_setDefault_1 : decode cX1_setDefault 1 = .ok (.iload_n 1, 1) := by decide +kernel
theorem dX1_setDefault_2 : decode cX1_setDefault 2 = .ok (.invokevirtual 70, 3) := by decide +kernel
theorem dX1_setDefault_5 : decode cX1_setDefault 5 = .ok (.ifCond .ne 5, 3) := by decide +kernel
theorem dX1_setDefault_8 : decode cX1_setDefault 8 = .ok (.iconst 0, 1) := by decide +kernel
theorem dX1_setDefault_9 : decode cX1_setDefault 9 = .ok (.ireturn, 1) := by decide +kernel
theorem dX1_setDefault_10 : decode cX1_setDefault 10 = .ok (.aload_n 0, 1) := by decide +kernel
theorem dX1_setDefault_11 : decode cX1_setDefault 11 = .ok (.bipush 32, 2) := by decide +kernel
theorem dX1_setDefault_13 : decode cX1_setDefault 13 = .ok (.iload_n 1, 1) := by decide +kernel
theorem dX1_setDefault_14 : decode cX1_setDefault 14 = .ok (.iadd, 1) := by decide +kernel
theorem dX1_setDefault_15 : decode cX1_setDefault 15 = .ok (.invokevirtual 54, 3) := by decide +kernel
theorem dX1_setDefault_18 : decode cX1_setDefault 18 = .ok (.iconst 1, 1) := by decide +kernel
theorem dX1_setDefault_19 : decode cX1_setDefault 19 = .ok (.ireturn, 1) := by decide +kernel
theorem dX1_isTable_0 : decode cX1_isTable 0 = .ok (.iload_n 1, 1) := by decide +kernel
theorem dX1_isTable_1 : decode cX1_isTable 1 = .ok (.ifCond .eq 8, 3) := by decide +kernel
theorem dX1_isTable_4 : decode cX1_isTable 4 = .ok (.iload_n 1, 1) := by decide +kernel
theorem dX1_isTable_5 : decode cX1_isTable 5 = .ok (.iconst 1, 1) := by decide +kernel
theorem dX1_isTable_6 : decode cX1_isTable 6 = .ok (.if_icmp .ne 7, 3) := by decide +kernel
theorem dX1_isTable_9 : decode cX1_isTable 9 = .ok (.iconst 1, 1) := by decide +kernel
theorem dX1_isTable_10 : decode cX1_isTable 10 = .ok (.goto 4, 3) := by decide +kernel
theorem dX1_isTable_13 : decode cX1_isTable 13 = .ok (.iconst 0, 1) := by decide +kernel
theorem dX1_isTable_14 : decode cX1_isTable 14 = .ok (.ireturn, 1) := by decide +kernel
theorem dX1_field_0 : decode cX1_field 0 = .ok (.iload_n 1, 1) := by decide +kernel
theorem dX1_field_1 : decode cX1_field 1 = .ok (.ifCond .lt 16, 3) := by decide +kernel
theorem dX1_field_4 : decode cX1_field 4 = .ok (.iload_n 1, 1) := by decide +kernel
theorem dX1_field_5 : decode cX1_field 5 = .ok (.iconst 3, 1) := by decide +kernel
theorem dX1_field_6 : decode cX1_field 6 = .ok (.if_icmp .gt 11, 3) := by decide +kernel
theorem dX1_field_9 : decode cX1_field 9 = .ok (.aload_n 0, 1) := by decide +kernel
theorem dX1_field_10 : decode cX1_field 10 = .ok (.iload_n 2, 1) := by decide +kernel
theorem dX1_field_11 : decode cX1_field 11 = .ok (.invokevirtual 50, 3) := by decide +kernel
theorem dX1_field_14 : decode cX1_field 14 = .ok (.ifCond .ne 5, 3) := by decide +kernel
theorem dX1_field_17 : decode cX1_field 17 = .ok (.iconst 0, 1) := by decide +kernel
theorem dX1_field_18 : decode cX1_field 18 = .ok (.ireturn, 1) := by decide +kernel
theorem dX1_field_19 : decode cX1_field 19 = .ok (.aload_n 0, 1) := by decide +kernel
theorem dX1_field_20 : decode cX1_field 20 = .ok (.getfield 7, 3) := by decide +kernel
theorem dX1_field_23 : decode cX1_field 23 = .ok (.iload_n 1, 1) := by decide +kernel
theorem dX1_field_24 : decode cX1_field 24 = .ok (.iload_n 2, 1) := by decide +kernel
theorem dX1_field_25 : decode cX1_field 25 = .ok (.iastore, 1) := by decide +kernel
theorem dX1_field_26 : decode cX1_field 26 = .ok (.iconst 1, 1) := by decide +kernel
theorem dX1_field_27 : decode cX1_field 27 = .ok (.ireturn, 1) := by decide +kernel
theorem dX1_get_0 : decode cX1_get 0 = .ok (.iload_n 1, 1) := by decide +kernel
theorem dX1_get_1 : decode cX1_get 1 = .ok (.ifCond .lt 17, 3) := by decide +kernel
theorem dX1_get_4 : decode cX1_get 4 = .ok (.iload_n 1, 1) := by decide +kernel
theorem dX1_get_5 : decode cX1_get 5 = .ok (.iconst 3, 1) := by decide +kernel
theorem dX1_get_6 : decode cX1_get 6 = .ok (.if_icmp .gt 12, 3) := by decide +kernel
theorem dX1_get_9 : decode cX1_get 9 = .ok (.aload_n 0, 1) := by decide +kernel
theorem dX1_get_10 : decode cX1_get 10 = .ok (.getfield 7, 3) := by decide +kernel
theorem dX1_get_13 : decode cX1_get 13 = .ok (.iload_n 1, 1) := by decide +kernel
theorem dX1_get_14 : decode cX1_get 14 = .ok (.iaload, 1) := by decide +kernel
theorem dX1_get_15 : decode cX1_get 15 = .ok (.goto 4, 3) := by decide +kernel
theorem dX1_get_18 : decode cX1_get 18 = .ok (.iconst (-1), 1) := by decide +kernel
theorem dX1_get_19 : decode cX1_get 19 = .ok (.ireturn, 1) := by decide +kernel
theorem dX1_lookup_0 : decode cX1_lookup 0 = .ok (.aload_n 0, 1) := by decide +kernel
theorem dX1_lookup_1 : decode cX1_lookup 1 = .ok (.iload_n 1, 1) := by decide +kernel
theorem dX1_lookup_2 : decode cX1_lookup 2 = .ok (.invokevirtual 70, 3) := by decide +kernel
theorem dX1_lookup_5 : decode cX1_lookup 5 = .ok (.ifCond .ne 5, 3) := by decide +kernel
theorem dX1_lookup_8 : decode cX1_lookup 8 = .ok (.iconst (-1), 1) := by decide +kernel
theorem dX1_lookup_9 : decode cX1_lookup 9 = .ok (.ireturn, 1) := by decide +kernel
theorem dX1_lookup_10 : decode cX1_lookup 10 = .ok (.aload_n 0, 1) := by decide +kernel
theorem dX1_lookup_11 : decode cX1_lookup 11 = .ok (.iload_n 1, 1) := by decide +kernel
theorem dX1_lookup_12 : decode cX1_lookup 12 = .ok (.aload_n 0, 1) := by decide +kernel
theorem dX1_lookup_13 : decode cX1_lookup 13 = .ok (.getfield 7, 3) := by decide +kernel
theorem dX1_lookup_16 : decode cX1_lookup 16 = .ok (.iconst 0, 1) := by decide +kernel
theorem dX1_lookup_17 : decode cX1_lookup 17 = .ok (.iaload, 1) := by decide +kernel
theorem dX1_lookup_18 : decode cX1_lookup 18 = .ok (.invokevirtual 77, 3) := by decide +kernel
theorem dX1_lookup_21 : decode cX1_lookup 21 = .ok (.istore_n 2, 1) := by decide +kernel
theorem dX1_lookup_22 : decode cX1_lookup 22 = .ok (.iload_n 2, 1) := by decide +kernel
theorem dX1_lookup_23 : decode cX1_lookup 23 = .ok (.ifCond .ge 8, 3) := by decide +kernel
theorem dX1_lookup_26 : decode cX1_lookup 26 = .ok (.bipush (-3), 2) := by decide +kernel
theorem dX1_lookup_28 : decode cX1_lookup 28 = .ok (.goto 9, 3) := by decide +kernel
theorem dX1_lookup_31 : decode cX1_lookup 31 = .ok (.aload_n 0, 1) := by decide +kernel
theorem dX1_lookup_32 : decode cX1_lookup 32 = .ok (.getfield 29, 3) := by decide +kernel
theorem dX1_lookup_35 : decode cX1_lookup 35 = .ok (.iload_n 2, 1) := by decide +kernel
theorem dX1_lookup_36 : decode cX1_lookup 36 = .ok (.iaload, 1) := by decide +kernel
theorem dX1_lookup_37 : decode cX1_lookup 37 = .ok (.ireturn, 1) := by decide +kernel
theorem dX1_taken_0 : decode cX1_taken 0 = .ok (.iconst (-1), 1) := by decide +kernel
theorem dX1_taken_1 : decode cX1_taken 1 = .ok (.istore_n 3, 1) := by decide +kernel
theorem dX1_taken_2 : decode cX1_taken 2 = .ok (.bipush 16, 2) := by decide +kernel
theorem dX1_taken_4 : decode cX1_taken 4 = .ok (.iload_n 1, 1) := by decide +kernel
theorem dX1_taken_5 : decode cX1_taken 5 = .ok (.imul, 1) := by decide +kernel
theorem dX1_taken_6 : decode cX1_taken 6 = .ok (.istore 4, 2) := by decide +kernel
theorem dX1_taken_8 : decode cX1_taken 8 = .ok (.iload 4, 2) := by decide +kernel
end
section
set_option maxRecDepth 100000
theorem dX1_taken_10 : decode cX1_taken 10 = .ok (.bipush 16, 2) := by decide +kernel
theorem dX1_taken_12 : decode cX1_taken 12 = .ok (.iload_n 1, 1) := by decide +kernel
theorem dX1_taken_13 : decode cX1_taken 13 = .ok (.imul, 1) := by decide +kernel
theorem dX1_taken_14 : decode cX1_taken 14 = .ok (.aload_n 0, 1) := by decide +kernel
theorem dX1_taken_15 : decode cX1_taken 15 = .ok (.getfield 26, 3) := by decide +kernel
theorem dX1_taken_18 : decode cX1_taken 18 = .ok (.iload_n 1, 1) := by decide +kernel
theorem dX1_taken_19 : decode cX1_taken 19 = .ok (.iaload, 1) := by decide +kernel
theorem dX1_taken_20 : decode cX1_taken 20 = .ok (.iadd, 1) := by decide +kernel
theorem dX1_taken_21 : decode cX1_taken 21 = .ok (.if_icmp .ge 42, 3) := by decide +kernel
theorem dX1_taken_24 : decode cX1_taken 24 = .ok (.aload_n 0, 1) := by decide +kernel
theorem dX1_taken_25 : decode cX1_taken 25 = .ok (.iload 4, 2) := by decide +kernel
theorem dX1_taken_27 : decode cX1_taken 27 = .ok (.iload_n 2, 1) := by decide +kernel
theorem dX1_taken_28 : decode cX1_taken 28 = .ok (.invokevirtual 73, 3) := by decide +kernel
theorem dX1_taken_31 : decode cX1_taken 31 = .ok (.ifCond .eq 26, 3) := by decide +kernel
theorem dX1_taken_34 : decode cX1_taken 34 = .ok (.iload_n 3, 1) := by decide +kernel
theorem dX1_taken_35 : decode cX1_taken 35 = .ok (.ifCond .lt 19, 3) := by decide +kernel
theorem dX1_taken_38 : decode cX1_taken 38 = .ok (.aload_n 0, 1) := by decide +kernel
theorem dX1_taken_39 : decode cX1_taken 39 = .ok (.getfield 38, 3) := by decide +kernel
theorem dX1_taken_42 : decode cX1_taken 42 = .ok (.iload 4, 2) := by decide +kernel
theorem dX1_taken_44 : decode cX1_taken 44 = .ok (.iaload, 1) := by decide +kernel
theorem dX1_taken_45 : decode cX1_taken 45 = .ok (.aload_n 0, 1) := by decide +kernel
theorem dX1_taken_46 : decode cX1_taken 46 = .ok (.getfield 38, 3) := by decide +kernel
theorem dX1_taken_49 : decode cX1_taken 49 = .ok (.iload_n 3, 1) := by decide +kernel
theorem dX1_taken_50 : decode cX1_taken 50 = .ok (.iaload, 1) := by decide +kernel
theorem dX1_taken_51 : decode cX1_taken 51 = .ok (.if_icmp .le 6, 3) := by decide +kernel
theorem dX1_taken_54 : decode cX1_taken 54 = .ok (.iload 4, 2) := by decide +kernel
theorem dX1_taken_56 : decode cX1_taken 56 = .ok (.istore_n 3, 1) := by decide +kernel
theorem dX1_taken_57 : decode cX1_taken 57 = .ok (.iinc 4 1, 3) := by decide +kernel
theorem dX1_taken_60 : decode cX1_taken 60 = .ok (.goto (-52), 3) := by decide +kernel
theorem dX1_taken_63 : decode cX1_taken 63 = .ok (.iload_n 3, 1) := by decide +kernel
theorem dX1_taken_64 : decode cX1_taken 64 = .ok (.ireturn, 1) := by decide +kernel
theorem dX1_fits_0 : decode cX1_fits 0 = .ok (.iload_n 1, 1) := by decide +kernel
theorem dX1_fits_1 : decode cX1_fits 1 = .ok (.bipush 16, 2) := by decide +kernel
theorem dX1_fits_3 : decode cX1_fits 3 = .ok (.if_icmp .ge 39, 3) := by decide +kernel
theorem dX1_fits_6 : decode cX1_fits 6 = .ok (.iload_n 2, 1) := by decide +kernel
theorem dX1_fits_7 : decode cX1_fits 7 = .ok (.bipush 8, 2) := by decide +kernel
theorem dX1_fits_9 : decode cX1_fits 9 = .ok (.aload_n 0, 1) := by decide +kernel
theorem dX1_fits_10 : decode cX1_fits 10 = .ok (.getfield 35, 3) := by decide +kernel
theorem dX1_fits_13 : decode cX1_fits 13 = .ok (.iload_n 1, 1) := by decide +kernel
theorem dX1_fits_14 : decode cX1_fits 14 = .ok (.iaload, 1) := by decide +kernel
theorem dX1_fits_15 : decode cX1_fits 15 = .ok (.isub, 1) := by decide +kernel
theorem dX1_fits_16 : decode cX1_fits 16 = .ok (.ishr, 1) := by decide +kernel
theorem dX1_fits_17 : decode cX1_fits 17 = .ok (.aload_n 0, 1) := by decide +kernel
theorem dX1_fits_18 : decode cX1_fits 18 = .ok (.getfield 32, 3) := by decide +kernel
theorem dX1_fits_21 : decode cX1_fits 21 = .ok (.iload_n 1, 1) := by decide +kernel
theorem dX1_fits_22 : decode cX1_fits 22 = .ok (.iaload, 1) := by decide +kernel
theorem dX1_fits_23 : decode cX1_fits 23 = .ok (.bipush 8, 2) := by decide +kernel
theorem dX1_fits_25 : decode cX1_fits 25 = .ok (.aload_n 0, 1) := by decide +kernel
theorem dX1_fits_26 : decode cX1_fits 26 = .ok (.getfield 35, 3) := by decide +kernel
theorem dX1_fits_29 : decode cX1_fits 29 = .ok (.iload_n 1, 1) := by decide +kernel
theorem dX1_fits_30 : decode cX1_fits 30 = .ok (.iaload, 1) := by decide +kernel
theorem dX1_fits_31 : decode cX1_fits 31 = .ok (.isub, 1) := by decide +kernel
theorem dX1_fits_32 : decode cX1_fits 32 = .ok (.ishr, 1) := by decide +kernel
theorem dX1_fits_33 : decode cX1_fits 33 = .ok (.if_icmp .ne 7, 3) := by decide +kernel
theorem dX1_fits_36 : decode cX1_fits 36 = .ok (.iconst 1, 1) := by decide +kernel
theorem dX1_fits_37 : decode cX1_fits 37 = .ok (.goto 4, 3) := by decide +kernel
theorem dX1_fits_40 : decode cX1_fits 40 = .ok (.iconst 0, 1) := by decide +kernel
theorem dX1_fits_41 : decode cX1_fits 41 = .ok (.ireturn, 1) := by decide +kernel
theorem dX1_fits_42 : decode cX1_fits 42 = .ok (.aload_n 0, 1) := by decide +kernel
theorem dX1_fits_43 : decode cX1_fits 43 = .ok (.getfield 7, 3) := by decide +kernel
theorem dX1_fits_46 : decode cX1_fits 46 = .ok (.iconst 1, 1) := by decide +kernel
theorem dX1_fits_47 : decode cX1_fits 47 = .ok (.iaload, 1) := by decide +kernel
theorem dX1_fits_48 : decode cX1_fits 48 = .ok (.aload_n 0, 1) := by decide +kernel
theorem dX1_fits_49 : decode cX1_fits 49 = .ok (.getfield 32, 3) := by decide +kernel
theorem dX1_fits_52 : decode cX1_fits 52 = .ok (.iload_n 1, 1) := by decide +kernel
theorem dX1_fits_53 : decode cX1_fits 53 = .ok (.iaload, 1) := by decide +kernel
theorem dX1_fits_54 : decode cX1_fits 54 = .ok (.iand, 1) := by decide +kernel
theorem dX1_fits_55 : decode cX1_fits 55 = .ok (.sipush 255, 3) := by decide +kernel
theorem dX1_fits_58 : decode cX1_fits 58 = .ok (.iand, 1) := by decide +kernel
theorem dX1_fits_59 : decode cX1_fits 59 = .ok (.aload_n 0, 1) := by decide +kernel
theorem dX1_fits_60 : decode cX1_fits 60 = .ok (.getfield 32, 3) := by decide +kernel
theorem dX1_fits_63 : decode cX1_fits 63 = .ok (.iload_n 1, 1) := by decide +kernel
theorem dX1_fits_64 : decode cX1_fits 64 = .ok (.iaload, 1) := by decide +kernel
theorem dX1_fits_65 : decode cX1_fits 65 = .ok (.bipush 8, 2) := by decide +kernel
theorem dX1_fits_67 : decode cX1_fits 67 = .ok (.ishr, 1) := by decide +kernel
theorem dX1_fits_68 : decode cX1_fits 68 = .ok (.aload_n 0, 1) := by decide +kernel
theorem dX1_fits_69 : decode cX1_fits 69 = .ok (.getfield 32, 3) := by decide +kernel
theorem dX1_fits_72 : decode cX1_fits 72 = .ok (.iload_n 1, 1) := by decide +kernel
theorem dX1_fits_73 : decode cX1_fits 73 = .ok (.iaload, 1) := by decide +kernel
theorem dX1_fits_74 : decode cX1_fits 74 = .ok (.iand, 1) := by decide +kernel
theorem dX1_fits_75 : decode cX1_fits 75 = .ok (.sipush 255, 3) := by decide +kernel
theorem dX1_fits_78 : decode cX1_fits 78 = .ok (.iand, 1) := by decide +kernel
theorem dX1_fits_79 : decode cX1_fits 79 = .ok (.if_icmp .ne 7, 3) := by decide +kernel
theorem dX1_fits_82 : decode cX1_fits 82 = .ok (.iconst 1, 1) := by decide +kernel
theorem dX1_fits_83 : decode cX1_fits 83 = .ok (.goto 4, 3) := by decide +kernel
theorem dX1_fits_86 : decode cX1_fits 86 = .ok (.iconst 0, 1) := by decide +kernel
theorem dX1_fits_87 : decode cX1_fits 87 = .ok (.istore_n 3, 1) := by decide +kernel
theorem dX1_fits_88 : decode cX1_fits 88 = .ok (.iload_n 3, 1) := by decide +kernel
theorem dX1_fits_89 : decode cX1_fits 89 = .ok (.ifCond .eq 47, 3) := by decide +kernel
theorem dX1_fits_92 : decode cX1_fits 92 = .ok (.aload_n 0, 1) := by decide +kernel
theorem dX1_fits_93 : decode cX1_fits 93 = .ok (.getfield 7, 3) := by decide +kernel
theorem dX1_fits_96 : decode cX1_fits 96 = .ok (.iconst 2, 1) := by decide +kernel
theorem dX1_fits_97 : decode cX1_fits 97 = .ok (.iaload, 1) := by decide +kernel
theorem dX1_fits_98 : decode cX1_fits 98 = .ok (.aload_n 0, 1) := by decide +kernel
theorem dX1_fits_99 : decode cX1_fits 99 = .ok (.getfield 35, 3) := by decide +kernel
theorem dX1_fits_102 : decode cX1_fits 102 = .ok (.iload_n 1, 1) := by decide +kernel
theorem dX1_fits_103 : decode cX1_fits 103 = .ok (.iaload, 1) := by decide +kernel
theorem dX1_fits_104 : decode cX1_fits 104 = .ok (.iand, 1) := by decide +kernel
theorem dX1_fits_105 : decode cX1_fits 105 = .ok (.sipush 255, 3) := by decide +kernel
theorem dX1_fits_108 : decode cX1_fits 108 = .ok (.iand, 1) := by decide +kernel
theorem dX1_fits_109 : decode cX1_fits 109 = .ok (.aload_n 0, 1) := by decide +kernel
theorem dX1_fits_110 : decode cX1_fits 110 = .ok (.getfield 35, 3) := by decide +kernel
theorem dX1_fits_113 : decode cX1_fits 113 = .ok (.iload_n 1, 1) := by decide +kernel
theorem dX1_fits_114 : decode cX1_fits 114 = .ok (.iaload, 1) := by decide +kernel
theorem dX1_fits_115 : decode cX1_fits 115 = .ok (.bipush 8, 2) := by decide +kernel
theorem dX1_fits_117 : decode cX1_fits 117 = .ok (.ishr, 1) := by decide +kernel
theorem dX1_fits_118 : decode cX1_fits 118 = .ok (.aload_n 0, 1) := by decide +kernel
theorem dX1_fits_119 : decode cX1_fits 119 = .ok (.getfield 35, 3) := by decide +kernel
theorem dX1_fits_122 : decode cX1_fits 122 = .ok (.iload_n 1, 1) := by decide +kernel
theorem dX1_fits_123 : decode cX1_fits 123 = .ok (.iaload, 1) := by decide +kernel
theorem dX1_fits_124 : decode cX1_fits 124 = .ok (.iand, 1) := by decide +kernel
theorem dX1_fits_125 : decode cX1_fits 125 = .ok (.sipush 255, 3) := by decide +kernel
theorem dX1_fits_128 : decode cX1_fits 128 = .ok (.iand, 1) := by decide +kernel
theorem dX1_fits_129 : decode cX1_fits 129 = .ok (.if_icmp .ne 7, 3) := by decide +kernel
theorem dX1_fits_132 : decode cX1_fits 132 = .ok (.iconst 1, 1) := by decide +kernel
theorem dX1_fits_133 : decode cX1_fits 133 = .ok (.goto 4, 3) := by decide +kernel
theorem dX1_fits_136 : decode cX1_fits 136 = .ok (.iconst 0, 1) := by decide +kernel
theorem dX1_fits_137 : decode cX1_fits 137 = .ok (.ireturn, 1) := by decide +kernel
theorem dX1_process_0 : decode cX1_process 0 = .ok (.iconst 0, 1) := by decide +kernel
theorem dX1_process_1 : decode cX1_process 1 = .ok (.istore_n 1, 1) := by decide +kernel
theorem dX1_process_2 : decode cX1_process 2 = .ok (.iload_n 1, 1) := by decide +kernel
theorem dX1_process_3 : decode cX1_process 3 = .ok (.iconst 2, 1) := by decide +kernel
theorem dX1_process_4 : decode cX1_process 4 = .ok (.if_icmp .ge 42, 3) := by decide +kernel
theorem dX1_process_7 : decode cX1_process 7 = .ok (.aload_n 0, 1) := by decide +kernel
theorem dX1_process_8 : decode cX1_process 8 = .ok (.iload_n 1, 1) := by decide +kernel
theorem dX1_process_9 : decode cX1_process 9 = .ok (.aload_n 0, 1) := by decide +kernel
theorem dX1_process_10 : decode cX1_process 10 = .ok (.getfield 7, 3) := by decide +kernel
theorem dX1_process_13 : decode cX1_process 13 = .ok (.iconst 0, 1) := by decide +kernel
theorem dX1_process_14 : decode cX1_process 14 = .ok (.iaload, 1) := by decide +kernel
theorem dX1_process_15 : decode cX1_process 15 = .ok (.invokevirtual 77, 3) := by decide +kernel
theorem dX1_process_18 : decode cX1_process 18 = .ok (.istore_n 2, 1) := by decide +kernel
theorem dX1_process_19 : decode cX1_process 19 = .ok (.aload_n 0, 1) := by decide +kernel
theorem dX1_process_20 : decode cX1_process 20 = .ok (.iload_n 2, 1) := by decide +kernel
theorem dX1_process_21 : decode cX1_process 21 = .ok (.ifCond .ge 10, 3) := by decide +kernel
theorem dX1_process_24 : decode cX1_process 24 = .ok (.bipush 32, 2) := by decide +kernel
theorem dX1_process_26 : decode cX1_process 26 = .ok (.iload_n 1, 1) := by decide +kernel
theorem dX1_process_27 : decode cX1_process 27 = .ok (.iadd, 1) := by decide +kernel
theorem dX1_process_28 : decode cX1_process 28 = .ok (.goto 4, 3) := by decide +kernel
theorem dX1_process_31 : decode cX1_process 31 = .ok (.iload_n 2, 1) := by decide +kernel
theorem dX1_process_32 : decode cX1_process 32 = .ok (.invokevirtual 81, 3) := by decide +kernel
theorem dX1_process_35 : decode cX1_process 35 = .ok (.ifCond .ne 5, 3) := by decide +kernel
theorem dX1_process_38 : decode cX1_process 38 = .ok (.iconst 0, 1) := by decide +kernel
theorem dX1_process_39 : decode cX1_process 39 = .ok (.ireturn, 1) := by decide +kernel
theorem dX1_process_40 : decode cX1_process 40 = .ok (.iinc 1 1, 3) := by decide +kernel
theorem dX1_process_43 : decode cX1_process 43 = .ok (.goto (-41), 3) := by decide +kernel
theorem dX1_process_46 : decode cX1_process 46 = .ok (.iconst 1, 1) := by decide +kernel
theorem dX1_process_47 : decode cX1_process 47 = .ok (.ireturn, 1) := by decide +kernel
theorem dX1_act_0 : decode cX1_act 0 = .ok (.aload_n 0, 1) := by decide +kernel
theorem dX1_act_1 : decode cX1_act 1 = .ok (.getfield 44, 3) := by decide +kernel
theorem dX1_act_4 : decode cX1_act 4 = .ok (.iload_n 1, 1) := by decide +kernel
theorem dX1_act_5 : decode cX1_act 5 = .ok (.iaload, 1) := by decide +kernel
theorem dX1_act_6 : decode cX1_act 6 = .ok (.istore_n 2, 1) := by decide +kernel
theorem dX1_act_7 : decode cX1_act 7 = .ok (.aload_n 0, 1) := by decide +kernel
theorem dX1_act_8 : decode cX1_act 8 = .ok (.getfield 47, 3) := by decide +kernel
theorem dX1_act_11 : decode cX1_act 11 = .ok (.iload_n 1, 1) := by decide +kernel
theorem dX1_act_12 : decode cX1_act 12 = .ok (.iaload, 1) := by decide +kernel
theorem dX1_act_13 : decode cX1_act 13 = .ok (.istore_n 3, 1) := by decide +kernel
theorem dX1_act_14 : decode cX1_act 14 = .ok (.aload_n 0, 1) := by decide +kernel
theorem dX1_act_15 : decode cX1_act 15 = .ok (.getfield 41, 3) := by decide +kernel
theorem dX1_act_18 : decode cX1_act 18 = .ok (.iload_n 1, 1) := by decide +kernel
theorem dX1_act_19 : decode cX1_act 19 = .ok (.iaload, 1) := by decide +kernel
theorem dX1_act_20 : decode cX1_act 20 = .ok (.ifCond .ne 10, 3) := by decide +kernel
theorem dX1_act_23 : decode cX1_act 23 = .ok (.aload_n 0, 1) := by decide +kernel
theorem dX1_act_24 : decode cX1_act 24 = .ok (.getfield 7, 3) := by decide +kernel
theorem dX1_act_27 : decode cX1_act 27 = .ok (.iload_n 2, 1) := by decide +kernel
theorem dX1_act_28 : decode cX1_act 28 = .ok (.iload_n 3, 1) := by decide +kernel
theorem dX1_act_29 : decode cX1_act 29 = .ok (.iastore, 1) := by decide +kernel
theorem dX1_act_30 : decode cX1_act 30 = .ok (.aload_n 0, 1) := by decide +kernel
theorem dX1_act_31 : decode cX1_act 31 = .ok (.getfield 41, 3) := by decide +kernel
theorem dX1_act_34 : decode cX1_act 34 = .ok (.iload_n 1, 1) := by decide +kernel
theorem dX1_act_35 : decode cX1_act 35 = .ok (.iaload, 1) := by decide +kernel
theorem dX1_act_36 : decode cX1_act 36 = .ok (.iconst 1, 1) := by decide +kernel
theorem dX1_act_37 : decode cX1_act 37 = .ok (.if_icmp .ne 21, 3) := by decide +kernel
theorem dX1_act_40 : decode cX1_act 40 = .ok (.aload_n 0, 1) := by decide +kernel
theorem dX1_act_41 : decode cX1_act 41 = .ok (.getfield 7, 3) := by decide +kernel
theorem dX1_act_44 : decode cX1_act 44 = .ok (.iload_n 2, 1) := by decide +kernel
theorem dX1_act_45 : decode cX1_act 45 = .ok (.aload_n 0, 1) := by decide +kernel
theorem dX1_act_46 : decode cX1_act 46 = .ok (.getfield 7, 3) := by decide +kernel
theorem dX1_act_49 : decode cX1_act 49 = .ok (.iload_n 2, 1) := by decide +kernel
theorem dX1_act_50 : decode cX1_act 50 = .ok (.iaload, 1) := by decide +kernel
theorem dX1_act_51 : decode cX1_act 51 = .ok (.iload_n 3, 1) := by decide +kernel
theorem dX1_act_52 : decode cX1_act 52 = .ok (.iadd, 1) := by decide +kernel
theorem dX1_act_53 : decode cX1_act 53 = .ok (.sipush 255, 3) := by decide +kernel
theorem dX1_act_56 : decode cX1_act 56 = .ok (.iand, 1) := by decide +kernel
theorem dX1_act_57 : decode cX1_act 57 = .ok (.iastore, 1) := by decide +kernel
theorem dX1_act_58 : decode cX1_act 58 = .ok (.aload_n 0, 1) := by decide +kernel
theorem dX1_act_59 : decode cX1_act 59 = .ok (.getfield 41, 3) := by decide +kernel
theorem dX1_act_62 : decode cX1_act 62 = .ok (.iload_n 1, 1) := by decide +kernel
theorem dX1_act_63 : decode cX1_act 63 = .ok (.iaload, 1) := by decide +kernel
theorem dX1_act_64 : decode cX1_act 64 = .ok (.iconst 2, 1) := by decide +kernel
theorem dX1_act_65 : decode cX1_act 65 = .ok (.if_icmp .ne 17, 3) := by decide +kernel
theorem dX1_act_68 : decode cX1_act 68 = .ok (.aload_n 0, 1) := by decide +kernel
theorem dX1_act_69 : decode cX1_act 69 = .ok (.getfield 7, 3) := by decide +kernel
theorem dX1_act_72 : decode cX1_act 72 = .ok (.iload_n 2, 1) := by decide +kernel
theorem dX1_act_73 : decode cX1_act 73 = .ok (.aload_n 0, 1) := by decide +kernel
theorem dX1_act_74 : decode cX1_act 74 = .ok (.getfield 7, 3) := by decide +kernel
theorem dX1_act_77 : decode cX1_act 77 = .ok (.iload_n 3, 1) := by decide +kernel
theorem dX1_act_78 : decode cX1_act 78 = .ok (.iconst 3, 1) := by decide +kernel
theorem dX1_act_79 : decode cX1_act 79 = .ok (.iand, 1) := by decide +kernel
theorem dX1_act_80 : decode cX1_act 80 = .ok (.iaload, 1) := by decide +kernel
theorem dX1_act_81 : decode cX1_act 81 = .ok (.iastore, 1) := by decide +kernel
theorem dX1_act_82 : decode cX1_act 82 = .ok (.aload_n 0, 1) := by decide +kernel
theorem dX1_act_83 : decode cX1_act 83 = .ok (.getfield 41, 3) := by decide +kernel
theorem dX1_act_86 : decode cX1_act 86 = .ok (.iload_n 1, 1) := by decide +kernel
theorem dX1_act_87 : decode cX1_act 87 = .ok (.iaload, 1) := by decide +kernel
theorem dX1_act_88 : decode cX1_act 88 = .ok (.iconst 4, 1) := by decide +kernel
theorem dX1_act_89 : decode cX1_act 89 = .ok (.if_icmp .eq 7, 3) := by decide +kernel
theorem dX1_act_92 : decode cX1_act 92 = .ok (.iconst 1, 1) := by decide +kernel
theorem dX1_act_93 : decode cX1_act 93 = .ok (.goto 4, 3) := by decide +kernel
theorem dX1_act_96 : decode cX1_act 96 = .ok (.iconst 0, 1) := by decide +kernel
theorem dX1_act_97 : decode cX1_act 97 = .ok (.ireturn, 1) := by decide +kernel
theorem dX1_matching_0 : decode cX1_matching 0 = .ok (.aload_n 0, 1) := by decide +kernel
theorem dX1_matching_1 : decode cX1_matching 1 = .ok (.iload_n 1, 1) := by decide +kernel
theorem dX1_matching_2 : decode cX1_matching 2 = .ok (.invokevirtual 70, 3) := by decide +kernel
theorem dX1_matching_5 : decode cX1_matching 5 = .ok (.ifCond .ne 5, 3) := by decide +kernel
theorem dX1_matching_8 : decode cX1_matching 8 = .ok (.iconst (-1), 1) := by decide +kernel
theorem dX1_matching_9 : decode cX1_matching 9 = .ok (.ireturn, 1) := by decide +kernel
theorem dX1_matching_10 : decode cX1_matching 10 = .ok (.iconst 0, 1) := by decide +kernel
theorem dX1_matching_11 : decode cX1_matching 11 = .ok (.istore_n 2, 1) := by decide +kernel
theorem dX1_matching_12 : decode cX1_matching 12 = .ok (.bipush 16, 2) := by decide +kernel
theorem dX1_matching_14 : decode cX1_matching 14 = .ok (.iload_n 1, 1) := by decide +kernel
theorem dX1_matching_15 : decode cX1_matching 15 = .ok (.imul, 1) := by decide +kernel
theorem dX1_matching_16 : decode cX1_matching 16 = .ok (.istore_n 3, 1) := by decide +kernel
theorem dX1_matching_17 : decode cX1_matching 17 = .ok (.iload_n 3, 1) := by decide +kernel
theorem dX1_matching_18 : decode cX1_matching 18 = .ok (.bipush 16, 2) := by decide +kernel
theorem dX1_matching_20 : decode cX1_matching 20 = .ok (.iload_n 1, 1) := by decide +kernel
theorem dX1_matching_21 : decode cX1_matching 21 = .ok (.imul, 1) := by decide +kernel
theorem dX1_matching_22 : decode cX1_matching 22 = .ok (.aload_n 0, 1) := by decide +kernel
theorem dX1_matching_23 : decode cX1_matching 23 = .ok (.getfield 26, 3) := by decide +kernel
theorem dX1_matching_26 : decode cX1_matching 26 = .ok (.iload_n 1, 1) := by decide +kernel
theorem dX1_matching_27 : decode cX1_matching 27 = .ok (.iaload, 1) := by decide +kernel
theorem dX1_matching_28 : decode cX1_matching 28 = .ok (.iadd, 1) := by decide +kernel
theorem dX1_matching_29 : decode cX1_matching 29 = .ok (.if_icmp .ge 26, 3) := by decide +kernel
theorem dX1_matching_32 : decode cX1_matching 32 = .ok (.aload_n 0, 1) := by decide +kernel
theorem dX1_matching_33 : decode cX1_matching 33 = .ok (.iload_n 3, 1) := by decide +kernel
theorem dX1_matching_34 : decode cX1_matching 34 = .ok (.aload_n 0, 1) := by decide +kernel
theorem dX1_matching_35 : decode cX1_matching 35 = .ok (.getfield 7, 3) := by decide +kernel
theorem dX1_matching_38 : decode cX1_matching 38 = .ok (.iconst 0, 1) := by decide +kernel
theorem dX1_matching_39 : decode cX1_matching 39 = .ok (.iaload, 1) := by decide +kernel
theorem dX1_matching_40 : decode cX1_matching 40 = .ok (.invokevirtual 73, 3) := by decide +kernel
theorem dX1_matching_43 : decode cX1_matching 43 = .ok (.ifCond .eq 6, 3) := by decide +kernel
theorem dX1_matching_46 : decode cX1_matching 46 = .ok (.iinc 2 1, 3) := by decide +kernel
theorem dX1_matching_49 : decode cX1_matching 49 = .ok (.iinc 3 1, 3) := by decide +kernel
theorem dX1_matching_52 : decode cX1_matching 52 = .ok (.goto (-35), 3) := by decide +kernel
theorem dX1_matching_55 : decode cX1_matching 55 = .ok (.iload_n 2, 1) := by decide +kernel
theorem dX1_matching_56 : decode cX1_matching 56 = .ok (.ireturn, 1) := by decide +kernel
theorem dX1_owned_0 : decode cX1_owned 0 = .ok (.aload_n 0, 1) := by decide +kernel
theorem dX1_owned_1 : decode cX1_owned 1 = .ok (.iload_n 1, 1) := by decide +kernel
theorem dX1_owned_2 : decode cX1_owned 2 = .ok (.invokevirtual 63, 3) := by decide +kernel
theorem dX1_owned_5 : decode cX1_owned 5 = .ok (.istore_n 2, 1) := by decide +kernel
theorem dX1_owned_6 : decode cX1_owned 6 = .ok (.iload_n 2, 1) := by decide +kernel
theorem dX1_owned_7 : decode cX1_owned 7 = .ok (.ifCond .lt 9, 3) := by decide +kernel
theorem dX1_owned_10 : decode cX1_owned 10 = .ok (.iload_n 2, 1) := by decide +kernel
theorem dX1_owned_11 : decode cX1_owned 11 = .ok (.bipush 15, 2) := by decide +kernel
theorem dX1_owned_13 : decode cX1_owned 13 = .ok (.if_icmp .le 6, 3) := by decide +kernel
theorem dX1_owned_16 : decode cX1_owned 16 = .ok (.bipush (-3), 2) := by decide +kernel
theorem dX1_owned_18 : decode cX1_owned 18 = .ok (.ireturn, 1) := by decide +kernel
theorem dX1_owned_19 : decode cX1_owned 19 = .ok (.iconst 0, 1) := by decide +kernel
theorem dX1_owned_20 : decode cX1_owned 20 = .ok (.istore_n 3, 1) := by decide +kernel
theorem dX1_owned_21 : decode cX1_owned 21 = .ok (.iconst 0, 1) := by decide +kernel
theorem dX1_owned_22 : decode cX1_owned 22 = .ok (.istore 4, 2) := by decide +kernel
theorem dX1_owned_24 : decode cX1_owned 24 = .ok (.iload 4, 2) := by decide +kernel
theorem dX1_owned_26 : decode cX1_owned 26 = .ok (.sipush 256, 3) := by decide +kernel
theorem dX1_owned_29 : decode cX1_owned 29 = .ok (.if_icmp .ge 23, 3) := by decide +kernel
theorem dX1_owned_32 : decode cX1_owned 32 = .ok (.aload_n 0, 1) := by decide +kernel
theorem dX1_owned_33 : decode cX1_owned 33 = .ok (.iconst 0, 1) := by decide +kernel
theorem dX1_owned_34 : decode cX1_owned 34 = .ok (.iload 4, 2) := by decide +kernel
theorem dX1_owned_36 : decode cX1_owned 36 = .ok (.invokevirtual 77, 3) := by decide +kernel
theorem dX1_owned_39 : decode cX1_owned 39 = .ok (.iload_n 2, 1) := by decide +kernel
theorem dX1_owned_40 : decode cX1_owned 40 = .ok (.if_icmp .ne 6, 3) := by decide +kernel
theorem dX1_owned_43 : decode cX1_owned 43 = .ok (.iinc 3 1, 3) := by decide +kernel
theorem dX1_owned_46 : decode cX1_owned 46 = .ok (.iinc 4 1, 3) := by decide +kernel
theorem dX1_owned_49 : decode cX1_owned 49 = .ok (.goto (-25), 3) := by decide +kernel
theorem dX1_owned_52 : decode cX1_owned 52 = .ok (.iload_n 3, 1) := by decide +kernel
theorem dX1_owned_53 : decode cX1_owned 53 = .ok (.ireturn, 1) := by decide +kernel
end
section
set_option maxRecDepth 100000
/-! java/lang/Object -/
def RJ0 : String := "java/lang/Object"
abbrev cJ0_init : ByteArray := object_method_1_code
def yJ0_init : MethodName := ⟨RJ0, "<init>", "()V"⟩
theorem dJ0_init_0 : decode cJ0_init 0 = .ok (.return_, 1) := by decide +kernel
theorem q36 : (Jvm.Cond.instanceMethod ({ cls := "java/lang/Object", name := "<init>", desc := "()V" } : Jvm.MethodName)) ∈ lw_all := lw_g (lw_at lw_m1 9 rfl) rfl
theorem q37 : (Jvm.Cond.code ({ cls := "java/lang/Object", name := "<init>", desc := "()V" } : Jvm.MethodName) object_method_1_code (1 : Nat) (Option.none : Option Jvm.ClassFile.FieldType)) ∈ lw_all := lw_g (lw_at lw_m1 10 rfl) rfl
theorem q27 : (Jvm.Cond.initialized "MatchActionLaw") ∈ lw_all := lw_g (lw_at lw_m1 0 rfl) rfl
theorem q30 : (Jvm.Cond.classLink "MatchActionLaw" (7 : Nat) "MatchAction") ∈ lw_all := lw_g (lw_at lw_m1 3 rfl) rfl
theorem q32 : (Jvm.Cond.methodLink "MatchActionLaw" (9 : Nat) ({ cls := "MatchAction", name := "<init>", desc := "()V" } : Jvm.MethodName)) ∈ lw_all := lw_g (lw_at lw_m1 5 rfl) rfl
theorem q108 : (Jvm.Cond.methodLink "MatchActionLaw" (13 : Nat) ({ cls := "MatchAction", name := "action", desc := "(III)Z" } : Jvm.MethodName)) ∈ lw_all := lw_g (lw_at lw_m1 81 rfl) rfl
theorem q112 : (Jvm.Cond.methodLink "MatchActionLaw" (18 : Nat) ({ cls := "MatchAction", name := "addPrefix", desc := "(II)I" } : Jvm.MethodName)) ∈ lw_all := lw_g (lw_at lw_m1 85 rfl) rfl
theorem q120 : (Jvm.Cond.methodLink "MatchActionLaw" (23 : Nat) ({ cls := "MatchAction", name := "addMasked", desc := "(III)I" } : Jvm.MethodName)) ∈ lw_all := lw_g (lw_at lw_m1 93 rfl) rfl
theorem q126 : (Jvm.Cond.methodLink "MatchActionLaw" (28 : Nat) ({ cls := "MatchAction", name := "remove", desc := "(I)I" } : Jvm.MethodName)) ∈ lw_all := lw_g (lw_at lw_m1 99 rfl) rfl
theorem q134 : (Jvm.Cond.methodLink "MatchActionLaw" (33 : Nat) ({ cls := "MatchAction", name := "setDefault", desc := "(I)Z" } : Jvm.MethodName)) ∈ lw_all := lw_g (lw_at lw_m1 107 rfl) rfl
theorem q138 : (Jvm.Cond.methodLink "MatchActionLaw" (38 : Nat) ({ cls := "MatchAction", name := "field", desc := "(II)Z" } : Jvm.MethodName)) ∈ lw_all := lw_g (lw_at lw_m1 111 rfl) rfl
theorem q142 : (Jvm.Cond.methodLink "MatchActionLaw" (43 : Nat) ({ cls := "MatchAction", name := "get", desc := "(I)I" } : Jvm.MethodName)) ∈ lw_all := lw_g (lw_at lw_m1 115 rfl) rfl
theorem q146 : (Jvm.Cond.methodLink "MatchActionLaw" (47 : Nat) ({ cls := "MatchAction", name := "lookup", desc := "(I)I" } : Jvm.MethodName)) ∈ lw_all := lw_g (lw_at lw_m1 119 rfl) rfl
theorem q202 : (Jvm.Cond.methodLink "MatchActionLaw" (51 : Nat) ({ cls := "MatchAction", name := "process", desc := "()I" } : Jvm.MethodName)) ∈ lw_all := lw_g (lw_at lw_m1 175 rfl) rfl
theorem q210 : (Jvm.Cond.methodLink "MatchActionLaw" (56 : Nat) ({ cls := "MatchAction", name := "matching", desc := "(I)I" } : Jvm.MethodName)) ∈ lw_all := lw_g (lw_at lw_m1 183 rfl) rfl
theorem q222 : (Jvm.Cond.methodLink "MatchActionLaw" (60 : Nat) ({ cls := "MatchAction", name := "owned", desc := "(I)I" } : Jvm.MethodName)) ∈ lw_all := lw_g (lw_at lw_m1 195 rfl) rfl
theorem q226 : (Jvm.Cond.classLink "MatchActionLaw" (10 : Nat) "MatchActionModel") ∈ lw_all := lw_g (lw_at lw_m1 199 rfl) rfl
theorem q228 : (Jvm.Cond.methodLink "MatchActionLaw" (12 : Nat) ({ cls := "MatchActionModel", name := "<init>", desc := "()V" } : Jvm.MethodName)) ∈ lw_all := lw_g (lw_at lw_m1 201 rfl) rfl
theorem q272 : (Jvm.Cond.methodLink "MatchActionLaw" (17 : Nat) ({ cls := "MatchActionModel", name := "action", desc := "(III)Z" } : Jvm.MethodName)) ∈ lw_all := lw_g (lw_at lw_m2 5 rfl) rfl
theorem q280 : (Jvm.Cond.methodLink "MatchActionLaw" (22 : Nat) ({ cls := "MatchActionModel", name := "addPrefix", desc := "(II)I" } : Jvm.MethodName)) ∈ lw_all := lw_g (lw_at lw_m2 13 rfl) rfl
theorem q292 : (Jvm.Cond.methodLink "MatchActionLaw" (27 : Nat) ({ cls := "MatchActionModel", name := "addMasked", desc := "(III)I" } : Jvm.MethodName)) ∈ lw_all := lw_g (lw_at lw_m2 25 rfl) rfl
theorem q297 : (Jvm.Cond.methodLink "MatchActionLaw" (32 : Nat) ({ cls := "MatchActionModel", name := "remove", desc := "(I)I" } : Jvm.MethodName)) ∈ lw_all := lw_g (lw_at lw_m2 30 rfl) rfl
theorem q309 : (Jvm.Cond.methodLink "MatchActionLaw" (37 : Nat) ({ cls := "MatchActionModel", name := "setDefault", desc := "(I)Z" } : Jvm.MethodName)) ∈ lw_all := lw_g (lw_at lw_m2 42 rfl) rfl
theorem q317 : (Jvm.Cond.methodLink "MatchActionLaw" (42 : Nat) ({ cls := "MatchActionModel", name := "field", desc := "(II)Z" } : Jvm.MethodName)) ∈ lw_all := lw_g (lw_at lw_m2 50 rfl) rfl
theorem q321 : (Jvm.Cond.methodLink "MatchActionLaw" (46 : Nat) ({ cls := "MatchActionModel", name := "get", desc := "(I)I" } : Jvm.MethodName)) ∈ lw_all := lw_g (lw_at lw_m2 54 rfl) rfl
theorem q325 : (Jvm.Cond.methodLink "MatchActionLaw" (50 : Nat) ({ cls := "MatchActionModel", name := "lookup", desc := "(I)I" } : Jvm.MethodName)) ∈ lw_all := lw_g (lw_at lw_m2 58 rfl) rfl
theorem q337 : (Jvm.Cond.methodLink "MatchActionLaw" (55 : Nat) ({ cls := "MatchActionModel", name := "process", desc := "()I" } : Jvm.MethodName)) ∈ lw_all := lw_g (lw_at lw_m2 70 rfl) rfl
theorem q345 : (Jvm.Cond.methodLink "MatchActionLaw" (59 : Nat) ({ cls := "MatchActionModel", name := "matching", desc := "(I)I" } : Jvm.MethodName)) ∈ lw_all := lw_g (lw_at lw_m2 78 rfl) rfl
theorem q349 : (Jvm.Cond.methodLink "MatchActionLaw" (63 : Nat) ({ cls := "MatchActionModel", name := "owned", desc := "(I)I" } : Jvm.MethodName)) ∈ lw_all := lw_g (lw_at lw_m2 82 rfl) rfl
theorem q105 : (Jvm.Cond.arrayClass Jvm.ClassFile.FieldType.int) ∈ lw_all := lw_g (lw_at lw_m1 78 rfl) rfl
theorem q106 : (Jvm.Cond.arrayClass Jvm.ClassFile.FieldType.byte) ∈ lw_all := lw_g (lw_at lw_m1 79 rfl) rfl
theorem q107 : (Jvm.Cond.arrayClass Jvm.ClassFile.FieldType.short) ∈ lw_all := lw_g (lw_at lw_m1 80 rfl) rfl
end
section
/-! the law's own entry -/
set_option maxRecDepth 100000
abbrev cL_law : ByteArray := code
theorem dL_law_0 : decode cL_law 0 = .ok (.new 7, 3) := by decide +kernel
theorem dL_law_3 : decode cL_law 3 = .ok (.dup, 1) := by decide +kernel
theorem dL_law_4 : decode cL_law 4 = .ok (.invokespecial 9, 3) := by decide +kernel
theorem dL_law_7 : decode cL_law 7 = .ok (.astore_n 1, 1) := by decide +kernel
theorem dL_law_8 : decode cL_law 8 = .ok (.new 10, 3) := by decide +kernel
theorem dL_law_11 : decode cL_law 11 = .ok (.dup, 1) := by decide +kernel
theorem dL_law_12 : decode cL_law 12 = .ok (.invokespecial 12, 3) := by decide +kernel
theorem dL_law_15 : decode cL_law 15 = .ok (.astore_n 2, 1) := by decide +kernel
theorem dL_law_16 : decode cL_law 16 = .ok (.iconst 0, 1) := by decide +kernel
theorem dL_law_17 : decode cL_law 17 = .ok (.istore_n 3, 1) := by decide +kernel
theorem dL_law_18 : decode cL_law 18 = .ok (.iload_n 3, 1) := by decide +kernel
theorem dL_law_19 : decode cL_law 19 = .ok (.aload_n 0, 1) := by decide +kernel
theorem dL_law_20 : decode cL_law 20 = .ok (.arraylength, 1) := by decide +kernel
theorem dL_law_21 : decode cL_law 21 = .ok (.iconst 4, 1) := by decide +kernel
theorem dL_law_22 : decode cL_law 22 = .ok (.isub, 1) := by decide +kernel
theorem dL_law_23 : decode cL_law 23 = .ok (.if_icmp .gt 378, 3) := by decide +kernel
theorem dL_law_26 : decode cL_law 26 = .ok (.aload_n 0, 1) := by decide +kernel
theorem dL_law_27 : decode cL_law 27 = .ok (.iload_n 3, 1) := by decide +kernel
theorem dL_law_28 : decode cL_law 28 = .ok (.iaload, 1) := by decide +kernel
theorem dL_law_29 : decode cL_law 29 = .ok (.bipush 15, 2) := by decide +kernel
theorem dL_law_31 : decode cL_law 31 = .ok (.iand, 1) := by decide +kernel
theorem dL_law_32 : decode cL_law 32 = .ok (.tableswitch 363 0 10 #[60, 103, 136, 179, 202, 225, 258, 281, 304, 317, 340], 60) := by decide +kernel
theorem dL_law_92 : decode cL_law 92 = .ok (.aload_n 1, 1) := by decide +kernel
theorem dL_law_93 : decode cL_law 93 = .ok (.aload_n 0, 1) := by decide +kernel
theorem dL_law_94 : decode cL_law 94 = .ok (.iload_n 3, 1) := by decide +kernel
theorem dL_law_95 : decode cL_law 95 = .ok (.iconst 1, 1) := by decide +kernel
theorem dL_law_96 : decode cL_law 96 = .ok (.iadd, 1) := by decide +kernel
theorem dL_law_97 : decode cL_law 97 = .ok (.iaload, 1) := by decide +kernel
theorem dL_law_98 : decode cL_law 98 = .ok (.aload_n 0, 1) := by decide +kernel
theorem dL_law_99 : decode cL_law 99 = .ok (.iload_n 3, 1) := by decide +kernel
theorem dL_law_100 : decode cL_law 100 = .ok (.iconst 2, 1) := by decide +kernel
theorem dL_law_101 : decode cL_law 101 = .ok (.iadd, 1) := by decide +kernel
theorem dL_law_102 : decode cL_law 102 = .ok (.iaload, 1) := by decide +kernel
theorem dL_law_103 : decode cL_law 103 = .ok (.aload_n 0, 1) := by decide +kernel
theorem dL_law_104 : decode cL_law 104 = .ok (.iload_n 3, 1) := by decide +kernel
theorem dL_law_105 : decode cL_law 105 = .ok (.iconst 3, 1) := by decide +kernel
theorem dL_law_106 : decode cL_law 106 = .ok (.iadd, 1) := by decide +kernel
theorem dL_law_107 : decode cL_law 107 = .ok (.iaload, 1) := by decide +kernel
theorem dL_law_108 : decode cL_law 108 = .ok (.invokevirtual 13, 3) := by decide +kernel
theorem dL_law_111 : decode cL_law 111 = .ok (.aload_n 2, 1) := by decide +kernel
theorem dL_law_112 : decode cL_law 112 = .ok (.aload_n 0, 1) := by decide +kernel
theorem dL_law_113 : decode cL_law 113 = .ok (.iload_n 3, 1) := by decide +kernel
theorem dL_law_114 : decode cL_law 114 = .ok (.iconst 1, 1) := by decide +kernel
theorem dL_law_115 : decode cL_law 115 = .ok (.iadd, 1) := by decide +kernel
theorem dL_law_116 : decode cL_law 116 = .ok (.iaload, 1) := by decide +kernel
theorem dL_law_117 : decode cL_law 117 = .ok (.aload_n 0, 1) := by decide +kernel
theorem dL_law_118 : decode cL_law 118 = .ok (.iload_n 3, 1) := by decide +kernel
theorem dL_law_119 : decode cL_law 119 = .ok (.iconst 2, 1) := by decide +kernel
theorem dL_law_120 : decode cL_law 120 = .ok (.iadd, 1) := by decide +kernel
theorem dL_law_121 : decode cL_law 121 = .ok (.iaload, 1) := by decide +kernel
theorem dL_law_122 : decode cL_law 122 = .ok (.aload_n 0, 1) := by decide +kernel
theorem dL_law_123 : decode cL_law 123 = .ok (.iload_n 3, 1) := by decide +kernel
theorem dL_law_124 : decode cL_law 124 = .ok (.iconst 3, 1) := by decide +kernel
theorem dL_law_125 : decode cL_law 125 = .ok (.iadd, 1) := by decide +kernel
theorem dL_law_126 : decode cL_law 126 = .ok (.iaload, 1) := by decide +kernel
theorem dL_law_127 : decode cL_law 127 = .ok (.invokevirtual 17, 3) := by decide +kernel
theorem dL_law_130 : decode cL_law 130 = .ok (.if_icmp .eq 265, 3) := by decide +kernel
theorem dL_law_133 : decode cL_law 133 = .ok (.iconst 0, 1) := by decide +kernel
theorem dL_law_134 : decode cL_law 134 = .ok (.ireturn, 1) := by decide +kernel
theorem dL_law_135 : decode cL_law 135 = .ok (.aload_n 1, 1) := by decide +kernel
theorem dL_law_136 : decode cL_law 136 = .ok (.aload_n 0, 1) := by decide +kernel
theorem dL_law_137 : decode cL_law 137 = .ok (.iload_n 3, 1) := by decide +kernel
theorem dL_law_138 : decode cL_law 138 = .ok (.iconst 1, 1) := by decide +kernel
theorem dL_law_139 : decode cL_law 139 = .ok (.iadd, 1) := by decide +kernel
theorem dL_law_140 : decode cL_law 140 = .ok (.iaload, 1) := by decide +kernel
theorem dL_law_141 : decode cL_law 141 = .ok (.aload_n 0, 1) := by decide +kernel
theorem dL_law_142 : decode cL_law 142 = .ok (.iload_n 3, 1) := by decide +kernel
theorem dL_law_143 : decode cL_law 143 = .ok (.iconst 2, 1) := by decide +kernel
theorem dL_law_144 : decode cL_law 144 = .ok (.iadd, 1) := by decide +kernel
theorem dL_law_145 : decode cL_law 145 = .ok (.iaload, 1) := by decide +kernel
theorem dL_law_146 : decode cL_law 146 = .ok (.invokevirtual 18, 3) := by decide +kernel
theorem dL_law_149 : decode cL_law 149 = .ok (.aload_n 2, 1) := by decide +kernel
theorem dL_law_150 : decode cL_law 150 = .ok (.aload_n 0, 1) := by decide +kernel
theorem dL_law_151 : decode cL_law 151 = .ok (.iload_n 3, 1) := by decide +kernel
theorem dL_law_152 : decode cL_law 152 = .ok (.iconst 1, 1) := by decide +kernel
theorem dL_law_153 : decode cL_law 153 = .ok (.iadd, 1) := by decide +kernel
theorem dL_law_154 : decode cL_law 154 = .ok (.iaload, 1) := by decide +kernel
theorem dL_law_155 : decode cL_law 155 = .ok (.aload_n 0, 1) := by decide +kernel
theorem dL_law_156 : decode cL_law 156 = .ok (.iload_n 3, 1) := by decide +kernel
theorem dL_law_157 : decode cL_law 157 = .ok (.iconst 2, 1) := by decide +kernel
theorem dL_law_158 : decode cL_law 158 = .ok (.iadd, 1) := by decide +kernel
theorem dL_law_159 : decode cL_law 159 = .ok (.iaload, 1) := by decide +kernel
theorem dL_law_160 : decode cL_law 160 = .ok (.invokevirtual 22, 3) := by decide +kernel
theorem dL_law_163 : decode cL_law 163 = .ok (.if_icmp .eq 232, 3) := by decide +kernel
theorem dL_law_166 : decode cL_law 166 = .ok (.iconst 0, 1) := by decide +kernel
theorem dL_law_167 : decode cL_law 167 = .ok (.ireturn, 1) := by decide +kernel
theorem dL_law_168 : decode cL_law 168 = .ok (.aload_n 1, 1) := by decide +kernel
theorem dL_law_169 : decode cL_law 169 = .ok (.aload_n 0, 1) := by decide +kernel
theorem dL_law_170 : decode cL_law 170 = .ok (.iload_n 3, 1) := by decide +kernel
theorem dL_law_171 : decode cL_law 171 = .ok (.iconst 1, 1) := by decide +kernel
theorem dL_law_172 : decode cL_law 172 = .ok (.iadd, 1) := by decide +kernel
theorem dL_law_173 : decode cL_law 173 = .ok (.iaload, 1) := by decide +kernel
theorem dL_law_174 : decode cL_law 174 = .ok (.aload_n 0, 1) := by decide +kernel
theorem dL_law_175 : decode cL_law 175 = .ok (.iload_n 3, 1) := by decide +kernel
theorem dL_law_176 : decode cL_law 176 = .ok (.iconst 2, 1) := by decide +kernel
theorem dL_law_177 : decode cL_law 177 = .ok (.iadd, 1) := by decide +kernel
theorem dL_law_178 : decode cL_law 178 = .ok (.iaload, 1) := by decide +kernel
theorem dL_law_179 : decode cL_law 179 = .ok (.aload_n 0, 1) := by decide +kernel
theorem dL_law_180 : decode cL_law 180 = .ok (.iload_n 3, 1) := by decide +kernel
theorem dL_law_181 : decode cL_law 181 = .ok (.iconst 3, 1) := by decide +kernel
theorem dL_law_182 : decode cL_law 182 = .ok (.iadd, 1) := by decide +kernel
theorem dL_law_183 : decode cL_law 183 = .ok (.iaload, 1) := by decide +kernel
theorem dL_law_184 : decode cL_law 184 = .ok (.invokevirtual 23, 3) := by decide +kernel
theorem dL_law_187 : decode cL_law 187 = .ok (.aload_n 2, 1) := by decide +kernel
theorem dL_law_188 : decode cL_law 188 = .ok (.aload_n 0, 1) := by decide +kernel
theorem dL_law_189 : decode cL_law 189 = .ok (.iload_n 3, 1) := by decide +kernel
theorem dL_law_190 : decode cL_law 190 = .ok (.iconst 1, 1) := by decide +kernel
theorem dL_law_191 : decode cL_law 191 = .ok (.iadd, 1) := by decide +kernel
theorem dL_law_192 : decode cL_law 192 = .ok (.iaload, 1) := by decide +kernel
theorem dL_law_193 : decode cL_law 193 = .ok (.aload_n 0, 1) := by decide +kernel
theorem dL_law_194 : decode cL_law 194 = .ok (.iload_n 3, 1) := by decide +kernel
theorem dL_law_195 : decode cL_law 195 = .ok (.iconst 2, 1) := by decide +kernel
theorem dL_law_196 : decode cL_law 196 = .ok (.iadd, 1) := by decide +kernel
theorem dL_law_197 : decode cL_law 197 = .ok (.iaload, 1) := by decide +kernel
theorem dL_law_198 : decode cL_law 198 = .ok (.aload_n 0, 1) := by decide +kernel
theorem dL_law_199 : decode cL_law 199 = .ok (.iload_n 3, 1) := by decide +kernel
theorem dL_law_200 : decode cL_law 200 = .ok (.iconst 3, 1) := by decide +kernel
theorem dL_law_201 : decode cL_law 201 = .ok (.iadd, 1) := by decide +kernel
theorem dL_law_202 : decode cL_law 202 = .ok (.iaload, 1) := by decide +kernel
theorem dL_law_203 : decode cL_law 203 = .ok (.invokevirtual 27, 3) := by decide +kernel
theorem dL_law_206 : decode cL_law 206 = .ok (.if_icmp .eq 189, 3) := by decide +kernel
theorem dL_law_209 : decode cL_law 209 = .ok (.iconst 0, 1) := by decide +kernel
theorem dL_law_210 : decode cL_law 210 = .ok (.ireturn, 1) := by decide +kernel
theorem dL_law_211 : decode cL_law 211 = .ok (.aload_n 1, 1) := by decide +kernel
theorem dL_law_212 : decode cL_law 212 = .ok (.aload_n 0, 1) := by decide +kernel
theorem dL_law_213 : decode cL_law 213 = .ok (.iload_n 3, 1) := by decide +kernel
theorem dL_law_214 : decode cL_law 214 = .ok (.iconst 1, 1) := by decide +kernel
theorem dL_law_215 : decode cL_law 215 = .ok (.iadd, 1) := by decide +kernel
theorem dL_law_216 : decode cL_law 216 = .ok (.iaload, 1) := by decide +kernel
theorem dL_law_217 : decode cL_law 217 = .ok (.invokevirtual 28, 3) := by decide +kernel
theorem dL_law_220 : decode cL_law 220 = .ok (.aload_n 2, 1) := by decide +kernel
theorem dL_law_221 : decode cL_law 221 = .ok (.aload_n 0, 1) := by decide +kernel
theorem dL_law_222 : decode cL_law 222 = .ok (.iload_n 3, 1) := by decide +kernel
theorem dL_law_223 : decode cL_law 223 = .ok (.iconst 1, 1) := by decide +kernel
theorem dL_law_224 : decode cL_law 224 = .ok (.iadd, 1) := by decide +kernel
theorem dL_law_225 : decode cL_law 225 = .ok (.iaload, 1) := by decide +kernel
theorem dL_law_226 : decode cL_law 226 = .ok (.invokevirtual 32, 3) := by decide +kernel
theorem dL_law_229 : decode cL_law 229 = .ok (.if_icmp .eq 166, 3) := by decide +kernel
theorem dL_law_232 : decode cL_law 232 = .ok (.iconst 0, 1) := by decide +kernel
theorem dL_law_233 : decode cL_law 233 = .ok (.ireturn, 1) := by decide +kernel
theorem dL_law_234 : decode cL_law 234 = .ok (.aload_n 1, 1) := by decide +kernel
theorem dL_law_235 : decode cL_law 235 = .ok (.aload_n 0, 1) := by decide +kernel
theorem dL_law_236 : decode cL_law 236 = .ok (.iload_n 3, 1) := by decide +kernel
theorem dL_law_237 : decode cL_law 237 = .ok (.iconst 1, 1) := by decide +kernel
theorem dL_law_238 : decode cL_law 238 = .ok (.iadd, 1) := by decide +kernel
theorem dL_law_239 : decode cL_law 239 = .ok (.iaload, 1) := by decide +kernel
theorem dL_law_240 : decode cL_law 240 = .ok (.invokevirtual 33, 3) := by decide +kernel
theorem dL_law_243 : decode cL_law 243 = .ok (.aload_n 2, 1) := by decide +kernel
theorem dL_law_244 : decode cL_law 244 = .ok (.aload_n 0, 1) := by decide +kernel
theorem dL_law_245 : decode cL_law 245 = .ok (.iload_n 3, 1) := by decide +kernel
theorem dL_law_246 : decode cL_law 246 = .ok (.iconst 1, 1) := by decide +kernel
theorem dL_law_247 : decode cL_law 247 = .ok (.iadd, 1) := by decide +kernel
theorem dL_law_248 : decode cL_law 248 = .ok (.iaload, 1) := by decide +kernel
theorem dL_law_249 : decode cL_law 249 = .ok (.invokevirtual 37, 3) := by decide +kernel
theorem dL_law_252 : decode cL_law 252 = .ok (.if_icmp .eq 143, 3) := by decide +kernel
theorem dL_law_255 : decode cL_law 255 = .ok (.iconst 0, 1) := by decide +kernel
theorem dL_law_256 : decode cL_law 256 = .ok (.ireturn, 1) := by decide +kernel
theorem dL_law_257 : decode cL_law 257 = .ok (.aload_n 1, 1) := by decide +kernel
theorem dL_law_258 : decode cL_law 258 = .ok (.aload_n 0, 1) := by decide +kernel
theorem dL_law_259 : decode cL_law 259 = .ok (.iload_n 3, 1) := by decide +kernel
theorem dL_law_260 : decode cL_law 260 = .ok (.iconst 1, 1) := by decide +kernel
theorem dL_law_261 : decode cL_law 261 = .ok (.iadd, 1) := by decide +kernel
theorem dL_law_262 : decode cL_law 262 = .ok (.iaload, 1) := by decide +kernel
theorem dL_law_263 : decode cL_law 263 = .ok (.aload_n 0, 1) := by decide +kernel
theorem dL_law_264 : decode cL_law 264 = .ok (.iload_n 3, 1) := by decide +kernel
theorem dL_law_265 : decode cL_law 265 = .ok (.iconst 2, 1) := by decide +kernel
theorem dL_law_266 : decode cL_law 266 = .ok (.iadd, 1) := by decide +kernel
theorem dL_law_267 : decode cL_law 267 = .ok (.iaload, 1) := by decide +kernel
theorem dL_law_268 : decode cL_law 268 = .ok (.invokevirtual 38, 3) := by decide +kernel
theorem dL_law_271 : decode cL_law 271 = .ok (.aload_n 2, 1) := by decide +kernel
theorem dL_law_272 : decode cL_law 272 = .ok (.aload_n 0, 1) := by decide +kernel
theorem dL_law_273 : decode cL_law 273 = .ok (.iload_n 3, 1) := by decide +kernel
theorem dL_law_274 : decode cL_law 274 = .ok (.iconst 1, 1) := by decide +kernel
theorem dL_law_275 : decode cL_law 275 = .ok (.iadd, 1) := by decide +kernel
theorem dL_law_276 : decode cL_law 276 = .ok (.iaload, 1) := by decide +kernel
theorem dL_law_277 : decode cL_law 277 = .ok (.aload_n 0, 1) := by decide +kernel
theorem dL_law_278 : decode cL_law 278 = .ok (.iload_n 3, 1) := by decide +kernel
theorem dL_law_279 : decode cL_law 279 = .ok (.iconst 2, 1) := by decide +kernel
theorem dL_law_280 : decode cL_law 280 = .ok (.iadd, 1) := by decide +kernel
theorem dL_law_281 : decode cL_law 281 = .ok (.iaload, 1) := by decide +kernel
theorem dL_law_282 : decode cL_law 282 = .ok (.invokevirtual 42, 3) := by decide +kernel
theorem dL_law_285 : decode cL_law 285 = .ok (.if_icmp .eq 110, 3) := by decide +kernel
theorem dL_law_288 : decode cL_law 288 = .ok (.iconst 0, 1) := by decide +kernel
theorem dL_law_289 : decode cL_law 289 = .ok (.ireturn, 1) := by decide +kernel
theorem dL_law_290 : decode cL_law 290 = .ok (.aload_n 1, 1) := by decide +kernel
theorem dL_law_291 : decode cL_law 291 = .ok (.aload_n 0, 1) := by decide +kernel
theorem dL_law_292 : decode cL_law 292 = .ok (.iload_n 3, 1) := by decide +kernel
theorem dL_law_293 : decode cL_law 293 = .ok (.iconst 1, 1) := by decide +kernel
theorem dL_law_294 : decode cL_law 294 = .ok (.iadd, 1) := by decide +kernel
theorem dL_law_295 : decode cL_law 295 = .ok (.iaload, 1) := by decide +kernel
theorem dL_law_296 : decode cL_law 296 = .ok (.invokevirtual 43, 3) := by decide +kernel
theorem dL_law_299 : decode cL_law 299 = .ok (.aload_n 2, 1) := by decide +kernel
theorem dL_law_300 : decode cL_law 300 = .ok (.aload_n 0, 1) := by decide +kernel
theorem dL_law_301 : decode cL_law 301 = .ok (.iload_n 3, 1) := by decide +kernel
theorem dL_law_302 : decode cL_law 302 = .ok (.iconst 1, 1) := by decide +kernel
theorem dL_law_303 : decode cL_law 303 = .ok (.iadd, 1) := by decide +kernel
theorem dL_law_304 : decode cL_law 304 = .ok (.iaload, 1) := by decide +kernel
theorem dL_law_305 : decode cL_law 305 = .ok (.invokevirtual 46, 3) := by decide +kernel
theorem dL_law_308 : decode cL_law 308 = .ok (.if_icmp .eq 87, 3) := by decide +kernel
theorem dL_law_311 : decode cL_law 311 = .ok (.iconst 0, 1) := by decide +kernel
theorem dL_law_312 : decode cL_law 312 = .ok (.ireturn, 1) := by decide +kernel
theorem dL_law_313 : decode cL_law 313 = .ok (.aload_n 1, 1) := by decide +kernel
theorem dL_law_314 : decode cL_law 314 = .ok (.aload_n 0, 1) := by decide +kernel
theorem dL_law_315 : decode cL_law 315 = .ok (.iload_n 3, 1) := by decide +kernel
theorem dL_law_316 : decode cL_law 316 = .ok (.iconst 1, 1) := by decide +kernel
theorem dL_law_317 : decode cL_law 317 = .ok (.iadd, 1) := by decide +kernel
theorem dL_law_318 : decode cL_law 318 = .ok (.iaload, 1) := by decide +kernel
theorem dL_law_319 : decode cL_law 319 = .ok (.invokevirtual 47, 3) := by decide +kernel
theorem dL_law_322 : decode cL_law 322 = .ok (.aload_n 2, 1) := by decide +kernel
theorem dL_law_323 : decode cL_law 323 = .ok (.aload_n 0, 1) := by decide +kernel
theorem dL_law_324 : decode cL_law 324 = .ok (.iload_n 3, 1) := by decide +kernel
theorem dL_law_325 : decode cL_law 325 = .ok (.iconst 1, 1) := by decide +kernel
theorem dL_law_326 : decode cL_law 326 = .ok (.iadd, 1) := by decide +kernel
theorem dL_law_327 : decode cL_law 327 = .ok (.iaload, 1) := by decide +kernel
theorem dL_law_328 : decode cL_law 328 = .ok (.invokevirtual 50, 3) := by decide +kernel
theorem dL_law_331 : decode cL_law 331 = .ok (.if_icmp .eq 64, 3) := by decide +kernel
theorem dL_law_334 : decode cL_law 334 = .ok (.iconst 0, 1) := by decide +kernel
theorem dL_law_335 : decode cL_law 335 = .ok (.ireturn, 1) := by decide +kernel
theorem dL_law_336 : decode cL_law 336 = .ok (.aload_n 1, 1) := by decide +kernel
theorem dL_law_337 : decode cL_law 337 = .ok (.invokevirtual 51, 3) := by decide +kernel
theorem dL_law_340 : decode cL_law 340 = .ok (.aload_n 2, 1) := by decide +kernel
theorem dL_law_341 : decode cL_law 341 = .ok (.invokevirtual 55, 3) := by decide +kernel
theorem dL_law_344 : decode cL_law 344 = .ok (.if_icmp .eq 51, 3) := by decide +kernel
theorem dL_law_347 : decode cL_law 347 = .ok (.iconst 0, 1) := by decide +kernel
theorem dL_law_348 : decode cL_law 348 = .ok (.ireturn, 1) := by decide +kernel
theorem dL_law_349 : decode cL_law 349 = .ok (.aload_n 1, 1) := by decide +kernel
theorem dL_law_350 : decode cL_law 350 = .ok (.aload_n 0, 1) := by decide +kernel
theorem dL_law_351 : decode cL_law 351 = .ok (.iload_n 3, 1) := by decide +kernel
theorem dL_law_352 : decode cL_law 352 = .ok (.iconst 1, 1) := by decide +kernel
theorem dL_law_353 : decode cL_law 353 = .ok (.iadd, 1) := by decide +kernel
theorem dL_law_354 : decode cL_law 354 = .ok (.iaload, 1) := by decide +kernel
theorem dL_law_355 : decode cL_law 355 = .ok (.invokevirtual 56, 3) := by decide +kernel
theorem dL_law_358 : decode cL_law 358 = .ok (.aload_n 2, 1) := by decide +kernel
theorem dL_law_359 : decode cL_law 359 = .ok (.aload_n 0, 1) := by decide +kernel
theorem dL_law_360 : decode cL_law 360 = .ok (.iload_n 3, 1) := by decide +kernel
theorem dL_law_361 : decode cL_law 361 = .ok (.iconst 1, 1) := by decide +kernel
theorem dL_law_362 : decode cL_law 362 = .ok (.iadd, 1) := by decide +kernel
theorem dL_law_363 : decode cL_law 363 = .ok (.iaload, 1) := by decide +kernel
theorem dL_law_364 : decode cL_law 364 = .ok (.invokevirtual 59, 3) := by decide +kernel
theorem dL_law_367 : decode cL_law 367 = .ok (.if_icmp .eq 28, 3) := by decide +kernel
theorem dL_law_370 : decode cL_law 370 = .ok (.iconst 0, 1) := by decide +kernel
theorem dL_law_371 : decode cL_law 371 = .ok (.ireturn, 1) := by decide +kernel
theorem dL_law_372 : decode cL_law 372 = .ok (.aload_n 1, 1) := by decide +kernel
theorem dL_law_373 : decode cL_law 373 = .ok (.aload_n 0, 1) := by decide +kernel
theorem dL_law_374 : decode cL_law 374 = .ok (.iload_n 3, 1) := by decide +kernel
theorem dL_law_375 : decode cL_law 375 = .ok (.iconst 1, 1) := by decide +kernel
theorem dL_law_376 : decode cL_law 376 = .ok (.iadd, 1) := by decide +kernel
theorem dL_law_377 : decode cL_law 377 = .ok (.iaload, 1) := by decide +kernel
theorem dL_law_378 : decode cL_law 378 = .ok (.invokevirtual 60, 3) := by decide +kernel
theorem dL_law_381 : decode cL_law 381 = .ok (.aload_n 2, 1) := by decide +kernel
theorem dL_law_382 : decode cL_law 382 = .ok (.aload_n 0, 1) := by decide +kernel
theorem dL_law_383 : decode cL_law 383 = .ok (.iload_n 3, 1) := by decide +kernel
theorem dL_law_384 : decode cL_law 384 = .ok (.iconst 1, 1) := by decide +kernel
theorem dL_law_385 : decode cL_law 385 = .ok (.iadd, 1) := by decide +kernel
theorem dL_law_386 : decode cL_law 386 = .ok (.iaload, 1) := by decide +kernel
theorem dL_law_387 : decode cL_law 387 = .ok (.invokevirtual 63, 3) := by decide +kernel
theorem dL_law_390 : decode cL_law 390 = .ok (.if_icmp .eq 5, 3) := by decide +kernel
theorem dL_law_393 : decode cL_law 393 = .ok (.iconst 0, 1) := by decide +kernel
theorem dL_law_394 : decode cL_law 394 = .ok (.ireturn, 1) := by decide +kernel
theorem dL_law_395 : decode cL_law 395 = .ok (.iinc 3 4, 3) := by decide +kernel
theorem dL_law_398 : decode cL_law 398 = .ok (.goto (-380), 3) := by decide +kernel
theorem dL_law_401 : decode cL_law 401 = .ok (.iconst 1, 1) := by decide +kernel
theorem dL_law_402 : decode cL_law 402 = .ok (.ireturn, 1) := by decide +kernel
end
section
/-! whole numbers under Int32: every int of the machine is written 'iv z', z a whole number -/
abbrev iv (z : Int) : Value := .int (Int32.ofInt z)
theorem z_t {z : Int} (h : -2147483648 ≤ z ∧ z < 2147483648) : (Int32.ofInt z).toInt = z := Int32.toInt_ofInt_of_le h.1 h.2
theorem z_lt {a b : Int} (ha : -2147483648 ≤ a ∧ a < 2147483648) (hb : -2147483648 ≤ b ∧ b < 2147483648) : Int32.ofInt a < Int32.ofInt b ↔ a < b := by
  rw [Int32.lt_iff_toInt_lt, z_t ha, z_t hb]
theorem z_le {a b : Int} (ha : -2147483648 ≤ a ∧ a < 2147483648) (hb : -2147483648 ≤ b ∧ b < 2147483648) : Int32.ofInt a ≤ Int32.ofInt b ↔ a ≤ b := by
  rw [Int32.le_iff_toInt_le, z_t ha, z_t hb]
theorem z_eq {a b : Int} (ha : -2147483648 ≤ a ∧ a < 2147483648) (hb : -2147483648 ≤ b ∧ b < 2147483648) : Int32.ofInt a = Int32.ofInt b ↔ a = b := by
  rw [← Int32.toInt_inj, z_t ha, z_t hb]
theorem z_r0 : (-2147483648 : Int) ≤ 0 ∧ (0 : Int) < 2147483648 := by decide
theorem z_nI (n : Nat) : Int32.ofInt (n : Int) = nI n := Int32.ofInt_eq_ofNat
theorem z_cl {i : Int} (h0 : 0 ≤ i) (h1 : i < 2147483648) : (Int32.ofInt i).toNatClampNeg = i.toNat := Int32.toNatClampNeg_ofInt_of_le (by omega) (by omega)
theorem z_in {i : Int} {n : Nat} (h0 : 0 ≤ i) (h1 : i < n) (hn : n ≤ 65536) : vp_in (Int32.ofInt i) n := by
  rw [vp_in_iff, z_t ⟨by omega, by omega⟩]
  exact ⟨h0, h1⟩
theorem z_s31 : ∀ n, n < 32 → ((nI n &&& 31).toBitVec.smod 32).toNat = n := by decide +kernel
theorem z_shr {a k m : Int} (ha : -2147483648 ≤ a ∧ a < 2147483648) (hk : 0 ≤ k ∧ k < 32) (hm : (2 : Int) ^ k.toNat = m) : Int32.ofInt a >>> (Int32.ofInt k &&& 31) = Int32.ofInt (a / m) := by
  subst hm
  obtain ⟨n, rfl⟩ : ∃ n : Nat, k = n := ⟨k.toNat, by omega⟩
  have h := pk_shr (Int32.ofInt a) (nI n &&& 31) n (z_s31 n (by omega))
  rw [z_t ha, Int.shiftRight_eq_div_pow] at h
  rw [z_nI]
  have e : ((n : Int)).toNat = n := by omega
  rw [e]
  have e2 : a / 2 ^ n = (Int32.ofInt a >>> (nI n &&& 31)).toInt := by rw [h]; norm_cast
  rw [e2, Int32.ofInt_toInt]
theorem z_shl {a k m : Int} (ha : 0 ≤ a) (hk : 0 ≤ k ∧ k < 32) (hm : (2 : Int) ^ k.toNat = m) (hl : a * m < 4294967296) : Int32.ofInt a <<< (Int32.ofInt k &&& 31) = Int32.ofInt (a * m) := by
  subst hm
  obtain ⟨n, rfl⟩ : ∃ n : Nat, k = n := ⟨k.toNat, by omega⟩
  obtain ⟨b, rfl⟩ : ∃ b : Nat, a = b := ⟨a.toNat, by omega⟩
  have e : ((n : Int)).toNat = n := by omega
  rw [e] at hl ⊢
  have hl2 : b * 2 ^ n < 2 ^ 32 := by
    apply Int.ofNat_lt.mp
    rw [Int.natCast_mul, Int.natCast_pow]
    exact hl
  rw [z_nI, z_nI, pk_shlN (nI n &&& 31) n (z_s31 n (by omega)) hl2, ← z_nI, Int.natCast_mul, Int.natCast_pow]
  rfl
theorem z_andm (a : Int) {mk m : Int} (k : Nat) (hk : k ≤ 31) (h1 : mk = 2 ^ k - 1) (h2 : m = 2 ^ k) : Int32.ofInt a &&& Int32.ofInt mk = Int32.ofInt (a % m) := by
  subst h1; subst h2
  have hp : (0 : Nat) < 2 ^ k := Nat.two_pow_pos k
  have hp2 : (2 : Nat) ^ k ≤ 2 ^ 31 := Nat.pow_le_pow_right (by decide) hk
  have e1 : ((2 : Int) ^ k - 1) = ((2 ^ k - 1 : Nat) : Int) := by
    rw [Int.ofNat_sub (by omega)]
    norm_cast
  rw [e1, z_nI, pk_and (Int32.ofInt a) k (by rw [pk_tn]; omega)]
  rw [← z_nI]
  congr 1
  have e2 : (Int32.ofInt a).toBitVec.toNat = (a % 2 ^ 32).toNat := by
    show (BitVec.ofInt 32 a).toNat = _
    rw [BitVec.toNat_ofInt]
    norm_cast
  rw [e2]
  have h3 : 0 ≤ a % 2 ^ 32 := Int.emod_nonneg _ (by decide)
  rw [Int.natCast_emod, Int.toNat_of_nonneg h3]
  have hd : ((2 : Int) ^ k) ∣ 2 ^ 32 := ⟨2 ^ (32 - k), by rw [← Int.pow_add]; congr 1; omega⟩
  have := Int.emod_emod_of_dvd a hd
  norm_cast at this ⊢
def lnd (a b : Int) : Int := ((a.toNat &&& b.toNat : Nat) : Int)
theorem z_nxand (a b : Nat) : nI a &&& nI b = nI (a &&& b) := by
  apply Int32.toBitVec_inj.1
  show BitVec.ofNat 32 a &&& BitVec.ofNat 32 b = BitVec.ofNat 32 (a &&& b)
  apply BitVec.eq_of_getLsbD_eq
  intro i hi
  simp [hi]
theorem z_nxor (a b : Nat) : nI a ||| nI b = nI (a ||| b) := by
  apply Int32.toBitVec_inj.1
  show BitVec.ofNat 32 a ||| BitVec.ofNat 32 b = BitVec.ofNat 32 (a ||| b)
  apply BitVec.eq_of_getLsbD_eq
  intro i hi
  simp [hi]
theorem z_and {a b : Int} (ha : 0 ≤ a) (hb : 0 ≤ b) : Int32.ofInt a &&& Int32.ofInt b = Int32.ofInt (lnd a b) := by
  obtain ⟨x, rfl⟩ : ∃ x : Nat, a = x := ⟨a.toNat, by omega⟩
  obtain ⟨y, rfl⟩ : ∃ y : Nat, b = y := ⟨b.toNat, by omega⟩
  rw [z_nI, z_nI, z_nxand, ← z_nI]
  rfl
theorem z_or1 {a b m : Int} (k : Nat) (hm : m = 2 ^ k) (ha : 0 ≤ a) (ham : a % m = 0) (hb : 0 ≤ b) (hb1 : b < m) : Int32.ofInt a ||| Int32.ofInt b = Int32.ofInt (a + b) := by
  subst hm
  obtain ⟨x, rfl⟩ : ∃ x : Nat, a = x := ⟨a.toNat, by omega⟩
  obtain ⟨y, rfl⟩ : ∃ y : Nat, b = y := ⟨b.toNat, by omega⟩
  have h1 : x % 2 ^ k = 0 := by exact_mod_cast ham
  have h2 : y < 2 ^ k := by exact_mod_cast hb1
  obtain ⟨c, rfl⟩ := Nat.dvd_of_mod_eq_zero h1
  rw [z_nI, z_nI, z_nxor, ← Nat.two_pow_add_eq_or_of_lt h2, ← z_nI]
  rfl
theorem z_or2 {a b m : Int} (k : Nat) (hm : m = 2 ^ k) (ha : 0 ≤ a) (ham : a % m = 0) (hb : 0 ≤ b) (hb1 : b < m) : Int32.ofInt b ||| Int32.ofInt a = Int32.ofInt (b + a) := by
  rw [Int32.or_comm, z_or1 k hm ha ham hb hb1, Int.add_comm]
theorem z_div {a d : Int} (ha : 0 ≤ a ∧ a < 2147483648) (hd : 0 < d ∧ d < 2147483648) : Int32.ofInt a / Int32.ofInt d = Int32.ofInt (a / d) := by
  obtain ⟨x, rfl⟩ : ∃ x : Nat, a = x := ⟨a.toNat, by omega⟩
  obtain ⟨y, rfl⟩ : ∃ y : Nat, d = y := ⟨d.toNat, by omega⟩
  rw [z_nI, z_nI, pk_div (by omega) (by omega) (by omega), ← z_nI]
  rfl
theorem z_rem {a d : Int} (ha : 0 ≤ a ∧ a < 2147483648) (hd : 0 < d ∧ d < 2147483648) : Int32.ofInt a - Int32.ofInt a / Int32.ofInt d * Int32.ofInt d = Int32.ofInt (a % d) := by
  obtain ⟨x, rfl⟩ : ∃ x : Nat, a = x := ⟨a.toNat, by omega⟩
  obtain ⟨y, rfl⟩ : ∃ y : Nat, d = y := ⟨d.toNat, by omega⟩
  rw [z_nI, z_nI, pk_rem (by omega) (by omega) (by omega), ← z_nI]
  rfl
theorem z_b {z : Int} (h : -128 ≤ z ∧ z < 128) : (Int8.ofInt z).toInt32 = Int32.ofInt z := by
  apply Int32.toInt_inj.mp
  rw [Int8.toInt_toInt32, Int8.toInt_ofInt_of_le (by omega) (by omega), z_t ⟨by omega, by omega⟩]
theorem z_s {z : Int} (h : -32768 ≤ z ∧ z < 32768) : (Int16.ofInt z).toInt32 = Int32.ofInt z := by
  apply Int32.toInt_inj.mp
  rw [Int16.toInt_toInt32, Int16.toInt_ofInt_of_le (by omega) (by omega), z_t ⟨by omega, by omega⟩]
theorem z_i2b {z : Int} (h : -128 ≤ z ∧ z < 128) : (Int32.ofInt z).toInt8.toInt32 = Int32.ofInt z := by
  rw [Int32.toInt8_ofInt, z_b h]
theorem z_i2s {z : Int} (h : -32768 ≤ z ∧ z < 32768) : (Int32.ofInt z).toInt16.toInt32 = Int32.ofInt z := by
  rw [Int32.toInt16_ofInt, z_s h]
theorem z_xx (x : Int32) : Int32.ofInt x.toInt = x := Int32.ofInt_toInt x
theorem z_rx (x : Int32) : -2147483648 ≤ x.toInt ∧ x.toInt < 2147483648 := ⟨Int32.le_toInt x, Int32.toInt_lt x⟩
def lxr (a b : Int) : Int := (Int32.ofInt a ^^^ Int32.ofInt b).toInt
theorem z_xor (a b : Int) : Int32.ofInt a ^^^ Int32.ofInt b = Int32.ofInt (lxr a b) := (z_xx _).symm
end
section
/-! MY LAYER: an object with int fields and arrays of ints, bytes, shorts, as ONE function of (field, place). -/
abbrev zSt : Type := Nat → Int → Int
def sset (σ : zSt) (k : Nat) (j v : Int) (k' : Nat) (j' : Int) : Int := if k' = k ∧ j' = j then v else σ k' j'
/-- every value is an int of the machine -/
def zR (σ : zSt) : Prop := ∀ k j, -2147483648 ≤ σ k j ∧ σ k j < 2147483648
theorem zR.set {σ : zSt} (h : zR σ) (k : Nat) (j : Int) {v : Int} (hv : -2147483648 ≤ v ∧ v < 2147483648) : zR (sset σ k j v) := by
  intro k' j'
  unfold sset
  split
  · exact hv
  · exact h k' j'
/-- a kind of object: its number, name, fields, how many, its array fields, their types, lengths, which are arrays -/
abbrev zC : Type := Nat × String × u_T × Nat × List Nat × (Nat → FieldType) × (Nat → Nat) × (Nat → Bool)
abbrev zC.ci (d : zC) : Nat := d.1
abbrev zC.nm (d : zC) : String := d.2.1
abbrev zC.T (d : zC) : u_T := d.2.2.1
abbrev zC.N (d : zC) : Nat := d.2.2.2.1
abbrev zC.ks (d : zC) : List Nat := d.2.2.2.2.1
abbrev zC.ety (d : zC) : Nat → FieldType := d.2.2.2.2.2.1
abbrev zC.ln (d : zC) : Nat → Nat := d.2.2.2.2.2.2.1
abbrev zC.isA (d : zC) : Nat → Bool := d.2.2.2.2.2.2.2
/-- where it lies: the object, its arrays, their array classes' numbers, the classes' numbers and slots -/
abbrev zG : Type := Nat × (Nat → Nat) × (Nat → ClassId) × va_G
abbrev zG.h (g : zG) : Nat := g.1
abbrev zG.ad (g : zG) : Nat → Nat := g.2.1
abbrev zG.cA (g : zG) : Nat → ClassId := g.2.2.1
abbrev zG.D (g : zG) : va_G := g.2.2.2
abbrev vwCl : List vw_C := [(RX0, TX0, 22), (RX1, TX1, 13)]
def zfl (d : zC) (g : zG) (σ : zSt) (k : Nat) : Value := if d.isA k = true then .ref (g.ad k) else iv (σ k 0)
def zcl (d : zC) (g : zG) (σ : zSt) (k : Nat) : Nat × va_E := (g.ad k, .inl (g.cA k, d.ln k, .inl (fun j : Nat => Int32.ofInt (σ k (j : Int)))))
def zw (d : zC) (g : zG) (σ : zSt) : va_W := (g.h, .inr (d.ci, (List.range d.N).map (zfl d g σ))) :: d.ks.map (zcl d g σ)
def zty (d : zC) (g : zG) : List (ClassId × FieldType) := d.ks.map (fun k => (g.cA k, d.ety k))
def zwf (d : zC) : Prop := vwCl[d.ci]? = some (d.nm, d.T, d.N) ∧ (∀ w ∈ u_ws d.nm d.T d.N, w ∈ lw_all) ∧ (∃ ty0 : Nat → FieldType, ∀ k, k < d.N → parseFieldDescriptor (d.T k).2.2.1 = some (ty0 k)) ∧ (∀ a, a < d.N → ∀ b, b < d.N → a ≠ b → (d.T a).2.1 ≠ (d.T b).2.1) ∧ d.ks.Nodup ∧ (∀ k ∈ d.ks, d.isA k = true) ∧ (∀ k, k < d.N → (d.T k).1 = d.nm) ∧ ∀ k, d.ln k ≤ 65536
theorem zw_0 (d : zC) (g : zG) (σ : zSt) : (zw d g σ)[0]? = some (g.h, .inr (d.ci, (List.range d.N).map (zfl d g σ))) := rfl
theorem zw_k {d : zC} {q k : Nat} (hq : d.ks[q]? = some k) (g : zG) (σ : zSt) : (zw d g σ)[q + 1]? = some (g.ad k, .inl (g.cA k, d.ln k, .inl (fun j : Nat => Int32.ofInt (σ k (j : Int))))) := by
  unfold zw
  rw [List.getElem?_cons_succ, List.getElem?_map, hq]
  rfl
theorem zty_k {d : zC} {q k : Nat} (hq : d.ks[q]? = some k) (g : zG) : (zty d g)[q]? = some (g.cA k, d.ety k) := by
  unfold zty
  rw [List.getElem?_map, hq]
  rfl
theorem z_fld {d : zC} {k : Nat} (hk : k < d.N) (g : zG) (σ : zSt) : ((List.range d.N).map (zfl d g σ))[k]? = some (zfl d g σ k) := by
  rw [List.getElem?_map, List.getElem?_range hk]
  rfl
/-- a field is put -/
theorem zw_put {d : zC} (hd : zwf d) {k : Nat} (hk : k < d.N) (ha : d.isA k = false) (g : zG) (σ : zSt) (v : Int) : (zw d g σ).set 0 (g.h, .inr (d.ci, ((List.range d.N).map (zfl d g σ)).set k (iv v))) = zw d g (sset σ k 0 v) := by
  unfold zw
  rw [List.set_cons_zero]
  have h1 : ((List.range d.N).map (zfl d g σ)).set k (iv v) = (List.range d.N).map (zfl d g (sset σ k 0 v)) := by
    apply List.ext_getElem?
    intro j
    rw [List.getElem?_set]
    by_cases hj : k = j
    · subst hj
      rw [if_pos rfl, if_pos (by simpa using hk), z_fld hk]
      simp [zfl, ha, sset]
    · rw [if_neg hj]
      by_cases hjN : j < d.N
      · rw [z_fld hjN, z_fld hjN]
        have hj2 : ¬ j = k := fun h => hj h.symm
        simp [zfl, sset, hj2]
      · simp [hjN]
  have h2 : d.ks.map (zcl d g σ) = d.ks.map (zcl d g (sset σ k 0 v)) := by
    apply List.map_congr_left
    intro a hm
    have h3 := hd.2.2.2.2.2.1 a hm
    have h4 : ¬ a = k := fun h => by rw [h, ha] at h3; cases h3
    simp [zcl, sset, h4]
  rw [h1, h2]
/-- an array's place is written -/
theorem zw_wr {d : zC} (hd : zwf d) {q k : Nat} (hq : d.ks[q]? = some k) (g : zG) (σ : zSt) {i v : Int} (hi : 0 ≤ i) : (zw d g σ).set (q + 1) (g.ad k, .inl (g.cA k, d.ln k, .inl (upd (fun j : Nat => Int32.ofInt (σ k (j : Int))) i.toNat (Int32.ofInt v)))) = zw d g (sset σ k i v) := by
  unfold zw
  rw [List.set_cons_succ]
  have hka : d.isA k = true := hd.2.2.2.2.2.1 k (List.mem_of_getElem? hq)
  have h1 : (List.range d.N).map (zfl d g σ) = (List.range d.N).map (zfl d g (sset σ k i v)) := by
    apply List.map_congr_left
    intro a hm
    by_cases ha : d.isA a = true
    · simp [zfl, ha]
    · have h4 : ¬ a = k := fun h => by rw [h] at ha; exact ha hka
      simp [zfl, ha, sset, h4]
  have h2 : (d.ks.map (zcl d g σ)).set q (g.ad k, .inl (g.cA k, d.ln k, .inl (upd (fun j : Nat => Int32.ofInt (σ k (j : Int))) i.toNat (Int32.ofInt v)))) = d.ks.map (zcl d g (sset σ k i v)) := by
    apply List.ext_getElem?
    intro j
    have hl : q < (d.ks.map (zcl d g σ)).length := by
      rw [List.length_map]
      exact (List.getElem?_eq_some_iff.mp hq).1
    rw [List.getElem?_set]
    by_cases hj : q = j
    · subst hj
      rw [if_pos rfl, if_pos hl, List.getElem?_map, hq]
      simp only [Option.map_some, zcl, Option.some.injEq, Prod.mk.injEq, true_and, Sum.inl.injEq]
      funext y
      unfold upd sset
      by_cases hy : y = i.toNat
      · have : (y : Int) = i := by omega
        rw [if_pos hy, if_pos ⟨rfl, this⟩]
      · have : ¬ (y : Int) = i := by omega
        simp [hy, this]
    · rw [if_neg hj, List.getElem?_map, List.getElem?_map]
      cases hj2 : d.ks[j]? with
      | none => rfl
      | some a =>
        have hne : ¬ a = k := fun h => by
          subst h
          have hlq : q < d.ks.length := (List.getElem?_eq_some_iff.mp hq).1
          have hp := hd.2.2.2.2.1
          exact hj ((List.getElem?_inj hlq hp).mp (hq.trans hj2.symm))
        simp [zcl, sset, hne]
  rw [h1, h2]
/-- the locals -/
def zL (ls : Array Slot) (L : List (Option Value)) : Prop := ∃ lv, lv_has ls L.length lv ∧ ∀ (i : Nat) (v : Value), L[i]? = some (some v) → (i, v) ∈ lv ∧ v.category = 1
theorem zL.at {ls : Array Slot} {L : List (Option Value)} (h : zL ls L) {i : Nat} {v : Value} (hi : L[i]? = some (some v)) : ls[i]? = some (.val v) := by
  obtain ⟨lv, h1, h2⟩ := h
  exact h1.2.2 (i, v) (h2 i v hi).1
theorem zL.size {ls : Array Slot} {L : List (Option Value)} (h : zL ls L) : ls.size = L.length := by
  obtain ⟨lv, h1, h2⟩ := h
  exact h1.1
theorem zL.put {ls' : Array Slot} {L : List (Option Value)} {lv : List (Nat × Value)} {i : Nat} {v : Value} (h2 : ∀ (i : Nat) (v : Value), L[i]? = some (some v) → (i, v) ∈ lv ∧ v.category = 1) (hi : i < L.length) (hc : v.category = 1) (h : lv_has ls' L.length ((i, v) :: lv.filter (fun q => !(q.1 == i) && !(q.1 + 1 == i && q.2.category == 2)))) : zL ls' (L.set i (some v)) := by
  refine ⟨_, by rw [List.length_set]; exact h, fun j w hj => ?_⟩
  rw [List.getElem?_set] at hj
  by_cases hji : i = j
  · subst hji
    rw [if_pos rfl, if_pos hi] at hj
    cases hj
    exact ⟨List.mem_cons_self, hc⟩
  · rw [if_neg hji] at hj
    obtain ⟨h3, h4⟩ := h2 j w hj
    refine ⟨List.mem_cons_of_mem _ (List.mem_filter.mpr ⟨h3, ?_⟩), h4⟩
    have : ¬ j = i := fun e => hji e.symm
    simp [this, h4]
/-- a method's run: machine, start, frame, counts, end, its own cells, where the object lies -/
abbrev zE : Type := Program × Launch × Env × Room × State × MethodId × Array Value × List Frame × Method × Code × Nat × Nat × (State → Prop) × (Nat → Prop) × zG
abbrev zE.p (E : zE) : Program := E.1
abbrev zE.l (E : zE) : Launch := E.2.1
abbrev zE.e (E : zE) : Env := E.2.2.1
abbrev zE.R (E : zE) : Room := E.2.2.2.1
abbrev zE.s (E : zE) : State := E.2.2.2.2.1
abbrev zE.m (E : zE) : MethodId := E.2.2.2.2.2.1
abbrev zE.args (E : zE) : Array Value := E.2.2.2.2.2.2.1
abbrev zE.below (E : zE) : List Frame := E.2.2.2.2.2.2.2.1
abbrev zE.meth (E : zE) : Method := E.2.2.2.2.2.2.2.2.1
abbrev zE.c (E : zE) : Code := E.2.2.2.2.2.2.2.2.2.1
abbrev zE.cells (E : zE) : Nat := E.2.2.2.2.2.2.2.2.2.2.1
abbrev zE.slots (E : zE) : Nat := E.2.2.2.2.2.2.2.2.2.2.2.1
abbrev zE.Q (E : zE) : State → Prop := E.2.2.2.2.2.2.2.2.2.2.2.2.1
abbrev zE.A (E : zE) : Nat → Prop := E.2.2.2.2.2.2.2.2.2.2.2.2.2.1
abbrev zE.g (E : zE) : zG := E.2.2.2.2.2.2.2.2.2.2.2.2.2.2
/-- this; an array of it -/
def th (E : zE) : Value := .ref E.g.h
def rf (E : zE) (k : Nat) : Value := .ref (E.g.ad k)
abbrev zrm (n : Nat) : Room := { frames := n, cells := 0, slots := 0, locals := 32 * n }
/-- the judgement -/
def WX (E : zE) (d : zC) (σ : zSt) (pc : Nat) (L : List (Option Value)) (st : List Value) : Prop :=
  ∀ (H : Heap) (locs : List Loc) (ls : Array Slot), va_P E.g.D vwCl (zw d E.g σ) H → va_D E.A (zw d E.g σ) → va_S E.A E.s.heap H locs → zR σ → zL ls L → W E.p E.l E.e E.R E.s E.m E.args E.below E.meth E.c H locs E.cells E.slots E.Q (F0 E.m pc ls st)
/-- what holds all through a run of the method with bytes cc, nL locals, at depth n -/
def zN (E : zE) (d : zC) (cc : ByteArray) (nL n : Nat) : Prop := zwf d ∧ E.p.tables.exec = Jvm.exec ∧ E.c.code = cc ∧ E.c.maxLocals = nL ∧ E.s.vm.findClass d.nm = some E.m.cls ∧ (∀ w ∈ lw_all, w.before E.args E.s = true) ∧ va_K E.g.D vwCl (zty d E.g) E.s ∧ E.R = zrm n ∧ E.cells = 0 ∧ E.slots = 0 ∧ ∀ q, E.s.heap.size ≤ q → E.A q
section ZR
variable {E : zE} {d : zC} {cc : ByteArray} {nL n : Nat} {σ : zSt} {pc : Nat} {L : List (Option Value)} {st : List Value}
theorem zN.x (h : zN E d cc nL n) : E.p.tables.exec = Jvm.exec := h.2.1
theorem zN.b (h : zN E d cc nL n) : E.c.code = cc := h.2.2.1
theorem x_iconst (h : zN E d cc nL n) {v : Int} (hd : decode cc pc = .ok (.iconst v, 1)) (k : WX E d σ (pc + 1) L (iv v :: st)) : WX E d σ pc L st :=
  fun H locs ls a1 a2 a3 a4 a5 => lv_iconst h.x h.b hd rfl (k H locs ls a1 a2 a3 a4 a5)
theorem x_bipush (h : zN E d cc nL n) {v : Int} (hd : decode cc pc = .ok (.bipush v, 2)) (hv : -128 ≤ v ∧ v < 128) (k : WX E d σ (pc + 2) L (iv v :: st)) : WX E d σ pc L st :=
  fun H locs ls a1 a2 a3 a4 a5 => lv_bipush h.x h.b hd (z_b hv) (k H locs ls a1 a2 a3 a4 a5)
theorem x_sipush (h : zN E d cc nL n) {v : Int} (hd : decode cc pc = .ok (.sipush v, 3)) (hv : -32768 ≤ v ∧ v < 32768) (k : WX E d σ (pc + 3) L (iv v :: st)) : WX E d σ pc L st :=
  fun H locs ls a1 a2 a3 a4 a5 => lv_sipush h.x h.b hd (z_s hv) (k H locs ls a1 a2 a3 a4 a5)
theorem x_ldc (h : zN E d cc nL n) {idx : Nat} {x : Int32} {v : Int} (hd : decode cc pc = .ok (.ldc idx, 2)) (hw : Cond.constant d.nm idx x ∈ lw_all) (hv : x = Int32.ofInt v) (k : WX E d σ (pc + 2) L (iv v :: st)) : WX E d σ pc L st :=
  fun H locs ls a1 a2 a3 a4 a5 => lv_ldc h.x h.b h.2.2.2.2.1 (h.2.2.2.2.2.1 _ hw) hd (by rw [hv]; exact k H locs ls a1 a2 a3 a4 a5)
theorem x_iloadn (h : zN E d cc nL n) {i : Fin 4} {v : Int} (hd : decode cc pc = .ok (.iload_n i, 1)) (hl : L[(i : Nat)]? = some (some (iv v))) (k : WX E d σ (pc + 1) L (iv v :: st)) : WX E d σ pc L st :=
  fun H locs ls a1 a2 a3 a4 a5 => lv_iload_n h.x h.b hd rfl (a5.at hl) (k H locs ls a1 a2 a3 a4 a5)
theorem x_iload (h : zN E d cc nL n) {i : Nat} {v : Int} (hd : decode cc pc = .ok (.iload i, 2)) (hl : L[i]? = some (some (iv v))) (k : WX E d σ (pc + 2) L (iv v :: st)) : WX E d σ pc L st :=
  fun H locs ls a1 a2 a3 a4 a5 => lv_iload h.x h.b hd (a5.at hl) (k H locs ls a1 a2 a3 a4 a5)
theorem x_aload (h : zN E d cc nL n) (hd : decode cc pc = .ok (.aload_n 0, 1)) (hl : L[0]? = some (some (th E))) (k : WX E d σ (pc + 1) L (th E :: st)) : WX E d σ pc L st :=
  fun H locs ls a1 a2 a3 a4 a5 => lv_aload_n h.x h.b hd rfl (a5.at hl) (k H locs ls a1 a2 a3 a4 a5)
theorem x_istoren (h : zN E d cc nL n) {i : Fin 4} {v : Int} (hd : decode cc pc = .ok (.istore_n i, 1)) (hl : (i : Nat) < L.length) (k : WX E d σ (pc + 1) (L.set i (some (iv v))) st) : WX E d σ pc L (iv v :: st) :=
  fun H locs ls a1 a2 a3 a4 ⟨lv, b1, b2⟩ => lv_istore_n h.x h.b hd rfl b1 hl rfl (fun ls' hs => k H locs ls' a1 a2 a3 a4 (zL.put b2 hl rfl hs))
theorem x_istore (h : zN E d cc nL n) {i : Nat} {v : Int} (hd : decode cc pc = .ok (.istore i, 2)) (hl : i < L.length) (k : WX E d σ (pc + 2) (L.set i (some (iv v))) st) : WX E d σ pc L (iv v :: st) :=
  fun H locs ls a1 a2 a3 a4 ⟨lv, b1, b2⟩ => lv_istore h.x h.b hd b1 hl rfl (fun ls' hs => k H locs ls' a1 a2 a3 a4 (zL.put b2 hl rfl hs))
theorem x_iinc (h : zN E d cc nL n) {i : Nat} {v w : Int} (hd : decode cc pc = .ok (.iinc i w, 3)) (hg : L[i]? = some (some (iv v))) (hl : i < L.length) (k : WX E d σ (pc + 3) (L.set i (some (iv (v + w)))) st) : WX E d σ pc L st := by
  intro H locs ls a1 a2 a3 a4 ⟨lv, b1, b2⟩
  obtain ⟨q, hq⟩ := List.getElem?_of_mem (b2 i _ hg).1
  exact lv_iinc (v := Int32.ofInt (v + w)) h.x h.b hd b1 hq (Int32.ofInt_add v w).symm hl rfl (fun ls' hs => k H locs ls' a1 a2 a3 a4 (zL.put b2 hl rfl hs))
theorem x_iadd (h : zN E d cc nL n) {a b : Int} (hd : decode cc pc = .ok (.iadd, 1)) (k : WX E d σ (pc + 1) L (iv (a + b) :: st)) : WX E d σ pc L (iv b :: iv a :: st) :=
  fun H locs ls a1 a2 a3 a4 a5 => lv_iadd h.x h.b hd (by rw [← Int32.ofInt_add]; exact k H locs ls a1 a2 a3 a4 a5)
theorem x_isub (h : zN E d cc nL n) {a b : Int} (hd : decode cc pc = .ok (.isub, 1)) (k : WX E d σ (pc + 1) L (iv (a - b) :: st)) : WX E d σ pc L (iv b :: iv a :: st) :=
  fun H locs ls a1 a2 a3 a4 a5 => lv_isub h.x h.b hd (by rw [← Int32.ofInt_sub]; exact k H locs ls a1 a2 a3 a4 a5)
theorem x_imul (h : zN E d cc nL n) {a b : Int} (hd : decode cc pc = .ok (.imul, 1)) (k : WX E d σ (pc + 1) L (iv (a * b) :: st)) : WX E d σ pc L (iv b :: iv a :: st) :=
  fun H locs ls a1 a2 a3 a4 a5 => lv_imul h.x h.b hd (by rw [← Int32.ofInt_mul]; exact k H locs ls a1 a2 a3 a4 a5)
theorem x_iandm (h : zN E d cc nL n) {a mk : Int} (hd : decode cc pc = .ok (.iand, 1)) (m : Int) (j : Nat) (hj : j ≤ 31) (h1 : mk = 2 ^ j - 1) (h2 : m = 2 ^ j) (k : WX E d σ (pc + 1) L (iv (a % m) :: st)) : WX E d σ pc L (iv mk :: iv a :: st) :=
  fun H locs ls a1 a2 a3 a4 a5 => lv_iand h.x h.b hd (by rw [z_andm a j hj h1 h2]; exact k H locs ls a1 a2 a3 a4 a5)
theorem x_iand (h : zN E d cc nL n) {a b : Int} (hd : decode cc pc = .ok (.iand, 1)) (ha : 0 ≤ a) (hb : 0 ≤ b) (k : WX E d σ (pc + 1) L (iv (lnd a b) :: st)) : WX E d σ pc L (iv b :: iv a :: st) :=
  fun H locs ls a1 a2 a3 a4 a5 => lv_iand h.x h.b hd (by rw [z_and ha hb]; exact k H locs ls a1 a2 a3 a4 a5)
theorem x_ior1 (h : zN E d cc nL n) {a b m : Int} (hd : decode cc pc = .ok (.ior, 1)) (j : Nat) (hm : m = 2 ^ j) (ha : 0 ≤ a) (ham : a % m = 0) (hb : 0 ≤ b) (hb1 : b < m) (k : WX E d σ (pc + 1) L (iv (a + b) :: st)) : WX E d σ pc L (iv b :: iv a :: st) :=
  fun H locs ls a1 a2 a3 a4 a5 => lv_ior h.x h.b hd (by rw [z_or1 j hm ha ham hb hb1]; exact k H locs ls a1 a2 a3 a4 a5)
theorem x_ior2 (h : zN E d cc nL n) {a b m : Int} (hd : decode cc pc = .ok (.ior, 1)) (j : Nat) (hm : m = 2 ^ j) (hb : 0 ≤ b) (hbm : b % m = 0) (ha : 0 ≤ a) (ha1 : a < m) (k : WX E d σ (pc + 1) L (iv (a + b) :: st)) : WX E d σ pc L (iv b :: iv a :: st) :=
  fun H locs ls a1 a2 a3 a4 a5 => lv_ior h.x h.b hd (by rw [z_or2 j hm hb hbm ha ha1]; exact k H locs ls a1 a2 a3 a4 a5)
theorem x_ixor (h : zN E d cc nL n) {a b : Int} (hd : decode cc pc = .ok (.ixor, 1)) (k : WX E d σ (pc + 1) L (iv (lxr a b) :: st)) : WX E d σ pc L (iv b :: iv a :: st) :=
  fun H locs ls a1 a2 a3 a4 a5 => lv_ixor h.x h.b hd (by rw [z_xor]; exact k H locs ls a1 a2 a3 a4 a5)
theorem x_ishl (h : zN E d cc nL n) {a b : Int} (hd : decode cc pc = .ok (.ishl, 1)) (m : Int) (hm : (2 : Int) ^ b.toNat = m) (ha : 0 ≤ a) (hb : 0 ≤ b ∧ b < 32) (hl : a * m < 4294967296) (k : WX E d σ (pc + 1) L (iv (a * m) :: st)) : WX E d σ pc L (iv b :: iv a :: st) :=
  fun H locs ls a1 a2 a3 a4 a5 => lv_ishl h.x h.b hd (by rw [z_shl ha hb hm hl]; exact k H locs ls a1 a2 a3 a4 a5)
theorem x_ishr (h : zN E d cc nL n) {a b : Int} (hd : decode cc pc = .ok (.ishr, 1)) (m : Int) (hm : (2 : Int) ^ b.toNat = m) (ha : -2147483648 ≤ a ∧ a < 2147483648) (hb : 0 ≤ b ∧ b < 32) (k : WX E d σ (pc + 1) L (iv (a / m) :: st)) : WX E d σ pc L (iv b :: iv a :: st) :=
  fun H locs ls a1 a2 a3 a4 a5 => lv_ishr h.x h.b hd (by rw [z_shr ha hb hm]; exact k H locs ls a1 a2 a3 a4 a5)
theorem x_idiv (h : zN E d cc nL n) {a b : Int} (hd : decode cc pc = .ok (.idiv, 1)) (ha : 0 ≤ a ∧ a < 2147483648) (hb : 0 < b ∧ b < 2147483648) (k : WX E d σ (pc + 1) L (iv (a / b) :: st)) : WX E d σ pc L (iv b :: iv a :: st) :=
  fun H locs ls a1 a2 a3 a4 a5 => lv_idiv h.x h.b hd (fun e => by have := (z_eq (b := 0) ⟨by omega, by omega⟩ z_r0).mp e; omega) (by rw [z_div ha hb]; exact k H locs ls a1 a2 a3 a4 a5)
theorem x_irem (h : zN E d cc nL n) {a b : Int} (hd : decode cc pc = .ok (.irem, 1)) (ha : 0 ≤ a ∧ a < 2147483648) (hb : 0 < b ∧ b < 2147483648) (k : WX E d σ (pc + 1) L (iv (a % b) :: st)) : WX E d σ pc L (iv b :: iv a :: st) :=
  fun H locs ls a1 a2 a3 a4 a5 => lv_irem h.x h.b hd (fun e => by have := (z_eq (b := 0) ⟨by omega, by omega⟩ z_r0).mp e; omega) (by rw [z_rem ha hb]; exact k H locs ls a1 a2 a3 a4 a5)
theorem x_i2b (h : zN E d cc nL n) {a : Int} (hd : decode cc pc = .ok (.i2b, 1)) (ha : -128 ≤ a ∧ a < 128) (k : WX E d σ (pc + 1) L (iv a :: st)) : WX E d σ pc L (iv a :: st) :=
  fun H locs ls a1 a2 a3 a4 a5 => lv_i2b h.x h.b hd (z_i2b ha) (k H locs ls a1 a2 a3 a4 a5)
theorem x_i2s (h : zN E d cc nL n) {a : Int} (hd : decode cc pc = .ok (.i2s, 1)) (ha : -32768 ≤ a ∧ a < 32768) (k : WX E d σ (pc + 1) L (iv a :: st)) : WX E d σ pc L (iv a :: st) :=
  fun H locs ls a1 a2 a3 a4 a5 => lv_i2s h.x h.b hd (z_i2s ha) (k H locs ls a1 a2 a3 a4 a5)
theorem x_dup (h : zN E d cc nL n) {v : Value} (hd : decode cc pc = .ok (.dup, 1)) (hv : v.category = 1) (k : WX E d σ (pc + 1) L (v :: v :: st)) : WX E d σ pc L (v :: st) :=
  fun H locs ls a1 a2 a3 a4 a5 => lv_dup h.x h.b hd hv (k H locs ls a1 a2 a3 a4 a5)
theorem x_dup2 (h : zN E d cc nL n) {v w : Value} (hd : decode cc pc = .ok (.dup2, 1)) (hv : v.category = 1) (hw : w.category = 1) (k : WX E d σ (pc + 1) L (v :: w :: v :: w :: st)) : WX E d σ pc L (v :: w :: st) :=
  fun H locs ls a1 a2 a3 a4 a5 => lv_dup2_11 h.x h.b hd hv hw (k H locs ls a1 a2 a3 a4 a5)
theorem x_pop (h : zN E d cc nL n) {v : Value} (hd : decode cc pc = .ok (.pop, 1)) (hv : v.category = 1) (k : WX E d σ (pc + 1) L st) : WX E d σ pc L (v :: st) :=
  fun H locs ls a1 a2 a3 a4 a5 => lv_pop h.x h.b hd hv (k H locs ls a1 a2 a3 a4 a5)
theorem x_goto (h : zN E d cc nL n) {off : Int} (tgt : Nat) (hd : decode cc pc = .ok (.goto off, 3)) (ht : (pc : Int) + off = (tgt : Int)) (k : WX E d σ tgt L st) : WX E d σ pc L st :=
  fun H locs ls a1 a2 a3 a4 a5 => lv_goto h.x h.b hd ht (k H locs ls a1 a2 a3 a4 a5)
theorem x_ifeq (h : zN E d cc nL n) {a off : Int} (tgt : Nat) (hd : decode cc pc = .ok (.ifCond .eq off, 3)) (ht : (pc : Int) + off = (tgt : Int)) (ha : -2147483648 ≤ a ∧ a < 2147483648) (kt : a = 0 → WX E d σ tgt L st) (kf : ¬ a = 0 → WX E d σ (pc + 3) L st) : WX E d σ pc L (iv a :: st) :=
  fun H locs ls a1 a2 a3 a4 a5 => lv_if_eq h.x h.b hd ht (fun q => kt ((z_eq ha z_r0).mp q) H locs ls a1 a2 a3 a4 a5) (fun q => kf (fun q2 => q ((z_eq ha z_r0).mpr q2)) H locs ls a1 a2 a3 a4 a5)
theorem x_ifne (h : zN E d cc nL n) {a off : Int} (tgt : Nat) (hd : decode cc pc = .ok (.ifCond .ne off, 3)) (ht : (pc : Int) + off = (tgt : Int)) (ha : -2147483648 ≤ a ∧ a < 2147483648) (kt : ¬ a = 0 → WX E d σ tgt L st) (kf : a = 0 → WX E d σ (pc + 3) L st) : WX E d σ pc L (iv a :: st) :=
  fun H locs ls a1 a2 a3 a4 a5 => lv_if_ne h.x h.b hd ht (fun q => kt (fun q2 => q ((z_eq ha z_r0).mpr q2)) H locs ls a1 a2 a3 a4 a5) (fun q => kf ((z_eq ha z_r0).mp q) H locs ls a1 a2 a3 a4 a5)
theorem x_iflt (h : zN E d cc nL n) {a off : Int} (tgt : Nat) (hd : decode cc pc = .ok (.ifCond .lt off, 3)) (ht : (pc : Int) + off = (tgt : Int)) (ha : -2147483648 ≤ a ∧ a < 2147483648) (kt : a < 0 → WX E d σ tgt L st) (kf : 0 ≤ a → WX E d σ (pc + 3) L st) : WX E d σ pc L (iv a :: st) :=
  fun H locs ls a1 a2 a3 a4 a5 => lv_if_lt h.x h.b hd ht (fun q => kt ((z_lt ha z_r0).mp q) H locs ls a1 a2 a3 a4 a5) (fun q => kf (Int.not_lt.mp (fun q2 => q ((z_lt ha z_r0).mpr q2))) H locs ls a1 a2 a3 a4 a5)
theorem x_ifge (h : zN E d cc nL n) {a off : Int} (tgt : Nat) (hd : decode cc pc = .ok (.ifCond .ge off, 3)) (ht : (pc : Int) + off = (tgt : Int)) (ha : -2147483648 ≤ a ∧ a < 2147483648) (kt : 0 ≤ a → WX E d σ tgt L st) (kf : a < 0 → WX E d σ (pc + 3) L st) : WX E d σ pc L (iv a :: st) :=
  fun H locs ls a1 a2 a3 a4 a5 => lv_if_ge h.x h.b hd ht (fun q => kt ((z_le z_r0 ha).mp q) H locs ls a1 a2 a3 a4 a5) (fun q => kf (Int.not_le.mp (fun q2 => q ((z_le z_r0 ha).mpr q2))) H locs ls a1 a2 a3 a4 a5)
theorem x_ifle (h : zN E d cc nL n) {a off : Int} (tgt : Nat) (hd : decode cc pc = .ok (.ifCond .le off, 3)) (ht : (pc : Int) + off = (tgt : Int)) (ha : -2147483648 ≤ a ∧ a < 2147483648) (kt : a ≤ 0 → WX E d σ tgt L st) (kf : 0 < a → WX E d σ (pc + 3) L st) : WX E d σ pc L (iv a :: st) :=
  fun H locs ls a1 a2 a3 a4 a5 => lv_if_le h.x h.b hd ht (fun q => kt ((z_le ha z_r0).mp q) H locs ls a1 a2 a3 a4 a5) (fun q => kf (Int.not_le.mp (fun q2 => q ((z_le ha z_r0).mpr q2))) H locs ls a1 a2 a3 a4 a5)
theorem x_cmpeq (h : zN E d cc nL n) {a b off : Int} (tgt : Nat) (hd : decode cc pc = .ok (.if_icmp .eq off, 3)) (ht : (pc : Int) + off = (tgt : Int)) (ha : -2147483648 ≤ a ∧ a < 2147483648) (hb : -2147483648 ≤ b ∧ b < 2147483648) (kt : a = b → WX E d σ tgt L st) (kf : ¬ a = b → WX E d σ (pc + 3) L st) : WX E d σ pc L (iv b :: iv a :: st) :=
  fun H locs ls a1 a2 a3 a4 a5 => lv_icmp_eq h.x h.b hd ht (fun q => kt ((z_eq ha hb).mp q) H locs ls a1 a2 a3 a4 a5) (fun q => kf (fun q2 => q ((z_eq ha hb).mpr q2)) H locs ls a1 a2 a3 a4 a5)
theorem x_cmpne (h : zN E d cc nL n) {a b off : Int} (tgt : Nat) (hd : decode cc pc = .ok (.if_icmp .ne off, 3)) (ht : (pc : Int) + off = (tgt : Int)) (ha : -2147483648 ≤ a ∧ a < 2147483648) (hb : -2147483648 ≤ b ∧ b < 2147483648) (kt : ¬ a = b → WX E d σ tgt L st) (kf : a = b → WX E d σ (pc + 3) L st) : WX E d σ pc L (iv b :: iv a :: st) :=
  fun H locs ls a1 a2 a3 a4 a5 => lv_icmp_ne h.x h.b hd ht (fun q => kt (fun q2 => q ((z_eq ha hb).mpr q2)) H locs ls a1 a2 a3 a4 a5) (fun q => kf ((z_eq ha hb).mp q) H locs ls a1 a2 a3 a4 a5)
theorem x_cmplt (h : zN E d cc nL n) {a b off : Int} (tgt : Nat) (hd : decode cc pc = .ok (.if_icmp .lt off, 3)) (ht : (pc : Int) + off = (tgt : Int)) (ha : -2147483648 ≤ a ∧ a < 2147483648) (hb : -2147483648 ≤ b ∧ b < 2147483648) (kt : a < b → WX E d σ tgt L st) (kf : b ≤ a → WX E d σ (pc + 3) L st) : WX E d σ pc L (iv b :: iv a :: st) :=
  fun H locs ls a1 a2 a3 a4 a5 => lv_icmp_lt h.x h.b hd ht (fun q => kt ((z_lt ha hb).mp q) H locs ls a1 a2 a3 a4 a5) (fun q => kf (Int.not_lt.mp (fun q2 => q ((z_lt ha hb).mpr q2))) H locs ls a1 a2 a3 a4 a5)
theorem x_cmpge (h : zN E d cc nL n) {a b off : Int} (tgt : Nat) (hd : decode cc pc = .ok (.if_icmp .ge off, 3)) (ht : (pc : Int) + off = (tgt : Int)) (ha : -2147483648 ≤ a ∧ a < 2147483648) (hb : -2147483648 ≤ b ∧ b < 2147483648) (kt : b ≤ a → WX E d σ tgt L st) (kf : a < b → WX E d σ (pc + 3) L st) : WX E d σ pc L (iv b :: iv a :: st) :=
  fun H locs ls a1 a2 a3 a4 a5 => lv_icmp_ge h.x h.b hd ht (fun q => kt ((z_le hb ha).mp q) H locs ls a1 a2 a3 a4 a5) (fun q => kf (Int.not_le.mp (fun q2 => q ((z_le hb ha).mpr q2))) H locs ls a1 a2 a3 a4 a5)
theorem x_cmpgt (h : zN E d cc nL n) {a b off : Int} (tgt : Nat) (hd : decode cc pc = .ok (.if_icmp .gt off, 3)) (ht : (pc : Int) + off = (tgt : Int)) (ha : -2147483648 ≤ a ∧ a < 2147483648) (hb : -2147483648 ≤ b ∧ b < 2147483648) (kt : b < a → WX E d σ tgt L st) (kf : a ≤ b → WX E d σ (pc + 3) L st) : WX E d σ pc L (iv b :: iv a :: st) :=
  fun H locs ls a1 a2 a3 a4 a5 => lv_icmp_gt h.x h.b hd ht (fun q => kt ((z_lt hb ha).mp q) H locs ls a1 a2 a3 a4 a5) (fun q => kf (Int.not_lt.mp (fun q2 => q ((z_lt hb ha).mpr q2))) H locs ls a1 a2 a3 a4 a5)
theorem x_cmple (h : zN E d cc nL n) {a b off : Int} (tgt : Nat) (hd : decode cc pc = .ok (.if_icmp .le off, 3)) (ht : (pc : Int) + off = (tgt : Int)) (ha : -2147483648 ≤ a ∧ a < 2147483648) (hb : -2147483648 ≤ b ∧ b < 2147483648) (kt : a ≤ b → WX E d σ tgt L st) (kf : b < a → WX E d σ (pc + 3) L st) : WX E d σ pc L (iv b :: iv a :: st) :=
  fun H locs ls a1 a2 a3 a4 a5 => lv_icmp_le h.x h.b hd ht (fun q => kt ((z_le ha hb).mp q) H locs ls a1 a2 a3 a4 a5) (fun q => kf (Int.not_le.mp (fun q2 => q ((z_le ha hb).mpr q2))) H locs ls a1 a2 a3 a4 a5)
/-- the top may be written otherwise -/
theorem x_top {a : Int} (b : Int) (e : a = b) (k : WX E d σ pc L (iv b :: st)) : WX E d σ pc L (iv a :: st) := by rw [e]; exact k
/-- fields -/
theorem x_geti (h : zN E d cc nL n) (k : Nat) {idx : Nat} (hk : k < d.N) (ha : d.isA k = false) (hw : Cond.fieldLink d.nm idx d.nm (d.T k).2.1 (d.T k).2.2.1 ∈ lw_all) (hd : decode cc pc = .ok (.getfield idx, 3)) (kk : (-2147483648 ≤ σ k 0 ∧ σ k 0 < 2147483648) → WX E d σ (pc + 3) L (iv (σ k 0) :: st)) : WX E d σ pc L (th E :: st) := by
  intro H locs ls a1 a2 a3 a4 a5
  have hwf := h.1
  exact va_get (C := d.nm) (T := d.T) (N := d.N) (Ts := lw_all) (v := iv (σ k 0)) h.x h.b h.2.2.2.2.2.1 hwf.2.1 h.2.2.2.2.1 h.2.2.2.2.2.2.1 a1 0 (zw_0 d E.g σ) hwf.1 k hk (h.2.2.2.2.2.1 _ hw) (fun x hx => by rw [← hwf.2.2.2.2.2.2.1 k hk]; exact hx) (by rw [z_fld hk]; simp [zfl, ha]) hd (kk (a4 k 0) H locs ls a1 a2 a3 a4 a5)
theorem x_geta (h : zN E d cc nL n) (k : Nat) {idx : Nat} (hk : k < d.N) (ha : d.isA k = true) (hw : Cond.fieldLink d.nm idx d.nm (d.T k).2.1 (d.T k).2.2.1 ∈ lw_all) (hd : decode cc pc = .ok (.getfield idx, 3)) (kk : WX E d σ (pc + 3) L (rf E k :: st)) : WX E d σ pc L (th E :: st) := by
  intro H locs ls a1 a2 a3 a4 a5
  have hwf := h.1
  exact va_get (C := d.nm) (T := d.T) (N := d.N) (Ts := lw_all) (v := rf E k) h.x h.b h.2.2.2.2.2.1 hwf.2.1 h.2.2.2.2.1 h.2.2.2.2.2.2.1 a1 0 (zw_0 d E.g σ) hwf.1 k hk (h.2.2.2.2.2.1 _ hw) (fun x hx => by rw [← hwf.2.2.2.2.2.2.1 k hk]; exact hx) (by rw [z_fld hk]; simp [zfl, ha, rf]) hd (kk H locs ls a1 a2 a3 a4 a5)
theorem x_puti (h : zN E d cc nL n) (k : Nat) {idx : Nat} {v : Int} (hk : k < d.N) (ha : d.isA k = false) (hf : (d.T k).2.2.2 = false) {ty : FieldType} (hty : parseFieldDescriptor (d.T k).2.2.1 = some ty) (hw : Cond.fieldLink d.nm idx d.nm (d.T k).2.1 (d.T k).2.2.1 ∈ lw_all) (hv : -2147483648 ≤ v ∧ v < 2147483648) (hn : narrow ty (iv v) = iv v) (hfi : fits ty (iv v) = true) (hd : decode cc pc = .ok (.putfield idx, 3)) (kk : WX E d (sset σ k 0 v) (pc + 3) L st) : WX E d σ pc L (iv v :: th E :: st) := by
  intro H locs ls a1 a2 a3 a4 a5
  have hwf := h.1
  obtain ⟨ty0, hty0⟩ := hwf.2.2.1
  refine va_put (C := d.nm) (T := d.T) (N := d.N) (Ts := lw_all) (v := iv v) h.x h.b h.2.2.2.2.2.1 hwf.2.1 ty0 hty0 hwf.2.2.2.1 h.2.2.2.2.1 h.2.2.2.2.2.2.1 a1 a2 a3 0 (zw_0 d E.g σ) hwf.1 k hk (h.2.2.2.2.2.1 _ hw) (fun x hx => by rw [← hwf.2.2.2.2.2.2.1 k hk]; exact hx) hf hty hn hfi (by simpa using hk) hd (fun H1 locs1 b1 b2 b3 => ?_)
  rw [zw_put hwf hk ha] at b1 b2
  exact kk H1 locs1 ls b1 b2 b3 (a4.set k 0 hv) a5
/-- arrays -/
theorem x_iald (h : zN E d cc nL n) {k : Nat} (q : Nat) (hq : d.ks[q]? = some k) (hty : d.ety k = .int) (hd : decode cc pc = .ok (.iaload, 1)) {i : Int} (h0 : 0 ≤ i) (h1 : i < d.ln k) (kk : (-2147483648 ≤ σ k i ∧ σ k i < 2147483648) → WX E d σ (pc + 1) L (iv (σ k i) :: st)) : WX E d σ pc L (iv i :: rf E k :: st) := by
  intro H locs ls a1 a2 a3 a4 a5
  have hln := h.1.2.2.2.2.2.2.2 k
  have hty2 := zty_k hq E.g
  rw [hty] at hty2
  refine va_iald h.x h.b h.2.2.2.2.2.2.1 a1 (q + 1) q (zw_k hq E.g σ) hty2 (z_in h0 h1 hln) hd ?_
  rw [z_cl h0 (by omega), Int.toNat_of_nonneg h0]
  exact kk (a4 k i) H locs ls a1 a2 a3 a4 a5
theorem x_bald (h : zN E d cc nL n) {k : Nat} (q : Nat) (hq : d.ks[q]? = some k) (hty : d.ety k = .byte) (hd : decode cc pc = .ok (.baload, 1)) {i : Int} (h0 : 0 ≤ i) (h1 : i < d.ln k) (kk : (-2147483648 ≤ σ k i ∧ σ k i < 2147483648) → WX E d σ (pc + 1) L (iv (σ k i) :: st)) : WX E d σ pc L (iv i :: rf E k :: st) := by
  intro H locs ls a1 a2 a3 a4 a5
  have hln := h.1.2.2.2.2.2.2.2 k
  have hty2 := zty_k hq E.g
  rw [hty] at hty2
  refine va_bald h.x h.b h.2.2.2.2.2.2.1 a1 (q + 1) q (zw_k hq E.g σ) hty2 (z_in h0 h1 hln) hd ?_
  rw [z_cl h0 (by omega), Int.toNat_of_nonneg h0]
  exact kk (a4 k i) H locs ls a1 a2 a3 a4 a5
theorem x_sald (h : zN E d cc nL n) {k : Nat} (q : Nat) (hq : d.ks[q]? = some k) (hty : d.ety k = .short) (hd : decode cc pc = .ok (.saload, 1)) {i : Int} (h0 : 0 ≤ i) (h1 : i < d.ln k) (kk : (-2147483648 ≤ σ k i ∧ σ k i < 2147483648) → WX E d σ (pc + 1) L (iv (σ k i) :: st)) : WX E d σ pc L (iv i :: rf E k :: st) := by
  intro H locs ls a1 a2 a3 a4 a5
  have hln := h.1.2.2.2.2.2.2.2 k
  have hty2 := zty_k hq E.g
  rw [hty] at hty2
  refine va_sald h.x h.b h.2.2.2.2.2.2.1 a1 (q + 1) q (zw_k hq E.g σ) hty2 (z_in h0 h1 hln) hd ?_
  rw [z_cl h0 (by omega), Int.toNat_of_nonneg h0]
  exact kk (a4 k i) H locs ls a1 a2 a3 a4 a5
theorem x_iast (h : zN E d cc nL n) {k : Nat} (q : Nat) (hq : d.ks[q]? = some k) (hty : d.ety k = .int) (hd : decode cc pc = .ok (.iastore, 1)) {i v : Int} (h0 : 0 ≤ i) (h1 : i < d.ln k) (hv : -2147483648 ≤ v ∧ v < 2147483648) (kk : WX E d (sset σ k i v) (pc + 1) L st) : WX E d σ pc L (iv v :: iv i :: rf E k :: st) := by
  intro H locs ls a1 a2 a3 a4 a5
  have hln := h.1.2.2.2.2.2.2.2 k
  have hty2 := zty_k hq E.g
  rw [hty] at hty2
  refine va_iast h.x h.b h.2.2.2.2.2.2.1 a1 a2 a3 (q + 1) q (zw_k hq E.g σ) hty2 (z_in h0 h1 hln) hd (fun H1 locs1 b1 b2 b3 => ?_)
  rw [z_cl h0 (by omega), zw_wr h.1 hq E.g σ h0] at b1 b2
  exact kk H1 locs1 ls b1 b2 b3 (a4.set k i hv) a5
theorem x_bast (h : zN E d cc nL n) {k : Nat} (q : Nat) (hq : d.ks[q]? = some k) (hty : d.ety k = .byte) (hd : decode cc pc = .ok (.bastore, 1)) {i v : Int} (h0 : 0 ≤ i) (h1 : i < d.ln k) (hv : -128 ≤ v ∧ v < 128) (kk : WX E d (sset σ k i v) (pc + 1) L st) : WX E d σ pc L (iv v :: iv i :: rf E k :: st) := by
  intro H locs ls a1 a2 a3 a4 a5
  have hln := h.1.2.2.2.2.2.2.2 k
  have hty2 := zty_k hq E.g
  rw [hty] at hty2
  refine va_bast h.x h.b h.2.2.2.2.2.2.1 a1 a2 a3 (q + 1) q (zw_k hq E.g σ) hty2 (z_in h0 h1 hln) hd (fun H1 locs1 b1 b2 b3 => ?_)
  rw [z_cl h0 (by omega), vp_nar_byte, z_i2b hv, zw_wr h.1 hq E.g σ h0] at b1 b2
  exact kk H1 locs1 ls b1 b2 b3 (a4.set k i ⟨by omega, by omega⟩) a5
theorem x_sast (h : zN E d cc nL n) {k : Nat} (q : Nat) (hq : d.ks[q]? = some k) (hty : d.ety k = .short) (hd : decode cc pc = .ok (.sastore, 1)) {i v : Int} (h0 : 0 ≤ i) (h1 : i < d.ln k) (hv : -32768 ≤ v ∧ v < 32768) (kk : WX E d (sset σ k i v) (pc + 1) L st) : WX E d σ pc L (iv v :: iv i :: rf E k :: st) := by
  intro H locs ls a1 a2 a3 a4 a5
  have hln := h.1.2.2.2.2.2.2.2 k
  have hty2 := zty_k hq E.g
  rw [hty] at hty2
  refine va_sast h.x h.b h.2.2.2.2.2.2.1 a1 a2 a3 (q + 1) q (zw_k hq E.g σ) hty2 (z_in h0 h1 hln) hd (fun H1 locs1 b1 b2 b3 => ?_)
  rw [z_cl h0 (by omega), vp_nar_short, z_i2s hv, zw_wr h.1 hq E.g σ h0] at b1 b2
  exact kk H1 locs1 ls b1 b2 b3 (a4.set k i ⟨by omega, by omega⟩) a5
end ZR
end
section
/-! CONTRACTS: a method of the object, from the state σ with the arguments xs, ends with 'post answer newstate' -/
def zB (d : zC) (g : zG) (A : Nat → Prop) (u : zSt) (t : State) : Prop := va_P g.D vwCl (zw d g u) t.heap ∧ va_K g.D vwCl (zty d g) t ∧ va_D A (zw d g u) ∧ zR u
def zPc (d : zC) (g : zG) (sz : Nat) (σ : zSt) (U : State) : Prop := U.heap.size = sz ∧ va_P g.D vwCl (zw d g σ) U.heap ∧ va_K g.D vwCl (zty d g) U ∧ va_D (fun _ => True) (zw d g σ) ∧ zR σ
def Cx (d : zC) (y : MethodName) (cc : ByteArray) (nL : Nat) (ret : FieldType) (n : Nat) (σ : zSt) (xs : List Int) (post : Int → zSt → Prop) : Prop :=
  ∀ (l : Launch) (g : zG) (sz : Nat), Met l y (ws_ y cc nL (some ret)) (zrm n) (va_Pc (.ref g.h :: xs.map iv) (zPc d g sz σ)) (va_Qi (fun (r : Int32) (u : zSt) => ∃ z : Int, r = Int32.ofInt z ∧ (-2147483648 ≤ z ∧ z < 2147483648) ∧ post z u) (zB d g (va_A (zw d g σ) sz)) (va_A (zw d g σ) sz)) 0 0 (va_A (zw d g σ) sz)
def Cv (d : zC) (y : MethodName) (cc : ByteArray) (nL : Nat) (n : Nat) (σ : zSt) (xs : List Int) (post : zSt → Prop) : Prop :=
  ∀ (l : Launch) (g : zG) (sz : Nat), Met l y (ws_ y cc nL none) (zrm n) (va_Pc (.ref g.h :: xs.map iv) (zPc d g sz σ)) (va_Qv post (zB d g (va_A (zw d g σ) sz)) (va_A (zw d g σ) sz)) 0 0 (va_A (zw d g σ) sz)
theorem zPc.blind {d : zC} {g : zG} {sz : Nat} {σ : zSt} {av : List Value} : FrameBlind (va_Pc av (zPc d g sz σ)) := by
  intro a U g mk q
  obtain ⟨q0, q1, qP, qK, qD, qR⟩ := q
  exact ⟨q0, q1, qP, va_K.moved (u := U) (U := U.calling g mk a) (Vm.Alike.refl U.vm) qK, qD, qR⟩
theorem z_free {A0 : Nat → Prop} {ws : va_W} {H0 H : Heap} {locs : List Loc} (hD : va_D A0 ws) (hS : va_S A0 H0 H locs) (hA : ∀ q, H0.size ≤ q → A0 q) : ∀ q, va_A ws H.size q → A0 q := by
  intro q h
  rcases h with ⟨k, e, h⟩ | h
  · exact hD.2 k (q, e) h
  · exact hA q (Nat.le_trans hS.1 h)
section ZC
variable {E : zE} {d : zC} {cc : ByteArray} {nL n : Nat} {σ : zSt} {pc : Nat} {L : List (Option Value)} {st st0 : List Value}
theorem x_call (h : zN E d cc nL n) {y : MethodName} {ccy : ByteArray} {nLy n' : Nat} {ret : FieldType} {xs : List Int} {post : Int → zSt → Prop} (hM : Cx d y ccy nLy ret n' σ xs post) {idx : Nat} (hw : GoodIn lw_all (wsV d.nm idx d.nm y (ws_ y ccy nLy (some ret))))
    (hy : y.cls = d.nm ∧ y.cls ≠ "java/lang/invoke/MethodHandle" ∧ y.cls ≠ "java/lang/invoke/VarHandle" ∧ (parseMethodDescriptor y.desc).map (fun d => d.parameters.length) = some xs.length) (hn : n' + 1 ≤ n ∧ nLy ≤ 13) (hst : st0 = (xs.map iv).reverse ++ th E :: st) (hsr : (st.map fun v => v.category).sum ≤ 8) (hLn : L.length = nL) (hdg : decode cc pc = .ok (.invokevirtual idx, 3))
    (kk : ∀ (z : Int) (u : zSt), (-2147483648 ≤ z ∧ z < 2147483648) → post z u → WX E d u (pc + 3) L (iv z :: st)) : WX E d σ pc L st0 := by
  intro H locs ls a1 a2 a3 a4 a5
  obtain ⟨hwf, hx, hb, hml, hown, hts, hK, hR, hc0, hs0, hA⟩ := h
  have hF := z_free a2 a3 hA
  refine va_calli (va_runV (As := xs.map iv) (rest := st) ⟨hx, hb, hml, hown, hts⟩ (hM E.l E.g H.size) (cwV xs.length hts hw rfl rfl rfl hy (by rw [hR]; dsimp only [zrm]; omega)) ⟨zPc.blind, va_recv hK a1 (ci := d.ci) (q0 := 0) hwf.1 (zw_0 d E.g σ), fun U hU hW => ⟨rfl, by rw [hU], by rw [hU]; exact a1, va_K.moved hW.alike hK, a2.weaken (fun _ _ _ _ => trivial), a4⟩⟩ rfl (by simp) (a5.size.trans hLn) hst (lv_room hsr) hdg (by rw [hR, hc0, hs0]; exact ⟨Nat.le_refl 0, Nat.le_refl 0⟩)) a3 (fun q _ h => hF q h) hF (fun r u t H1 locs1 ht hvm hp hB hz1 hk1 hS => ?_)
  obtain ⟨z, rfl, hz, hp⟩ := hp
  obtain ⟨b1, b2, b3, b4⟩ := hB
  rw [ht] at b1
  exact kk z u hz hp H1 locs1 ls b1 (b3.weaken (fun k q _ h => hF q.1 h)) hS b4 a5
theorem x_callv (h : zN E d cc nL n) {y : MethodName} {ccy : ByteArray} {nLy n' : Nat} {xs : List Int} {post : zSt → Prop} (hM : Cv d y ccy nLy n' σ xs post) {idx : Nat} (hw : GoodIn lw_all (wsV d.nm idx d.nm y (ws_ y ccy nLy none)))
    (hy : y.cls = d.nm ∧ y.cls ≠ "java/lang/invoke/MethodHandle" ∧ y.cls ≠ "java/lang/invoke/VarHandle" ∧ (parseMethodDescriptor y.desc).map (fun d => d.parameters.length) = some xs.length) (hn : n' + 1 ≤ n ∧ nLy ≤ 13) (hst : st0 = (xs.map iv).reverse ++ th E :: st) (hsr : (st.map fun v => v.category).sum ≤ 8) (hLn : L.length = nL) (hdg : decode cc pc = .ok (.invokevirtual idx, 3))
    (kk : ∀ (u : zSt), post u → WX E d u (pc + 3) L st) : WX E d σ pc L st0 := by
  intro H locs ls a1 a2 a3 a4 a5
  obtain ⟨hwf, hx, hb, hml, hown, hts, hK, hR, hc0, hs0, hA⟩ := h
  have hF := z_free a2 a3 hA
  refine va_callv (va_runV (As := xs.map iv) (rest := st) ⟨hx, hb, hml, hown, hts⟩ (hM E.l E.g H.size) (cwV xs.length hts hw rfl rfl rfl hy (by rw [hR]; dsimp only [zrm]; omega)) ⟨zPc.blind, va_recv hK a1 (ci := d.ci) (q0 := 0) hwf.1 (zw_0 d E.g σ), fun U hU hW => ⟨rfl, by rw [hU], by rw [hU]; exact a1, va_K.moved hW.alike hK, a2.weaken (fun _ _ _ _ => trivial), a4⟩⟩ rfl (by simp) (a5.size.trans hLn) hst (lv_room hsr) hdg (by rw [hR, hc0, hs0]; exact ⟨Nat.le_refl 0, Nat.le_refl 0⟩)) a3 (fun q _ h => hF q h) hF (fun u t H1 locs1 ht hvm hp hB hz1 hk1 hS => ?_)
  obtain ⟨b1, b2, b3, b4⟩ := hB
  rw [ht] at b1
  exact kk u hp H1 locs1 ls b1 (b3.weaken (fun k q _ h => hF q.1 h)) hS b4 a5
end ZC
theorem z_slen : ∀ (vs : List Value), (∀ v ∈ vs, v.category = 1) → (lg_sl vs).length = vs.length := by
  intro vs
  induction vs with
  | nil => intro _; rfl
  | cons a l ih =>
    intro h
    have h1 := ih (fun v hv => h v (List.mem_cons_of_mem _ hv))
    have h2 := h a List.mem_cons_self
    unfold lg_sl at h1 ⊢
    rw [List.flatMap_cons, List.length_append, h1]
    simp [h2]
    omega
theorem z_args : ∀ (vs : List Value) (k : Nat), (∀ v ∈ vs, v.category = 1) → ∀ (i : Nat) (v : Value), vs[i]? = some v → (k + i, v) ∈ lv_args k vs := by
  intro vs
  induction vs with
  | nil => intro k _ i v h; simp at h
  | cons a l ih =>
    intro k h i v hi
    have h2 := h a List.mem_cons_self
    unfold lv_args
    cases i with
    | zero =>
      rw [List.getElem?_cons_zero] at hi
      cases hi
      simp [h2]
    | succ i =>
      rw [List.getElem?_cons_succ] at hi
      have h3 := ih (k + 1) (fun v hv => h v (List.mem_cons_of_mem _ hv)) i v hi
      have e : k + (i + 1) = k + 1 + i := by omega
      rw [e]
      simp [h2, h3]
/-- the entry's locals -/
theorem z_entry (h0 : Nat) (xs : List Int) (nL : Nat) (hn : xs.length + 1 ≤ nL) : zL ((lg_sl (.ref h0 :: xs.map iv) ++ List.replicate (nL - (lg_sl (.ref h0 :: xs.map iv)).length) Slot.unset).toArray) ((Value.ref h0 :: xs.map iv).map some ++ List.replicate (nL - (xs.length + 1)) none) := by
  have hc : ∀ v ∈ (Value.ref h0 :: xs.map iv), v.category = 1 := by
    intro v hv
    rcases List.mem_cons.mp hv with e | e
    · rw [e]; rfl
    · obtain ⟨z, -, e⟩ := List.mem_map.mp e
      rw [← e]; rfl
  have hl : (Value.ref h0 :: xs.map iv).length = xs.length + 1 := by simp
  have hs := z_slen _ hc
  refine ⟨lv_args 0 (Value.ref h0 :: xs.map iv), ?_, fun i v hi => ?_⟩
  · have := lv_entry (Value.ref h0 :: xs.map iv) (n := nL) (by rw [hs, hl]; exact hn)
    rw [List.length_append, List.length_map, List.length_replicate, hl, show xs.length + 1 + (nL - (xs.length + 1)) = nL by omega]
    exact this
  · rw [List.getElem?_append] at hi
    split at hi
    · rw [List.getElem?_map] at hi
      cases hq : (Value.ref h0 :: xs.map iv)[i]? with
      | none => rw [hq] at hi; simp at hi
      | some w =>
        rw [hq] at hi
        simp at hi
        subst hi
        have := z_args _ 0 hc i w hq
        rw [Nat.zero_add] at this
        exact ⟨this, hc w (List.mem_of_getElem? hq)⟩
    · have := List.mem_of_getElem? hi
      rw [List.mem_replicate] at this
      simp at this
def zRi (E : zE) (d : zC) (cc : ByteArray) (post : Int → zSt → Prop) : Prop := ∀ (u : zSt) (z : Int) (pc : Nat) (L : List (Option Value)), decode cc pc = .ok (.ireturn, 1) → (-2147483648 ≤ z ∧ z < 2147483648) → post z u → WX E d u pc L [iv z]
def zRv (E : zE) (d : zC) (cc : ByteArray) (post : zSt → Prop) : Prop := ∀ (u : zSt) (pc : Nat) (L : List (Option Value)), decode cc pc = .ok (.return_, 1) → post u → WX E d u pc L []
/-- a contract out of the walk of its body -/
theorem Cx_of {d : zC} (hwf : zwf d) {y : MethodName} {cc : ByteArray} {nL : Nat} {ret : FieldType} {n : Nat} {σ : zSt} {xs : List Int} {post : Int → zSt → Prop} (hy : plainName y.cls = true) (hyc : y.cls = d.nm) (hnL : xs.length + 1 ≤ nL) (hret : ret = .int ∨ (ret = .boolean ∧ ∀ z u, post z u → z = 0 ∨ z = 1))
    (L0 : Value → List (Option Value)) (hL0 : ∀ t, L0 t = (t :: xs.map iv).map some ++ List.replicate (nL - (xs.length + 1)) none)
    (body : ∀ E : zE, zN E d cc nL n → zRi E d cc post → zR σ → WX E d σ 0 (L0 (th E)) []) : Cx d y cc nL ret n σ xs post := by
  intro l g sz
  refine Met.ofW (cc := cc) (maxL := nL) (ret := some ret) hy rfl ?_
  intro p e s m args below meth c s₁ B hml hv
  obtain ⟨rfl, hsz, hP, hK, hD0, hR0⟩ := hv
  have hx := B.exec
  have hb := B.bytes
  have hr := B.returns
  have hts := atoms_spec (ws := ws_ y cc nL (some ret)) B.pre
  have hts : ∀ w ∈ lw_all, w.before _ s = true := fun w h => hts w (List.mem_cons_of_mem _ h)
  have hown : s.vm.findClass d.nm = some m.cls := by rw [← hyc]; exact findClass_of_methodNamed B.named
  have hlocks := B.notSynchronized
  subst hsz
  have hD := hD0.self (sz := s.heap.size)
  have hn := body (p, l, e, zrm n, s, m, (Value.ref g.h :: xs.map iv).toArray, below, meth, c, 0, 0, MQ below (va_Qi (fun (r : Int32) (u : zSt) => ∃ z : Int, r = Int32.ofInt z ∧ (-2147483648 ≤ z ∧ z < 2147483648) ∧ post z u) (zB d g (va_A (zw d g σ) s.heap.size)) (va_A (zw d g σ) s.heap.size)) (Value.ref g.h :: xs.map iv).toArray s 0 0 (va_A (zw d g σ) s.heap.size), va_A (zw d g σ) s.heap.size, g)
    ⟨hwf, hx, hb, hml, hown, hts, hK, rfl, rfl, rfl, fun q h => Or.inr h⟩
    (by
      intro u z pc L hdg hz hp H locs ls a1 a2 a3 a4 a5
      refine W.zret (v := Int32.ofInt z) (ty := ret) hx hb hr ?_ (fun t ht hW => ⟨⟨Int32.ofInt z, u, rfl, ⟨z, rfl, hz, hp⟩, by rw [ht]; exact a1, va_K.moved hW.alike hK, a2, a4⟩, a3.F ht⟩) a3.2.2 hdg hlocks
      rcases hret with e | ⟨e, h⟩
      · rw [e]; rfl
      · rw [e]
        rcases h z u hp with e | e
        · rw [e]; rfl
        · rw [e]; rfl)
    hR0
  rw [lg_entry_eq]
  have hL1 := z_entry g.h xs nL hnL
  rw [hL0] at hn
  exact hn s.heap [] _ hP hD va_S.rf hR0 hL1
theorem Cv_of {d : zC} (hwf : zwf d) {y : MethodName} {cc : ByteArray} {nL : Nat} {n : Nat} {σ : zSt} {xs : List Int} {post : zSt → Prop} (hy : plainName y.cls = true) (hyc : y.cls = d.nm) (hnL : xs.length + 1 ≤ nL)
    (L0 : Value → List (Option Value)) (hL0 : ∀ t, L0 t = (t :: xs.map iv).map some ++ List.replicate (nL - (xs.length + 1)) none)
    (body : ∀ E : zE, zN E d cc nL n → zRv E d cc post → zR σ → WX E d σ 0 (L0 (th E)) []) : Cv d y cc nL n σ xs post := by
  intro l g sz
  refine Met.ofW (cc := cc) (maxL := nL) (ret := none) hy rfl ?_
  intro p e s m args below meth c s₁ B hml hv
  obtain ⟨rfl, hsz, hP, hK, hD0, hR0⟩ := hv
  have hx := B.exec
  have hb := B.bytes
  have hr := B.returns
  have hts := atoms_spec (ws := ws_ y cc nL none) B.pre
  have hts : ∀ w ∈ lw_all, w.before _ s = true := fun w h => hts w (List.mem_cons_of_mem _ h)
  have hown : s.vm.findClass d.nm = some m.cls := by rw [← hyc]; exact findClass_of_methodNamed B.named
  have hlocks := B.notSynchronized
  subst hsz
  have hD := hD0.self (sz := s.heap.size)
  have hn := body (p, l, e, zrm n, s, m, (Value.ref g.h :: xs.map iv).toArray, below, meth, c, 0, 0, MQ below (va_Qv post (zB d g (va_A (zw d g σ) s.heap.size)) (va_A (zw d g σ) s.heap.size)) (Value.ref g.h :: xs.map iv).toArray s 0 0 (va_A (zw d g σ) s.heap.size), va_A (zw d g σ) s.heap.size, g)
    ⟨hwf, hx, hb, hml, hown, hts, hK, rfl, rfl, rfl, fun q h => Or.inr h⟩
    (by
      intro u pc L hdg hp H locs ls a1 a2 a3 a4 a5
      exact W.vret hx hb hr (fun t ht hW => ⟨⟨u, rfl, hp, by rw [ht]; exact a1, va_K.moved hW.alike hK, a2, a4⟩, a3.F ht⟩) a3.2.2 hdg hlocks)
    hR0
  rw [lg_entry_eq]
  have hL1 := z_entry g.h xs nL hnL
  rw [hL0] at hn
  exact hn s.heap [] _ hP hD va_S.rf hR0 hL1
end
section
def ety0 : Nat → FieldType := fun k => match k with
  | 4 => .byte
  | 11 => .short
  | 12 => .byte
  | 13 => .byte
  | 14 => .short
  | 15 => .byte
  | 19 => .byte
  | 20 => .byte
  | 21 => .byte
  | _ => .int
def ln0 : Nat → Nat := fun k => match k with
  | 2 => 2
  | 3 => 4
  | 4 => 2
  | 5 => 32
  | 6 => 32
  | 7 => 32
  | 8 => 32
  | 11 => 258
  | 12 => 129
  | 13 => 129
  | 14 => 20
  | 15 => 20
  | 18 => 16
  | 19 => 16
  | 20 => 128
  | 21 => 32
  | _ => 0
def isA0 : Nat → Bool := fun k => match k with
  | 0 => false
  | 1 => false
  | 9 => false
  | 10 => false
  | 16 => false
  | 17 => false
  | _ => true
def cd0 : zC := (0, RX0, TX0, 22, [2, 3, 4, 5, 6, 7, 8, 11, 12, 13, 14, 15, 18, 19, 20, 21], ety0, ln0, isA0)
set_option maxRecDepth 100000 in
theorem wf0 : zwf cd0 := by
  refine ⟨rfl, in_X0, ⟨tyX0, tyX0_ok⟩, nmX0, by decide, by decide, by decide +kernel, fun k => ?_⟩
  show ln0 k ≤ 65536
  unfold ln0
  split <;> decide
def ety1 : Nat → FieldType := fun k => match k with
  | _ => .int
def ln1 : Nat → Nat := fun k => match k with
  | 0 => 4
  | 5 => 2
  | 6 => 32
  | 7 => 32
  | 8 => 32
  | 9 => 32
  | 10 => 34
  | 11 => 34
  | 12 => 34
  | _ => 0
def isA1 : Nat → Bool := fun k => match k with
  | 1 => false
  | 2 => false
  | 3 => false
  | 4 => false
  | _ => true
def cd1 : zC := (1, RX1, TX1, 13, [0, 5, 6, 7, 8, 9, 10, 11, 12], ety1, ln1, isA1)
set_option maxRecDepth 100000 in
theorem wf1 : zwf cd1 := by
  refine ⟨rfl, in_X1, ⟨tyX1, tyX1_ok⟩, nmX1, by decide, by decide, by decide +kernel, fun k => ?_⟩
  show ln1 k ≤ 65536
  unfold ln1
  split <;> decide
section ST
variable {E : zE} {d : zC} {cc : ByteArray} {nL n : Nat} {σ : zSt} {pc : Nat} {L : List (Option Value)} {st : List Value} {a0 a1 a2 a3 a4 a5 a6 a7 a8 : Option Value} {v : Int}
theorem x_st1 (h : zN E d cc nL n) (hd : decode cc pc = .ok (.istore_n 1, 1)) (k : WX E d σ (pc + 1) (a0 :: some (iv v) :: L) st) : WX E d σ pc (a0 :: a1 :: L) (iv v :: st) := x_istoren h hd (by simp only [List.length_cons]; exact Nat.lt_of_lt_of_le (show (1 : Nat) < 2 from by decide) (by omega)) k
theorem x_in1 (h : zN E d cc nL n) {w : Int} (hd : decode cc pc = .ok (.iinc 1 w, 3)) (k : WX E d σ (pc + 3) (a0 :: some (iv (v + w)) :: L) st) : WX E d σ pc (a0 :: some (iv v) :: L) st := x_iinc h hd rfl (by simp) k
theorem x_st2 (h : zN E d cc nL n) (hd : decode cc pc = .ok (.istore_n 2, 1)) (k : WX E d σ (pc + 1) (a0 :: a1 :: some (iv v) :: L) st) : WX E d σ pc (a0 :: a1 :: a2 :: L) (iv v :: st) := x_istoren h hd (by simp only [List.length_cons]; exact Nat.lt_of_lt_of_le (show (2 : Nat) < 3 from by decide) (by omega)) k
theorem x_in2 (h : zN E d cc nL n) {w : Int} (hd : decode cc pc = .ok (.iinc 2 w, 3)) (k : WX E d σ (pc + 3) (a0 :: a1 :: some (iv (v + w)) :: L) st) : WX E d σ pc (a0 :: a1 :: some (iv v) :: L) st := x_iinc h hd rfl (by simp) k
theorem x_st3 (h : zN E d cc nL n) (hd : decode cc pc = .ok (.istore_n 3, 1)) (k : WX E d σ (pc + 1) (a0 :: a1 :: a2 :: some (iv v) :: L) st) : WX E d σ pc (a0 :: a1 :: a2 :: a3 :: L) (iv v :: st) := x_istoren h hd (by simp only [List.length_cons]; exact Nat.lt_of_lt_of_le (show (3 : Nat) < 4 from by decide) (by omega)) k
theorem x_in3 (h : zN E d cc nL n) {w : Int} (hd : decode cc pc = .ok (.iinc 3 w, 3)) (k : WX E d σ (pc + 3) (a0 :: a1 :: a2 :: some (iv (v + w)) :: L) st) : WX E d σ pc (a0 :: a1 :: a2 :: some (iv v) :: L) st := x_iinc h hd rfl (by simp) k
theorem x_st4 (h : zN E d cc nL n) (hd : decode cc pc = .ok (.istore 4, 2)) (k : WX E d σ (pc + 2) (a0 :: a1 :: a2 :: a3 :: some (iv v) :: L) st) : WX E d σ pc (a0 :: a1 :: a2 :: a3 :: a4 :: L) (iv v :: st) := x_istore h hd (by simp only [List.length_cons]; exact Nat.lt_of_lt_of_le (show (4 : Nat) < 5 from by decide) (by omega)) k
theorem x_in4 (h : zN E d cc nL n) {w : Int} (hd : decode cc pc = .ok (.iinc 4 w, 3)) (k : WX E d σ (pc + 3) (a0 :: a1 :: a2 :: a3 :: some (iv (v + w)) :: L) st) : WX E d σ pc (a0 :: a1 :: a2 :: a3 :: some (iv v) :: L) st := x_iinc h hd rfl (by simp) k
theorem x_st5 (h : zN E d cc nL n) (hd : decode cc pc = .ok (.istore 5, 2)) (k : WX E d σ (pc + 2) (a0 :: a1 :: a2 :: a3 :: a4 :: some (iv v) :: L) st) : WX E d σ pc (a0 :: a1 :: a2 :: a3 :: a4 :: a5 :: L) (iv v :: st) := x_istore h hd (by simp only [List.length_cons]; exact Nat.lt_of_lt_of_le (show (5 : Nat) < 6 from by decide) (by omega)) k
theorem x_in5 (h : zN E d cc nL n) {w : Int} (hd : decode cc pc = .ok (.iinc 5 w, 3)) (k : WX E d σ (pc + 3) (a0 :: a1 :: a2 :: a3 :: a4 :: some (iv (v + w)) :: L) st) : WX E d σ pc (a0 :: a1 :: a2 :: a3 :: a4 :: some (iv v) :: L) st := x_iinc h hd rfl (by simp) k
theorem x_st6 (h : zN E d cc nL n) (hd : decode cc pc = .ok (.istore 6, 2)) (k : WX E d σ (pc + 2) (a0 :: a1 :: a2 :: a3 :: a4 :: a5 :: some (iv v) :: L) st) : WX E d σ pc (a0 :: a1 :: a2 :: a3 :: a4 :: a5 :: a6 :: L) (iv v :: st) := x_istore h hd (by simp only [List.length_cons]; exact Nat.lt_of_lt_of_le (show (6 : Nat) < 7 from by decide) (by omega)) k
theorem x_in6 (h : zN E d cc nL n) {w : Int} (hd : decode cc pc = .ok (.iinc 6 w, 3)) (k : WX E d σ (pc + 3) (a0 :: a1 :: a2 :: a3 :: a4 :: a5 :: some (iv (v + w)) :: L) st) : WX E d σ pc (a0 :: a1 :: a2 :: a3 :: a4 :: a5 :: some (iv v) :: L) st := x_iinc h hd rfl (by simp) k
theorem x_st7 (h : zN E d cc nL n) (hd : decode cc pc = .ok (.istore 7, 2)) (k : WX E d σ (pc + 2) (a0 :: a1 :: a2 :: a3 :: a4 :: a5 :: a6 :: some (iv v) :: L) st) : WX E d σ pc (a0 :: a1 :: a2 :: a3 :: a4 :: a5 :: a6 :: a7 :: L) (iv v :: st) := x_istore h hd (by simp only [List.length_cons]; exact Nat.lt_of_lt_of_le (show (7 : Nat) < 8 from by decide) (by omega)) k
theorem x_in7 (h : zN E d cc nL n) {w : Int} (hd : decode cc pc = .ok (.iinc 7 w, 3)) (k : WX E d σ (pc + 3) (a0 :: a1 :: a2 :: a3 :: a4 :: a5 :: a6 :: some (iv (v + w)) :: L) st) : WX E d σ pc (a0 :: a1 :: a2 :: a3 :: a4 :: a5 :: a6 :: some (iv v) :: L) st := x_iinc h hd rfl (by simp) k
theorem x_st8 (h : zN E d cc nL n) (hd : decode cc pc = .ok (.istore 8, 2)) (k : WX E d σ (pc + 2) (a0 :: a1 :: a2 :: a3 :: a4 :: a5 :: a6 :: a7 :: some (iv v) :: L) st) : WX E d σ pc (a0 :: a1 :: a2 :: a3 :: a4 :: a5 :: a6 :: a7 :: a8 :: L) (iv v :: st) := x_istore h hd (by simp only [List.length_cons]; exact Nat.lt_of_lt_of_le (show (8 : Nat) < 9 from by decide) (by omega)) k
theorem x_in8 (h : zN E d cc nL n) {w : Int} (hd : decode cc pc = .ok (.iinc 8 w, 3)) (k : WX E d σ (pc + 3) (a0 :: a1 :: a2 :: a3 :: a4 :: a5 :: a6 :: a7 :: some (iv (v + w)) :: L) st) : WX E d σ pc (a0 :: a1 :: a2 :: a3 :: a4 :: a5 :: a6 :: a7 :: some (iv v) :: L) st := x_iinc h hd rfl (by simp) k
end ST
section F0
variable {E : zE} {cc : ByteArray} {nL n : Nat} {σ : zSt} {pc : Nat} {L : List (Option Value)} {st : List Value}
theorem g0_0 (h : zN E cd0 cc nL n) (hd : decode cc pc = .ok (.getfield 60, 3)) (kk : (-2147483648 ≤ σ 0 0 ∧ σ 0 0 < 2147483648) → WX E cd0 σ (pc + 3) L (iv (σ 0 0) :: st)) : WX E cd0 σ pc L (th E :: st) := x_geti h 0 (by decide) rfl q38 hd kk
theorem p0_0 (h : zN E cd0 cc nL n) {v : Int} (hd : decode cc pc = .ok (.putfield 60, 3)) (hv : -2147483648 ≤ v ∧ v < 2147483648) (kk : WX E cd0 (sset σ 0 0 v) (pc + 3) L st) : WX E cd0 σ pc L (iv v :: th E :: st) := x_puti (ty := .int) h 0 (by decide) rfl rfl (by decide +kernel) q38 hv rfl rfl hd kk
theorem g0_1 (h : zN E cd0 cc nL n) (hd : decode cc pc = .ok (.getfield 77, 3)) (kk : (-2147483648 ≤ σ 1 0 ∧ σ 1 0 < 2147483648) → WX E cd0 σ (pc + 3) L (iv (σ 1 0) :: st)) : WX E cd0 σ pc L (th E :: st) := x_geti h 1 (by decide) rfl q39 hd kk
theorem p0_1 (h : zN E cd0 cc nL n) {v : Int} (hd : decode cc pc = .ok (.putfield 77, 3)) (hv : -2147483648 ≤ v ∧ v < 2147483648) (kk : WX E cd0 (sset σ 1 0 v) (pc + 3) L st) : WX E cd0 σ pc L (iv v :: th E :: st) := x_puti (ty := .int) h 1 (by decide) rfl rfl (by decide +kernel) q39 hv rfl rfl hd kk
theorem a0_2 (h : zN E cd0 cc nL n) (hd : decode cc pc = .ok (.getfield 7, 3)) (kk : WX E cd0 σ (pc + 3) L (rf E 2 :: st)) : WX E cd0 σ pc L (th E :: st) := x_geta h 2 (by decide) rfl q40 hd kk
theorem l0_2 (h : zN E cd0 cc nL n) (hd : decode cc pc = .ok (.iaload, 1)) {i : Int} (h0 : 0 ≤ i) (h1 : i < 2) (kk : (-2147483648 ≤ σ 2 i ∧ σ 2 i < 2147483648) → WX E cd0 σ (pc + 1) L (iv (σ 2 i) :: st)) : WX E cd0 σ pc L (iv i :: rf E 2 :: st) := x_iald h 0 rfl rfl hd h0 h1 kk
theorem w0_2 (h : zN E cd0 cc nL n) (hd : decode cc pc = .ok (.iastore, 1)) {i v : Int} (h0 : 0 ≤ i) (h1 : i < 2) (hv : -2147483648 ≤ v ∧ v < 2147483648) (kk : WX E cd0 (sset σ 2 i v) (pc + 1) L st) : WX E cd0 σ pc L (iv v :: iv i :: rf E 2 :: st) := x_iast h 0 rfl rfl hd h0 h1 hv kk
theorem a0_3 (h : zN E cd0 cc nL n) (hd : decode cc pc = .ok (.getfield 13, 3)) (kk : WX E cd0 σ (pc + 3) L (rf E 3 :: st)) : WX E cd0 σ pc L (th E :: st) := x_geta h 3 (by decide) rfl q41 hd kk
theorem l0_3 (h : zN E cd0 cc nL n) (hd : decode cc pc = .ok (.iaload, 1)) {i : Int} (h0 : 0 ≤ i) (h1 : i < 4) (kk : (-2147483648 ≤ σ 3 i ∧ σ 3 i < 2147483648) → WX E cd0 σ (pc + 1) L (iv (σ 3 i) :: st)) : WX E cd0 σ pc L (iv i :: rf E 3 :: st) := x_iald h 1 rfl rfl hd h0 h1 kk
theorem w0_3 (h : zN E cd0 cc nL n) (hd : decode cc pc = .ok (.iastore, 1)) {i v : Int} (h0 : 0 ≤ i) (h1 : i < 4) (hv : -2147483648 ≤ v ∧ v < 2147483648) (kk : WX E cd0 (sset σ 3 i v) (pc + 1) L st) : WX E cd0 σ pc L (iv v :: iv i :: rf E 3 :: st) := x_iast h 1 rfl rfl hd h0 h1 hv kk
theorem a0_4 (h : zN E cd0 cc nL n) (hd : decode cc pc = .ok (.getfield 16, 3)) (kk : WX E cd0 σ (pc + 3) L (rf E 4 :: st)) : WX E cd0 σ pc L (th E :: st) := x_geta h 4 (by decide) rfl q42 hd kk
theorem l0_4 (h : zN E cd0 cc nL n) (hd : decode cc pc = .ok (.baload, 1)) {i : Int} (h0 : 0 ≤ i) (h1 : i < 2) (kk : (-2147483648 ≤ σ 4 i ∧ σ 4 i < 2147483648) → WX E cd0 σ (pc + 1) L (iv (σ 4 i) :: st)) : WX E cd0 σ pc L (iv i :: rf E 4 :: st) := x_bald h 2 rfl rfl hd h0 h1 kk
theorem w0_4 (h : zN E cd0 cc nL n) (hd : decode cc pc = .ok (.bastore, 1)) {i v : Int} (h0 : 0 ≤ i) (h1 : i < 2) (hv : -128 ≤ v ∧ v < 128) (kk : WX E cd0 (sset σ 4 i v) (pc + 1) L st) : WX E cd0 σ pc L (iv v :: iv i :: rf E 4 :: st) := x_bast h 2 rfl rfl hd h0 h1 hv kk
theorem a0_5 (h : zN E cd0 cc nL n) (hd : decode cc pc = .ok (.getfield 20, 3)) (kk : WX E cd0 σ (pc + 3) L (rf E 5 :: st)) : WX E cd0 σ pc L (th E :: st) := x_geta h 5 (by decide) rfl q43 hd kk
theorem l0_5 (h : zN E cd0 cc nL n) (hd : decode cc pc = .ok (.iaload, 1)) {i : Int} (h0 : 0 ≤ i) (h1 : i < 32) (kk : (-2147483648 ≤ σ 5 i ∧ σ 5 i < 2147483648) → WX E cd0 σ (pc + 1) L (iv (σ 5 i) :: st)) : WX E cd0 σ pc L (iv i :: rf E 5 :: st) := x_iald h 3 rfl rfl hd h0 h1 kk
theorem w0_5 (h : zN E cd0 cc nL n) (hd : decode cc pc = .ok (.iastore, 1)) {i v : Int} (h0 : 0 ≤ i) (h1 : i < 32) (hv : -2147483648 ≤ v ∧ v < 2147483648) (kk : WX E cd0 (sset σ 5 i v) (pc + 1) L st) : WX E cd0 σ pc L (iv v :: iv i :: rf E 5 :: st) := x_iast h 3 rfl rfl hd h0 h1 hv kk
theorem a0_6 (h : zN E cd0 cc nL n) (hd : decode cc pc = .ok (.getfield 23, 3)) (kk : WX E cd0 σ (pc + 3) L (rf E 6 :: st)) : WX E cd0 σ pc L (th E :: st) := x_geta h 6 (by decide) rfl q44 hd kk
theorem l0_6 (h : zN E cd0 cc nL n) (hd : decode cc pc = .ok (.iaload, 1)) {i : Int} (h0 : 0 ≤ i) (h1 : i < 32) (kk : (-2147483648 ≤ σ 6 i ∧ σ 6 i < 2147483648) → WX E cd0 σ (pc + 1) L (iv (σ 6 i) :: st)) : WX E cd0 σ pc L (iv i :: rf E 6 :: st) := x_iald h 4 rfl rfl hd h0 h1 kk
theorem w0_6 (h : zN E cd0 cc nL n) (hd : decode cc pc = .ok (.iastore, 1)) {i v : Int} (h0 : 0 ≤ i) (h1 : i < 32) (hv : -2147483648 ≤ v ∧ v < 2147483648) (kk : WX E cd0 (sset σ 6 i v) (pc + 1) L st) : WX E cd0 σ pc L (iv v :: iv i :: rf E 6 :: st) := x_iast h 4 rfl rfl hd h0 h1 hv kk
theorem a0_7 (h : zN E cd0 cc nL n) (hd : decode cc pc = .ok (.getfield 26, 3)) (kk : WX E cd0 σ (pc + 3) L (rf E 7 :: st)) : WX E cd0 σ pc L (th E :: st) := x_geta h 7 (by decide) rfl q45 hd kk
theorem l0_7 (h : zN E cd0 cc nL n) (hd : decode cc pc = .ok (.iaload, 1)) {i : Int} (h0 : 0 ≤ i) (h1 : i < 32) (kk : (-2147483648 ≤ σ 7 i ∧ σ 7 i < 2147483648) → WX E cd0 σ (pc + 1) L (iv (σ 7 i) :: st)) : WX E cd0 σ pc L (iv i :: rf E 7 :: st) := x_iald h 5 rfl rfl hd h0 h1 kk
theorem w0_7 (h : zN E cd0 cc nL n) (hd : decode cc pc = .ok (.iastore, 1)) {i v : Int} (h0 : 0 ≤ i) (h1 : i < 32) (hv : -2147483648 ≤ v ∧ v < 2147483648) (kk : WX E cd0 (sset σ 7 i v) (pc + 1) L st) : WX E cd0 σ pc L (iv v :: iv i :: rf E 7 :: st) := x_iast h 5 rfl rfl hd h0 h1 hv kk
theorem a0_8 (h : zN E cd0 cc nL n) (hd : decode cc pc = .ok (.getfield 29, 3)) (kk : WX E cd0 σ (pc + 3) L (rf E 8 :: st)) : WX E cd0 σ pc L (th E :: st) := x_geta h 8 (by decide) rfl q46 hd kk
theorem l0_8 (h : zN E cd0 cc nL n) (hd : decode cc pc = .ok (.iaload, 1)) {i : Int} (h0 : 0 ≤ i) (h1 : i < 32) (kk : (-2147483648 ≤ σ 8 i ∧ σ 8 i < 2147483648) → WX E cd0 σ (pc + 1) L (iv (σ 8 i) :: st)) : WX E cd0 σ pc L (iv i :: rf E 8 :: st) := x_iald h 6 rfl rfl hd h0 h1 kk
theorem w0_8 (h : zN E cd0 cc nL n) (hd : decode cc pc = .ok (.iastore, 1)) {i v : Int} (h0 : 0 ≤ i) (h1 : i < 32) (hv : -2147483648 ≤ v ∧ v < 2147483648) (kk : WX E cd0 (sset σ 8 i v) (pc + 1) L st) : WX E cd0 σ pc L (iv v :: iv i :: rf E 8 :: st) := x_iast h 6 rfl rfl hd h0 h1 hv kk
theorem g0_9 (h : zN E cd0 cc nL n) (hd : decode cc pc = .ok (.getfield 64, 3)) (kk : (-2147483648 ≤ σ 9 0 ∧ σ 9 0 < 2147483648) → WX E cd0 σ (pc + 3) L (iv (σ 9 0) :: st)) : WX E cd0 σ pc L (th E :: st) := x_geti h 9 (by decide) rfl q47 hd kk
theorem p0_9 (h : zN E cd0 cc nL n) {v : Int} (hd : decode cc pc = .ok (.putfield 64, 3)) (hv : v = 0 ∨ v = 1) (kk : WX E cd0 (sset σ 9 0 v) (pc + 3) L st) : WX E cd0 σ pc L (iv v :: th E :: st) := x_puti (ty := .boolean) h 9 (by decide) rfl rfl (by decide +kernel) q47 (by omega) (by rcases hv with e | e <;> rw [e] <;> rfl) (by rcases hv with e | e <;> rw [e] <;> rfl) hd kk
theorem g0_10 (h : zN E cd0 cc nL n) (hd : decode cc pc = .ok (.getfield 101, 3)) (kk : (-2147483648 ≤ σ 10 0 ∧ σ 10 0 < 2147483648) → WX E cd0 σ (pc + 3) L (iv (σ 10 0) :: st)) : WX E cd0 σ pc L (th E :: st) := x_geti h 10 (by decide) rfl q48 hd kk
theorem p0_10 (h : zN E cd0 cc nL n) {v : Int} (hd : decode cc pc = .ok (.putfield 101, 3)) (hv : -2147483648 ≤ v ∧ v < 2147483648) (kk : WX E cd0 (sset σ 10 0 v) (pc + 3) L st) : WX E cd0 σ pc L (iv v :: th E :: st) := x_puti (ty := .int) h 10 (by decide) rfl rfl (by decide +kernel) q48 hv rfl rfl hd kk
theorem a0_11 (h : zN E cd0 cc nL n) (hd : decode cc pc = .ok (.getfield 32, 3)) (kk : WX E cd0 σ (pc + 3) L (rf E 11 :: st)) : WX E cd0 σ pc L (th E :: st) := x_geta h 11 (by decide) rfl q49 hd kk
theorem l0_11 (h : zN E cd0 cc nL n) (hd : decode cc pc = .ok (.saload, 1)) {i : Int} (h0 : 0 ≤ i) (h1 : i < 258) (kk : (-2147483648 ≤ σ 11 i ∧ σ 11 i < 2147483648) → WX E cd0 σ (pc + 1) L (iv (σ 11 i) :: st)) : WX E cd0 σ pc L (iv i :: rf E 11 :: st) := x_sald h 7 rfl rfl hd h0 h1 kk
theorem w0_11 (h : zN E cd0 cc nL n) (hd : decode cc pc = .ok (.sastore, 1)) {i v : Int} (h0 : 0 ≤ i) (h1 : i < 258) (hv : -32768 ≤ v ∧ v < 32768) (kk : WX E cd0 (sset σ 11 i v) (pc + 1) L st) : WX E cd0 σ pc L (iv v :: iv i :: rf E 11 :: st) := x_sast h 7 rfl rfl hd h0 h1 hv kk
theorem a0_12 (h : zN E cd0 cc nL n) (hd : decode cc pc = .ok (.getfield 36, 3)) (kk : WX E cd0 σ (pc + 3) L (rf E 12 :: st)) : WX E cd0 σ pc L (th E :: st) := x_geta h 12 (by decide) rfl q50 hd kk
theorem l0_12 (h : zN E cd0 cc nL n) (hd : decode cc pc = .ok (.baload, 1)) {i : Int} (h0 : 0 ≤ i) (h1 : i < 129) (kk : (-2147483648 ≤ σ 12 i ∧ σ 12 i < 2147483648) → WX E cd0 σ (pc + 1) L (iv (σ 12 i) :: st)) : WX E cd0 σ pc L (iv i :: rf E 12 :: st) := x_bald h 8 rfl rfl hd h0 h1 kk
theorem w0_12 (h : zN E cd0 cc nL n) (hd : decode cc pc = .ok (.bastore, 1)) {i v : Int} (h0 : 0 ≤ i) (h1 : i < 129) (hv : -128 ≤ v ∧ v < 128) (kk : WX E cd0 (sset σ 12 i v) (pc + 1) L st) : WX E cd0 σ pc L (iv v :: iv i :: rf E 12 :: st) := x_bast h 8 rfl rfl hd h0 h1 hv kk
theorem a0_13 (h : zN E cd0 cc nL n) (hd : decode cc pc = .ok (.getfield 39, 3)) (kk : WX E cd0 σ (pc + 3) L (rf E 13 :: st)) : WX E cd0 σ pc L (th E :: st) := x_geta h 13 (by decide) rfl q51 hd kk
theorem l0_13 (h : zN E cd0 cc nL n) (hd : decode cc pc = .ok (.baload, 1)) {i : Int} (h0 : 0 ≤ i) (h1 : i < 129) (kk : (-2147483648 ≤ σ 13 i ∧ σ 13 i < 2147483648) → WX E cd0 σ (pc + 1) L (iv (σ 13 i) :: st)) : WX E cd0 σ pc L (iv i :: rf E 13 :: st) := x_bald h 9 rfl rfl hd h0 h1 kk
theorem w0_13 (h : zN E cd0 cc nL n) (hd : decode cc pc = .ok (.bastore, 1)) {i v : Int} (h0 : 0 ≤ i) (h1 : i < 129) (hv : -128 ≤ v ∧ v < 128) (kk : WX E cd0 (sset σ 13 i v) (pc + 1) L st) : WX E cd0 σ pc L (iv v :: iv i :: rf E 13 :: st) := x_bast h 9 rfl rfl hd h0 h1 hv kk
theorem a0_14 (h : zN E cd0 cc nL n) (hd : decode cc pc = .ok (.getfield 42, 3)) (kk : WX E cd0 σ (pc + 3) L (rf E 14 :: st)) : WX E cd0 σ pc L (th E :: st) := x_geta h 14 (by decide) rfl q52 hd kk
theorem l0_14 (h : zN E cd0 cc nL n) (hd : decode cc pc = .ok (.saload, 1)) {i : Int} (h0 : 0 ≤ i) (h1 : i < 20) (kk : (-2147483648 ≤ σ 14 i ∧ σ 14 i < 2147483648) → WX E cd0 σ (pc + 1) L (iv (σ 14 i) :: st)) : WX E cd0 σ pc L (iv i :: rf E 14 :: st) := x_sald h 10 rfl rfl hd h0 h1 kk
theorem w0_14 (h : zN E cd0 cc nL n) (hd : decode cc pc = .ok (.sastore, 1)) {i v : Int} (h0 : 0 ≤ i) (h1 : i < 20) (hv : -32768 ≤ v ∧ v < 32768) (kk : WX E cd0 (sset σ 14 i v) (pc + 1) L st) : WX E cd0 σ pc L (iv v :: iv i :: rf E 14 :: st) := x_sast h 10 rfl rfl hd h0 h1 hv kk
theorem a0_15 (h : zN E cd0 cc nL n) (hd : decode cc pc = .ok (.getfield 45, 3)) (kk : WX E cd0 σ (pc + 3) L (rf E 15 :: st)) : WX E cd0 σ pc L (th E :: st) := x_geta h 15 (by decide) rfl q53 hd kk
theorem l0_15 (h : zN E cd0 cc nL n) (hd : decode cc pc = .ok (.baload, 1)) {i : Int} (h0 : 0 ≤ i) (h1 : i < 20) (kk : (-2147483648 ≤ σ 15 i ∧ σ 15 i < 2147483648) → WX E cd0 σ (pc + 1) L (iv (σ 15 i) :: st)) : WX E cd0 σ pc L (iv i :: rf E 15 :: st) := x_bald h 11 rfl rfl hd h0 h1 kk
theorem w0_15 (h : zN E cd0 cc nL n) (hd : decode cc pc = .ok (.bastore, 1)) {i v : Int} (h0 : 0 ≤ i) (h1 : i < 20) (hv : -128 ≤ v ∧ v < 128) (kk : WX E cd0 (sset σ 15 i v) (pc + 1) L st) : WX E cd0 σ pc L (iv v :: iv i :: rf E 15 :: st) := x_bast h 11 rfl rfl hd h0 h1 hv kk
theorem g0_16 (h : zN E cd0 cc nL n) (hd : decode cc pc = .ok (.getfield 73, 3)) (kk : (-2147483648 ≤ σ 16 0 ∧ σ 16 0 < 2147483648) → WX E cd0 σ (pc + 3) L (iv (σ 16 0) :: st)) : WX E cd0 σ pc L (th E :: st) := x_geti h 16 (by decide) rfl q54 hd kk
theorem p0_16 (h : zN E cd0 cc nL n) {v : Int} (hd : decode cc pc = .ok (.putfield 73, 3)) (hv : v = 0 ∨ v = 1) (kk : WX E cd0 (sset σ 16 0 v) (pc + 3) L st) : WX E cd0 σ pc L (iv v :: th E :: st) := x_puti (ty := .boolean) h 16 (by decide) rfl rfl (by decide +kernel) q54 (by omega) (by rcases hv with e | e <;> rw [e] <;> rfl) (by rcases hv with e | e <;> rw [e] <;> rfl) hd kk
theorem g0_17 (h : zN E cd0 cc nL n) (hd : decode cc pc = .ok (.getfield 114, 3)) (kk : (-2147483648 ≤ σ 17 0 ∧ σ 17 0 < 2147483648) → WX E cd0 σ (pc + 3) L (iv (σ 17 0) :: st)) : WX E cd0 σ pc L (th E :: st) := x_geti h 17 (by decide) rfl q55 hd kk
theorem p0_17 (h : zN E cd0 cc nL n) {v : Int} (hd : decode cc pc = .ok (.putfield 114, 3)) (hv : -2147483648 ≤ v ∧ v < 2147483648) (kk : WX E cd0 (sset σ 17 0 v) (pc + 3) L st) : WX E cd0 σ pc L (iv v :: th E :: st) := x_puti (ty := .int) h 17 (by decide) rfl rfl (by decide +kernel) q55 hv rfl rfl hd kk
theorem a0_18 (h : zN E cd0 cc nL n) (hd : decode cc pc = .ok (.getfield 48, 3)) (kk : WX E cd0 σ (pc + 3) L (rf E 18 :: st)) : WX E cd0 σ pc L (th E :: st) := x_geta h 18 (by decide) rfl q56 hd kk
theorem l0_18 (h : zN E cd0 cc nL n) (hd : decode cc pc = .ok (.iaload, 1)) {i : Int} (h0 : 0 ≤ i) (h1 : i < 16) (kk : (-2147483648 ≤ σ 18 i ∧ σ 18 i < 2147483648) → WX E cd0 σ (pc + 1) L (iv (σ 18 i) :: st)) : WX E cd0 σ pc L (iv i :: rf E 18 :: st) := x_iald h 12 rfl rfl hd h0 h1 kk
theorem w0_18 (h : zN E cd0 cc nL n) (hd : decode cc pc = .ok (.iastore, 1)) {i v : Int} (h0 : 0 ≤ i) (h1 : i < 16) (hv : -2147483648 ≤ v ∧ v < 2147483648) (kk : WX E cd0 (sset σ 18 i v) (pc + 1) L st) : WX E cd0 σ pc L (iv v :: iv i :: rf E 18 :: st) := x_iast h 12 rfl rfl hd h0 h1 hv kk
theorem a0_19 (h : zN E cd0 cc nL n) (hd : decode cc pc = .ok (.getfield 51, 3)) (kk : WX E cd0 σ (pc + 3) L (rf E 19 :: st)) : WX E cd0 σ pc L (th E :: st) := x_geta h 19 (by decide) rfl q57 hd kk
theorem l0_19 (h : zN E cd0 cc nL n) (hd : decode cc pc = .ok (.baload, 1)) {i : Int} (h0 : 0 ≤ i) (h1 : i < 16) (kk : (-2147483648 ≤ σ 19 i ∧ σ 19 i < 2147483648) → WX E cd0 σ (pc + 1) L (iv (σ 19 i) :: st)) : WX E cd0 σ pc L (iv i :: rf E 19 :: st) := x_bald h 13 rfl rfl hd h0 h1 kk
theorem w0_19 (h : zN E cd0 cc nL n) (hd : decode cc pc = .ok (.bastore, 1)) {i v : Int} (h0 : 0 ≤ i) (h1 : i < 16) (hv : -128 ≤ v ∧ v < 128) (kk : WX E cd0 (sset σ 19 i v) (pc + 1) L st) : WX E cd0 σ pc L (iv v :: iv i :: rf E 19 :: st) := x_bast h 13 rfl rfl hd h0 h1 hv kk
theorem a0_20 (h : zN E cd0 cc nL n) (hd : decode cc pc = .ok (.getfield 54, 3)) (kk : WX E cd0 σ (pc + 3) L (rf E 20 :: st)) : WX E cd0 σ pc L (th E :: st) := x_geta h 20 (by decide) rfl q58 hd kk
theorem l0_20 (h : zN E cd0 cc nL n) (hd : decode cc pc = .ok (.baload, 1)) {i : Int} (h0 : 0 ≤ i) (h1 : i < 128) (kk : (-2147483648 ≤ σ 20 i ∧ σ 20 i < 2147483648) → WX E cd0 σ (pc + 1) L (iv (σ 20 i) :: st)) : WX E cd0 σ pc L (iv i :: rf E 20 :: st) := x_bald h 14 rfl rfl hd h0 h1 kk
theorem w0_20 (h : zN E cd0 cc nL n) (hd : decode cc pc = .ok (.bastore, 1)) {i v : Int} (h0 : 0 ≤ i) (h1 : i < 128) (hv : -128 ≤ v ∧ v < 128) (kk : WX E cd0 (sset σ 20 i v) (pc + 1) L st) : WX E cd0 σ pc L (iv v :: iv i :: rf E 20 :: st) := x_bast h 14 rfl rfl hd h0 h1 hv kk
theorem a0_21 (h : zN E cd0 cc nL n) (hd : decode cc pc = .ok (.getfield 57, 3)) (kk : WX E cd0 σ (pc + 3) L (rf E 21 :: st)) : WX E cd0 σ pc L (th E :: st) := x_geta h 21 (by decide) rfl q59 hd kk
theorem l0_21 (h : zN E cd0 cc nL n) (hd : decode cc pc = .ok (.baload, 1)) {i : Int} (h0 : 0 ≤ i) (h1 : i < 32) (kk : (-2147483648 ≤ σ 21 i ∧ σ 21 i < 2147483648) → WX E cd0 σ (pc + 1) L (iv (σ 21 i) :: st)) : WX E cd0 σ pc L (iv i :: rf E 21 :: st) := x_bald h 15 rfl rfl hd h0 h1 kk
theorem w0_21 (h : zN E cd0 cc nL n) (hd : decode cc pc = .ok (.bastore, 1)) {i v : Int} (h0 : 0 ≤ i) (h1 : i < 32) (hv : -128 ≤ v ∧ v < 128) (kk : WX E cd0 (sset σ 21 i v) (pc + 1) L st) : WX E cd0 σ pc L (iv v :: iv i :: rf E 21 :: st) := x_bast h 15 rfl rfl hd h0 h1 hv kk
end F0
section F1
variable {E : zE} {cc : ByteArray} {nL n : Nat} {σ : zSt} {pc : Nat} {L : List (Option Value)} {st : List Value}
theorem a1_0 (h : zN E cd1 cc nL n) (hd : decode cc pc = .ok (.getfield 7, 3)) (kk : WX E cd1 σ (pc + 3) L (rf E 0 :: st)) : WX E cd1 σ pc L (th E :: st) := x_geta h 0 (by decide) rfl q232 hd kk
theorem l1_0 (h : zN E cd1 cc nL n) (hd : decode cc pc = .ok (.iaload, 1)) {i : Int} (h0 : 0 ≤ i) (h1 : i < 4) (kk : (-2147483648 ≤ σ 0 i ∧ σ 0 i < 2147483648) → WX E cd1 σ (pc + 1) L (iv (σ 0 i) :: st)) : WX E cd1 σ pc L (iv i :: rf E 0 :: st) := x_iald h 0 rfl rfl hd h0 h1 kk
theorem w1_0 (h : zN E cd1 cc nL n) (hd : decode cc pc = .ok (.iastore, 1)) {i v : Int} (h0 : 0 ≤ i) (h1 : i < 4) (hv : -2147483648 ≤ v ∧ v < 2147483648) (kk : WX E cd1 (sset σ 0 i v) (pc + 1) L st) : WX E cd1 σ pc L (iv v :: iv i :: rf E 0 :: st) := x_iast h 0 rfl rfl hd h0 h1 hv kk
theorem g1_1 (h : zN E cd1 cc nL n) (hd : decode cc pc = .ok (.getfield 13, 3)) (kk : (-2147483648 ≤ σ 1 0 ∧ σ 1 0 < 2147483648) → WX E cd1 σ (pc + 3) L (iv (σ 1 0) :: st)) : WX E cd1 σ pc L (th E :: st) := x_geti h 1 (by decide) rfl q233 hd kk
theorem p1_1 (h : zN E cd1 cc nL n) {v : Int} (hd : decode cc pc = .ok (.putfield 13, 3)) (hv : -2147483648 ≤ v ∧ v < 2147483648) (kk : WX E cd1 (sset σ 1 0 v) (pc + 3) L st) : WX E cd1 σ pc L (iv v :: th E :: st) := x_puti (ty := .int) h 1 (by decide) rfl rfl (by decide +kernel) q233 hv rfl rfl hd kk
theorem g1_2 (h : zN E cd1 cc nL n) (hd : decode cc pc = .ok (.getfield 17, 3)) (kk : (-2147483648 ≤ σ 2 0 ∧ σ 2 0 < 2147483648) → WX E cd1 σ (pc + 3) L (iv (σ 2 0) :: st)) : WX E cd1 σ pc L (th E :: st) := x_geti h 2 (by decide) rfl q234 hd kk
theorem p1_2 (h : zN E cd1 cc nL n) {v : Int} (hd : decode cc pc = .ok (.putfield 17, 3)) (hv : -2147483648 ≤ v ∧ v < 2147483648) (kk : WX E cd1 (sset σ 2 0 v) (pc + 3) L st) : WX E cd1 σ pc L (iv v :: th E :: st) := x_puti (ty := .int) h 2 (by decide) rfl rfl (by decide +kernel) q234 hv rfl rfl hd kk
theorem g1_3 (h : zN E cd1 cc nL n) (hd : decode cc pc = .ok (.getfield 20, 3)) (kk : (-2147483648 ≤ σ 3 0 ∧ σ 3 0 < 2147483648) → WX E cd1 σ (pc + 3) L (iv (σ 3 0) :: st)) : WX E cd1 σ pc L (th E :: st) := x_geti h 3 (by decide) rfl q235 hd kk
theorem p1_3 (h : zN E cd1 cc nL n) {v : Int} (hd : decode cc pc = .ok (.putfield 20, 3)) (hv : -2147483648 ≤ v ∧ v < 2147483648) (kk : WX E cd1 (sset σ 3 0 v) (pc + 3) L st) : WX E cd1 σ pc L (iv v :: th E :: st) := x_puti (ty := .int) h 3 (by decide) rfl rfl (by decide +kernel) q235 hv rfl rfl hd kk
theorem g1_4 (h : zN E cd1 cc nL n) (hd : decode cc pc = .ok (.getfield 23, 3)) (kk : (-2147483648 ≤ σ 4 0 ∧ σ 4 0 < 2147483648) → WX E cd1 σ (pc + 3) L (iv (σ 4 0) :: st)) : WX E cd1 σ pc L (th E :: st) := x_geti h 4 (by decide) rfl q236 hd kk
theorem p1_4 (h : zN E cd1 cc nL n) {v : Int} (hd : decode cc pc = .ok (.putfield 23, 3)) (hv : -2147483648 ≤ v ∧ v < 2147483648) (kk : WX E cd1 (sset σ 4 0 v) (pc + 3) L st) : WX E cd1 σ pc L (iv v :: th E :: st) := x_puti (ty := .int) h 4 (by decide) rfl rfl (by decide +kernel) q236 hv rfl rfl hd kk
theorem a1_5 (h : zN E cd1 cc nL n) (hd : decode cc pc = .ok (.getfield 26, 3)) (kk : WX E cd1 σ (pc + 3) L (rf E 5 :: st)) : WX E cd1 σ pc L (th E :: st) := x_geta h 5 (by decide) rfl q237 hd kk
theorem l1_5 (h : zN E cd1 cc nL n) (hd : decode cc pc = .ok (.iaload, 1)) {i : Int} (h0 : 0 ≤ i) (h1 : i < 2) (kk : (-2147483648 ≤ σ 5 i ∧ σ 5 i < 2147483648) → WX E cd1 σ (pc + 1) L (iv (σ 5 i) :: st)) : WX E cd1 σ pc L (iv i :: rf E 5 :: st) := x_iald h 1 rfl rfl hd h0 h1 kk
theorem w1_5 (h : zN E cd1 cc nL n) (hd : decode cc pc = .ok (.iastore, 1)) {i v : Int} (h0 : 0 ≤ i) (h1 : i < 2) (hv : -2147483648 ≤ v ∧ v < 2147483648) (kk : WX E cd1 (sset σ 5 i v) (pc + 1) L st) : WX E cd1 σ pc L (iv v :: iv i :: rf E 5 :: st) := x_iast h 1 rfl rfl hd h0 h1 hv kk
theorem a1_6 (h : zN E cd1 cc nL n) (hd : decode cc pc = .ok (.getfield 29, 3)) (kk : WX E cd1 σ (pc + 3) L (rf E 6 :: st)) : WX E cd1 σ pc L (th E :: st) := x_geta h 6 (by decide) rfl q238 hd kk
theorem l1_6 (h : zN E cd1 cc nL n) (hd : decode cc pc = .ok (.iaload, 1)) {i : Int} (h0 : 0 ≤ i) (h1 : i < 32) (kk : (-2147483648 ≤ σ 6 i ∧ σ 6 i < 2147483648) → WX E cd1 σ (pc + 1) L (iv (σ 6 i) :: st)) : WX E cd1 σ pc L (iv i :: rf E 6 :: st) := x_iald h 2 rfl rfl hd h0 h1 kk
theorem w1_6 (h : zN E cd1 cc nL n) (hd : decode cc pc = .ok (.iastore, 1)) {i v : Int} (h0 : 0 ≤ i) (h1 : i < 32) (hv : -2147483648 ≤ v ∧ v < 2147483648) (kk : WX E cd1 (sset σ 6 i v) (pc + 1) L st) : WX E cd1 σ pc L (iv v :: iv i :: rf E 6 :: st) := x_iast h 2 rfl rfl hd h0 h1 hv kk
theorem a1_7 (h : zN E cd1 cc nL n) (hd : decode cc pc = .ok (.getfield 32, 3)) (kk : WX E cd1 σ (pc + 3) L (rf E 7 :: st)) : WX E cd1 σ pc L (th E :: st) := x_geta h 7 (by decide) rfl q239 hd kk
theorem l1_7 (h : zN E cd1 cc nL n) (hd : decode cc pc = .ok (.iaload, 1)) {i : Int} (h0 : 0 ≤ i) (h1 : i < 32) (kk : (-2147483648 ≤ σ 7 i ∧ σ 7 i < 2147483648) → WX E cd1 σ (pc + 1) L (iv (σ 7 i) :: st)) : WX E cd1 σ pc L (iv i :: rf E 7 :: st) := x_iald h 3 rfl rfl hd h0 h1 kk
theorem w1_7 (h : zN E cd1 cc nL n) (hd : decode cc pc = .ok (.iastore, 1)) {i v : Int} (h0 : 0 ≤ i) (h1 : i < 32) (hv : -2147483648 ≤ v ∧ v < 2147483648) (kk : WX E cd1 (sset σ 7 i v) (pc + 1) L st) : WX E cd1 σ pc L (iv v :: iv i :: rf E 7 :: st) := x_iast h 3 rfl rfl hd h0 h1 hv kk
theorem a1_8 (h : zN E cd1 cc nL n) (hd : decode cc pc = .ok (.getfield 35, 3)) (kk : WX E cd1 σ (pc + 3) L (rf E 8 :: st)) : WX E cd1 σ pc L (th E :: st) := x_geta h 8 (by decide) rfl q240 hd kk
theorem l1_8 (h : zN E cd1 cc nL n) (hd : decode cc pc = .ok (.iaload, 1)) {i : Int} (h0 : 0 ≤ i) (h1 : i < 32) (kk : (-2147483648 ≤ σ 8 i ∧ σ 8 i < 2147483648) → WX E cd1 σ (pc + 1) L (iv (σ 8 i) :: st)) : WX E cd1 σ pc L (iv i :: rf E 8 :: st) := x_iald h 4 rfl rfl hd h0 h1 kk
theorem w1_8 (h : zN E cd1 cc nL n) (hd : decode cc pc = .ok (.iastore, 1)) {i v : Int} (h0 : 0 ≤ i) (h1 : i < 32) (hv : -2147483648 ≤ v ∧ v < 2147483648) (kk : WX E cd1 (sset σ 8 i v) (pc + 1) L st) : WX E cd1 σ pc L (iv v :: iv i :: rf E 8 :: st) := x_iast h 4 rfl rfl hd h0 h1 hv kk
theorem a1_9 (h : zN E cd1 cc nL n) (hd : decode cc pc = .ok (.getfield 38, 3)) (kk : WX E cd1 σ (pc + 3) L (rf E 9 :: st)) : WX E cd1 σ pc L (th E :: st) := x_geta h 9 (by decide) rfl q241 hd kk
theorem l1_9 (h : zN E cd1 cc nL n) (hd : decode cc pc = .ok (.iaload, 1)) {i : Int} (h0 : 0 ≤ i) (h1 : i < 32) (kk : (-2147483648 ≤ σ 9 i ∧ σ 9 i < 2147483648) → WX E cd1 σ (pc + 1) L (iv (σ 9 i) :: st)) : WX E cd1 σ pc L (iv i :: rf E 9 :: st) := x_iald h 5 rfl rfl hd h0 h1 kk
theorem w1_9 (h : zN E cd1 cc nL n) (hd : decode cc pc = .ok (.iastore, 1)) {i v : Int} (h0 : 0 ≤ i) (h1 : i < 32) (hv : -2147483648 ≤ v ∧ v < 2147483648) (kk : WX E cd1 (sset σ 9 i v) (pc + 1) L st) : WX E cd1 σ pc L (iv v :: iv i :: rf E 9 :: st) := x_iast h 5 rfl rfl hd h0 h1 hv kk
theorem a1_10 (h : zN E cd1 cc nL n) (hd : decode cc pc = .ok (.getfield 41, 3)) (kk : WX E cd1 σ (pc + 3) L (rf E 10 :: st)) : WX E cd1 σ pc L (th E :: st) := x_geta h 10 (by decide) rfl q242 hd kk
theorem l1_10 (h : zN E cd1 cc nL n) (hd : decode cc pc = .ok (.iaload, 1)) {i : Int} (h0 : 0 ≤ i) (h1 : i < 34) (kk : (-2147483648 ≤ σ 10 i ∧ σ 10 i < 2147483648) → WX E cd1 σ (pc + 1) L (iv (σ 10 i) :: st)) : WX E cd1 σ pc L (iv i :: rf E 10 :: st) := x_iald h 6 rfl rfl hd h0 h1 kk
theorem w1_10 (h : zN E cd1 cc nL n) (hd : decode cc pc = .ok (.iastore, 1)) {i v : Int} (h0 : 0 ≤ i) (h1 : i < 34) (hv : -2147483648 ≤ v ∧ v < 2147483648) (kk : WX E cd1 (sset σ 10 i v) (pc + 1) L st) : WX E cd1 σ pc L (iv v :: iv i :: rf E 10 :: st) := x_iast h 6 rfl rfl hd h0 h1 hv kk
theorem a1_11 (h : zN E cd1 cc nL n) (hd : decode cc pc = .ok (.getfield 44, 3)) (kk : WX E cd1 σ (pc + 3) L (rf E 11 :: st)) : WX E cd1 σ pc L (th E :: st) := x_geta h 11 (by decide) rfl q243 hd kk
theorem l1_11 (h : zN E cd1 cc nL n) (hd : decode cc pc = .ok (.iaload, 1)) {i : Int} (h0 : 0 ≤ i) (h1 : i < 34) (kk : (-2147483648 ≤ σ 11 i ∧ σ 11 i < 2147483648) → WX E cd1 σ (pc + 1) L (iv (σ 11 i) :: st)) : WX E cd1 σ pc L (iv i :: rf E 11 :: st) := x_iald h 7 rfl rfl hd h0 h1 kk
theorem w1_11 (h : zN E cd1 cc nL n) (hd : decode cc pc = .ok (.iastore, 1)) {i v : Int} (h0 : 0 ≤ i) (h1 : i < 34) (hv : -2147483648 ≤ v ∧ v < 2147483648) (kk : WX E cd1 (sset σ 11 i v) (pc + 1) L st) : WX E cd1 σ pc L (iv v :: iv i :: rf E 11 :: st) := x_iast h 7 rfl rfl hd h0 h1 hv kk
theorem a1_12 (h : zN E cd1 cc nL n) (hd : decode cc pc = .ok (.getfield 47, 3)) (kk : WX E cd1 σ (pc + 3) L (rf E 12 :: st)) : WX E cd1 σ pc L (th E :: st) := x_geta h 12 (by decide) rfl q244 hd kk
theorem l1_12 (h : zN E cd1 cc nL n) (hd : decode cc pc = .ok (.iaload, 1)) {i : Int} (h0 : 0 ≤ i) (h1 : i < 34) (kk : (-2147483648 ≤ σ 12 i ∧ σ 12 i < 2147483648) → WX E cd1 σ (pc + 1) L (iv (σ 12 i) :: st)) : WX E cd1 σ pc L (iv i :: rf E 12 :: st) := x_iald h 8 rfl rfl hd h0 h1 kk
theorem w1_12 (h : zN E cd1 cc nL n) (hd : decode cc pc = .ok (.iastore, 1)) {i v : Int} (h0 : 0 ≤ i) (h1 : i < 34) (hv : -2147483648 ≤ v ∧ v < 2147483648) (kk : WX E cd1 (sset σ 12 i v) (pc + 1) L st) : WX E cd1 σ pc L (iv v :: iv i :: rf E 12 :: st) := x_iast h 8 rfl rfl hd h0 h1 hv kk
end F1
theorem hw0_addEntry : GoodIn lw_all (wsV cd0.nm 68 cd0.nm yX0_addEntry (ws_ yX0_addEntry cX0_addEntry 5 (some .int))) := lw_V q116 q118 qs0 q28 q119
theorem hy0_addEntry : yX0_addEntry.cls = cd0.nm ∧ yX0_addEntry.cls ≠ "java/lang/invoke/MethodHandle" ∧ yX0_addEntry.cls ≠ "java/lang/invoke/VarHandle" ∧ (parseMethodDescriptor yX0_addEntry.desc).map (fun d => d.parameters.length) = some 3 := by decide +kernel
theorem hw0_entryWith : GoodIn lw_all (wsV cd0.nm 80 cd0.nm yX0_entryWith (ws_ yX0_entryWith cX0_entryWith 3 (some .int))) := lw_V q130 q132 qs1 q28 q133
theorem hy0_entryWith : yX0_entryWith.cls = cd0.nm ∧ yX0_entryWith.cls ≠ "java/lang/invoke/MethodHandle" ∧ yX0_entryWith.cls ≠ "java/lang/invoke/VarHandle" ∧ (parseMethodDescriptor yX0_entryWith.desc).map (fun d => d.parameters.length) = some 1 := by decide +kernel
theorem hw0_longestPrefix : GoodIn lw_all (wsV cd0.nm 84 cd0.nm yX0_longestPrefix (ws_ yX0_longestPrefix cX0_longestPrefix 4 (some .int))) := lw_V q150 q152 qs2 q28 q153
theorem hy0_longestPrefix : yX0_longestPrefix.cls = cd0.nm ∧ yX0_longestPrefix.cls ≠ "java/lang/invoke/MethodHandle" ∧ yX0_longestPrefix.cls ≠ "java/lang/invoke/VarHandle" ∧ (parseMethodDescriptor yX0_longestPrefix.desc).map (fun d => d.parameters.length) = some 0 := by decide +kernel
theorem hw0_makeTree : GoodIn lw_all (wsV cd0.nm 111 cd0.nm yX0_makeTree (ws_ yX0_makeTree cX0_makeTree 3 none)) := lw_V q154 q156 qs3 q28 q157
theorem hy0_makeTree : yX0_makeTree.cls = cd0.nm ∧ yX0_makeTree.cls ≠ "java/lang/invoke/MethodHandle" ∧ yX0_makeTree.cls ≠ "java/lang/invoke/VarHandle" ∧ (parseMethodDescriptor yX0_makeTree.desc).map (fun d => d.parameters.length) = some 0 := by decide +kernel
theorem hw0_newNode : GoodIn lw_all (wsV cd0.nm 104 cd0.nm yX0_newNode (ws_ yX0_newNode cX0_newNode 2 (some .int))) := lw_V q158 q160 qs4 q28 q161
theorem hy0_newNode : yX0_newNode.cls = cd0.nm ∧ yX0_newNode.cls ≠ "java/lang/invoke/MethodHandle" ∧ yX0_newNode.cls ≠ "java/lang/invoke/VarHandle" ∧ (parseMethodDescriptor yX0_newNode.desc).map (fun d => d.parameters.length) = some 0 := by decide +kernel
theorem hw0_nodeFor : GoodIn lw_all (wsV cd0.nm 107 cd0.nm yX0_nodeFor (ws_ yX0_nodeFor cX0_nodeFor 7 (some .int))) := lw_V q162 q164 qs5 q28 q165
theorem hy0_nodeFor : yX0_nodeFor.cls = cd0.nm ∧ yX0_nodeFor.cls ≠ "java/lang/invoke/MethodHandle" ∧ yX0_nodeFor.cls ≠ "java/lang/invoke/VarHandle" ∧ (parseMethodDescriptor yX0_nodeFor.desc).map (fun d => d.parameters.length) = some 2 := by decide +kernel
theorem hw0_greatestPriority : GoodIn lw_all (wsV cd0.nm 88 cd0.nm yX0_greatestPriority (ws_ yX0_greatestPriority cX0_greatestPriority 6 (some .int))) := lw_V q166 q168 qs6 q28 q169
theorem hy0_greatestPriority : yX0_greatestPriority.cls = cd0.nm ∧ yX0_greatestPriority.cls ≠ "java/lang/invoke/MethodHandle" ∧ yX0_greatestPriority.cls ≠ "java/lang/invoke/VarHandle" ∧ (parseMethodDescriptor yX0_greatestPriority.desc).map (fun d => d.parameters.length) = some 0 := by decide +kernel
theorem hw0_makeGroups : GoodIn lw_all (wsV cd0.nm 140 cd0.nm yX0_makeGroups (ws_ yX0_makeGroups cX0_makeGroups 2 none)) := lw_V q170 q172 qs7 q28 q173
theorem hy0_makeGroups : yX0_makeGroups.cls = cd0.nm ∧ yX0_makeGroups.cls ≠ "java/lang/invoke/MethodHandle" ∧ yX0_makeGroups.cls ≠ "java/lang/invoke/VarHandle" ∧ (parseMethodDescriptor yX0_makeGroups.desc).map (fun d => d.parameters.length) = some 0 := by decide +kernel
theorem hw0_noteGroup : GoodIn lw_all (wsV cd0.nm 117 cd0.nm yX0_noteGroup (ws_ yX0_noteGroup cX0_noteGroup 3 none)) := lw_V q174 q176 qs8 q28 q177
theorem hy0_noteGroup : yX0_noteGroup.cls = cd0.nm ∧ yX0_noteGroup.cls ≠ "java/lang/invoke/MethodHandle" ∧ yX0_noteGroup.cls ≠ "java/lang/invoke/VarHandle" ∧ (parseMethodDescriptor yX0_noteGroup.desc).map (fun d => d.parameters.length) = some 1 := by decide +kernel
theorem hw0_groupOf : GoodIn lw_all (wsV cd0.nm 127 cd0.nm yX0_groupOf (ws_ yX0_groupOf cX0_groupOf 3 (some .int))) := lw_V q178 q180 qs9 q28 q181
theorem hy0_groupOf : yX0_groupOf.cls = cd0.nm ∧ yX0_groupOf.cls ≠ "java/lang/invoke/MethodHandle" ∧ yX0_groupOf.cls ≠ "java/lang/invoke/VarHandle" ∧ (parseMethodDescriptor yX0_groupOf.desc).map (fun d => d.parameters.length) = some 1 := by decide +kernel
theorem hw0_priorityOf : GoodIn lw_all (wsV cd0.nm 130 cd0.nm yX0_priorityOf (ws_ yX0_priorityOf cX0_priorityOf 2 (some .int))) := lw_V q182 q184 qs10 q28 q185
theorem hy0_priorityOf : yX0_priorityOf.cls = cd0.nm ∧ yX0_priorityOf.cls ≠ "java/lang/invoke/MethodHandle" ∧ yX0_priorityOf.cls ≠ "java/lang/invoke/VarHandle" ∧ (parseMethodDescriptor yX0_priorityOf.desc).map (fun d => d.parameters.length) = some 1 := by decide +kernel
theorem hw0_sortGroups : GoodIn lw_all (wsV cd0.nm 121 cd0.nm yX0_sortGroups (ws_ yX0_sortGroups cX0_sortGroups 5 none)) := lw_V q186 q188 qs11 q28 q189
theorem hy0_sortGroups : yX0_sortGroups.cls = cd0.nm ∧ yX0_sortGroups.cls ≠ "java/lang/invoke/MethodHandle" ∧ yX0_sortGroups.cls ≠ "java/lang/invoke/VarHandle" ∧ (parseMethodDescriptor yX0_sortGroups.desc).map (fun d => d.parameters.length) = some 0 := by decide +kernel
theorem hw0_hang : GoodIn lw_all (wsV cd0.nm 124 cd0.nm yX0_hang (ws_ yX0_hang cX0_hang 5 none)) := lw_V q190 q192 qs12 q28 q193
theorem hy0_hang : yX0_hang.cls = cd0.nm ∧ yX0_hang.cls ≠ "java/lang/invoke/MethodHandle" ∧ yX0_hang.cls ≠ "java/lang/invoke/VarHandle" ∧ (parseMethodDescriptor yX0_hang.desc).map (fun d => d.parameters.length) = some 1 := by decide +kernel
theorem hw0_slotOf : GoodIn lw_all (wsV cd0.nm 133 cd0.nm yX0_slotOf (ws_ yX0_slotOf cX0_slotOf 2 (some .int))) := lw_V q194 q196 qs13 q28 q197
theorem hy0_slotOf : yX0_slotOf.cls = cd0.nm ∧ yX0_slotOf.cls ≠ "java/lang/invoke/MethodHandle" ∧ yX0_slotOf.cls ≠ "java/lang/invoke/VarHandle" ∧ (parseMethodDescriptor yX0_slotOf.desc).map (fun d => d.parameters.length) = some 1 := by decide +kernel
theorem hw0_precedes : GoodIn lw_all (wsV cd0.nm 136 cd0.nm yX0_precedes (ws_ yX0_precedes cX0_precedes 5 (some .boolean))) := lw_V q198 q200 qs14 q28 q201
theorem hy0_precedes : yX0_precedes.cls = cd0.nm ∧ yX0_precedes.cls ≠ "java/lang/invoke/MethodHandle" ∧ yX0_precedes.cls ≠ "java/lang/invoke/VarHandle" ∧ (parseMethodDescriptor yX0_precedes.desc).map (fun d => d.parameters.length) = some 2 := by decide +kernel
theorem hw0_perform : GoodIn lw_all (wsV cd0.nm 91 cd0.nm yX0_perform (ws_ yX0_perform cX0_perform 5 (some .boolean))) := lw_V q206 q208 qs15 q28 q209
theorem hy0_perform : yX0_perform.cls = cd0.nm ∧ yX0_perform.cls ≠ "java/lang/invoke/MethodHandle" ∧ yX0_perform.cls ≠ "java/lang/invoke/VarHandle" ∧ (parseMethodDescriptor yX0_perform.desc).map (fun d => d.parameters.length) = some 1 := by decide +kernel
theorem hw0_prefixesOnWay : GoodIn lw_all (wsV cd0.nm 95 cd0.nm yX0_prefixesOnWay (ws_ yX0_prefixesOnWay cX0_prefixesOnWay 4 (some .int))) := lw_V q214 q216 qs16 q28 q217
theorem hy0_prefixesOnWay : yX0_prefixesOnWay.cls = cd0.nm ∧ yX0_prefixesOnWay.cls ≠ "java/lang/invoke/MethodHandle" ∧ yX0_prefixesOnWay.cls ≠ "java/lang/invoke/VarHandle" ∧ (parseMethodDescriptor yX0_prefixesOnWay.desc).map (fun d => d.parameters.length) = some 0 := by decide +kernel
theorem hw0_maskedMatching : GoodIn lw_all (wsV cd0.nm 98 cd0.nm yX0_maskedMatching (ws_ yX0_maskedMatching cX0_maskedMatching 6 (some .int))) := lw_V q218 q220 qs17 q28 q221
theorem hy0_maskedMatching : yX0_maskedMatching.cls = cd0.nm ∧ yX0_maskedMatching.cls ≠ "java/lang/invoke/MethodHandle" ∧ yX0_maskedMatching.cls ≠ "java/lang/invoke/VarHandle" ∧ (parseMethodDescriptor yX0_maskedMatching.desc).map (fun d => d.parameters.length) = some 0 := by decide +kernel
theorem hw1_isByte : GoodIn lw_all (wsV cd1.nm 50 cd1.nm yX1_isByte (ws_ yX1_isByte cX1_isByte 2 (some .boolean))) := lw_V q276 q278 qs18 q29 q279
theorem hy1_isByte : yX1_isByte.cls = cd1.nm ∧ yX1_isByte.cls ≠ "java/lang/invoke/MethodHandle" ∧ yX1_isByte.cls ≠ "java/lang/invoke/VarHandle" ∧ (parseMethodDescriptor yX1_isByte.desc).map (fun d => d.parameters.length) = some 1 := by decide +kernel
theorem hw1_add : GoodIn lw_all (wsV cd1.nm 58 cd1.nm yX1_add (ws_ yX1_add cX1_add 6 (some .int))) := lw_V q284 q286 qs19 q29 q287
theorem hy1_add : yX1_add.cls = cd1.nm ∧ yX1_add.cls ≠ "java/lang/invoke/MethodHandle" ∧ yX1_add.cls ≠ "java/lang/invoke/VarHandle" ∧ (parseMethodDescriptor yX1_add.desc).map (fun d => d.parameters.length) = some 4 := by decide +kernel
theorem hw1_giveAction : GoodIn lw_all (wsV cd1.nm 54 cd1.nm yX1_giveAction (ws_ yX1_giveAction cX1_giveAction 2 none)) := lw_V q288 q290 qs20 q29 q291
theorem hy1_giveAction : yX1_giveAction.cls = cd1.nm ∧ yX1_giveAction.cls ≠ "java/lang/invoke/MethodHandle" ∧ yX1_giveAction.cls ≠ "java/lang/invoke/VarHandle" ∧ (parseMethodDescriptor yX1_giveAction.desc).map (fun d => d.parameters.length) = some 1 := by decide +kernel
theorem hw1_find : GoodIn lw_all (wsV cd1.nm 63 cd1.nm yX1_find (ws_ yX1_find cX1_find 3 (some .int))) := lw_V q301 q303 qs21 q29 q304
theorem hy1_find : yX1_find.cls = cd1.nm ∧ yX1_find.cls ≠ "java/lang/invoke/MethodHandle" ∧ yX1_find.cls ≠ "java/lang/invoke/VarHandle" ∧ (parseMethodDescriptor yX1_find.desc).map (fun d => d.parameters.length) = some 1 := by decide +kernel
theorem hw1_shift : GoodIn lw_all (wsV cd1.nm 67 cd1.nm yX1_shift (ws_ yX1_shift cX1_shift 2 none)) := lw_V q305 q307 qs22 q29 q308
theorem hy1_shift : yX1_shift.cls = cd1.nm ∧ yX1_shift.cls ≠ "java/lang/invoke/MethodHandle" ∧ yX1_shift.cls ≠ "java/lang/invoke/VarHandle" ∧ (parseMethodDescriptor yX1_shift.desc).map (fun d => d.parameters.length) = some 1 := by decide +kernel
theorem hw1_isTable : GoodIn lw_all (wsV cd1.nm 70 cd1.nm yX1_isTable (ws_ yX1_isTable cX1_isTable 2 (some .boolean))) := lw_V q313 q315 qs23 q29 q316
theorem hy1_isTable : yX1_isTable.cls = cd1.nm ∧ yX1_isTable.cls ≠ "java/lang/invoke/MethodHandle" ∧ yX1_isTable.cls ≠ "java/lang/invoke/VarHandle" ∧ (parseMethodDescriptor yX1_isTable.desc).map (fun d => d.parameters.length) = some 1 := by decide +kernel
theorem hw1_taken : GoodIn lw_all (wsV cd1.nm 77 cd1.nm yX1_taken (ws_ yX1_taken cX1_taken 5 (some .int))) := lw_V q329 q331 qs24 q29 q332
theorem hy1_taken : yX1_taken.cls = cd1.nm ∧ yX1_taken.cls ≠ "java/lang/invoke/MethodHandle" ∧ yX1_taken.cls ≠ "java/lang/invoke/VarHandle" ∧ (parseMethodDescriptor yX1_taken.desc).map (fun d => d.parameters.length) = some 2 := by decide +kernel
theorem hw1_fits : GoodIn lw_all (wsV cd1.nm 73 cd1.nm yX1_fits (ws_ yX1_fits cX1_fits 4 (some .boolean))) := lw_V q333 q335 qs25 q29 q336
theorem hy1_fits : yX1_fits.cls = cd1.nm ∧ yX1_fits.cls ≠ "java/lang/invoke/MethodHandle" ∧ yX1_fits.cls ≠ "java/lang/invoke/VarHandle" ∧ (parseMethodDescriptor yX1_fits.desc).map (fun d => d.parameters.length) = some 2 := by decide +kernel
theorem hw1_act : GoodIn lw_all (wsV cd1.nm 81 cd1.nm yX1_act (ws_ yX1_act cX1_act 4 (some .boolean))) := lw_V q341 q343 qs26 q29 q344
theorem hy1_act : yX1_act.cls = cd1.nm ∧ yX1_act.cls ≠ "java/lang/invoke/MethodHandle" ∧ yX1_act.cls ≠ "java/lang/invoke/VarHandle" ∧ (parseMethodDescriptor yX1_act.desc).map (fun d => d.parameters.length) = some 1 := by decide +kernel
end
section
/-! MatchAction, small methods. σ: 0 draft 1 nextHandle 2 defaults 3 packet 4 entryCount 5 handles 6 actions 7 keys 8 widths 9 treeReady 10 nodeCount 11 child 12 endsHere 13 endCount 14 partNode 15 partDepth 16 groupsReady 17 groupCount 18 groupMask 19 groupTop 20 listFirst 21 listNext -/
theorem lnd_nn (a b : Int) : 0 ≤ lnd a b := Int.natCast_nonneg _
theorem lnd_le {a b : Int} (hb : 0 ≤ b) : lnd a b ≤ b := by
  unfold lnd
  have h : a.toNat &&& b.toNat ≤ b.toNat := Nat.and_le_right
  omega
theorem lnd_hi {a : Int} (h0 : 0 ≤ a) (h1 : a ≤ 65535) : lnd a 65280 = a / 256 * 256 := by
  obtain ⟨x, rfl⟩ : ∃ x : Nat, a = x := ⟨a.toNat, by omega⟩
  have h : (x &&& 65280) = x / 256 * 256 := by
    apply Nat.eq_of_testBit_eq
    intro i
    rw [Nat.testBit_and, show x / 256 * 256 = x / 2 ^ 8 * 2 ^ 8 from rfl, Nat.testBit_mul_two_pow, Nat.testBit_div_two_pow]
    by_cases hi : i < 16
    · have h2 : ∀ j, j < 16 → (65280 : Nat).testBit j = decide (8 ≤ j) := by decide
      rw [h2 i hi]
      by_cases h8 : 8 ≤ i
      · simp [h8, Nat.sub_add_cancel]
      · simp [h8]
    · have hx : x.testBit i = false := Nat.testBit_lt_two_pow (Nat.lt_of_lt_of_le (show x < 2 ^ 16 by omega) (Nat.pow_le_pow_right (by decide) (by omega)))
      have h8 : 8 ≤ i := by omega
      simp [hx, Nat.sub_add_cancel h8]
  unfold lnd
  show ((x &&& 65280 : Nat) : Int) = _
  rw [h]
  omega
def slt (v : Int) : Int := lxr (lxr (lxr v (v / 8)) (v / 256)) (v / 2048) % 8
theorem slt_in (v : Int) : 0 ≤ slt v ∧ slt v < 8 := by unfold slt; omega
theorem lxr_r (a b : Int) : -2147483648 ≤ lxr a b ∧ lxr a b < 2147483648 := z_rx _
/-- addEntry's new state -/
def addE (σ : zSt) (t e key w : Int) : zSt := sset (sset (sset (sset (sset (sset σ 5 e (σ 1 0)) 6 e (σ 0 0)) 7 e key) 8 e w) 4 t (σ 4 t + 1)) 1 0 (σ 1 0 + 1)
/-- remove's new state -/
def remE (σ : zSt) (e : Int) : zSt := sset (sset (sset (sset σ 5 e (-1)) 4 (e / 16) (σ 4 (e / 16) - 1)) 9 0 0) 16 0 0
/-- perform's new state -/
def perf (σ : zSt) (a : Int) : zSt := if a % 8 = 0 then sset σ 3 (a / 8 % 4) (a / 32) else if a % 8 = 1 then sset σ 3 (a / 8 % 4) ((σ 3 (a / 8 % 4) + a / 32) % 256) else if a % 8 = 2 then sset σ 3 (a / 8 % 4) (σ 3 (a / 32 % 4)) else σ
/-- newNode's new state -/
def nwN (σ : zSt) : zSt := sset (sset (sset (sset (sset σ 10 0 (σ 10 0 + 1)) 11 (2 * σ 10 0) (-1)) 11 (2 * σ 10 0 + 1) (-1)) 12 (σ 10 0) (-1)) 13 (σ 10 0) 0
set_option maxHeartbeats 4000000 in
theorem m0_action (σ : zSt) (k f n : Int) (hk : -2147483648 ≤ k ∧ k < 2147483648) (hf : -2147483648 ≤ f ∧ f < 2147483648) (hn : -2147483648 ≤ n ∧ n < 2147483648) : Cx cd0 yX0_action cX0_action 4 .boolean 0 σ [k, f, n] (fun z u => (0 ≤ k ∧ k ≤ 4 ∧ 0 ≤ f ∧ f ≤ 3 ∧ 0 ≤ n ∧ n ≤ 255 ∧ z = 1 ∧ u = sset σ 0 0 (k + f * 8 + n * 32)) ∨ (¬ (0 ≤ k ∧ k ≤ 4 ∧ 0 ≤ f ∧ f ≤ 3 ∧ 0 ≤ n ∧ n ≤ 255) ∧ z = 0 ∧ u = σ)) := by
  refine Cx_of wf0 (by decide +kernel) rfl (Nat.le_of_ble_eq_true rfl) (Or.inr ⟨rfl, (fun z u h => by rcases h with h | h <;> omega)⟩) (fun th_ => [some th_, some (iv k), some (iv f), some (iv n)]) (fun _ => rfl) ?_
  intro E hN hret hR0
  refine x_iloadn hN dX0_action_0 rfl ?_
  refine x_iflt hN 29 dX0_action_1 (by decide) (by omega) (fun h1 => ?_) (fun h1 => ?_)
  · refine x_iconst hN dX0_action_29 ?_
    exact hret _ _ _ _ dX0_action_30 (by omega) (Or.inr ⟨by omega, rfl, rfl⟩)
  · refine x_iloadn hN dX0_action_4 rfl ?_
    refine x_iconst hN dX0_action_5 ?_
    refine x_cmpgt hN 29 dX0_action_6 (by decide) (by omega) (by omega) (fun h6 => ?_) (fun h6 => ?_)
    · refine x_iconst hN dX0_action_29 ?_
      exact hret _ _ _ _ dX0_action_30 (by omega) (Or.inr ⟨by omega, rfl, rfl⟩)
    · refine x_iloadn hN dX0_action_9 rfl ?_
      refine x_iflt hN 29 dX0_action_10 (by decide) (by omega) (fun h10 => ?_) (fun h10 => ?_)
      · refine x_iconst hN dX0_action_29 ?_
        exact hret _ _ _ _ dX0_action_30 (by omega) (Or.inr ⟨by omega, rfl, rfl⟩)
      · refine x_iloadn hN dX0_action_13 rfl ?_
        refine x_iconst hN dX0_action_14 ?_
        refine x_cmpgt hN 29 dX0_action_15 (by decide) (by omega) (by omega) (fun h15 => ?_) (fun h15 => ?_)
        · refine x_iconst hN dX0_action_29 ?_
          exact hret _ _ _ _ dX0_action_30 (by omega) (Or.inr ⟨by omega, rfl, rfl⟩)
        · refine x_iloadn hN dX0_action_18 rfl ?_
          refine x_iflt hN 29 dX0_action_19 (by decide) (by omega) (fun h19 => ?_) (fun h19 => ?_)
          · refine x_iconst hN dX0_action_29 ?_
            exact hret _ _ _ _ dX0_action_30 (by omega) (Or.inr ⟨by omega, rfl, rfl⟩)
          · refine x_iloadn hN dX0_action_22 rfl ?_
            refine x_sipush hN dX0_action_23 (by decide) ?_
            refine x_cmple hN 31 dX0_action_26 (by decide) (by omega) (by omega) (fun h26 => ?_) (fun h26 => ?_)
            · refine x_aload hN dX0_action_31 rfl ?_
              refine x_iloadn hN dX0_action_32 rfl ?_
              refine x_iloadn hN dX0_action_33 rfl ?_
              refine x_iconst hN dX0_action_34 ?_
              refine x_ishl hN dX0_action_35 8 (by decide) (by omega) (by omega) (by omega) ?_
              refine x_ior2 (m := 8) hN dX0_action_36 3 (by decide) (by omega) (by omega) (by omega) (by omega) ?_
              refine x_iloadn hN dX0_action_37 rfl ?_
              refine x_iconst hN dX0_action_38 ?_
              refine x_ishl hN dX0_action_39 32 (by decide) (by omega) (by omega) (by omega) ?_
              refine x_ior2 (m := 32) hN dX0_action_40 5 (by decide) (by omega) (by omega) (by omega) (by omega) ?_
              refine p0_0 hN dX0_action_41 (by omega) ?_
              refine x_iconst hN dX0_action_44 ?_
              exact hret _ _ _ _ dX0_action_45 (by omega) (Or.inl ⟨by omega, by omega, by omega, by omega, by omega, by omega, rfl, rfl⟩)
            · refine x_iconst hN dX0_action_29 ?_
              exact hret _ _ _ _ dX0_action_30 (by omega) (Or.inr ⟨by omega, rfl, rfl⟩)
set_option maxHeartbeats 4000000 in
theorem m0_get (σ : zSt) (f : Int) (hf : -2147483648 ≤ f ∧ f < 2147483648) : Cx cd0 yX0_get cX0_get 2 .int 0 σ [f] (fun z u => u = σ ∧ ((0 ≤ f ∧ f ≤ 3 ∧ z = σ 3 f) ∨ (¬ (0 ≤ f ∧ f ≤ 3) ∧ z = -1))) := by
  refine Cx_of wf0 (by decide +kernel) rfl (Nat.le_of_ble_eq_true rfl) (Or.inl rfl) (fun th_ => [some th_, some (iv f)]) (fun _ => rfl) ?_
  intro E hN hret hR0
  refine x_iloadn hN dX0_get_0 rfl ?_
  refine x_iflt hN 9 dX0_get_1 (by decide) (by omega) (fun h1 => ?_) (fun h1 => ?_)
  · refine x_iconst hN dX0_get_9 ?_
    refine x_goto hN 19 dX0_get_10 (by decide) ?_
    exact hret _ _ _ _ dX0_get_19 (by omega) ⟨rfl, by first | exact Or.inr ⟨by omega, rfl⟩ | exact Or.inl ⟨by omega, by omega, rfl⟩⟩
  · refine x_iloadn hN dX0_get_4 rfl ?_
    refine x_iconst hN dX0_get_5 ?_
    refine x_cmple hN 13 dX0_get_6 (by decide) (by omega) (by omega) (fun h6 => ?_) (fun h6 => ?_)
    · refine x_aload hN dX0_get_13 rfl ?_
      refine a0_3 hN dX0_get_14 ?_
      refine x_iloadn hN dX0_get_17 rfl ?_
      refine l0_3 hN dX0_get_18 (by omega) (by omega) (fun hr18 => ?_)
      exact hret _ _ _ _ dX0_get_19 (by omega) ⟨rfl, by first | exact Or.inr ⟨by omega, rfl⟩ | exact Or.inl ⟨by omega, by omega, rfl⟩⟩
    · refine x_iconst hN dX0_get_9 ?_
      refine x_goto hN 19 dX0_get_10 (by decide) ?_
      exact hret _ _ _ _ dX0_get_19 (by omega) ⟨rfl, by first | exact Or.inr ⟨by omega, rfl⟩ | exact Or.inl ⟨by omega, by omega, rfl⟩⟩
set_option maxHeartbeats 4000000 in
theorem m0_field (σ : zSt) (f v : Int) (hf : -2147483648 ≤ f ∧ f < 2147483648) (hv : -2147483648 ≤ v ∧ v < 2147483648) : Cx cd0 yX0_field cX0_field 3 .boolean 0 σ [f, v] (fun z u => (0 ≤ f ∧ f ≤ 3 ∧ 0 ≤ v ∧ v ≤ 255 ∧ z = 1 ∧ u = sset σ 3 f v) ∨ (¬ (0 ≤ f ∧ f ≤ 3 ∧ 0 ≤ v ∧ v ≤ 255) ∧ z = 0 ∧ u = σ)) := by
  refine Cx_of wf0 (by decide +kernel) rfl (Nat.le_of_ble_eq_true rfl) (Or.inr ⟨rfl, (fun z u h => by rcases h with h | h <;> omega)⟩) (fun th_ => [some th_, some (iv f), some (iv v)]) (fun _ => rfl) ?_
  intro E hN hret hR0
  refine x_iloadn hN dX0_field_0 rfl ?_
  refine x_iflt hN 20 dX0_field_1 (by decide) (by omega) (fun h1 => ?_) (fun h1 => ?_)
  · refine x_iconst hN dX0_field_20 ?_
    exact hret _ _ _ _ dX0_field_21 (by omega) (Or.inr ⟨by omega, rfl, rfl⟩)
  · refine x_iloadn hN dX0_field_4 rfl ?_
    refine x_iconst hN dX0_field_5 ?_
    refine x_cmpgt hN 20 dX0_field_6 (by decide) (by omega) (by omega) (fun h6 => ?_) (fun h6 => ?_)
    · refine x_iconst hN dX0_field_20 ?_
      exact hret _ _ _ _ dX0_field_21 (by omega) (Or.inr ⟨by omega, rfl, rfl⟩)
    · refine x_iloadn hN dX0_field_9 rfl ?_
      refine x_iflt hN 20 dX0_field_10 (by decide) (by omega) (fun h10 => ?_) (fun h10 => ?_)
      · refine x_iconst hN dX0_field_20 ?_
        exact hret _ _ _ _ dX0_field_21 (by omega) (Or.inr ⟨by omega, rfl, rfl⟩)
      · refine x_iloadn hN dX0_field_13 rfl ?_
        refine x_sipush hN dX0_field_14 (by decide) ?_
        refine x_cmple hN 22 dX0_field_17 (by decide) (by omega) (by omega) (fun h17 => ?_) (fun h17 => ?_)
        · refine x_aload hN dX0_field_22 rfl ?_
          refine a0_3 hN dX0_field_23 ?_
          refine x_iloadn hN dX0_field_26 rfl ?_
          refine x_iloadn hN dX0_field_27 rfl ?_
          refine w0_3 hN dX0_field_28 (by omega) (by omega) (by omega) ?_
          refine x_iconst hN dX0_field_29 ?_
          exact hret _ _ _ _ dX0_field_30 (by omega) (Or.inl ⟨by omega, by omega, by omega, by omega, rfl, rfl⟩)
        · refine x_iconst hN dX0_field_20 ?_
          exact hret _ _ _ _ dX0_field_21 (by omega) (Or.inr ⟨by omega, rfl, rfl⟩)
set_option maxHeartbeats 4000000 in
theorem m0_setDefault (σ : zSt) (t : Int) (ht : -2147483648 ≤ t ∧ t < 2147483648) : Cx cd0 yX0_setDefault cX0_setDefault 2 .boolean 0 σ [t] (fun z u => (0 ≤ t ∧ t ≤ 1 ∧ z = 1 ∧ u = sset σ 2 t (σ 0 0)) ∨ (¬ (0 ≤ t ∧ t ≤ 1) ∧ z = 0 ∧ u = σ)) := by
  refine Cx_of wf0 (by decide +kernel) rfl (Nat.le_of_ble_eq_true rfl) (Or.inr ⟨rfl, (fun z u h => by rcases h with h | h <;> omega)⟩) (fun th_ => [some th_, some (iv t)]) (fun _ => rfl) ?_
  intro E hN hret hR0
  refine x_iloadn hN dX0_setDefault_0 rfl ?_
  refine x_iflt hN 9 dX0_setDefault_1 (by decide) (by omega) (fun h1 => ?_) (fun h1 => ?_)
  · refine x_iconst hN dX0_setDefault_9 ?_
    exact hret _ _ _ _ dX0_setDefault_10 (by omega) (Or.inr ⟨by omega, rfl, rfl⟩)
  · refine x_iloadn hN dX0_setDefault_4 rfl ?_
    refine x_iconst hN dX0_setDefault_5 ?_
    refine x_cmple hN 11 dX0_setDefault_6 (by decide) (by omega) (by omega) (fun h6 => ?_) (fun h6 => ?_)
    · refine x_aload hN dX0_setDefault_11 rfl ?_
      refine a0_2 hN dX0_setDefault_12 ?_
      refine x_iloadn hN dX0_setDefault_15 rfl ?_
      refine x_aload hN dX0_setDefault_16 rfl ?_
      refine g0_0 hN dX0_setDefault_17 (fun hr17 => ?_)
      refine w0_2 hN dX0_setDefault_20 (by omega) (by omega) (by omega) ?_
      refine x_iconst hN dX0_setDefault_21 ?_
      exact hret _ _ _ _ dX0_setDefault_22 (by omega) (Or.inl ⟨by omega, by omega, rfl, rfl⟩)
    · refine x_iconst hN dX0_setDefault_9 ?_
      exact hret _ _ _ _ dX0_setDefault_10 (by omega) (Or.inr ⟨by omega, rfl, rfl⟩)
set_option maxHeartbeats 4000000 in
theorem m0_priorityOf (σ : zSt) (e : Int) (he : 0 ≤ e ∧ e < 32) : Cx cd0 yX0_priorityOf cX0_priorityOf 2 .int 0 σ [e] (fun z u => u = σ ∧ z = σ 7 e / 65536) := by
  refine Cx_of wf0 (by decide +kernel) rfl (Nat.le_of_ble_eq_true rfl) (Or.inl rfl) (fun th_ => [some th_, some (iv e)]) (fun _ => rfl) ?_
  intro E hN hret hR0
  refine x_aload hN dX0_priorityOf_0 rfl ?_
  refine a0_7 hN dX0_priorityOf_1 ?_
  refine x_iloadn hN dX0_priorityOf_4 rfl ?_
  refine l0_7 hN dX0_priorityOf_5 (by omega) (by omega) (fun hr5 => ?_)
  refine x_bipush hN dX0_priorityOf_6 (by decide) ?_
  refine x_ishr hN dX0_priorityOf_8 65536 (by decide) (by omega) (by omega) ?_
  exact hret _ _ _ _ dX0_priorityOf_9 (by omega) ⟨rfl, rfl⟩
set_option maxHeartbeats 4000000 in
theorem m0_slotOf (σ : zSt) (v : Int) (hv : -2147483648 ≤ v ∧ v < 2147483648) : Cx cd0 yX0_slotOf cX0_slotOf 2 .int 0 σ [v] (fun z u => u = σ ∧ z = slt v) := by
  refine Cx_of wf0 (by decide +kernel) rfl (Nat.le_of_ble_eq_true rfl) (Or.inl rfl) (fun th_ => [some th_, some (iv v)]) (fun _ => rfl) ?_
  intro E hN hret hR0
  refine x_iloadn hN dX0_slotOf_0 rfl ?_
  refine x_iloadn hN dX0_slotOf_1 rfl ?_
  refine x_iconst hN dX0_slotOf_2 ?_
  refine x_ishr hN dX0_slotOf_3 8 (by decide) (by omega) (by omega) ?_
  refine x_ixor hN dX0_slotOf_4 ?_
  refine x_iloadn hN dX0_slotOf_5 rfl ?_
  refine x_bipush hN dX0_slotOf_6 (by decide) ?_
  refine x_ishr hN dX0_slotOf_8 256 (by decide) (by omega) (by omega) ?_
  refine x_ixor hN dX0_slotOf_9 ?_
  refine x_iloadn hN dX0_slotOf_10 rfl ?_
  refine x_bipush hN dX0_slotOf_11 (by decide) ?_
  refine x_ishr hN dX0_slotOf_13 2048 (by decide) (by omega) (by omega) ?_
  refine x_ixor hN dX0_slotOf_14 ?_
  refine x_bipush hN dX0_slotOf_15 (by decide) ?_
  refine x_iandm hN dX0_slotOf_17 8 3 (by decide) (by decide) (by decide) ?_
  exact hret _ _ _ _ dX0_slotOf_18 (by omega) ⟨rfl, rfl⟩
set_option maxHeartbeats 4000000 in
theorem m0_precedes (σ : zSt) (a b : Int) (ha : 0 ≤ a ∧ a < 32) (hb : 0 ≤ b ∧ b < 32) : Cx cd0 yX0_precedes cX0_precedes 5 .boolean 1 σ [a, b] (fun z u => u = σ ∧ ((z = 1 ∧ (σ 7 b / 65536 < σ 7 a / 65536 ∨ (σ 7 a / 65536 = σ 7 b / 65536 ∧ σ 5 a < σ 5 b))) ∨ (z = 0 ∧ ¬ (σ 7 b / 65536 < σ 7 a / 65536 ∨ (σ 7 a / 65536 = σ 7 b / 65536 ∧ σ 5 a < σ 5 b))))) := by
  refine Cx_of wf0 (by decide +kernel) rfl (Nat.le_of_ble_eq_true rfl) (Or.inr ⟨rfl, (fun z u h => by rcases h.2 with h | h <;> omega)⟩) (fun th_ => [some th_, some (iv a), some (iv b), none, none]) (fun _ => rfl) ?_
  intro E hN hret hR0
  refine x_aload hN dX0_precedes_0 rfl ?_
  refine x_iloadn hN dX0_precedes_1 rfl ?_
  refine x_call hN (m0_priorityOf σ a ha) hw0_priorityOf hy0_priorityOf (by decide) rfl (by decide) rfl dX0_precedes_2 (fun z2 u2 hz2 hp2 => ?_)
  obtain ⟨hu2, hp2⟩ := hp2
  rw [hu2]
  refine x_st3 hN dX0_precedes_5 ?_
  refine x_aload hN dX0_precedes_6 rfl ?_
  refine x_iloadn hN dX0_precedes_7 rfl ?_
  refine x_call hN (m0_priorityOf σ b hb) hw0_priorityOf hy0_priorityOf (by decide) rfl (by decide) rfl dX0_precedes_8 (fun z8 u8 hz8 hp8 => ?_)
  obtain ⟨hu8, hp8⟩ := hp8
  rw [hu8]
  refine x_st4 hN dX0_precedes_11 ?_
  refine x_iloadn hN dX0_precedes_13 rfl ?_
  refine x_iload hN dX0_precedes_14 rfl ?_
  refine x_cmpgt hN 40 dX0_precedes_16 (by decide) (by omega) (by omega) (fun h16 => ?_) (fun h16 => ?_)
  · refine x_iconst hN dX0_precedes_40 ?_
    refine x_goto hN 45 dX0_precedes_41 (by decide) ?_
    exact hret _ _ _ _ dX0_precedes_45 (by omega) ⟨rfl, by first | exact Or.inl ⟨rfl, by omega⟩ | exact Or.inr ⟨rfl, by omega⟩⟩
  · refine x_iloadn hN dX0_precedes_19 rfl ?_
    refine x_iload hN dX0_precedes_20 rfl ?_
    refine x_cmpne hN 44 dX0_precedes_22 (by decide) (by omega) (by omega) (fun h22 => ?_) (fun h22 => ?_)
    · refine x_iconst hN dX0_precedes_44 ?_
      exact hret _ _ _ _ dX0_precedes_45 (by omega) ⟨rfl, by first | exact Or.inl ⟨rfl, by omega⟩ | exact Or.inr ⟨rfl, by omega⟩⟩
    · refine x_aload hN dX0_precedes_25 rfl ?_
      refine a0_5 hN dX0_precedes_26 ?_
      refine x_iloadn hN dX0_precedes_29 rfl ?_
      refine l0_5 hN dX0_precedes_30 (by omega) (by omega) (fun hr30 => ?_)
      refine x_aload hN dX0_precedes_31 rfl ?_
      refine a0_5 hN dX0_precedes_32 ?_
      refine x_iloadn hN dX0_precedes_35 rfl ?_
      refine l0_5 hN dX0_precedes_36 (by omega) (by omega) (fun hr36 => ?_)
      refine x_cmpge hN 44 dX0_precedes_37 (by decide) (by omega) (by omega) (fun h37 => ?_) (fun h37 => ?_)
      · refine x_iconst hN dX0_precedes_44 ?_
        exact hret _ _ _ _ dX0_precedes_45 (by omega) ⟨rfl, by first | exact Or.inl ⟨rfl, by omega⟩ | exact Or.inr ⟨rfl, by omega⟩⟩
      · refine x_iconst hN dX0_precedes_40 ?_
        refine x_goto hN 45 dX0_precedes_41 (by decide) ?_
        exact hret _ _ _ _ dX0_precedes_45 (by omega) ⟨rfl, by first | exact Or.inl ⟨rfl, by omega⟩ | exact Or.inr ⟨rfl, by omega⟩⟩
set_option maxHeartbeats 4000000 in
theorem m0_entryWith (σ : zSt) (h : Int) (hh : -2147483648 ≤ h ∧ h < 2147483648) : Cx cd0 yX0_entryWith cX0_entryWith 3 .int 0 σ [h] (fun z u => u = σ ∧ ((z = -1 ∧ (h < 0 ∨ ∀ e, 0 ≤ e → e < 32 → σ 5 e ≠ h)) ∨ (0 ≤ z ∧ z < 32 ∧ 0 ≤ h ∧ σ 5 z = h))) := by
  refine Cx_of wf0 (by decide +kernel) rfl (Nat.le_of_ble_eq_true rfl) (Or.inl rfl) (fun th_ => [some th_, some (iv h), none]) (fun _ => rfl) ?_
  intro E hN hret hR0
  have loop : ∀ (m : Nat) (e : Int), 0 ≤ h → 0 ≤ e → e ≤ 32 → 32 < e + m → (∀ j, 0 ≤ j → j < e → σ 5 j ≠ h) → WX E cd0 σ 8 [some (th E), some (iv h), some (iv e)] [] := by
    intro m
    induction m with
    | zero => intro e _ h1 h2 h3; exact absurd h3 (by omega)
    | succ m ih =>
      intro e hh0 he0 he1 hem hno
      refine x_iloadn hN dX0_entryWith_8 rfl ?_
      refine x_bipush hN dX0_entryWith_9 (by decide) ?_
      refine x_cmpge hN 32 dX0_entryWith_11 (by decide) (by omega) (by omega) (fun h11 => ?_) (fun h11 => ?_)
      · refine x_iconst hN dX0_entryWith_32 ?_
        exact hret _ _ _ _ dX0_entryWith_33 (by omega) ⟨rfl, Or.inl ⟨rfl, Or.inr (fun j j0 j1 => hno j j0 (by omega))⟩⟩
      · refine x_aload hN dX0_entryWith_14 rfl ?_
        refine a0_5 hN dX0_entryWith_15 ?_
        refine x_iloadn hN dX0_entryWith_18 rfl ?_
        refine l0_5 hN dX0_entryWith_19 (by omega) (by omega) (fun hr19 => ?_)
        refine x_iloadn hN dX0_entryWith_20 rfl ?_
        refine x_cmpne hN 26 dX0_entryWith_21 (by decide) (by omega) (by omega) (fun h21 => ?_) (fun h21 => ?_)
        · refine x_in2 hN dX0_entryWith_26 ?_
          refine x_goto hN 8 dX0_entryWith_29 (by decide) ?_
          exact ih (e + 1) hh0 (by omega) (by omega) (by omega) (fun j j0 j1 => by
            by_cases hj : j = e
            · rw [hj]; exact h21
            · exact hno j j0 (by omega))
        · refine x_iloadn hN dX0_entryWith_24 rfl ?_
          exact hret _ _ _ _ dX0_entryWith_25 (by omega) ⟨rfl, Or.inr ⟨by omega, by omega, hh0, h21⟩⟩
  refine x_iloadn hN dX0_entryWith_0 rfl ?_
  refine x_ifge hN 6 dX0_entryWith_1 (by decide) (by omega) (fun h1 => ?_) (fun h1 => ?_)
  · refine x_iconst hN dX0_entryWith_6 ?_
    refine x_st2 hN dX0_entryWith_7 ?_
    exact loop 33 0 h1 (by omega) (by omega) (by omega) (fun j j0 j1 => by omega)
  · refine x_iconst hN dX0_entryWith_4 ?_
    exact hret _ _ _ _ dX0_entryWith_5 (by omega) ⟨rfl, Or.inl ⟨rfl, Or.inl h1⟩⟩
set_option maxHeartbeats 4000000 in
theorem m0_addEntry (σ : zSt) (t key w : Int) (ht : 0 ≤ t ∧ t ≤ 1) (hk : -2147483648 ≤ key ∧ key < 2147483648) (hw : -2147483648 ≤ w ∧ w < 2147483648) (hn : 0 ≤ σ 1 0 ∧ σ 1 0 < 1000) (hc : ∀ t, 0 ≤ t → t ≤ 1 → 0 ≤ σ 4 t ∧ σ 4 t ≤ 16) (e0 : Int) (he0 : 16 * t ≤ e0 ∧ e0 < 16 * t + 16) (hf : σ 5 e0 < 0) : Cx cd0 yX0_addEntry cX0_addEntry 5 .int 0 σ [t, key, w] (fun z u => ∃ e, 16 * t ≤ e ∧ e < 16 * t + 16 ∧ σ 5 e < 0 ∧ z = σ 1 0 ∧ u = addE σ t e key w) := by
  refine Cx_of wf0 (by decide +kernel) rfl (Nat.le_of_ble_eq_true rfl) (Or.inl rfl) (fun th_ => [some th_, some (iv t), some (iv key), some (iv w), none]) (fun _ => rfl) ?_
  intro E hN hret hR0
  have loop : ∀ (m : Nat) (e : Int), 16 * t ≤ e → e ≤ e0 → e0 < e + m → WX E cd0 σ 6 [some (th E), some (iv t), some (iv key), some (iv w), some (iv e)] [] := by
    intro m
    induction m with
    | zero => intro e h1 h2 h3; exact absurd h3 (by omega)
    | succ m ih =>
      intro e h16 hee hem
      have hct := hc t ht.1 ht.2
      refine x_aload hN dX0_addEntry_6 rfl ?_
      refine a0_5 hN dX0_addEntry_7 ?_
      refine x_iload hN dX0_addEntry_10 rfl ?_
      refine l0_5 hN dX0_addEntry_12 (by omega) (by omega) (fun hr12 => ?_)
      refine x_iflt hN 22 dX0_addEntry_13 (by decide) (by omega) (fun h13 => ?_) (fun h13 => ?_)
      · refine x_aload hN dX0_addEntry_22 rfl ?_
        refine a0_5 hN dX0_addEntry_23 ?_
        refine x_iload hN dX0_addEntry_26 rfl ?_
        refine x_aload hN dX0_addEntry_28 rfl ?_
        refine g0_1 hN dX0_addEntry_29 (fun hr29 => ?_)
        refine w0_5 hN dX0_addEntry_32 (by omega) (by omega) (by omega) ?_
        refine x_aload hN dX0_addEntry_33 rfl ?_
        refine a0_6 hN dX0_addEntry_34 ?_
        refine x_iload hN dX0_addEntry_37 rfl ?_
        refine x_aload hN dX0_addEntry_39 rfl ?_
        refine g0_0 hN dX0_addEntry_40 (fun hr40 => ?_)
        replace hr40 : -2147483648 ≤ σ 0 0 ∧ σ 0 0 < 2147483648 := hr40
        refine x_top (σ 0 0) rfl ?_
        refine w0_6 hN dX0_addEntry_43 (by omega) (by omega) (by omega) ?_
        refine x_aload hN dX0_addEntry_44 rfl ?_
        refine a0_7 hN dX0_addEntry_45 ?_
        refine x_iload hN dX0_addEntry_48 rfl ?_
        refine x_iloadn hN dX0_addEntry_50 rfl ?_
        refine w0_7 hN dX0_addEntry_51 (by omega) (by omega) (by omega) ?_
        refine x_aload hN dX0_addEntry_52 rfl ?_
        refine a0_8 hN dX0_addEntry_53 ?_
        refine x_iload hN dX0_addEntry_56 rfl ?_
        refine x_iloadn hN dX0_addEntry_58 rfl ?_
        refine w0_8 hN dX0_addEntry_59 (by omega) (by omega) (by omega) ?_
        refine x_aload hN dX0_addEntry_60 rfl ?_
        refine a0_4 hN dX0_addEntry_61 ?_
        refine x_iloadn hN dX0_addEntry_64 rfl ?_
        refine x_dup2 hN dX0_addEntry_65 rfl rfl ?_
        refine l0_4 hN dX0_addEntry_66 (by omega) (by omega) (fun hr66 => ?_)
        refine x_top (σ 4 _) rfl ?_
        replace hr66 : -2147483648 ≤ σ 4 t ∧ σ 4 t < 2147483648 := hr66
        refine x_iconst hN dX0_addEntry_67 ?_
        refine x_iadd hN dX0_addEntry_68 ?_
        refine x_i2b hN dX0_addEntry_69 (by omega) ?_
        refine w0_4 hN dX0_addEntry_70 (by omega) (by omega) (by omega) ?_
        refine x_aload hN dX0_addEntry_71 rfl ?_
        refine x_dup hN dX0_addEntry_72 rfl ?_
        refine g0_1 hN dX0_addEntry_73 (fun hr73 => ?_)
        replace hr73 : -2147483648 ≤ σ 1 0 ∧ σ 1 0 < 2147483648 := hr73
        refine x_top (σ 1 0) rfl ?_
        refine x_iconst hN dX0_addEntry_76 ?_
        refine x_iadd hN dX0_addEntry_77 ?_
        refine p0_1 hN dX0_addEntry_78 (by omega) ?_
        refine x_aload hN dX0_addEntry_81 rfl ?_
        refine g0_1 hN dX0_addEntry_82 (fun hr82 => ?_)
        refine x_top (σ 1 0 + 1) rfl ?_
        refine x_iconst hN dX0_addEntry_85 ?_
        refine x_isub hN dX0_addEntry_86 ?_
        exact hret _ _ _ _ dX0_addEntry_87 (by omega) ⟨e, h16, by omega, h13, by omega, rfl⟩
      · have hne : e ≠ e0 := fun q => by rw [q] at h13; omega
        refine x_in4 hN dX0_addEntry_16 ?_
        refine x_goto hN 6 dX0_addEntry_19 (by decide) ?_
        exact ih (e + 1) (by omega) (by omega) (by omega)
  refine x_bipush hN dX0_addEntry_0 (by decide) ?_
  refine x_iloadn hN dX0_addEntry_2 rfl ?_
  refine x_imul hN dX0_addEntry_3 ?_
  refine x_st4 hN dX0_addEntry_4 ?_
  exact loop 17 (16 * t) (by omega) (by omega) (by omega)
set_option maxHeartbeats 4000000 in
theorem m0_addPrefix (σ : zSt) (v n : Int) (hv : -2147483648 ≤ v ∧ v < 2147483648) (hn : -2147483648 ≤ n ∧ n < 2147483648) (hh : 0 ≤ σ 1 0 ∧ σ 1 0 < 1000) (hc : ∀ t, 0 ≤ t → t ≤ 1 → 0 ≤ σ 4 t ∧ σ 4 t ≤ 16) (hf : σ 4 0 < 16 → ∃ e0, 0 ≤ e0 ∧ e0 < 16 ∧ σ 5 e0 < 0) : Cx cd0 yX0_addPrefix cX0_addPrefix 3 .int 1 σ [v, n] (fun z u => (16 ≤ σ 4 0 ∧ z = -2 ∧ u = σ) ∨ (σ 4 0 < 16 ∧ ¬ (0 ≤ v ∧ v ≤ 255 ∧ 0 ≤ n ∧ n ≤ 8) ∧ z = -1 ∧ u = σ) ∨ (σ 4 0 < 16 ∧ (0 ≤ v ∧ v ≤ 255 ∧ 0 ≤ n ∧ n ≤ 8) ∧ ∃ e, 0 ≤ e ∧ e < 16 ∧ σ 5 e < 0 ∧ z = σ 1 0 ∧ u = addE (sset σ 9 0 0) 0 e v n)) := by
  refine Cx_of wf0 (by decide +kernel) rfl (Nat.le_of_ble_eq_true rfl) (Or.inl rfl) (fun th_ => [some th_, some (iv v), some (iv n)]) (fun _ => rfl) ?_
  intro E hN hret hR0
  refine x_aload hN dX0_addPrefix_0 rfl ?_
  refine a0_4 hN dX0_addPrefix_1 ?_
  refine x_iconst hN dX0_addPrefix_4 ?_
  refine l0_4 hN dX0_addPrefix_5 (by omega) (by omega) (fun hr5 => ?_)
  refine x_bipush hN dX0_addPrefix_6 (by decide) ?_
  refine x_cmplt hN 14 dX0_addPrefix_8 (by decide) (by omega) (by omega) (fun h8 => ?_) (fun h8 => ?_)
  · refine x_iloadn hN dX0_addPrefix_14 rfl ?_
    refine x_iflt hN 35 dX0_addPrefix_15 (by decide) (by omega) (fun h15 => ?_) (fun h15 => ?_)
    · refine x_iconst hN dX0_addPrefix_35 ?_
      exact hret _ _ _ _ dX0_addPrefix_36 (by omega) (Or.inr (Or.inl ⟨by omega, by omega, rfl, rfl⟩))
    · refine x_iloadn hN dX0_addPrefix_18 rfl ?_
      refine x_sipush hN dX0_addPrefix_19 (by decide) ?_
      refine x_cmpgt hN 35 dX0_addPrefix_22 (by decide) (by omega) (by omega) (fun h22 => ?_) (fun h22 => ?_)
      · refine x_iconst hN dX0_addPrefix_35 ?_
        exact hret _ _ _ _ dX0_addPrefix_36 (by omega) (Or.inr (Or.inl ⟨by omega, by omega, rfl, rfl⟩))
      · refine x_iloadn hN dX0_addPrefix_25 rfl ?_
        refine x_iflt hN 35 dX0_addPrefix_26 (by decide) (by omega) (fun h26 => ?_) (fun h26 => ?_)
        · refine x_iconst hN dX0_addPrefix_35 ?_
          exact hret _ _ _ _ dX0_addPrefix_36 (by omega) (Or.inr (Or.inl ⟨by omega, by omega, rfl, rfl⟩))
        · refine x_iloadn hN dX0_addPrefix_29 rfl ?_
          refine x_bipush hN dX0_addPrefix_30 (by decide) ?_
          refine x_cmple hN 37 dX0_addPrefix_32 (by decide) (by omega) (by omega) (fun h32 => ?_) (fun h32 => ?_)
          · refine x_aload hN dX0_addPrefix_37 rfl ?_
            refine x_iconst hN dX0_addPrefix_38 ?_
            refine p0_9 hN dX0_addPrefix_39 (by decide) ?_
            obtain ⟨e0, q1, q2, q3⟩ := hf h8
            refine x_aload hN dX0_addPrefix_42 rfl ?_
            refine x_iconst hN dX0_addPrefix_43 ?_
            refine x_iloadn hN dX0_addPrefix_44 rfl ?_
            refine x_iloadn hN dX0_addPrefix_45 rfl ?_
            refine x_call hN (m0_addEntry (sset σ 9 0 0) 0 v n (by decide) hv hn hh hc e0 ⟨by omega, by omega⟩ q3) hw0_addEntry hy0_addEntry (by decide) rfl (by decide) rfl dX0_addPrefix_46 (fun z46 u46 hz46 hp46 => ?_)
            exact hret _ _ _ _ dX0_addPrefix_49 (by omega) (Or.inr (Or.inr ⟨by omega, by omega, by obtain ⟨e, q1, q2, q3, q4, q5⟩ := hp46; exact ⟨e, by omega, by omega, q3, q4, q5⟩⟩))
          · refine x_iconst hN dX0_addPrefix_35 ?_
            exact hret _ _ _ _ dX0_addPrefix_36 (by omega) (Or.inr (Or.inl ⟨by omega, by omega, rfl, rfl⟩))
  · refine x_bipush hN dX0_addPrefix_11 (by decide) ?_
    exact hret _ _ _ _ dX0_addPrefix_13 (by omega) (Or.inl ⟨by omega, rfl, rfl⟩)
set_option maxHeartbeats 4000000 in
theorem m0_addMasked (σ : zSt) (a b p : Int) (ha : -2147483648 ≤ a ∧ a < 2147483648) (hb : -2147483648 ≤ b ∧ b < 2147483648) (hp : -2147483648 ≤ p ∧ p < 2147483648) (hh : 0 ≤ σ 1 0 ∧ σ 1 0 < 1000) (hc : ∀ t, 0 ≤ t → t ≤ 1 → 0 ≤ σ 4 t ∧ σ 4 t ≤ 16) (hf : σ 4 1 < 16 → ∃ e0, 16 ≤ e0 ∧ e0 < 32 ∧ σ 5 e0 < 0) : Cx cd0 yX0_addMasked cX0_addMasked 6 .int 1 σ [a, b, p] (fun z u => (16 ≤ σ 4 1 ∧ z = -2 ∧ u = σ) ∨ (σ 4 1 < 16 ∧ ¬ (0 ≤ a ∧ a ≤ 65535 ∧ 0 ≤ b ∧ b ≤ 65535 ∧ 0 ≤ p ∧ p ≤ 15) ∧ z = -1 ∧ u = σ) ∨ (σ 4 1 < 16 ∧ (0 ≤ a ∧ a ≤ 65535 ∧ 0 ≤ b ∧ b ≤ 65535 ∧ 0 ≤ p ∧ p ≤ 15) ∧ ∃ e, 16 ≤ e ∧ e < 32 ∧ σ 5 e < 0 ∧ z = σ 1 0 ∧ u = addE (sset σ 16 0 0) 1 e (lnd (a / 256 * 256 + b / 256) (a % 256 * 256 + b % 256) + p * 65536) (a % 256 * 256 + b % 256))) := by
  refine Cx_of wf0 (by decide +kernel) rfl (Nat.le_of_ble_eq_true rfl) (Or.inl rfl) (fun th_ => [some th_, some (iv a), some (iv b), some (iv p), none, none]) (fun _ => rfl) ?_
  intro E hN hret hR0
  refine x_aload hN dX0_addMasked_0 rfl ?_
  refine a0_4 hN dX0_addMasked_1 ?_
  refine x_iconst hN dX0_addMasked_4 ?_
  refine l0_4 hN dX0_addMasked_5 (by omega) (by omega) (fun hr5 => ?_)
  refine x_bipush hN dX0_addMasked_6 (by decide) ?_
  refine x_cmplt hN 14 dX0_addMasked_8 (by decide) (by omega) (by omega) (fun h8 => ?_) (fun h8 => ?_)
  · refine x_iloadn hN dX0_addMasked_14 rfl ?_
    refine x_iflt hN 44 dX0_addMasked_15 (by decide) (by omega) (fun h15 => ?_) (fun h15 => ?_)
    · refine x_iconst hN dX0_addMasked_44 ?_
      exact hret _ _ _ _ dX0_addMasked_45 (by omega) (Or.inr (Or.inl ⟨by omega, by omega, rfl, rfl⟩))
    · refine x_iloadn hN dX0_addMasked_18 rfl ?_
      refine x_ldc (v := 65535) hN dX0_addMasked_19 q124 rfl ?_
      refine x_cmpgt hN 44 dX0_addMasked_21 (by decide) (by omega) (by omega) (fun h21 => ?_) (fun h21 => ?_)
      · refine x_iconst hN dX0_addMasked_44 ?_
        exact hret _ _ _ _ dX0_addMasked_45 (by omega) (Or.inr (Or.inl ⟨by omega, by omega, rfl, rfl⟩))
      · refine x_iloadn hN dX0_addMasked_24 rfl ?_
        refine x_iflt hN 44 dX0_addMasked_25 (by decide) (by omega) (fun h25 => ?_) (fun h25 => ?_)
        · refine x_iconst hN dX0_addMasked_44 ?_
          exact hret _ _ _ _ dX0_addMasked_45 (by omega) (Or.inr (Or.inl ⟨by omega, by omega, rfl, rfl⟩))
        · refine x_iloadn hN dX0_addMasked_28 rfl ?_
          refine x_ldc (v := 65535) hN dX0_addMasked_29 q124 rfl ?_
          refine x_cmpgt hN 44 dX0_addMasked_31 (by decide) (by omega) (by omega) (fun h31 => ?_) (fun h31 => ?_)
          · refine x_iconst hN dX0_addMasked_44 ?_
            exact hret _ _ _ _ dX0_addMasked_45 (by omega) (Or.inr (Or.inl ⟨by omega, by omega, rfl, rfl⟩))
          · refine x_iloadn hN dX0_addMasked_34 rfl ?_
            refine x_iflt hN 44 dX0_addMasked_35 (by decide) (by omega) (fun h35 => ?_) (fun h35 => ?_)
            · refine x_iconst hN dX0_addMasked_44 ?_
              exact hret _ _ _ _ dX0_addMasked_45 (by omega) (Or.inr (Or.inl ⟨by omega, by omega, rfl, rfl⟩))
            · refine x_iloadn hN dX0_addMasked_38 rfl ?_
              refine x_bipush hN dX0_addMasked_39 (by decide) ?_
              refine x_cmple hN 46 dX0_addMasked_41 (by decide) (by omega) (by omega) (fun h41 => ?_) (fun h41 => ?_)
              · refine x_aload hN dX0_addMasked_46 rfl ?_
                refine x_iconst hN dX0_addMasked_47 ?_
                refine p0_16 hN dX0_addMasked_48 (by decide) ?_
                refine x_iloadn hN dX0_addMasked_51 rfl ?_
                refine x_sipush hN dX0_addMasked_52 (by decide) ?_
                refine x_iandm hN dX0_addMasked_55 256 8 (by decide) (by decide) (by decide) ?_
                refine x_bipush hN dX0_addMasked_56 (by decide) ?_
                refine x_ishl hN dX0_addMasked_58 256 (by decide) (by omega) (by omega) (by omega) ?_
                refine x_iloadn hN dX0_addMasked_59 rfl ?_
                refine x_sipush hN dX0_addMasked_60 (by decide) ?_
                refine x_iandm hN dX0_addMasked_63 256 8 (by decide) (by decide) (by decide) ?_
                refine x_ior1 (m := 256) hN dX0_addMasked_64 8 (by decide) (by omega) (by omega) (by omega) (by omega) ?_
                refine x_st4 hN dX0_addMasked_65 ?_
                refine x_iloadn hN dX0_addMasked_67 rfl ?_
                refine x_ldc (v := 65280) hN dX0_addMasked_68 q125 rfl ?_
                refine x_iand hN dX0_addMasked_70 (by omega) (by omega) ?_
                refine x_top (a / 256 * 256) (lnd_hi (by omega) (by omega)) ?_
                refine x_iloadn hN dX0_addMasked_71 rfl ?_
                refine x_bipush hN dX0_addMasked_72 (by decide) ?_
                refine x_ishr hN dX0_addMasked_74 256 (by decide) (by omega) (by omega) ?_
                refine x_ior1 (m := 256) hN dX0_addMasked_75 8 (by decide) (by omega) (by omega) (by omega) (by omega) ?_
                refine x_st5 hN dX0_addMasked_76 ?_
                obtain ⟨e0, q1, q2, q3⟩ := hf h8
                refine x_aload hN dX0_addMasked_78 rfl ?_
                refine x_iconst hN dX0_addMasked_79 ?_
                refine x_iload hN dX0_addMasked_80 rfl ?_
                refine x_iload hN dX0_addMasked_82 rfl ?_
                refine x_iand hN dX0_addMasked_84 (by omega) (by omega) ?_
                have q8 := lnd_nn (a / 256 * 256 + b / 256) (a % 256 * 256 + b % 256)
                have q9 := lnd_le (a := (a / 256 * 256 + b / 256)) (b := (a % 256 * 256 + b % 256)) (by omega)
                refine x_iloadn hN dX0_addMasked_85 rfl ?_
                refine x_bipush hN dX0_addMasked_86 (by decide) ?_
                refine x_ishl hN dX0_addMasked_88 65536 (by decide) (by omega) (by omega) (by omega) ?_
                refine x_ior2 (m := 65536) hN dX0_addMasked_89 16 (by decide) (by omega) (by omega) (by omega) (by omega) ?_
                refine x_iload hN dX0_addMasked_90 rfl ?_
                refine x_call hN (m0_addEntry (sset σ 16 0 0) 1 (lnd (a / 256 * 256 + b / 256) (a % 256 * 256 + b % 256) + p * 65536) (a % 256 * 256 + b % 256) (by decide) (by omega) (by omega) hh hc e0 ⟨by omega, by omega⟩ q3) hw0_addEntry hy0_addEntry (by decide) rfl (by decide) rfl dX0_addMasked_92 (fun z92 u92 hz92 hp92 => ?_)
                exact hret _ _ _ _ dX0_addMasked_95 (by omega) (Or.inr (Or.inr ⟨by omega, by omega, by obtain ⟨e, q1, q2, q3, q4, q5⟩ := hp92; exact ⟨e, by omega, by omega, q3, q4, q5⟩⟩))
              · refine x_iconst hN dX0_addMasked_44 ?_
                exact hret _ _ _ _ dX0_addMasked_45 (by omega) (Or.inr (Or.inl ⟨by omega, by omega, rfl, rfl⟩))
  · refine x_bipush hN dX0_addMasked_11 (by decide) ?_
    exact hret _ _ _ _ dX0_addMasked_13 (by omega) (Or.inl ⟨by omega, rfl, rfl⟩)
set_option maxHeartbeats 4000000 in
theorem m0_remove (σ : zSt) (h : Int) (hh : -2147483648 ≤ h ∧ h < 2147483648) (hc : ∀ t, 0 ≤ t → t ≤ 1 → 0 ≤ σ 4 t ∧ σ 4 t ≤ 16) : Cx cd0 yX0_remove cX0_remove 4 .int 1 σ [h] (fun z u => (z = -3 ∧ u = σ ∧ (h < 0 ∨ ∀ e, 0 ≤ e → e < 32 → σ 5 e ≠ h)) ∨ (∃ e, 0 ≤ e ∧ e < 32 ∧ 0 ≤ h ∧ σ 5 e = h ∧ z = σ 4 (e / 16) - 1 ∧ u = remE σ e)) := by
  refine Cx_of wf0 (by decide +kernel) rfl (Nat.le_of_ble_eq_true rfl) (Or.inl rfl) (fun th_ => [some th_, some (iv h), none, none]) (fun _ => rfl) ?_
  intro E hN hret hR0
  refine x_aload hN dX0_remove_0 rfl ?_
  refine x_iloadn hN dX0_remove_1 rfl ?_
  refine x_call hN (m0_entryWith σ h hh) hw0_entryWith hy0_entryWith (by decide) rfl (by decide) rfl dX0_remove_2 (fun z2 u2 hz2 hp2 => ?_)
  obtain ⟨hu2, hp2⟩ := hp2
  rw [hu2]
  refine x_st2 hN dX0_remove_5 ?_
  refine x_iloadn hN dX0_remove_6 rfl ?_
  refine x_ifge hN 13 dX0_remove_7 (by decide) (by omega) (fun h7 => ?_) (fun h7 => ?_)
  · have hz32 : z2 < 32 := by rcases hp2 with q | q <;> omega
    have hh0 : 0 ≤ h := by rcases hp2 with q | q <;> omega
    have hct := hc (z2 / 16) (by omega) (by omega)
    refine x_iloadn hN dX0_remove_13 rfl ?_
    refine x_bipush hN dX0_remove_14 (by decide) ?_
    refine x_idiv hN dX0_remove_16 (by omega) (by omega) ?_
    refine x_st3 hN dX0_remove_17 ?_
    refine x_aload hN dX0_remove_18 rfl ?_
    refine a0_5 hN dX0_remove_19 ?_
    refine x_iloadn hN dX0_remove_22 rfl ?_
    refine x_iconst hN dX0_remove_23 ?_
    refine w0_5 hN dX0_remove_24 (by omega) (by omega) (by omega) ?_
    refine x_aload hN dX0_remove_25 rfl ?_
    refine a0_4 hN dX0_remove_26 ?_
    refine x_iloadn hN dX0_remove_29 rfl ?_
    refine x_dup2 hN dX0_remove_30 rfl rfl ?_
    refine l0_4 hN dX0_remove_31 (by omega) (by omega) (fun hr31 => ?_)
    refine x_top (σ 4 _) rfl ?_
    replace hr31 : -2147483648 ≤ σ 4 (z2 / 16) ∧ σ 4 (z2 / 16) < 2147483648 := hr31
    refine x_iconst hN dX0_remove_32 ?_
    refine x_isub hN dX0_remove_33 ?_
    refine x_i2b hN dX0_remove_34 (by omega) ?_
    refine w0_4 hN dX0_remove_35 (by omega) (by omega) (by omega) ?_
    refine x_aload hN dX0_remove_36 rfl ?_
    refine x_iconst hN dX0_remove_37 ?_
    refine p0_9 hN dX0_remove_38 (by decide) ?_
    refine x_aload hN dX0_remove_41 rfl ?_
    refine x_iconst hN dX0_remove_42 ?_
    refine p0_16 hN dX0_remove_43 (by decide) ?_
    refine x_aload hN dX0_remove_46 rfl ?_
    refine a0_4 hN dX0_remove_47 ?_
    refine x_iloadn hN dX0_remove_50 rfl ?_
    refine l0_4 hN dX0_remove_51 (by omega) (by omega) (fun hr51 => ?_)
    refine x_top (σ 4 (z2 / 16) - 1) (by simp [sset]) ?_
    exact hret _ _ _ _ dX0_remove_52 (by omega) (Or.inr ⟨z2, by omega, by omega, by omega, by rcases hp2 with q | q; exact absurd q.1 (by omega); exact q.2.2.2, rfl, rfl⟩)
  · refine x_bipush hN dX0_remove_10 (by decide) ?_
    exact hret _ _ _ _ dX0_remove_12 (by omega) (Or.inl ⟨rfl, rfl, by rcases hp2 with q | q; exact q.2; exact absurd q.1 (by omega)⟩)
set_option maxHeartbeats 4000000 in
theorem m0_perform (σ : zSt) (a : Int) (ha : 0 ≤ a ∧ a < 8192) (hpk : ∀ j, 0 ≤ j → j < 4 → 0 ≤ σ 3 j ∧ σ 3 j ≤ 255) : Cx cd0 yX0_perform cX0_perform 5 .boolean 0 σ [a] (fun z u => u = perf σ a ∧ ((a % 8 = 4 ∧ z = 0) ∨ (a % 8 ≠ 4 ∧ z = 1))) := by
  refine Cx_of wf0 (by decide +kernel) rfl (Nat.le_of_ble_eq_true rfl) (Or.inr ⟨rfl, (fun z u h => by rcases h.2 with h | h <;> omega)⟩) (fun th_ => [some th_, some (iv a), none, none, none]) (fun _ => rfl) ?_
  intro E hN hret hR0
  refine x_iloadn hN dX0_perform_0 rfl ?_
  refine x_bipush hN dX0_perform_1 (by decide) ?_
  refine x_iandm hN dX0_perform_3 8 3 (by decide) (by decide) (by decide) ?_
  refine x_st2 hN dX0_perform_4 ?_
  refine x_iloadn hN dX0_perform_5 rfl ?_
  refine x_iconst hN dX0_perform_6 ?_
  refine x_ishr hN dX0_perform_7 8 (by decide) (by omega) (by omega) ?_
  refine x_iconst hN dX0_perform_8 ?_
  refine x_iandm hN dX0_perform_9 4 2 (by decide) (by decide) (by decide) ?_
  refine x_st3 hN dX0_perform_10 ?_
  refine x_iloadn hN dX0_perform_11 rfl ?_
  refine x_iconst hN dX0_perform_12 ?_
  refine x_ishr hN dX0_perform_13 32 (by decide) (by omega) (by omega) ?_
  refine x_st4 hN dX0_perform_14 ?_
  refine x_iloadn hN dX0_perform_16 rfl ?_
  refine x_ifne hN 28 dX0_perform_17 (by decide) (by omega) (fun h17 => ?_) (fun h17 => ?_)
  · refine x_iloadn hN dX0_perform_28 rfl ?_
    refine x_iconst hN dX0_perform_29 ?_
    refine x_cmpne hN 52 dX0_perform_30 (by decide) (by omega) (by omega) (fun h30 => ?_) (fun h30 => ?_)
    · refine x_iloadn hN dX0_perform_52 rfl ?_
      refine x_iconst hN dX0_perform_53 ?_
      refine x_cmpne hN 72 dX0_perform_54 (by decide) (by omega) (by omega) (fun h54 => ?_) (fun h54 => ?_)
      · refine x_iloadn hN dX0_perform_72 rfl ?_
        refine x_iconst hN dX0_perform_73 ?_
        refine x_cmpeq hN 81 dX0_perform_74 (by decide) (by omega) (by omega) (fun h74 => ?_) (fun h74 => ?_)
        · refine x_iconst hN dX0_perform_81 ?_
          exact hret _ _ _ _ dX0_perform_82 (by omega) ⟨by first | (exfalso; omega) | (unfold perf; first | rw [if_pos (by omega)] | rw [if_neg (by omega), if_pos (by omega)] | rw [if_neg (by omega), if_neg (by omega), if_pos (by omega)] | rw [if_neg (by omega), if_neg (by omega), if_neg (by omega)]), by omega⟩
        · refine x_iconst hN dX0_perform_77 ?_
          refine x_goto hN 82 dX0_perform_78 (by decide) ?_
          exact hret _ _ _ _ dX0_perform_82 (by omega) ⟨by first | (exfalso; omega) | (unfold perf; first | rw [if_pos (by omega)] | rw [if_neg (by omega), if_pos (by omega)] | rw [if_neg (by omega), if_neg (by omega), if_pos (by omega)] | rw [if_neg (by omega), if_neg (by omega), if_neg (by omega)]), by omega⟩
      · have q57 := hpk (a / 32 % 4) (by omega) (by omega)
        refine x_aload hN dX0_perform_57 rfl ?_
        refine a0_3 hN dX0_perform_58 ?_
        refine x_iloadn hN dX0_perform_61 rfl ?_
        refine x_aload hN dX0_perform_62 rfl ?_
        refine a0_3 hN dX0_perform_63 ?_
        refine x_iload hN dX0_perform_66 rfl ?_
        refine x_iconst hN dX0_perform_68 ?_
        refine x_iandm hN dX0_perform_69 4 2 (by decide) (by decide) (by decide) ?_
        refine l0_3 hN dX0_perform_70 (by omega) (by omega) (fun hr70 => ?_)
        refine w0_3 hN dX0_perform_71 (by omega) (by omega) (by omega) ?_
        refine x_iloadn hN dX0_perform_72 rfl ?_
        refine x_iconst hN dX0_perform_73 ?_
        refine x_cmpeq hN 81 dX0_perform_74 (by decide) (by omega) (by omega) (fun h74 => ?_) (fun h74 => ?_)
        · refine x_iconst hN dX0_perform_81 ?_
          exact hret _ _ _ _ dX0_perform_82 (by omega) ⟨by first | (exfalso; omega) | (unfold perf; first | rw [if_pos (by omega)] | rw [if_neg (by omega), if_pos (by omega)] | rw [if_neg (by omega), if_neg (by omega), if_pos (by omega)] | rw [if_neg (by omega), if_neg (by omega), if_neg (by omega)]), by omega⟩
        · refine x_iconst hN dX0_perform_77 ?_
          refine x_goto hN 82 dX0_perform_78 (by decide) ?_
          exact hret _ _ _ _ dX0_perform_82 (by omega) ⟨by first | (exfalso; omega) | (unfold perf; first | rw [if_pos (by omega)] | rw [if_neg (by omega), if_pos (by omega)] | rw [if_neg (by omega), if_neg (by omega), if_pos (by omega)] | rw [if_neg (by omega), if_neg (by omega), if_neg (by omega)]), by omega⟩
    · have q33 := hpk (a / 8 % 4) (by omega) (by omega)
      refine x_aload hN dX0_perform_33 rfl ?_
      refine a0_3 hN dX0_perform_34 ?_
      refine x_iloadn hN dX0_perform_37 rfl ?_
      refine x_aload hN dX0_perform_38 rfl ?_
      refine a0_3 hN dX0_perform_39 ?_
      refine x_iloadn hN dX0_perform_42 rfl ?_
      refine l0_3 hN dX0_perform_43 (by omega) (by omega) (fun hr43 => ?_)
      refine x_iload hN dX0_perform_44 rfl ?_
      refine x_iadd hN dX0_perform_46 ?_
      refine x_sipush hN dX0_perform_47 (by decide) ?_
      refine x_iandm hN dX0_perform_50 256 8 (by decide) (by decide) (by decide) ?_
      refine w0_3 hN dX0_perform_51 (by omega) (by omega) (by omega) ?_
      refine x_iloadn hN dX0_perform_52 rfl ?_
      refine x_iconst hN dX0_perform_53 ?_
      refine x_cmpne hN 72 dX0_perform_54 (by decide) (by omega) (by omega) (fun h54 => ?_) (fun h54 => ?_)
      · refine x_iloadn hN dX0_perform_72 rfl ?_
        refine x_iconst hN dX0_perform_73 ?_
        refine x_cmpeq hN 81 dX0_perform_74 (by decide) (by omega) (by omega) (fun h74 => ?_) (fun h74 => ?_)
        · refine x_iconst hN dX0_perform_81 ?_
          exact hret _ _ _ _ dX0_perform_82 (by omega) ⟨by first | (exfalso; omega) | (unfold perf; first | rw [if_pos (by omega)] | rw [if_neg (by omega), if_pos (by omega)] | rw [if_neg (by omega), if_neg (by omega), if_pos (by omega)] | rw [if_neg (by omega), if_neg (by omega), if_neg (by omega)]), by omega⟩
        · refine x_iconst hN dX0_perform_77 ?_
          refine x_goto hN 82 dX0_perform_78 (by decide) ?_
          exact hret _ _ _ _ dX0_perform_82 (by omega) ⟨by first | (exfalso; omega) | (unfold perf; first | rw [if_pos (by omega)] | rw [if_neg (by omega), if_pos (by omega)] | rw [if_neg (by omega), if_neg (by omega), if_pos (by omega)] | rw [if_neg (by omega), if_neg (by omega), if_neg (by omega)]), by omega⟩
      · have q57 := hpk (a / 32 % 4) (by omega) (by omega)
        refine x_aload hN dX0_perform_57 rfl ?_
        refine a0_3 hN dX0_perform_58 ?_
        refine x_iloadn hN dX0_perform_61 rfl ?_
        refine x_aload hN dX0_perform_62 rfl ?_
        refine a0_3 hN dX0_perform_63 ?_
        refine x_iload hN dX0_perform_66 rfl ?_
        refine x_iconst hN dX0_perform_68 ?_
        refine x_iandm hN dX0_perform_69 4 2 (by decide) (by decide) (by decide) ?_
        refine l0_3 hN dX0_perform_70 (by omega) (by omega) (fun hr70 => ?_)
        refine w0_3 hN dX0_perform_71 (by omega) (by omega) (by omega) ?_
        refine x_iloadn hN dX0_perform_72 rfl ?_
        refine x_iconst hN dX0_perform_73 ?_
        refine x_cmpeq hN 81 dX0_perform_74 (by decide) (by omega) (by omega) (fun h74 => ?_) (fun h74 => ?_)
        · refine x_iconst hN dX0_perform_81 ?_
          exact hret _ _ _ _ dX0_perform_82 (by omega) ⟨by first | (exfalso; omega) | (unfold perf; first | rw [if_pos (by omega)] | rw [if_neg (by omega), if_pos (by omega)] | rw [if_neg (by omega), if_neg (by omega), if_pos (by omega)] | rw [if_neg (by omega), if_neg (by omega), if_neg (by omega)]), by omega⟩
        · refine x_iconst hN dX0_perform_77 ?_
          refine x_goto hN 82 dX0_perform_78 (by decide) ?_
          exact hret _ _ _ _ dX0_perform_82 (by omega) ⟨by first | (exfalso; omega) | (unfold perf; first | rw [if_pos (by omega)] | rw [if_neg (by omega), if_pos (by omega)] | rw [if_neg (by omega), if_neg (by omega), if_pos (by omega)] | rw [if_neg (by omega), if_neg (by omega), if_neg (by omega)]), by omega⟩
  · refine x_aload hN dX0_perform_20 rfl ?_
    refine a0_3 hN dX0_perform_21 ?_
    refine x_iloadn hN dX0_perform_24 rfl ?_
    refine x_iload hN dX0_perform_25 rfl ?_
    refine w0_3 hN dX0_perform_27 (by omega) (by omega) (by omega) ?_
    refine x_iloadn hN dX0_perform_28 rfl ?_
    refine x_iconst hN dX0_perform_29 ?_
    refine x_cmpne hN 52 dX0_perform_30 (by decide) (by omega) (by omega) (fun h30 => ?_) (fun h30 => ?_)
    · refine x_iloadn hN dX0_perform_52 rfl ?_
      refine x_iconst hN dX0_perform_53 ?_
      refine x_cmpne hN 72 dX0_perform_54 (by decide) (by omega) (by omega) (fun h54 => ?_) (fun h54 => ?_)
      · refine x_iloadn hN dX0_perform_72 rfl ?_
        refine x_iconst hN dX0_perform_73 ?_
        refine x_cmpeq hN 81 dX0_perform_74 (by decide) (by omega) (by omega) (fun h74 => ?_) (fun h74 => ?_)
        · refine x_iconst hN dX0_perform_81 ?_
          exact hret _ _ _ _ dX0_perform_82 (by omega) ⟨by first | (exfalso; omega) | (unfold perf; first | rw [if_pos (by omega)] | rw [if_neg (by omega), if_pos (by omega)] | rw [if_neg (by omega), if_neg (by omega), if_pos (by omega)] | rw [if_neg (by omega), if_neg (by omega), if_neg (by omega)]), by omega⟩
        · refine x_iconst hN dX0_perform_77 ?_
          refine x_goto hN 82 dX0_perform_78 (by decide) ?_
          exact hret _ _ _ _ dX0_perform_82 (by omega) ⟨by first | (exfalso; omega) | (unfold perf; first | rw [if_pos (by omega)] | rw [if_neg (by omega), if_pos (by omega)] | rw [if_neg (by omega), if_neg (by omega), if_pos (by omega)] | rw [if_neg (by omega), if_neg (by omega), if_neg (by omega)]), by omega⟩
      · have q57 := hpk (a / 32 % 4) (by omega) (by omega)
        refine x_aload hN dX0_perform_57 rfl ?_
        refine a0_3 hN dX0_perform_58 ?_
        refine x_iloadn hN dX0_perform_61 rfl ?_
        refine x_aload hN dX0_perform_62 rfl ?_
        refine a0_3 hN dX0_perform_63 ?_
        refine x_iload hN dX0_perform_66 rfl ?_
        refine x_iconst hN dX0_perform_68 ?_
        refine x_iandm hN dX0_perform_69 4 2 (by decide) (by decide) (by decide) ?_
        refine l0_3 hN dX0_perform_70 (by omega) (by omega) (fun hr70 => ?_)
        refine w0_3 hN dX0_perform_71 (by omega) (by omega) (by omega) ?_
        refine x_iloadn hN dX0_perform_72 rfl ?_
        refine x_iconst hN dX0_perform_73 ?_
        refine x_cmpeq hN 81 dX0_perform_74 (by decide) (by omega) (by omega) (fun h74 => ?_) (fun h74 => ?_)
        · refine x_iconst hN dX0_perform_81 ?_
          exact hret _ _ _ _ dX0_perform_82 (by omega) ⟨by first | (exfalso; omega) | (unfold perf; first | rw [if_pos (by omega)] | rw [if_neg (by omega), if_pos (by omega)] | rw [if_neg (by omega), if_neg (by omega), if_pos (by omega)] | rw [if_neg (by omega), if_neg (by omega), if_neg (by omega)]), by omega⟩
        · refine x_iconst hN dX0_perform_77 ?_
          refine x_goto hN 82 dX0_perform_78 (by decide) ?_
          exact hret _ _ _ _ dX0_perform_82 (by omega) ⟨by first | (exfalso; omega) | (unfold perf; first | rw [if_pos (by omega)] | rw [if_neg (by omega), if_pos (by omega)] | rw [if_neg (by omega), if_neg (by omega), if_pos (by omega)] | rw [if_neg (by omega), if_neg (by omega), if_neg (by omega)]), by omega⟩
    · have q33 := hpk (a / 8 % 4) (by omega) (by omega)
      refine x_aload hN dX0_perform_33 rfl ?_
      refine a0_3 hN dX0_perform_34 ?_
      refine x_iloadn hN dX0_perform_37 rfl ?_
      refine x_aload hN dX0_perform_38 rfl ?_
      refine a0_3 hN dX0_perform_39 ?_
      refine x_iloadn hN dX0_perform_42 rfl ?_
      refine l0_3 hN dX0_perform_43 (by omega) (by omega) (fun hr43 => ?_)
      refine x_iload hN dX0_perform_44 rfl ?_
      refine x_iadd hN dX0_perform_46 ?_
      refine x_sipush hN dX0_perform_47 (by decide) ?_
      refine x_iandm hN dX0_perform_50 256 8 (by decide) (by decide) (by decide) ?_
      refine w0_3 hN dX0_perform_51 (by omega) (by omega) (by omega) ?_
      refine x_iloadn hN dX0_perform_52 rfl ?_
      refine x_iconst hN dX0_perform_53 ?_
      refine x_cmpne hN 72 dX0_perform_54 (by decide) (by omega) (by omega) (fun h54 => ?_) (fun h54 => ?_)
      · refine x_iloadn hN dX0_perform_72 rfl ?_
        refine x_iconst hN dX0_perform_73 ?_
        refine x_cmpeq hN 81 dX0_perform_74 (by decide) (by omega) (by omega) (fun h74 => ?_) (fun h74 => ?_)
        · refine x_iconst hN dX0_perform_81 ?_
          exact hret _ _ _ _ dX0_perform_82 (by omega) ⟨by first | (exfalso; omega) | (unfold perf; first | rw [if_pos (by omega)] | rw [if_neg (by omega), if_pos (by omega)] | rw [if_neg (by omega), if_neg (by omega), if_pos (by omega)] | rw [if_neg (by omega), if_neg (by omega), if_neg (by omega)]), by omega⟩
        · refine x_iconst hN dX0_perform_77 ?_
          refine x_goto hN 82 dX0_perform_78 (by decide) ?_
          exact hret _ _ _ _ dX0_perform_82 (by omega) ⟨by first | (exfalso; omega) | (unfold perf; first | rw [if_pos (by omega)] | rw [if_neg (by omega), if_pos (by omega)] | rw [if_neg (by omega), if_neg (by omega), if_pos (by omega)] | rw [if_neg (by omega), if_neg (by omega), if_neg (by omega)]), by omega⟩
      · have q57 := hpk (a / 32 % 4) (by omega) (by omega)
        refine x_aload hN dX0_perform_57 rfl ?_
        refine a0_3 hN dX0_perform_58 ?_
        refine x_iloadn hN dX0_perform_61 rfl ?_
        refine x_aload hN dX0_perform_62 rfl ?_
        refine a0_3 hN dX0_perform_63 ?_
        refine x_iload hN dX0_perform_66 rfl ?_
        refine x_iconst hN dX0_perform_68 ?_
        refine x_iandm hN dX0_perform_69 4 2 (by decide) (by decide) (by decide) ?_
        refine l0_3 hN dX0_perform_70 (by omega) (by omega) (fun hr70 => ?_)
        refine w0_3 hN dX0_perform_71 (by omega) (by omega) (by omega) ?_
        refine x_iloadn hN dX0_perform_72 rfl ?_
        refine x_iconst hN dX0_perform_73 ?_
        refine x_cmpeq hN 81 dX0_perform_74 (by decide) (by omega) (by omega) (fun h74 => ?_) (fun h74 => ?_)
        · refine x_iconst hN dX0_perform_81 ?_
          exact hret _ _ _ _ dX0_perform_82 (by omega) ⟨by first | (exfalso; omega) | (unfold perf; first | rw [if_pos (by omega)] | rw [if_neg (by omega), if_pos (by omega)] | rw [if_neg (by omega), if_neg (by omega), if_pos (by omega)] | rw [if_neg (by omega), if_neg (by omega), if_neg (by omega)]), by omega⟩
        · refine x_iconst hN dX0_perform_77 ?_
          refine x_goto hN 82 dX0_perform_78 (by decide) ?_
          exact hret _ _ _ _ dX0_perform_82 (by omega) ⟨by first | (exfalso; omega) | (unfold perf; first | rw [if_pos (by omega)] | rw [if_neg (by omega), if_pos (by omega)] | rw [if_neg (by omega), if_neg (by omega), if_pos (by omega)] | rw [if_neg (by omega), if_neg (by omega), if_neg (by omega)]), by omega⟩
set_option maxHeartbeats 4000000 in
theorem m0_newNode (σ : zSt) (hc : 0 ≤ σ 10 0 ∧ σ 10 0 < 129) : Cx cd0 yX0_newNode cX0_newNode 2 .int 0 σ [] (fun z u => z = σ 10 0 ∧ u = nwN σ) := by
  refine Cx_of wf0 (by decide +kernel) rfl (Nat.le_of_ble_eq_true rfl) (Or.inl rfl) (fun th_ => [some th_, none]) (fun _ => rfl) ?_
  intro E hN hret hR0
  refine x_aload hN dX0_newNode_0 rfl ?_
  refine g0_10 hN dX0_newNode_1 (fun hr1 => ?_)
  refine x_st1 hN dX0_newNode_4 ?_
  refine x_aload hN dX0_newNode_5 rfl ?_
  refine x_dup hN dX0_newNode_6 rfl ?_
  refine g0_10 hN dX0_newNode_7 (fun hr7 => ?_)
  refine x_iconst hN dX0_newNode_10 ?_
  refine x_iadd hN dX0_newNode_11 ?_
  refine p0_10 hN dX0_newNode_12 (by omega) ?_
  refine x_aload hN dX0_newNode_15 rfl ?_
  refine a0_11 hN dX0_newNode_16 ?_
  refine x_iconst hN dX0_newNode_19 ?_
  refine x_iloadn hN dX0_newNode_20 rfl ?_
  refine x_imul hN dX0_newNode_21 ?_
  refine x_iconst hN dX0_newNode_22 ?_
  refine w0_11 hN dX0_newNode_23 (by omega) (by omega) (by omega) ?_
  refine x_aload hN dX0_newNode_24 rfl ?_
  refine a0_11 hN dX0_newNode_25 ?_
  refine x_iconst hN dX0_newNode_28 ?_
  refine x_iloadn hN dX0_newNode_29 rfl ?_
  refine x_imul hN dX0_newNode_30 ?_
  refine x_iconst hN dX0_newNode_31 ?_
  refine x_iadd hN dX0_newNode_32 ?_
  refine x_iconst hN dX0_newNode_33 ?_
  refine w0_11 hN dX0_newNode_34 (by omega) (by omega) (by omega) ?_
  refine x_aload hN dX0_newNode_35 rfl ?_
  refine a0_12 hN dX0_newNode_36 ?_
  refine x_iloadn hN dX0_newNode_39 rfl ?_
  refine x_iconst hN dX0_newNode_40 ?_
  refine w0_12 hN dX0_newNode_41 (by omega) (by omega) (by omega) ?_
  refine x_aload hN dX0_newNode_42 rfl ?_
  refine a0_13 hN dX0_newNode_43 ?_
  refine x_iloadn hN dX0_newNode_46 rfl ?_
  refine x_iconst hN dX0_newNode_47 ?_
  refine w0_13 hN dX0_newNode_48 (by omega) (by omega) (by omega) ?_
  refine x_iloadn hN dX0_newNode_49 rfl ?_
  exact hret _ _ _ _ dX0_newNode_50 (by omega) ⟨rfl, rfl⟩
set_option maxHeartbeats 4000000 in
theorem m0_groupOf (σ : zSt) (w : Int) (hw : -2147483648 ≤ w ∧ w < 2147483648) (hg : 0 ≤ σ 17 0 ∧ σ 17 0 ≤ 16) : Cx cd0 yX0_groupOf cX0_groupOf 3 .int 0 σ [w] (fun z u => u = σ ∧ ((z = -1 ∧ ∀ g, 0 ≤ g → g < σ 17 0 → σ 18 g ≠ w) ∨ (0 ≤ z ∧ z < σ 17 0 ∧ σ 18 z = w))) := by
  refine Cx_of wf0 (by decide +kernel) rfl (Nat.le_of_ble_eq_true rfl) (Or.inl rfl) (fun th_ => [some th_, some (iv w), none]) (fun _ => rfl) ?_
  intro E hN hret hR0
  have loop : ∀ (m : Nat) (e : Int), 0 ≤ e → e ≤ σ 17 0 → σ 17 0 < e + m → (∀ j, 0 ≤ j → j < e → σ 18 j ≠ w) → WX E cd0 σ 2 [some (th E), some (iv w), some (iv e)] [] := by
    intro m
    induction m with
    | zero => intro e h1 h2 h3; exact absurd h3 (by omega)
    | succ m ih =>
      intro e he0 he1 hem hno
      refine x_iloadn hN dX0_groupOf_2 rfl ?_
      refine x_aload hN dX0_groupOf_3 rfl ?_
      refine g0_17 hN dX0_groupOf_4 (fun hr4 => ?_)
      refine x_cmpge hN 28 dX0_groupOf_7 (by decide) (by omega) (by omega) (fun h7 => ?_) (fun h7 => ?_)
      · refine x_iconst hN dX0_groupOf_28 ?_
        exact hret _ _ _ _ dX0_groupOf_29 (by omega) ⟨rfl, Or.inl ⟨rfl, fun j j0 j1 => hno j j0 (by omega)⟩⟩
      · refine x_aload hN dX0_groupOf_10 rfl ?_
        refine a0_18 hN dX0_groupOf_11 ?_
        refine x_iloadn hN dX0_groupOf_14 rfl ?_
        refine l0_18 hN dX0_groupOf_15 (by omega) (by omega) (fun hr15 => ?_)
        refine x_iloadn hN dX0_groupOf_16 rfl ?_
        refine x_cmpne hN 22 dX0_groupOf_17 (by decide) (by omega) (by omega) (fun h17 => ?_) (fun h17 => ?_)
        · refine x_in2 hN dX0_groupOf_22 ?_
          refine x_goto hN 2 dX0_groupOf_25 (by decide) ?_
          exact ih (e + 1) (by omega) (by omega) (by omega) (fun j j0 j1 => by
            by_cases hj : j = e
            · rw [hj]; exact h17
            · exact hno j j0 (by omega))
        · refine x_iloadn hN dX0_groupOf_20 rfl ?_
          exact hret _ _ _ _ dX0_groupOf_21 (by omega) ⟨rfl, Or.inr ⟨by omega, by omega, h17⟩⟩
  refine x_iconst hN dX0_groupOf_0 ?_
  refine x_st2 hN dX0_groupOf_1 ?_
  exact loop 17 0 (by omega) (by omega) (by omega) (fun j j0 j1 => by omega)
end
section
/-! MatchActionModel. σ: 0 fields 1 kind 2 place 3 number 4 handles 5 count 6 handle 7 a 8 b 9 rank 10 kinds 11 places 12 numbers -/
theorem z_dv {a : Int} (k : Nat) (ha : -2147483648 ≤ a ∧ a < 2147483648) : -2147483648 ≤ a / 2 ^ k ∧ a / 2 ^ k < 2147483648 := by
  have hm : (0 : Int) < 2 ^ k := Int.pow_pos (by decide)
  refine ⟨Int.le_ediv_of_mul_le hm ?_, Int.ediv_lt_of_lt_mul hm ?_⟩
  · generalize (2 : Int) ^ k = m at hm ⊢
    have : -2147483648 * m ≤ -2147483648 := by omega
    omega
  · generalize (2 : Int) ^ k = m at hm ⊢
    omega
def giveA (σ : zSt) (t : Int) : zSt := sset (sset (sset σ 10 t (σ 1 0)) 11 t (σ 2 0)) 12 t (σ 3 0)
def addM (σ : zSt) (t a b r : Int) : zSt := sset (sset (giveA (sset (sset (sset (sset σ 7 (16 * t + σ 5 t) a) 8 (16 * t + σ 5 t) b) 9 (16 * t + σ 5 t) r) 6 (16 * t + σ 5 t) (σ 4 0)) (16 * t + σ 5 t)) 5 t (σ 5 t + 1)) 4 0 (σ 4 0 + 1)
def shM (σ : zSt) (t : Int) : zSt := sset (sset (sset (sset (sset (sset (sset σ 6 t (σ 6 (t + 1))) 7 t (σ 7 (t + 1))) 8 t (σ 8 (t + 1))) 9 t (σ 9 (t + 1))) 10 t (σ 10 (t + 1))) 11 t (σ 11 (t + 1))) 12 t (σ 12 (t + 1))
/-- the places from t on, below k, moved down by one -/
def shU (σ : zSt) (t k : Int) : zSt := fun f j => if 6 ≤ f ∧ f ≤ 12 ∧ t ≤ j ∧ j < k then σ f (j + 1) else σ f j
theorem shU_0 (σ : zSt) (t : Int) : shU σ t t = σ := by
  funext f j
  unfold shU
  rw [if_neg (by omega)]
theorem shU_s (σ : zSt) {t k : Int} (h : t ≤ k) : shM (shU σ t k) k = shU σ t (k + 1) := by
  funext f j
  have e : ∀ f, shU σ t k f (k + 1) = σ f (k + 1) := fun f => by
    unfold shU
    rw [if_neg (by omega)]
  unfold shM
  simp only [sset, e]
  by_cases hj : j = k
  · subst hj
    by_cases hf : 6 ≤ f ∧ f ≤ 12
    · have e2 : shU σ t (j + 1) f j = σ f (j + 1) := by
        unfold shU
        rw [if_pos (by omega)]
      rw [e2]
      obtain ⟨h1, h2⟩ := hf
      have h3 : f = 6 ∨ f = 7 ∨ f = 8 ∨ f = 9 ∨ f = 10 ∨ f = 11 ∨ f = 12 := by omega
      rcases h3 with h3 | h3 | h3 | h3 | h3 | h3 | h3 <;> subst h3 <;> simp
    · have e2 : shU σ t (j + 1) f j = σ f j := by
        unfold shU
        rw [if_neg (by omega)]
      have e3 : shU σ t j f j = σ f j := by
        unfold shU
        rw [if_neg (by omega)]
      rw [e2, e3]
      have h6 : ¬ f = 6 := by omega
      have h7 : ¬ f = 7 := by omega
      have h8 : ¬ f = 8 := by omega
      have h9 : ¬ f = 9 := by omega
      have h10 : ¬ f = 10 := by omega
      have h11 : ¬ f = 11 := by omega
      have h12 : ¬ f = 12 := by omega
      simp [h6, h7, h8, h9, h10, h11, h12]
  · have e2 : shU σ t (k + 1) f j = shU σ t k f j := by
      unfold shU
      by_cases hc : 6 ≤ f ∧ f ≤ 12 ∧ t ≤ j ∧ j < k
      · rw [if_pos hc, if_pos (by omega)]
      · rw [if_neg hc, if_neg (by omega)]
    rw [e2]
    simp [hj]
def remM (σ : zSt) (t : Int) : zSt := sset (shU σ t (16 * (t / 16) + σ 5 (t / 16) - 1)) 5 (t / 16) (σ 5 (t / 16) - 1)
def actM (σ : zSt) (k f n : Int) : zSt := if k = 0 then sset σ 0 f n else if k = 1 then sset σ 0 f ((σ 0 f + n) % 256) else if k = 2 then sset σ 0 f (σ 0 (n % 4)) else σ
/-- what the reference's cells hold -/
def MI (σ : zSt) : Prop := (∀ t, 0 ≤ t → t ≤ 1 → 0 ≤ σ 5 t ∧ σ 5 t ≤ 16) ∧ (∀ q, 0 ≤ q → q < σ 5 0 → 0 ≤ σ 7 q ∧ σ 7 q ≤ 255 ∧ 0 ≤ σ 8 q ∧ σ 8 q ≤ 8) ∧ (∀ q, 16 ≤ q → q < 16 + σ 5 1 → 0 ≤ σ 7 q ∧ σ 7 q ≤ 65535 ∧ 0 ≤ σ 8 q ∧ σ 8 q ≤ 65535) ∧ (∀ j, 0 ≤ j → j < 4 → 0 ≤ σ 0 j ∧ σ 0 j ≤ 255) ∧ (∀ q, (0 ≤ q ∧ q < σ 5 0) ∨ (16 ≤ q ∧ q < 16 + σ 5 1) ∨ q = 32 ∨ q = 33 → 0 ≤ σ 10 q ∧ σ 10 q ≤ 4 ∧ 0 ≤ σ 11 q ∧ σ 11 q ≤ 3 ∧ 0 ≤ σ 12 q ∧ σ 12 q ≤ 255)
theorem MI_act {σ : zSt} (h : MI σ) {k f n : Int} (hf : 0 ≤ f ∧ f ≤ 3) (hn : 0 ≤ n ∧ n ≤ 255) : MI (actM σ k f n) := by
  have key : ∀ v, 0 ≤ v ∧ v ≤ 255 → MI (sset σ 0 f v) := by
    intro v hv
    refine ⟨h.1, h.2.1, h.2.2.1, fun j h0 h1 => ?_, h.2.2.2.2⟩
    have := h.2.2.2.1 j h0 h1
    unfold sset
    split
    · exact hv
    · exact this
  unfold actM
  split
  · exact key n hn
  · split
    · exact key _ (by omega)
    · split
      · exact key _ (h.2.2.2.1 (n % 4) (by omega) (by omega))
      · exact h
/-- the entry at a place matches -/
def Fit (σ : zSt) (q v : Int) : Prop := (q < 16 ∧ v / 2 ^ (8 - σ 8 q).toNat = σ 7 q / 2 ^ (8 - σ 8 q).toNat) ∨ (16 ≤ q ∧ lnd (σ 0 1) (σ 7 q) % 256 = lnd (σ 7 q / 256) (σ 7 q) % 256 ∧ lnd (σ 0 2) (σ 8 q) % 256 = lnd (σ 8 q / 256) (σ 8 q) % 256)
/-- the place that is taken among those of table t below hi -/
def Tk (σ : zSt) (t v hi z : Int) : Prop := (z = -1 ∧ ∀ q, 16 * t ≤ q → q < hi → ¬ Fit σ q v) ∨ (16 * t ≤ z ∧ z < hi ∧ Fit σ z v ∧ ∀ q, 16 * t ≤ q → q < hi → Fit σ q v → σ 9 q < σ 9 z ∨ (σ 9 q = σ 9 z ∧ z ≤ q))
theorem Tk_uq {σ : zSt} {t v hi z y : Int} (ht : 0 ≤ t) (h1 : Tk σ t v hi z) (h2 : Tk σ t v hi y) : z = y := by
  rcases h1 with ⟨e1, n1⟩ | ⟨a1, b1, c1, d1⟩ <;> rcases h2 with ⟨e2, n2⟩ | ⟨a2, b2, c2, d2⟩
  · omega
  · exact absurd c2 (n1 y a2 b2)
  · exact absurd c1 (n2 z a1 b1)
  · have q1 := d1 y a2 b2 c2
    have q2 := d2 z a1 b1 c1
    omega
/-- how many of lo, lo + 1 .. (n of them) -/
noncomputable def cn (P : Int → Prop) (lo : Int) : Nat → Int
  | 0 => 0
  | n + 1 => cn P lo n + (@ite Int (P (lo + n)) (Classical.propDecidable _) 1 0)
theorem cn_0 (P : Int → Prop) (lo : Int) : cn P lo 0 = 0 := rfl
theorem cn_t {P : Int → Prop} {lo : Int} {n : Nat} (h : P (lo + n)) : cn P lo (n + 1) = cn P lo n + 1 := by
  show cn P lo n + _ = _
  rw [if_pos h]
theorem cn_f {P : Int → Prop} {lo : Int} {n : Nat} (h : ¬ P (lo + n)) : cn P lo (n + 1) = cn P lo n := by
  show cn P lo n + _ = _
  rw [if_neg h]
  omega
theorem cn_in (P : Int → Prop) (lo : Int) (n : Nat) : 0 ≤ cn P lo n ∧ cn P lo n ≤ n := by
  induction n with
  | zero => exact ⟨Int.le_refl 0, Int.le_refl 0⟩
  | succ n ih =>
    by_cases h : P (lo + n)
    · rw [cn_t h]; omega
    · rw [cn_f h]; omega
set_option maxHeartbeats 4000000 in
theorem m1_isByte (σ : zSt) (v : Int) (hv : -2147483648 ≤ v ∧ v < 2147483648) : Cx cd1 yX1_isByte cX1_isByte 2 .boolean 0 σ [v] (fun z u => u = σ ∧ ((z = 1 ∧ 0 ≤ v ∧ v ≤ 255) ∨ (z = 0 ∧ ¬ (0 ≤ v ∧ v ≤ 255)))) := by
  refine Cx_of wf1 (by decide +kernel) rfl (Nat.le_of_ble_eq_true rfl) (Or.inr ⟨rfl, (fun z u h => by rcases h.2 with h | h <;> omega)⟩) (fun th_ => [some th_, some (iv v)]) (fun _ => rfl) ?_
  intro E hN hret hR0
  refine x_iloadn hN dX1_isByte_0 rfl ?_
  refine x_iflt hN 15 dX1_isByte_1 (by decide) (by omega) (fun h1 => ?_) (fun h1 => ?_)
  · refine x_iconst hN dX1_isByte_15 ?_
    exact hret _ _ _ _ dX1_isByte_16 (by omega) ⟨rfl, by omega⟩
  · refine x_iloadn hN dX1_isByte_4 rfl ?_
    refine x_sipush hN dX1_isByte_5 (by decide) ?_
    refine x_cmpgt hN 15 dX1_isByte_8 (by decide) (by omega) (by omega) (fun h8 => ?_) (fun h8 => ?_)
    · refine x_iconst hN dX1_isByte_15 ?_
      exact hret _ _ _ _ dX1_isByte_16 (by omega) ⟨rfl, by omega⟩
    · refine x_iconst hN dX1_isByte_11 ?_
      refine x_goto hN 16 dX1_isByte_12 (by decide) ?_
      exact hret _ _ _ _ dX1_isByte_16 (by omega) ⟨rfl, by omega⟩
set_option maxHeartbeats 4000000 in
theorem m1_action (σ : zSt) (k f n : Int) (hk : -2147483648 ≤ k ∧ k < 2147483648) (hf : -2147483648 ≤ f ∧ f < 2147483648) (hn : -2147483648 ≤ n ∧ n < 2147483648) : Cx cd1 yX1_action cX1_action 4 .boolean 1 σ [k, f, n] (fun z u => (0 ≤ k ∧ k ≤ 4 ∧ 0 ≤ f ∧ f ≤ 3 ∧ 0 ≤ n ∧ n ≤ 255 ∧ z = 1 ∧ u = sset (sset (sset σ 1 0 k) 2 0 f) 3 0 n) ∨ (¬ (0 ≤ k ∧ k ≤ 4 ∧ 0 ≤ f ∧ f ≤ 3 ∧ 0 ≤ n ∧ n ≤ 255) ∧ z = 0 ∧ u = σ)) := by
  refine Cx_of wf1 (by decide +kernel) rfl (Nat.le_of_ble_eq_true rfl) (Or.inr ⟨rfl, (fun z u h => by rcases h with h | h <;> omega)⟩) (fun th_ => [some th_, some (iv k), some (iv f), some (iv n)]) (fun _ => rfl) ?_
  intro E hN hret hR0
  refine x_iloadn hN dX1_action_0 rfl ?_
  refine x_iflt hN 26 dX1_action_1 (by decide) (by omega) (fun h1 => ?_) (fun h1 => ?_)
  · refine x_iconst hN dX1_action_26 ?_
    exact hret _ _ _ _ dX1_action_27 (by omega) (Or.inr ⟨by omega, rfl, rfl⟩)
  · refine x_iloadn hN dX1_action_4 rfl ?_
    refine x_iconst hN dX1_action_5 ?_
    refine x_cmpgt hN 26 dX1_action_6 (by decide) (by omega) (by omega) (fun h6 => ?_) (fun h6 => ?_)
    · refine x_iconst hN dX1_action_26 ?_
      exact hret _ _ _ _ dX1_action_27 (by omega) (Or.inr ⟨by omega, rfl, rfl⟩)
    · refine x_iloadn hN dX1_action_9 rfl ?_
      refine x_iflt hN 26 dX1_action_10 (by decide) (by omega) (fun h10 => ?_) (fun h10 => ?_)
      · refine x_iconst hN dX1_action_26 ?_
        exact hret _ _ _ _ dX1_action_27 (by omega) (Or.inr ⟨by omega, rfl, rfl⟩)
      · refine x_iloadn hN dX1_action_13 rfl ?_
        refine x_iconst hN dX1_action_14 ?_
        refine x_cmpgt hN 26 dX1_action_15 (by decide) (by omega) (by omega) (fun h15 => ?_) (fun h15 => ?_)
        · refine x_iconst hN dX1_action_26 ?_
          exact hret _ _ _ _ dX1_action_27 (by omega) (Or.inr ⟨by omega, rfl, rfl⟩)
        · refine x_aload hN dX1_action_18 rfl ?_
          refine x_iloadn hN dX1_action_19 rfl ?_
          refine x_call hN (m1_isByte σ n hn) hw1_isByte hy1_isByte (by decide) rfl (by decide) rfl dX1_action_20 (fun z20 u20 hz20 hp20 => ?_)
          obtain ⟨hu20, hp20⟩ := hp20
          rw [hu20]
          refine x_ifne hN 28 dX1_action_23 (by decide) (by omega) (fun h23 => ?_) (fun h23 => ?_)
          · refine x_aload hN dX1_action_28 rfl ?_
            refine x_iloadn hN dX1_action_29 rfl ?_
            refine p1_1 hN dX1_action_30 (by omega) ?_
            refine x_aload hN dX1_action_33 rfl ?_
            refine x_iloadn hN dX1_action_34 rfl ?_
            refine p1_2 hN dX1_action_35 (by omega) ?_
            refine x_aload hN dX1_action_38 rfl ?_
            refine x_iloadn hN dX1_action_39 rfl ?_
            refine p1_3 hN dX1_action_40 (by omega) ?_
            refine x_iconst hN dX1_action_43 ?_
            exact hret _ _ _ _ dX1_action_44 (by omega) (Or.inl ⟨by omega, by omega, by omega, by omega, by omega, by omega, rfl, rfl⟩)
          · refine x_iconst hN dX1_action_26 ?_
            exact hret _ _ _ _ dX1_action_27 (by omega) (Or.inr ⟨by omega, rfl, rfl⟩)
set_option maxHeartbeats 4000000 in
theorem m1_giveAction (σ : zSt) (q : Int) (hq : 0 ≤ q ∧ q < 34) : Cv cd1 yX1_giveAction cX1_giveAction 2 0 σ [q] (fun u => u = giveA σ q) := by
  refine Cv_of wf1 (by decide +kernel) rfl (Nat.le_of_ble_eq_true rfl) (fun th_ => [some th_, some (iv q)]) (fun _ => rfl) ?_
  intro E hN hret hR0
  refine x_aload hN dX1_giveAction_0 rfl ?_
  refine a1_10 hN dX1_giveAction_1 ?_
  refine x_iloadn hN dX1_giveAction_4 rfl ?_
  refine x_aload hN dX1_giveAction_5 rfl ?_
  refine g1_1 hN dX1_giveAction_6 (fun hr6 => ?_)
  refine w1_10 hN dX1_giveAction_9 (by omega) (by omega) (by omega) ?_
  refine x_aload hN dX1_giveAction_10 rfl ?_
  refine a1_11 hN dX1_giveAction_11 ?_
  refine x_iloadn hN dX1_giveAction_14 rfl ?_
  refine x_aload hN dX1_giveAction_15 rfl ?_
  refine g1_2 hN dX1_giveAction_16 (fun hr16 => ?_)
  replace hr16 : -2147483648 ≤ σ 2 0 ∧ σ 2 0 < 2147483648 := hr16
  refine x_top (σ 2 0) rfl ?_
  refine w1_11 hN dX1_giveAction_19 (by omega) (by omega) (by omega) ?_
  refine x_aload hN dX1_giveAction_20 rfl ?_
  refine a1_12 hN dX1_giveAction_21 ?_
  refine x_iloadn hN dX1_giveAction_24 rfl ?_
  refine x_aload hN dX1_giveAction_25 rfl ?_
  refine g1_3 hN dX1_giveAction_26 (fun hr26 => ?_)
  replace hr26 : -2147483648 ≤ σ 3 0 ∧ σ 3 0 < 2147483648 := hr26
  refine x_top (σ 3 0) rfl ?_
  refine w1_12 hN dX1_giveAction_29 (by omega) (by omega) (by omega) ?_
  exact hret _ _ _ dX1_giveAction_30 rfl
set_option maxHeartbeats 4000000 in
theorem m1_add (σ : zSt) (t a b r : Int) (ht : 0 ≤ t ∧ t ≤ 1) (ha : -2147483648 ≤ a ∧ a < 2147483648) (hb : -2147483648 ≤ b ∧ b < 2147483648) (hr : -2147483648 ≤ r ∧ r < 2147483648) (hc : 0 ≤ σ 5 t ∧ σ 5 t < 16) (hh : 0 ≤ σ 4 0 ∧ σ 4 0 < 1000) : Cx cd1 yX1_add cX1_add 6 .int 1 σ [t, a, b, r] (fun z u => z = σ 4 0 ∧ u = addM σ t a b r) := by
  refine Cx_of wf1 (by decide +kernel) rfl (Nat.le_of_ble_eq_true rfl) (Or.inl rfl) (fun th_ => [some th_, some (iv t), some (iv a), some (iv b), some (iv r), none]) (fun _ => rfl) ?_
  intro E hN hret hR0
  refine x_bipush hN dX1_add_0 (by decide) ?_
  refine x_iloadn hN dX1_add_2 rfl ?_
  refine x_imul hN dX1_add_3 ?_
  refine x_aload hN dX1_add_4 rfl ?_
  refine a1_5 hN dX1_add_5 ?_
  refine x_iloadn hN dX1_add_8 rfl ?_
  refine l1_5 hN dX1_add_9 (by omega) (by omega) (fun hr9 => ?_)
  refine x_iadd hN dX1_add_10 ?_
  refine x_st5 hN dX1_add_11 ?_
  refine x_aload hN dX1_add_13 rfl ?_
  refine a1_7 hN dX1_add_14 ?_
  refine x_iload hN dX1_add_17 rfl ?_
  refine x_iloadn hN dX1_add_19 rfl ?_
  refine w1_7 hN dX1_add_20 (by omega) (by omega) (by omega) ?_
  refine x_aload hN dX1_add_21 rfl ?_
  refine a1_8 hN dX1_add_22 ?_
  refine x_iload hN dX1_add_25 rfl ?_
  refine x_iloadn hN dX1_add_27 rfl ?_
  refine w1_8 hN dX1_add_28 (by omega) (by omega) (by omega) ?_
  refine x_aload hN dX1_add_29 rfl ?_
  refine a1_9 hN dX1_add_30 ?_
  refine x_iload hN dX1_add_33 rfl ?_
  refine x_iload hN dX1_add_35 rfl ?_
  refine w1_9 hN dX1_add_37 (by omega) (by omega) (by omega) ?_
  refine x_aload hN dX1_add_38 rfl ?_
  refine a1_6 hN dX1_add_39 ?_
  refine x_iload hN dX1_add_42 rfl ?_
  refine x_aload hN dX1_add_44 rfl ?_
  refine g1_4 hN dX1_add_45 (fun hr45 => ?_)
  replace hr45 : -2147483648 ≤ σ 4 0 ∧ σ 4 0 < 2147483648 := hr45
  refine x_top (σ 4 0) rfl ?_
  refine w1_6 hN dX1_add_48 (by omega) (by omega) (by omega) ?_
  refine x_aload hN dX1_add_49 rfl ?_
  refine x_iload hN dX1_add_50 rfl ?_
  refine x_callv hN (m1_giveAction (sset (sset (sset (sset σ 7 (16 * t + σ 5 t) a) 8 (16 * t + σ 5 t) b) 9 (16 * t + σ 5 t) r) 6 (16 * t + σ 5 t) (σ 4 0)) (16 * t + σ 5 t) (by omega)) hw1_giveAction hy1_giveAction (by decide) rfl (by decide) rfl dX1_add_52 (fun u52 hp52 => ?_)
  subst hp52
  refine x_aload hN dX1_add_55 rfl ?_
  refine a1_5 hN dX1_add_56 ?_
  refine x_iloadn hN dX1_add_59 rfl ?_
  refine x_dup2 hN dX1_add_60 rfl rfl ?_
  refine l1_5 hN dX1_add_61 (by omega) (by omega) (fun hr61 => ?_)
  refine x_top (σ 5 _) rfl ?_
  refine x_iconst hN dX1_add_62 ?_
  refine x_iadd hN dX1_add_63 ?_
  refine w1_5 hN dX1_add_64 (by omega) (by omega) (by omega) ?_
  refine x_aload hN dX1_add_65 rfl ?_
  refine x_dup hN dX1_add_66 rfl ?_
  refine g1_4 hN dX1_add_67 (fun hr67 => ?_)
  replace hr67 : -2147483648 ≤ σ 4 0 ∧ σ 4 0 < 2147483648 := hr67
  refine x_top (σ 4 0) rfl ?_
  refine x_iconst hN dX1_add_70 ?_
  refine x_iadd hN dX1_add_71 ?_
  refine p1_4 hN dX1_add_72 (by omega) ?_
  refine x_aload hN dX1_add_75 rfl ?_
  refine g1_4 hN dX1_add_76 (fun hr76 => ?_)
  refine x_top (σ 4 0 + 1) rfl ?_
  refine x_iconst hN dX1_add_79 ?_
  refine x_isub hN dX1_add_80 ?_
  exact hret _ _ _ _ dX1_add_81 (by omega) ⟨by omega, rfl⟩
set_option maxHeartbeats 4000000 in
theorem m1_addPrefix (σ : zSt) (v n : Int) (hv : -2147483648 ≤ v ∧ v < 2147483648) (hn : -2147483648 ≤ n ∧ n < 2147483648) (hh : 0 ≤ σ 4 0 ∧ σ 4 0 < 1000) (hc : 0 ≤ σ 5 0 ∧ σ 5 0 ≤ 16) : Cx cd1 yX1_addPrefix cX1_addPrefix 3 .int 2 σ [v, n] (fun z u => (σ 5 0 = 16 ∧ z = -2 ∧ u = σ) ∨ (σ 5 0 < 16 ∧ ¬ (0 ≤ v ∧ v ≤ 255 ∧ 0 ≤ n ∧ n ≤ 8) ∧ z = -1 ∧ u = σ) ∨ (σ 5 0 < 16 ∧ (0 ≤ v ∧ v ≤ 255 ∧ 0 ≤ n ∧ n ≤ 8) ∧ z = σ 4 0 ∧ u = addM σ 0 v n n)) := by
  refine Cx_of wf1 (by decide +kernel) rfl (Nat.le_of_ble_eq_true rfl) (Or.inl rfl) (fun th_ => [some th_, some (iv v), some (iv n)]) (fun _ => rfl) ?_
  intro E hN hret hR0
  refine x_aload hN dX1_addPrefix_0 rfl ?_
  refine a1_5 hN dX1_addPrefix_1 ?_
  refine x_iconst hN dX1_addPrefix_4 ?_
  refine l1_5 hN dX1_addPrefix_5 (by omega) (by omega) (fun hr5 => ?_)
  refine x_bipush hN dX1_addPrefix_6 (by decide) ?_
  refine x_cmpne hN 14 dX1_addPrefix_8 (by decide) (by omega) (by omega) (fun h8 => ?_) (fun h8 => ?_)
  · refine x_aload hN dX1_addPrefix_14 rfl ?_
    refine x_iloadn hN dX1_addPrefix_15 rfl ?_
    refine x_call hN (m1_isByte σ v hv) hw1_isByte hy1_isByte (by decide) rfl (by decide) rfl dX1_addPrefix_16 (fun z16 u16 hz16 hp16 => ?_)
    obtain ⟨hu16, hp16⟩ := hp16
    rw [hu16]
    refine x_ifeq hN 32 dX1_addPrefix_19 (by decide) (by omega) (fun h19 => ?_) (fun h19 => ?_)
    · refine x_iconst hN dX1_addPrefix_32 ?_
      exact hret _ _ _ _ dX1_addPrefix_33 (by omega) (Or.inr (Or.inl ⟨by omega, by omega, rfl, rfl⟩))
    · refine x_iloadn hN dX1_addPrefix_22 rfl ?_
      refine x_iflt hN 32 dX1_addPrefix_23 (by decide) (by omega) (fun h23 => ?_) (fun h23 => ?_)
      · refine x_iconst hN dX1_addPrefix_32 ?_
        exact hret _ _ _ _ dX1_addPrefix_33 (by omega) (Or.inr (Or.inl ⟨by omega, by omega, rfl, rfl⟩))
      · refine x_iloadn hN dX1_addPrefix_26 rfl ?_
        refine x_bipush hN dX1_addPrefix_27 (by decide) ?_
        refine x_cmple hN 34 dX1_addPrefix_29 (by decide) (by omega) (by omega) (fun h29 => ?_) (fun h29 => ?_)
        · refine x_aload hN dX1_addPrefix_34 rfl ?_
          refine x_iconst hN dX1_addPrefix_35 ?_
          refine x_iloadn hN dX1_addPrefix_36 rfl ?_
          refine x_iloadn hN dX1_addPrefix_37 rfl ?_
          refine x_iloadn hN dX1_addPrefix_38 rfl ?_
          refine x_call hN (m1_add σ 0 v n n (by decide) hv hn hn (by omega) hh) hw1_add hy1_add (by decide) rfl (by decide) rfl dX1_addPrefix_39 (fun z39 u39 hz39 hp39 => ?_)
          exact hret _ _ _ _ dX1_addPrefix_42 (by omega) (Or.inr (Or.inr ⟨by omega, by omega, hp39⟩))
        · refine x_iconst hN dX1_addPrefix_32 ?_
          exact hret _ _ _ _ dX1_addPrefix_33 (by omega) (Or.inr (Or.inl ⟨by omega, by omega, rfl, rfl⟩))
  · refine x_bipush hN dX1_addPrefix_11 (by decide) ?_
    exact hret _ _ _ _ dX1_addPrefix_13 (by omega) (Or.inl ⟨by omega, rfl, rfl⟩)
set_option maxHeartbeats 4000000 in
theorem m1_addMasked (σ : zSt) (a b p : Int) (ha : -2147483648 ≤ a ∧ a < 2147483648) (hb : -2147483648 ≤ b ∧ b < 2147483648) (hp : -2147483648 ≤ p ∧ p < 2147483648) (hh : 0 ≤ σ 4 0 ∧ σ 4 0 < 1000) (hc : 0 ≤ σ 5 1 ∧ σ 5 1 ≤ 16) : Cx cd1 yX1_addMasked cX1_addMasked 4 .int 2 σ [a, b, p] (fun z u => (σ 5 1 = 16 ∧ z = -2 ∧ u = σ) ∨ (σ 5 1 < 16 ∧ ¬ (0 ≤ a ∧ a ≤ 65535 ∧ 0 ≤ b ∧ b ≤ 65535 ∧ 0 ≤ p ∧ p ≤ 15) ∧ z = -1 ∧ u = σ) ∨ (σ 5 1 < 16 ∧ (0 ≤ a ∧ a ≤ 65535 ∧ 0 ≤ b ∧ b ≤ 65535 ∧ 0 ≤ p ∧ p ≤ 15) ∧ z = σ 4 0 ∧ u = addM σ 1 a b p)) := by
  refine Cx_of wf1 (by decide +kernel) rfl (Nat.le_of_ble_eq_true rfl) (Or.inl rfl) (fun th_ => [some th_, some (iv a), some (iv b), some (iv p)]) (fun _ => rfl) ?_
  intro E hN hret hR0
  refine x_aload hN dX1_addMasked_0 rfl ?_
  refine a1_5 hN dX1_addMasked_1 ?_
  refine x_iconst hN dX1_addMasked_4 ?_
  refine l1_5 hN dX1_addMasked_5 (by omega) (by omega) (fun hr5 => ?_)
  refine x_bipush hN dX1_addMasked_6 (by decide) ?_
  refine x_cmpne hN 14 dX1_addMasked_8 (by decide) (by omega) (by omega) (fun h8 => ?_) (fun h8 => ?_)
  · refine x_iloadn hN dX1_addMasked_14 rfl ?_
    refine x_iflt hN 44 dX1_addMasked_15 (by decide) (by omega) (fun h15 => ?_) (fun h15 => ?_)
    · refine x_iconst hN dX1_addMasked_44 ?_
      exact hret _ _ _ _ dX1_addMasked_45 (by omega) (Or.inr (Or.inl ⟨by omega, by omega, rfl, rfl⟩))
    · refine x_iloadn hN dX1_addMasked_18 rfl ?_
      refine x_ldc (v := 65535) hN dX1_addMasked_19 q296 rfl ?_
      refine x_cmpgt hN 44 dX1_addMasked_21 (by decide) (by omega) (by omega) (fun h21 => ?_) (fun h21 => ?_)
      · refine x_iconst hN dX1_addMasked_44 ?_
        exact hret _ _ _ _ dX1_addMasked_45 (by omega) (Or.inr (Or.inl ⟨by omega, by omega, rfl, rfl⟩))
      · refine x_iloadn hN dX1_addMasked_24 rfl ?_
        refine x_iflt hN 44 dX1_addMasked_25 (by decide) (by omega) (fun h25 => ?_) (fun h25 => ?_)
        · refine x_iconst hN dX1_addMasked_44 ?_
          exact hret _ _ _ _ dX1_addMasked_45 (by omega) (Or.inr (Or.inl ⟨by omega, by omega, rfl, rfl⟩))
        · refine x_iloadn hN dX1_addMasked_28 rfl ?_
          refine x_ldc (v := 65535) hN dX1_addMasked_29 q296 rfl ?_
          refine x_cmpgt hN 44 dX1_addMasked_31 (by decide) (by omega) (by omega) (fun h31 => ?_) (fun h31 => ?_)
          · refine x_iconst hN dX1_addMasked_44 ?_
            exact hret _ _ _ _ dX1_addMasked_45 (by omega) (Or.inr (Or.inl ⟨by omega, by omega, rfl, rfl⟩))
          · refine x_iloadn hN dX1_addMasked_34 rfl ?_
            refine x_iflt hN 44 dX1_addMasked_35 (by decide) (by omega) (fun h35 => ?_) (fun h35 => ?_)
            · refine x_iconst hN dX1_addMasked_44 ?_
              exact hret _ _ _ _ dX1_addMasked_45 (by omega) (Or.inr (Or.inl ⟨by omega, by omega, rfl, rfl⟩))
            · refine x_iloadn hN dX1_addMasked_38 rfl ?_
              refine x_bipush hN dX1_addMasked_39 (by decide) ?_
              refine x_cmple hN 46 dX1_addMasked_41 (by decide) (by omega) (by omega) (fun h41 => ?_) (fun h41 => ?_)
              · refine x_aload hN dX1_addMasked_46 rfl ?_
                refine x_iconst hN dX1_addMasked_47 ?_
                refine x_iloadn hN dX1_addMasked_48 rfl ?_
                refine x_iloadn hN dX1_addMasked_49 rfl ?_
                refine x_iloadn hN dX1_addMasked_50 rfl ?_
                refine x_call hN (m1_add σ 1 a b p (by decide) ha hb hp (by omega) hh) hw1_add hy1_add (by decide) rfl (by decide) rfl dX1_addMasked_51 (fun z51 u51 hz51 hp51 => ?_)
                exact hret _ _ _ _ dX1_addMasked_54 (by omega) (Or.inr (Or.inr ⟨by omega, by omega, hp51⟩))
              · refine x_iconst hN dX1_addMasked_44 ?_
                exact hret _ _ _ _ dX1_addMasked_45 (by omega) (Or.inr (Or.inl ⟨by omega, by omega, rfl, rfl⟩))
  · refine x_bipush hN dX1_addMasked_11 (by decide) ?_
    exact hret _ _ _ _ dX1_addMasked_13 (by omega) (Or.inl ⟨by omega, rfl, rfl⟩)
set_option maxHeartbeats 4000000 in
theorem m1_shift (σ : zSt) (q : Int) (hq : 0 ≤ q ∧ q < 31) : Cv cd1 yX1_shift cX1_shift 2 0 σ [q] (fun u => u = shM σ q) := by
  refine Cv_of wf1 (by decide +kernel) rfl (Nat.le_of_ble_eq_true rfl) (fun th_ => [some th_, some (iv q)]) (fun _ => rfl) ?_
  intro E hN hret hR0
  refine x_aload hN dX1_shift_0 rfl ?_
  refine a1_6 hN dX1_shift_1 ?_
  refine x_iloadn hN dX1_shift_4 rfl ?_
  refine x_aload hN dX1_shift_5 rfl ?_
  refine a1_6 hN dX1_shift_6 ?_
  refine x_iloadn hN dX1_shift_9 rfl ?_
  refine x_iconst hN dX1_shift_10 ?_
  refine x_iadd hN dX1_shift_11 ?_
  refine l1_6 hN dX1_shift_12 (by omega) (by omega) (fun hr12 => ?_)
  refine w1_6 hN dX1_shift_13 (by omega) (by omega) (hR0 _ _) ?_
  refine x_aload hN dX1_shift_14 rfl ?_
  refine a1_7 hN dX1_shift_15 ?_
  refine x_iloadn hN dX1_shift_18 rfl ?_
  refine x_aload hN dX1_shift_19 rfl ?_
  refine a1_7 hN dX1_shift_20 ?_
  refine x_iloadn hN dX1_shift_23 rfl ?_
  refine x_iconst hN dX1_shift_24 ?_
  refine x_iadd hN dX1_shift_25 ?_
  refine l1_7 hN dX1_shift_26 (by omega) (by omega) (fun hr26 => ?_)
  refine x_top (σ 7 _) rfl ?_
  refine w1_7 hN dX1_shift_27 (by omega) (by omega) (hR0 _ _) ?_
  refine x_aload hN dX1_shift_28 rfl ?_
  refine a1_8 hN dX1_shift_29 ?_
  refine x_iloadn hN dX1_shift_32 rfl ?_
  refine x_aload hN dX1_shift_33 rfl ?_
  refine a1_8 hN dX1_shift_34 ?_
  refine x_iloadn hN dX1_shift_37 rfl ?_
  refine x_iconst hN dX1_shift_38 ?_
  refine x_iadd hN dX1_shift_39 ?_
  refine l1_8 hN dX1_shift_40 (by omega) (by omega) (fun hr40 => ?_)
  refine x_top (σ 8 _) rfl ?_
  refine w1_8 hN dX1_shift_41 (by omega) (by omega) (hR0 _ _) ?_
  refine x_aload hN dX1_shift_42 rfl ?_
  refine a1_9 hN dX1_shift_43 ?_
  refine x_iloadn hN dX1_shift_46 rfl ?_
  refine x_aload hN dX1_shift_47 rfl ?_
  refine a1_9 hN dX1_shift_48 ?_
  refine x_iloadn hN dX1_shift_51 rfl ?_
  refine x_iconst hN dX1_shift_52 ?_
  refine x_iadd hN dX1_shift_53 ?_
  refine l1_9 hN dX1_shift_54 (by omega) (by omega) (fun hr54 => ?_)
  refine x_top (σ 9 _) rfl ?_
  refine w1_9 hN dX1_shift_55 (by omega) (by omega) (hR0 _ _) ?_
  refine x_aload hN dX1_shift_56 rfl ?_
  refine a1_10 hN dX1_shift_57 ?_
  refine x_iloadn hN dX1_shift_60 rfl ?_
  refine x_aload hN dX1_shift_61 rfl ?_
  refine a1_10 hN dX1_shift_62 ?_
  refine x_iloadn hN dX1_shift_65 rfl ?_
  refine x_iconst hN dX1_shift_66 ?_
  refine x_iadd hN dX1_shift_67 ?_
  refine l1_10 hN dX1_shift_68 (by omega) (by omega) (fun hr68 => ?_)
  refine x_top (σ 10 _) rfl ?_
  refine w1_10 hN dX1_shift_69 (by omega) (by omega) (hR0 _ _) ?_
  refine x_aload hN dX1_shift_70 rfl ?_
  refine a1_11 hN dX1_shift_71 ?_
  refine x_iloadn hN dX1_shift_74 rfl ?_
  refine x_aload hN dX1_shift_75 rfl ?_
  refine a1_11 hN dX1_shift_76 ?_
  refine x_iloadn hN dX1_shift_79 rfl ?_
  refine x_iconst hN dX1_shift_80 ?_
  refine x_iadd hN dX1_shift_81 ?_
  refine l1_11 hN dX1_shift_82 (by omega) (by omega) (fun hr82 => ?_)
  refine x_top (σ 11 _) rfl ?_
  refine w1_11 hN dX1_shift_83 (by omega) (by omega) (hR0 _ _) ?_
  refine x_aload hN dX1_shift_84 rfl ?_
  refine a1_12 hN dX1_shift_85 ?_
  refine x_iloadn hN dX1_shift_88 rfl ?_
  refine x_aload hN dX1_shift_89 rfl ?_
  refine a1_12 hN dX1_shift_90 ?_
  refine x_iloadn hN dX1_shift_93 rfl ?_
  refine x_iconst hN dX1_shift_94 ?_
  refine x_iadd hN dX1_shift_95 ?_
  refine l1_12 hN dX1_shift_96 (by omega) (by omega) (fun hr96 => ?_)
  refine x_top (σ 12 _) rfl ?_
  refine w1_12 hN dX1_shift_97 (by omega) (by omega) (hR0 _ _) ?_
  exact hret _ _ _ dX1_shift_98 rfl
set_option maxHeartbeats 4000000 in
theorem m1_find (σ : zSt) (h : Int) (hh : -2147483648 ≤ h ∧ h < 2147483648) (hc : ∀ t, 0 ≤ t → t ≤ 1 → 0 ≤ σ 5 t ∧ σ 5 t ≤ 16) : Cx cd1 yX1_find cX1_find 3 .int 0 σ [h] (fun z u => u = σ ∧ ((z = -1 ∧ ∀ q, 0 ≤ q → q < 32 → q % 16 < σ 5 (q / 16) → σ 6 q ≠ h) ∨ (0 ≤ z ∧ z < 32 ∧ z % 16 < σ 5 (z / 16) ∧ σ 6 z = h))) := by
  refine Cx_of wf1 (by decide +kernel) rfl (Nat.le_of_ble_eq_true rfl) (Or.inl rfl) (fun th_ => [some th_, some (iv h), none]) (fun _ => rfl) ?_
  intro E hN hret hR0
  have loop : ∀ (m : Nat) (e : Int), 0 ≤ e → e ≤ 32 → 32 < e + m → (∀ j, 0 ≤ j → j < e → j % 16 < σ 5 (j / 16) → σ 6 j ≠ h) → WX E cd1 σ 2 [some (th E), some (iv h), some (iv e)] [] := by
    intro m
    induction m with
    | zero => intro e h1 h2 h3; exact absurd h3 (by omega)
    | succ m ih =>
      intro e he0 he1 hem hno
      refine x_iloadn hN dX1_find_2 rfl ?_
      refine x_bipush hN dX1_find_3 (by decide) ?_
      refine x_cmpge hN 42 dX1_find_5 (by decide) (by omega) (by omega) (fun h5 => ?_) (fun h5 => ?_)
      · refine x_iconst hN dX1_find_42 ?_
        exact hret _ _ _ _ dX1_find_43 (by omega) ⟨rfl, Or.inl ⟨rfl, fun j j0 j1 j2 => hno j j0 (by omega) j2⟩⟩
      · refine x_iloadn hN dX1_find_8 rfl ?_
        refine x_bipush hN dX1_find_9 (by decide) ?_
        refine x_irem hN dX1_find_11 (by omega) (by omega) ?_
        refine x_aload hN dX1_find_12 rfl ?_
        refine a1_5 hN dX1_find_13 ?_
        refine x_iloadn hN dX1_find_16 rfl ?_
        refine x_bipush hN dX1_find_17 (by decide) ?_
        refine x_idiv hN dX1_find_19 (by omega) (by omega) ?_
        refine l1_5 hN dX1_find_20 (by omega) (by omega) (fun hr20 => ?_)
        refine x_cmpge hN 36 dX1_find_21 (by decide) (by omega) (by omega) (fun h21 => ?_) (fun h21 => ?_)
        · refine x_in2 hN dX1_find_36 ?_
          refine x_goto hN 2 dX1_find_39 (by decide) ?_
          exact ih (e + 1) (by omega) (by omega) (by omega) (fun j j0 j1 j2 => by
            by_cases hj : j = e
            · subst hj; first | exact h31 | (exfalso; omega)
            · exact hno j j0 (by omega) j2)
        · refine x_aload hN dX1_find_24 rfl ?_
          refine a1_6 hN dX1_find_25 ?_
          refine x_iloadn hN dX1_find_28 rfl ?_
          refine l1_6 hN dX1_find_29 (by omega) (by omega) (fun hr29 => ?_)
          refine x_iloadn hN dX1_find_30 rfl ?_
          refine x_cmpne hN 36 dX1_find_31 (by decide) (by omega) (by omega) (fun h31 => ?_) (fun h31 => ?_)
          · refine x_in2 hN dX1_find_36 ?_
            refine x_goto hN 2 dX1_find_39 (by decide) ?_
            exact ih (e + 1) (by omega) (by omega) (by omega) (fun j j0 j1 j2 => by
              by_cases hj : j = e
              · subst hj; first | exact h31 | (exfalso; omega)
              · exact hno j j0 (by omega) j2)
          · refine x_iloadn hN dX1_find_34 rfl ?_
            exact hret _ _ _ _ dX1_find_35 (by omega) ⟨rfl, Or.inr ⟨by omega, by omega, h21, h31⟩⟩
  refine x_iconst hN dX1_find_0 ?_
  refine x_st2 hN dX1_find_1 ?_
  exact loop 33 0 (by omega) (by omega) (by omega) (fun j j0 j1 => by omega)
set_option maxHeartbeats 4000000 in
theorem m1_remove (σ : zSt) (h : Int) (hh : -2147483648 ≤ h ∧ h < 2147483648) (hc : ∀ t, 0 ≤ t → t ≤ 1 → 0 ≤ σ 5 t ∧ σ 5 t ≤ 16) : Cx cd1 yX1_remove cX1_remove 5 .int 1 σ [h] (fun z u => (z = -3 ∧ u = σ ∧ ∀ q, 0 ≤ q → q < 32 → q % 16 < σ 5 (q / 16) → σ 6 q ≠ h) ∨ (∃ q, 0 ≤ q ∧ q < 32 ∧ q % 16 < σ 5 (q / 16) ∧ σ 6 q = h ∧ z = σ 5 (q / 16) - 1 ∧ u = remM σ q)) := by
  refine Cx_of wf1 (by decide +kernel) rfl (Nat.le_of_ble_eq_true rfl) (Or.inl rfl) (fun th_ => [some th_, some (iv h), none, none, none]) (fun _ => rfl) ?_
  intro E hN hret hR0
  have loop : ∀ (m : Nat) (q k : Int), 0 ≤ q → q < 32 → q % 16 < σ 5 (q / 16) → σ 6 q = h → q ≤ k → k ≤ 16 * (q / 16) + σ 5 (q / 16) - 1 → 16 * (q / 16) + σ 5 (q / 16) - 1 < k + m → WX E cd1 (shU σ q k) 21 [some (th E), some (iv h), some (iv q), some (iv (q / 16)), some (iv k)] [] := by
    intro m
    induction m with
    | zero => intro q k _ _ _ _ h1 h2 h3; exact absurd h3 (by omega)
    | succ m ih =>
      intro q k hq0 hq1 hql hqh hk0 hk1 hkm
      have hct := hc (q / 16) (by omega) (by omega)
      have e5 : ∀ j, shU σ q k 5 j = σ 5 j := fun j => by
        unfold shU
        rw [if_neg (by omega)]
      refine x_iload hN dX1_remove_21 rfl ?_
      refine x_bipush hN dX1_remove_23 (by decide) ?_
      refine x_iloadn hN dX1_remove_25 rfl ?_
      refine x_imul hN dX1_remove_26 ?_
      refine x_aload hN dX1_remove_27 rfl ?_
      refine a1_5 hN dX1_remove_28 ?_
      refine x_iloadn hN dX1_remove_31 rfl ?_
      refine l1_5 hN dX1_remove_32 (by omega) (by omega) (fun hr32 => ?_)
      rw [e5] at hr32
      refine x_top (σ 5 (q / 16)) (e5 _) ?_
      refine x_iadd hN dX1_remove_33 ?_
      refine x_iconst hN dX1_remove_34 ?_
      refine x_isub hN dX1_remove_35 ?_
      refine x_cmpge hN 51 dX1_remove_36 (by decide) (by omega) (by omega) (fun h36 => ?_) (fun h36 => ?_)
      · refine x_aload hN dX1_remove_51 rfl ?_
        refine a1_5 hN dX1_remove_52 ?_
        refine x_iloadn hN dX1_remove_55 rfl ?_
        refine x_dup2 hN dX1_remove_56 rfl rfl ?_
        refine l1_5 hN dX1_remove_57 (by omega) (by omega) (fun hr57 => ?_)
        rw [e5] at hr57
        refine x_top (σ 5 (q / 16)) (e5 _) ?_
        refine x_iconst hN dX1_remove_58 ?_
        refine x_isub hN dX1_remove_59 ?_
        refine w1_5 hN dX1_remove_60 (by omega) (by omega) (by omega) ?_
        refine x_aload hN dX1_remove_61 rfl ?_
        refine a1_5 hN dX1_remove_62 ?_
        refine x_iloadn hN dX1_remove_65 rfl ?_
        refine l1_5 hN dX1_remove_66 (by omega) (by omega) (fun hr66 => ?_)
        refine x_top (σ 5 (q / 16) - 1) (by simp [sset]) ?_
        exact hret _ _ _ _ dX1_remove_67 (by omega) (Or.inr ⟨q, hq0, hq1, hql, hqh, rfl, by unfold remM; rw [show k = 16 * (q / 16) + σ 5 (q / 16) - 1 by omega]⟩)
      · refine x_aload hN dX1_remove_39 rfl ?_
        refine x_iload hN dX1_remove_40 rfl ?_
        refine x_callv hN (m1_shift (shU σ q k) k (by omega)) hw1_shift hy1_shift (by decide) rfl (by decide) rfl dX1_remove_42 (fun u42 hp42 => ?_)
        subst hp42
        refine x_in4 hN dX1_remove_45 ?_
        refine x_goto hN 21 dX1_remove_48 (by decide) ?_
        rw [shU_s σ hk0]
        exact ih q (k + 1) hq0 hq1 hql hqh (by omega) (by omega) (by omega)
  refine x_aload hN dX1_remove_0 rfl ?_
  refine x_iloadn hN dX1_remove_1 rfl ?_
  refine x_call hN (m1_find σ h hh hc) hw1_find hy1_find (by decide) rfl (by decide) rfl dX1_remove_2 (fun z2 u2 hz2 hp2 => ?_)
  obtain ⟨hu2, hp2⟩ := hp2
  rw [hu2]
  refine x_st2 hN dX1_remove_5 ?_
  refine x_iloadn hN dX1_remove_6 rfl ?_
  refine x_ifge hN 13 dX1_remove_7 (by decide) (by omega) (fun h7 => ?_) (fun h7 => ?_)
  · have hz32 : z2 < 32 := by rcases hp2 with q | q <;> omega
    refine x_iloadn hN dX1_remove_13 rfl ?_
    refine x_bipush hN dX1_remove_14 (by decide) ?_
    refine x_idiv hN dX1_remove_16 (by omega) (by omega) ?_
    refine x_st3 hN dX1_remove_17 ?_
    refine x_iloadn hN dX1_remove_18 rfl ?_
    refine x_st4 hN dX1_remove_19 ?_
    rcases hp2 with q | ⟨q1, q2, q3, q4⟩
    · exact absurd q.1 (by omega)
    have hct := hc (z2 / 16) (by omega) (by omega)
    have l := loop 17 z2 z2 q1 q2 q3 q4 (by omega) (by omega) (by omega)
    rw [shU_0] at l
    exact l
  · refine x_bipush hN dX1_remove_10 (by decide) ?_
    exact hret _ _ _ _ dX1_remove_12 (by omega) (Or.inl ⟨rfl, rfl, by rcases hp2 with q | q; exact q.2; exact absurd q.1 (by omega)⟩)
set_option maxHeartbeats 4000000 in
theorem m1_isTable (σ : zSt) (t : Int) (ht : -2147483648 ≤ t ∧ t < 2147483648) : Cx cd1 yX1_isTable cX1_isTable 2 .boolean 0 σ [t] (fun z u => u = σ ∧ ((z = 1 ∧ 0 ≤ t ∧ t ≤ 1) ∨ (z = 0 ∧ ¬ (0 ≤ t ∧ t ≤ 1)))) := by
  refine Cx_of wf1 (by decide +kernel) rfl (Nat.le_of_ble_eq_true rfl) (Or.inr ⟨rfl, (fun z u h => by rcases h.2 with h | h <;> omega)⟩) (fun th_ => [some th_, some (iv t)]) (fun _ => rfl) ?_
  intro E hN hret hR0
  refine x_iloadn hN dX1_isTable_0 rfl ?_
  refine x_ifeq hN 9 dX1_isTable_1 (by decide) (by omega) (fun h1 => ?_) (fun h1 => ?_)
  · refine x_iconst hN dX1_isTable_9 ?_
    refine x_goto hN 14 dX1_isTable_10 (by decide) ?_
    exact hret _ _ _ _ dX1_isTable_14 (by omega) ⟨rfl, by omega⟩
  · refine x_iloadn hN dX1_isTable_4 rfl ?_
    refine x_iconst hN dX1_isTable_5 ?_
    refine x_cmpne hN 13 dX1_isTable_6 (by decide) (by omega) (by omega) (fun h6 => ?_) (fun h6 => ?_)
    · refine x_iconst hN dX1_isTable_13 ?_
      exact hret _ _ _ _ dX1_isTable_14 (by omega) ⟨rfl, by omega⟩
    · refine x_iconst hN dX1_isTable_9 ?_
      refine x_goto hN 14 dX1_isTable_10 (by decide) ?_
      exact hret _ _ _ _ dX1_isTable_14 (by omega) ⟨rfl, by omega⟩
set_option maxHeartbeats 4000000 in
theorem m1_setDefault (σ : zSt) (t : Int) (ht : -2147483648 ≤ t ∧ t < 2147483648) : Cx cd1 yX1_setDefault cX1_setDefault 2 .boolean 1 σ [t] (fun z u => (0 ≤ t ∧ t ≤ 1 ∧ z = 1 ∧ u = giveA σ (32 + t)) ∨ (¬ (0 ≤ t ∧ t ≤ 1) ∧ z = 0 ∧ u = σ)) := by
  refine Cx_of wf1 (by decide +kernel) rfl (Nat.le_of_ble_eq_true rfl) (Or.inr ⟨rfl, (fun z u h => by rcases h with h | h <;> omega)⟩) (fun th_ => [some th_, some (iv t)]) (fun _ => rfl) ?_
  intro E hN hret hR0
  refine x_aload hN dX1_setDefault_0 rfl ?_
  refine x_iloadn hN dX1_setDefault_1 rfl ?_
  refine x_call hN (m1_isTable σ t ht) hw1_isTable hy1_isTable (by decide) rfl (by decide) rfl dX1_setDefault_2 (fun z2 u2 hz2 hp2 => ?_)
  obtain ⟨hu2, hp2⟩ := hp2
  rw [hu2]
  refine x_ifne hN 10 dX1_setDefault_5 (by decide) (by omega) (fun h5 => ?_) (fun h5 => ?_)
  · refine x_aload hN dX1_setDefault_10 rfl ?_
    refine x_bipush hN dX1_setDefault_11 (by decide) ?_
    refine x_iloadn hN dX1_setDefault_13 rfl ?_
    refine x_iadd hN dX1_setDefault_14 ?_
    refine x_callv hN (m1_giveAction σ (32 + t) (by omega)) hw1_giveAction hy1_giveAction (by decide) rfl (by decide) rfl dX1_setDefault_15 (fun u15 hp15 => ?_)
    subst hp15
    refine x_iconst hN dX1_setDefault_18 ?_
    exact hret _ _ _ _ dX1_setDefault_19 (by omega) (Or.inl ⟨by omega, by omega, rfl, rfl⟩)
  · refine x_iconst hN dX1_setDefault_8 ?_
    exact hret _ _ _ _ dX1_setDefault_9 (by omega) (Or.inr ⟨by omega, rfl, rfl⟩)
set_option maxHeartbeats 4000000 in
theorem m1_field (σ : zSt) (f v : Int) (hf : -2147483648 ≤ f ∧ f < 2147483648) (hv : -2147483648 ≤ v ∧ v < 2147483648) : Cx cd1 yX1_field cX1_field 3 .boolean 1 σ [f, v] (fun z u => (0 ≤ f ∧ f ≤ 3 ∧ 0 ≤ v ∧ v ≤ 255 ∧ z = 1 ∧ u = sset σ 0 f v) ∨ (¬ (0 ≤ f ∧ f ≤ 3 ∧ 0 ≤ v ∧ v ≤ 255) ∧ z = 0 ∧ u = σ)) := by
  refine Cx_of wf1 (by decide +kernel) rfl (Nat.le_of_ble_eq_true rfl) (Or.inr ⟨rfl, (fun z u h => by rcases h with h | h <;> omega)⟩) (fun th_ => [some th_, some (iv f), some (iv v)]) (fun _ => rfl) ?_
  intro E hN hret hR0
  refine x_iloadn hN dX1_field_0 rfl ?_
  refine x_iflt hN 17 dX1_field_1 (by decide) (by omega) (fun h1 => ?_) (fun h1 => ?_)
  · refine x_iconst hN dX1_field_17 ?_
    exact hret _ _ _ _ dX1_field_18 (by omega) (Or.inr ⟨by omega, rfl, rfl⟩)
  · refine x_iloadn hN dX1_field_4 rfl ?_
    refine x_iconst hN dX1_field_5 ?_
    refine x_cmpgt hN 17 dX1_field_6 (by decide) (by omega) (by omega) (fun h6 => ?_) (fun h6 => ?_)
    · refine x_iconst hN dX1_field_17 ?_
      exact hret _ _ _ _ dX1_field_18 (by omega) (Or.inr ⟨by omega, rfl, rfl⟩)
    · refine x_aload hN dX1_field_9 rfl ?_
      refine x_iloadn hN dX1_field_10 rfl ?_
      refine x_call hN (m1_isByte σ v hv) hw1_isByte hy1_isByte (by decide) rfl (by decide) rfl dX1_field_11 (fun z11 u11 hz11 hp11 => ?_)
      obtain ⟨hu11, hp11⟩ := hp11
      rw [hu11]
      refine x_ifne hN 19 dX1_field_14 (by decide) (by omega) (fun h14 => ?_) (fun h14 => ?_)
      · refine x_aload hN dX1_field_19 rfl ?_
        refine a1_0 hN dX1_field_20 ?_
        refine x_iloadn hN dX1_field_23 rfl ?_
        refine x_iloadn hN dX1_field_24 rfl ?_
        refine w1_0 hN dX1_field_25 (by omega) (by omega) (by omega) ?_
        refine x_iconst hN dX1_field_26 ?_
        exact hret _ _ _ _ dX1_field_27 (by omega) (Or.inl ⟨by omega, by omega, by omega, by omega, rfl, rfl⟩)
      · refine x_iconst hN dX1_field_17 ?_
        exact hret _ _ _ _ dX1_field_18 (by omega) (Or.inr ⟨by omega, rfl, rfl⟩)
set_option maxHeartbeats 4000000 in
theorem m1_get (σ : zSt) (f : Int) (hf : -2147483648 ≤ f ∧ f < 2147483648) : Cx cd1 yX1_get cX1_get 2 .int 0 σ [f] (fun z u => u = σ ∧ ((0 ≤ f ∧ f ≤ 3 ∧ z = σ 0 f) ∨ (¬ (0 ≤ f ∧ f ≤ 3) ∧ z = -1))) := by
  refine Cx_of wf1 (by decide +kernel) rfl (Nat.le_of_ble_eq_true rfl) (Or.inl rfl) (fun th_ => [some th_, some (iv f)]) (fun _ => rfl) ?_
  intro E hN hret hR0
  refine x_iloadn hN dX1_get_0 rfl ?_
  refine x_iflt hN 18 dX1_get_1 (by decide) (by omega) (fun h1 => ?_) (fun h1 => ?_)
  · refine x_iconst hN dX1_get_18 ?_
    exact hret _ _ _ _ dX1_get_19 (by omega) ⟨rfl, by first | exact Or.inr ⟨by omega, rfl⟩ | exact Or.inl ⟨by omega, by omega, rfl⟩⟩
  · refine x_iloadn hN dX1_get_4 rfl ?_
    refine x_iconst hN dX1_get_5 ?_
    refine x_cmpgt hN 18 dX1_get_6 (by decide) (by omega) (by omega) (fun h6 => ?_) (fun h6 => ?_)
    · refine x_iconst hN dX1_get_18 ?_
      exact hret _ _ _ _ dX1_get_19 (by omega) ⟨rfl, by first | exact Or.inr ⟨by omega, rfl⟩ | exact Or.inl ⟨by omega, by omega, rfl⟩⟩
    · refine x_aload hN dX1_get_9 rfl ?_
      refine a1_0 hN dX1_get_10 ?_
      refine x_iloadn hN dX1_get_13 rfl ?_
      refine l1_0 hN dX1_get_14 (by omega) (by omega) (fun hr14 => ?_)
      refine x_goto hN 19 dX1_get_15 (by decide) ?_
      exact hret _ _ _ _ dX1_get_19 (by omega) ⟨rfl, by first | exact Or.inr ⟨by omega, rfl⟩ | exact Or.inl ⟨by omega, by omega, rfl⟩⟩
set_option maxHeartbeats 4000000 in
theorem m1_fits (σ : zSt) (q v : Int) (hq : 0 ≤ q ∧ q < 32) (hv : -2147483648 ≤ v ∧ v < 2147483648) (hb : q < 16 → 0 ≤ σ 8 q ∧ σ 8 q ≤ 8) (hm : 16 ≤ q → 0 ≤ σ 7 q ∧ 0 ≤ σ 8 q) (hf : ∀ j, 0 ≤ j → j < 4 → 0 ≤ σ 0 j ∧ σ 0 j ≤ 255) : Cx cd1 yX1_fits cX1_fits 4 .boolean 0 σ [q, v] (fun z u => u = σ ∧ ((z = 1 ∧ Fit σ q v) ∨ (z = 0 ∧ ¬ Fit σ q v))) := by
  refine Cx_of wf1 (by decide +kernel) rfl (Nat.le_of_ble_eq_true rfl) (Or.inr ⟨rfl, (fun z u h => by rcases h.2 with h | h <;> omega)⟩) (fun th_ => [some th_, some (iv q), some (iv v), none]) (fun _ => rfl) ?_
  intro E hN hret hR0
  refine x_iloadn hN dX1_fits_0 rfl ?_
  refine x_bipush hN dX1_fits_1 (by decide) ?_
  refine x_cmpge hN 42 dX1_fits_3 (by decide) (by omega) (by omega) (fun h3 => ?_) (fun h3 => ?_)
  · have qm := hm h3
    have qf1 := hf 1 (by omega) (by omega)
    have qf2 := hf 2 (by omega) (by omega)
    refine x_aload hN dX1_fits_42 rfl ?_
    refine a1_0 hN dX1_fits_43 ?_
    refine x_iconst hN dX1_fits_46 ?_
    refine l1_0 hN dX1_fits_47 (by omega) (by omega) (fun hr47 => ?_)
    refine x_aload hN dX1_fits_48 rfl ?_
    refine a1_7 hN dX1_fits_49 ?_
    refine x_iloadn hN dX1_fits_52 rfl ?_
    refine l1_7 hN dX1_fits_53 (by omega) (by omega) (fun hr53 => ?_)
    refine x_iand hN dX1_fits_54 (by omega) (by omega) ?_
    refine x_sipush hN dX1_fits_55 (by decide) ?_
    refine x_iandm hN dX1_fits_58 256 8 (by decide) (by decide) (by decide) ?_
    refine x_aload hN dX1_fits_59 rfl ?_
    refine a1_7 hN dX1_fits_60 ?_
    refine x_iloadn hN dX1_fits_63 rfl ?_
    refine l1_7 hN dX1_fits_64 (by omega) (by omega) (fun hr64 => ?_)
    refine x_bipush hN dX1_fits_65 (by decide) ?_
    refine x_ishr hN dX1_fits_67 256 (by decide) (by omega) (by omega) ?_
    refine x_aload hN dX1_fits_68 rfl ?_
    refine a1_7 hN dX1_fits_69 ?_
    refine x_iloadn hN dX1_fits_72 rfl ?_
    refine l1_7 hN dX1_fits_73 (by omega) (by omega) (fun hr73 => ?_)
    refine x_iand hN dX1_fits_74 (by omega) (by omega) ?_
    refine x_sipush hN dX1_fits_75 (by decide) ?_
    refine x_iandm hN dX1_fits_78 256 8 (by decide) (by decide) (by decide) ?_
    refine x_cmpne hN 86 dX1_fits_79 (by decide) (by omega) (by omega) (fun h79 => ?_) (fun h79 => ?_)
    · refine x_iconst hN dX1_fits_86 ?_
      refine x_st3 hN dX1_fits_87 ?_
      refine x_iloadn hN dX1_fits_88 rfl ?_
      refine x_ifeq hN 136 dX1_fits_89 (by decide) (by omega) (fun h89 => ?_) (fun h89 => ?_)
      · refine x_iconst hN dX1_fits_136 ?_
        exact hret _ _ _ _ dX1_fits_137 (by omega) ⟨rfl, Or.inr ⟨rfl, fun w => by rcases w with ⟨w1, w2⟩ | ⟨w1, w2, w3⟩; omega; exact h79 w2⟩⟩
      · exact absurd rfl h89
    · refine x_iconst hN dX1_fits_82 ?_
      refine x_goto hN 87 dX1_fits_83 (by decide) ?_
      refine x_st3 hN dX1_fits_87 ?_
      refine x_iloadn hN dX1_fits_88 rfl ?_
      refine x_ifeq hN 136 dX1_fits_89 (by decide) (by omega) (fun h89 => ?_) (fun h89 => ?_)
      · exact absurd h89 (by decide)
      · refine x_aload hN dX1_fits_92 rfl ?_
        refine a1_0 hN dX1_fits_93 ?_
        refine x_iconst hN dX1_fits_96 ?_
        refine l1_0 hN dX1_fits_97 (by omega) (by omega) (fun hr97 => ?_)
        refine x_aload hN dX1_fits_98 rfl ?_
        refine a1_8 hN dX1_fits_99 ?_
        refine x_iloadn hN dX1_fits_102 rfl ?_
        refine l1_8 hN dX1_fits_103 (by omega) (by omega) (fun hr103 => ?_)
        refine x_iand hN dX1_fits_104 (by omega) (by omega) ?_
        refine x_sipush hN dX1_fits_105 (by decide) ?_
        refine x_iandm hN dX1_fits_108 256 8 (by decide) (by decide) (by decide) ?_
        refine x_aload hN dX1_fits_109 rfl ?_
        refine a1_8 hN dX1_fits_110 ?_
        refine x_iloadn hN dX1_fits_113 rfl ?_
        refine l1_8 hN dX1_fits_114 (by omega) (by omega) (fun hr114 => ?_)
        refine x_bipush hN dX1_fits_115 (by decide) ?_
        refine x_ishr hN dX1_fits_117 256 (by decide) (by omega) (by omega) ?_
        refine x_aload hN dX1_fits_118 rfl ?_
        refine a1_8 hN dX1_fits_119 ?_
        refine x_iloadn hN dX1_fits_122 rfl ?_
        refine l1_8 hN dX1_fits_123 (by omega) (by omega) (fun hr123 => ?_)
        refine x_iand hN dX1_fits_124 (by omega) (by omega) ?_
        refine x_sipush hN dX1_fits_125 (by decide) ?_
        refine x_iandm hN dX1_fits_128 256 8 (by decide) (by decide) (by decide) ?_
        refine x_cmpne hN 136 dX1_fits_129 (by decide) (by omega) (by omega) (fun h129 => ?_) (fun h129 => ?_)
        · refine x_iconst hN dX1_fits_136 ?_
          exact hret _ _ _ _ dX1_fits_137 (by omega) ⟨rfl, Or.inr ⟨rfl, fun w => by rcases w with ⟨w1, w2⟩ | ⟨w1, w2, w3⟩; omega; exact h129 w3⟩⟩
        · refine x_iconst hN dX1_fits_132 ?_
          refine x_goto hN 137 dX1_fits_133 (by decide) ?_
          exact hret _ _ _ _ dX1_fits_137 (by omega) ⟨rfl, Or.inl ⟨rfl, Or.inr ⟨h3, h79, h129⟩⟩⟩
  · have qb := hb h3
    refine x_iloadn hN dX1_fits_6 rfl ?_
    refine x_bipush hN dX1_fits_7 (by decide) ?_
    refine x_aload hN dX1_fits_9 rfl ?_
    refine a1_8 hN dX1_fits_10 ?_
    refine x_iloadn hN dX1_fits_13 rfl ?_
    refine l1_8 hN dX1_fits_14 (by omega) (by omega) (fun hr14 => ?_)
    refine x_isub hN dX1_fits_15 ?_
    refine x_ishr hN dX1_fits_16 _ rfl (by omega) (by omega) ?_
    refine x_aload hN dX1_fits_17 rfl ?_
    refine a1_7 hN dX1_fits_18 ?_
    refine x_iloadn hN dX1_fits_21 rfl ?_
    refine l1_7 hN dX1_fits_22 (by omega) (by omega) (fun hr22 => ?_)
    refine x_bipush hN dX1_fits_23 (by decide) ?_
    refine x_aload hN dX1_fits_25 rfl ?_
    refine a1_8 hN dX1_fits_26 ?_
    refine x_iloadn hN dX1_fits_29 rfl ?_
    refine l1_8 hN dX1_fits_30 (by omega) (by omega) (fun hr30 => ?_)
    refine x_isub hN dX1_fits_31 ?_
    refine x_ishr hN dX1_fits_32 _ rfl (by omega) (by omega) ?_
    refine x_cmpne hN 40 dX1_fits_33 (by decide) (z_dv _ hv) (z_dv _ (hR0 _ _)) (fun h33 => ?_) (fun h33 => ?_)
    · refine x_iconst hN dX1_fits_40 ?_
      exact hret _ _ _ _ dX1_fits_41 (by omega) ⟨rfl, Or.inr ⟨rfl, fun w => by rcases w with ⟨w1, w2⟩ | ⟨w1, w2, w3⟩; exact h33 w2; omega⟩⟩
    · refine x_iconst hN dX1_fits_36 ?_
      refine x_goto hN 41 dX1_fits_37 (by decide) ?_
      exact hret _ _ _ _ dX1_fits_41 (by omega) ⟨rfl, Or.inl ⟨rfl, Or.inl ⟨h3, h33⟩⟩⟩
theorem Tk_no {σ : zSt} {t v e b : Int} (h : Tk σ t v e b) (hf : ¬ Fit σ e v) : Tk σ t v (e + 1) b := by
  rcases h with ⟨h1, h2⟩ | ⟨h1, h2, h3, h4⟩
  · refine Or.inl ⟨h1, fun q q1 q2 => ?_⟩
    by_cases hq : q = e
    · rw [hq]; exact hf
    · exact h2 q q1 (by omega)
  · refine Or.inr ⟨h1, by omega, h3, fun q q1 q2 q3 => ?_⟩
    by_cases hq : q = e
    · rw [hq] at q3; exact absurd q3 hf
    · exact h4 q q1 (by omega) q3
theorem Tk_old {σ : zSt} {t v e b : Int} (h : Tk σ t v e b) (hb : 0 ≤ b) (hr : σ 9 e ≤ σ 9 b) : Tk σ t v (e + 1) b := by
  rcases h with ⟨h1, h2⟩ | ⟨h1, h2, h3, h4⟩
  · omega
  · refine Or.inr ⟨h1, by omega, h3, fun q q1 q2 q3 => ?_⟩
    by_cases hq : q = e
    · rw [hq]; omega
    · exact h4 q q1 (by omega) q3
theorem Tk_yes {σ : zSt} {t v e b : Int} (h : Tk σ t v e b) (he : 0 ≤ t ∧ 16 * t ≤ e) (hf : Fit σ e v) (hr : b < 0 ∨ σ 9 b < σ 9 e) : Tk σ t v (e + 1) e := by
  refine Or.inr ⟨he.2, by omega, hf, fun q q1 q2 q3 => ?_⟩
  by_cases hq : q = e
  · rw [hq]; exact Or.inr ⟨rfl, Int.le_refl e⟩
  · rcases h with ⟨h1, h2⟩ | ⟨h1, h2, h3, h4⟩
    · exact absurd q3 (h2 q q1 (by omega))
    · have := h4 q q1 (by omega) q3
      by_cases hb : b < 0
      · have h5 := h4 q q1 (by omega) q3
        left
        rcases hr with hr | hr
        · exfalso; omega
        · omega
      · left
        rcases hr with hr | hr <;> omega
set_option maxHeartbeats 4000000 in
theorem m1_taken (σ : zSt) (t v : Int) (ht : 0 ≤ t ∧ t ≤ 1) (hv : -2147483648 ≤ v ∧ v < 2147483648) (hI : MI σ) : Cx cd1 yX1_taken cX1_taken 5 .int 1 σ [t, v] (fun z u => u = σ ∧ Tk σ t v (16 * t + σ 5 t) z) := by
  refine Cx_of wf1 (by decide +kernel) rfl (Nat.le_of_ble_eq_true rfl) (Or.inl rfl) (fun th_ => [some th_, some (iv t), some (iv v), none, none]) (fun _ => rfl) ?_
  intro E hN hret hR0
  have hct := hI.1 t ht.1 ht.2
  have hfp : ∀ e, 16 * t ≤ e → e < 16 * t + σ 5 t → (0 ≤ e ∧ e < 32) ∧ (e < 16 → 0 ≤ σ 8 e ∧ σ 8 e ≤ 8) ∧ (16 ≤ e → 0 ≤ σ 7 e ∧ 0 ≤ σ 8 e) := by
    intro e h1 h2
    refine ⟨⟨by omega, by omega⟩, fun h3 => ?_, fun h3 => ?_⟩
    · have ht0 : t = 0 := by omega
      rw [ht0] at h2
      have := hI.2.1 e (by omega) (by omega)
      omega
    · have ht1 : t = 1 := by omega
      rw [ht1] at h2
      have := hI.2.2.1 e (by omega) (by omega)
      omega
  have loop : ∀ (m : Nat) (e b : Int), 16 * t ≤ e → e ≤ 16 * t + σ 5 t → 16 * t + σ 5 t < e + m → Tk σ t v e b → WX E cd1 σ 8 [some (th E), some (iv t), some (iv v), some (iv b), some (iv e)] [] := by
    intro m
    induction m with
    | zero => intro e b h1 h2 h3; exact absurd h3 (by omega)
    | succ m ih =>
      intro e b he0 he1 hem hT
      have hbr : -1 ≤ b ∧ b < 32 := by rcases hT with ⟨q1, q2⟩ | ⟨q1, q2, q3⟩ <;> omega
      refine x_iload hN dX1_taken_8 rfl ?_
      refine x_bipush hN dX1_taken_10 (by decide) ?_
      refine x_iloadn hN dX1_taken_12 rfl ?_
      refine x_imul hN dX1_taken_13 ?_
      refine x_aload hN dX1_taken_14 rfl ?_
      refine a1_5 hN dX1_taken_15 ?_
      refine x_iloadn hN dX1_taken_18 rfl ?_
      refine l1_5 hN dX1_taken_19 (by omega) (by omega) (fun hr19 => ?_)
      refine x_iadd hN dX1_taken_20 ?_
      refine x_cmpge hN 63 dX1_taken_21 (by decide) (by omega) (by omega) (fun h21 => ?_) (fun h21 => ?_)
      · refine x_iloadn hN dX1_taken_63 rfl ?_
        exact hret _ _ _ _ dX1_taken_64 (by omega) ⟨rfl, by rw [show 16 * t + σ 5 t = e by omega]; exact hT⟩
      · have q24 := hfp e he0 h21
        refine x_aload hN dX1_taken_24 rfl ?_
        refine x_iload hN dX1_taken_25 rfl ?_
        refine x_iloadn hN dX1_taken_27 rfl ?_
        refine x_call hN (m1_fits σ e v q24.1 hv q24.2.1 q24.2.2 hI.2.2.2.1) hw1_fits hy1_fits (by decide) rfl (by decide) rfl dX1_taken_28 (fun z28 u28 hz28 hp28 => ?_)
        obtain ⟨hu28, hp28⟩ := hp28
        rw [hu28]
        refine x_ifeq hN 57 dX1_taken_31 (by decide) (by omega) (fun h31 => ?_) (fun h31 => ?_)
        · refine x_in4 hN dX1_taken_57 ?_
          refine x_goto hN 8 dX1_taken_60 (by decide) ?_
          exact ih (e + 1) b (by omega) (by omega) (by omega) (Tk_no hT (by rcases hp28 with w | w; exact absurd w.1 (by omega); exact w.2))
        · refine x_iloadn hN dX1_taken_34 rfl ?_
          refine x_iflt hN 54 dX1_taken_35 (by decide) (by omega) (fun h35 => ?_) (fun h35 => ?_)
          · refine x_iload hN dX1_taken_54 rfl ?_
            refine x_st3 hN dX1_taken_56 ?_
            refine x_in4 hN dX1_taken_57 ?_
            refine x_goto hN 8 dX1_taken_60 (by decide) ?_
            exact ih (e + 1) e (by omega) (by omega) (by omega) (Tk_yes hT (by omega) (by rcases hp28 with w | w; exact w.2; exact absurd w.1 (by omega)) (Or.inl h35))
          · refine x_aload hN dX1_taken_38 rfl ?_
            refine a1_9 hN dX1_taken_39 ?_
            refine x_iload hN dX1_taken_42 rfl ?_
            refine l1_9 hN dX1_taken_44 (by omega) (by omega) (fun hr44 => ?_)
            refine x_aload hN dX1_taken_45 rfl ?_
            refine a1_9 hN dX1_taken_46 ?_
            refine x_iloadn hN dX1_taken_49 rfl ?_
            refine l1_9 hN dX1_taken_50 (by omega) (by omega) (fun hr50 => ?_)
            refine x_cmple hN 57 dX1_taken_51 (by decide) (by omega) (by omega) (fun h51 => ?_) (fun h51 => ?_)
            · refine x_in4 hN dX1_taken_57 ?_
              refine x_goto hN 8 dX1_taken_60 (by decide) ?_
              exact ih (e + 1) b (by omega) (by omega) (by omega) (Tk_old hT h35 h51)
            · refine x_iload hN dX1_taken_54 rfl ?_
              refine x_st3 hN dX1_taken_56 ?_
              refine x_in4 hN dX1_taken_57 ?_
              refine x_goto hN 8 dX1_taken_60 (by decide) ?_
              exact ih (e + 1) e (by omega) (by omega) (by omega) (Tk_yes hT (by omega) (by rcases hp28 with w | w; exact w.2; exact absurd w.1 (by omega)) (Or.inr h51))
  refine x_iconst hN dX1_taken_0 ?_
  refine x_st3 hN dX1_taken_1 ?_
  refine x_bipush hN dX1_taken_2 (by decide) ?_
  refine x_iloadn hN dX1_taken_4 rfl ?_
  refine x_imul hN dX1_taken_5 ?_
  refine x_st4 hN dX1_taken_6 ?_
  exact loop 17 (16 * t) (-1) (by omega) (by omega) (by omega) (Or.inl ⟨rfl, fun q q1 q2 => by omega⟩)
set_option maxHeartbeats 4000000 in
theorem m1_lookup (σ : zSt) (t : Int) (ht : -2147483648 ≤ t ∧ t < 2147483648) (hI : MI σ) : Cx cd1 yX1_lookup cX1_lookup 3 .int 2 σ [t] (fun z u => u = σ ∧ ((¬ (0 ≤ t ∧ t ≤ 1) ∧ z = -1) ∨ ((0 ≤ t ∧ t ≤ 1) ∧ ∃ b, Tk σ t (σ 0 0) (16 * t + σ 5 t) b ∧ ((b < 0 ∧ z = -3) ∨ (0 ≤ b ∧ z = σ 6 b))))) := by
  refine Cx_of wf1 (by decide +kernel) rfl (Nat.le_of_ble_eq_true rfl) (Or.inl rfl) (fun th_ => [some th_, some (iv t), none]) (fun _ => rfl) ?_
  intro E hN hret hR0
  refine x_aload hN dX1_lookup_0 rfl ?_
  refine x_iloadn hN dX1_lookup_1 rfl ?_
  refine x_call hN (m1_isTable σ t ht) hw1_isTable hy1_isTable (by decide) rfl (by decide) rfl dX1_lookup_2 (fun z2 u2 hz2 hp2 => ?_)
  obtain ⟨hu2, hp2⟩ := hp2
  rw [hu2]
  refine x_ifne hN 10 dX1_lookup_5 (by decide) (by omega) (fun h5 => ?_) (fun h5 => ?_)
  · have htt : 0 ≤ t ∧ t ≤ 1 := by omega
    refine x_aload hN dX1_lookup_10 rfl ?_
    refine x_iloadn hN dX1_lookup_11 rfl ?_
    refine x_aload hN dX1_lookup_12 rfl ?_
    refine a1_0 hN dX1_lookup_13 ?_
    refine x_iconst hN dX1_lookup_16 ?_
    refine l1_0 hN dX1_lookup_17 (by omega) (by omega) (fun hr17 => ?_)
    refine x_call hN (m1_taken σ t (σ 0 0) (by omega) (hR0 _ _) hI) hw1_taken hy1_taken (by decide) rfl (by decide) rfl dX1_lookup_18 (fun z18 u18 hz18 hp18 => ?_)
    obtain ⟨hu18, hp18⟩ := hp18
    rw [hu18]
    refine x_st2 hN dX1_lookup_21 ?_
    have hct := hI.1 t htt.1 htt.2
    have hz32 : z18 < 32 := by rcases hp18 with w | w <;> omega
    refine x_iloadn hN dX1_lookup_22 rfl ?_
    refine x_ifge hN 31 dX1_lookup_23 (by decide) (by omega) (fun h23 => ?_) (fun h23 => ?_)
    · refine x_aload hN dX1_lookup_31 rfl ?_
      refine a1_6 hN dX1_lookup_32 ?_
      refine x_iloadn hN dX1_lookup_35 rfl ?_
      refine l1_6 hN dX1_lookup_36 (by omega) (by omega) (fun hr36 => ?_)
      exact hret _ _ _ _ dX1_lookup_37 (by omega) ⟨rfl, Or.inr ⟨htt, z18, hp18, by first | exact Or.inl ⟨by omega, rfl⟩ | exact Or.inr ⟨by omega, rfl⟩⟩⟩
    · refine x_bipush hN dX1_lookup_26 (by decide) ?_
      refine x_goto hN 37 dX1_lookup_28 (by decide) ?_
      exact hret _ _ _ _ dX1_lookup_37 (by omega) ⟨rfl, Or.inr ⟨htt, z18, hp18, by first | exact Or.inl ⟨by omega, rfl⟩ | exact Or.inr ⟨by omega, rfl⟩⟩⟩
  · refine x_iconst hN dX1_lookup_8 ?_
    exact hret _ _ _ _ dX1_lookup_9 (by omega) ⟨rfl, Or.inl ⟨by omega, rfl⟩⟩
set_option maxHeartbeats 4000000 in
theorem m1_act (σ : zSt) (q : Int) (hq : 0 ≤ q ∧ q < 34) (hp : 0 ≤ σ 11 q ∧ σ 11 q ≤ 3) (hn : 0 ≤ σ 12 q ∧ σ 12 q ≤ 255) (hf : ∀ j, 0 ≤ j → j < 4 → 0 ≤ σ 0 j ∧ σ 0 j ≤ 255) : Cx cd1 yX1_act cX1_act 4 .boolean 0 σ [q] (fun z u => u = actM σ (σ 10 q) (σ 11 q) (σ 12 q) ∧ ((σ 10 q = 4 ∧ z = 0) ∨ (σ 10 q ≠ 4 ∧ z = 1))) := by
  refine Cx_of wf1 (by decide +kernel) rfl (Nat.le_of_ble_eq_true rfl) (Or.inr ⟨rfl, (fun z u h => by rcases h.2 with h | h <;> omega)⟩) (fun th_ => [some th_, some (iv q), none, none]) (fun _ => rfl) ?_
  intro E hN hret hR0
  refine x_aload hN dX1_act_0 rfl ?_
  refine a1_11 hN dX1_act_1 ?_
  refine x_iloadn hN dX1_act_4 rfl ?_
  refine l1_11 hN dX1_act_5 (by omega) (by omega) (fun hr5 => ?_)
  refine x_st2 hN dX1_act_6 ?_
  refine x_aload hN dX1_act_7 rfl ?_
  refine a1_12 hN dX1_act_8 ?_
  refine x_iloadn hN dX1_act_11 rfl ?_
  refine l1_12 hN dX1_act_12 (by omega) (by omega) (fun hr12 => ?_)
  refine x_st3 hN dX1_act_13 ?_
  refine x_aload hN dX1_act_14 rfl ?_
  refine a1_10 hN dX1_act_15 ?_
  refine x_iloadn hN dX1_act_18 rfl ?_
  refine l1_10 hN dX1_act_19 (by omega) (by omega) (fun hr19 => ?_)
  refine x_ifne hN 30 dX1_act_20 (by decide) (by omega) (fun h20 => ?_) (fun h20 => ?_)
  · refine x_aload hN dX1_act_30 rfl ?_
    refine a1_10 hN dX1_act_31 ?_
    refine x_iloadn hN dX1_act_34 rfl ?_
    refine l1_10 hN dX1_act_35 (by omega) (by omega) (fun hr35 => ?_)
    refine x_iconst hN dX1_act_36 ?_
    refine x_cmpne hN 58 dX1_act_37 (by decide) (by omega) (by omega) (fun h37 => ?_) (fun h37 => ?_)
    · refine x_aload hN dX1_act_58 rfl ?_
      refine a1_10 hN dX1_act_59 ?_
      refine x_iloadn hN dX1_act_62 rfl ?_
      refine l1_10 hN dX1_act_63 (by omega) (by omega) (fun hr63 => ?_)
      refine x_iconst hN dX1_act_64 ?_
      refine x_cmpne hN 82 dX1_act_65 (by decide) (by omega) (by omega) (fun h65 => ?_) (fun h65 => ?_)
      · refine x_aload hN dX1_act_82 rfl ?_
        refine a1_10 hN dX1_act_83 ?_
        refine x_iloadn hN dX1_act_86 rfl ?_
        refine l1_10 hN dX1_act_87 (by omega) (by omega) (fun hr87 => ?_)
        refine x_iconst hN dX1_act_88 ?_
        refine x_cmpeq hN 96 dX1_act_89 (by decide) (by omega) (by omega) (fun h89 => ?_) (fun h89 => ?_)
        · refine x_iconst hN dX1_act_96 ?_
          exact hret _ _ _ _ dX1_act_97 (by omega) ⟨by first | (exfalso; omega) | (unfold actM; first | rw [if_pos (by omega)] | rw [if_neg (by omega), if_pos (by omega)] | rw [if_neg (by omega), if_neg (by omega), if_pos (by omega)] | rw [if_neg (by omega), if_neg (by omega), if_neg (by omega)]), by omega⟩
        · refine x_iconst hN dX1_act_92 ?_
          refine x_goto hN 97 dX1_act_93 (by decide) ?_
          exact hret _ _ _ _ dX1_act_97 (by omega) ⟨by first | (exfalso; omega) | (unfold actM; first | rw [if_pos (by omega)] | rw [if_neg (by omega), if_pos (by omega)] | rw [if_neg (by omega), if_neg (by omega), if_pos (by omega)] | rw [if_neg (by omega), if_neg (by omega), if_neg (by omega)]), by omega⟩
      · have q68 := hf (σ 12 q % 4) (by omega) (by omega)
        refine x_aload hN dX1_act_68 rfl ?_
        refine a1_0 hN dX1_act_69 ?_
        refine x_iloadn hN dX1_act_72 rfl ?_
        refine x_aload hN dX1_act_73 rfl ?_
        refine a1_0 hN dX1_act_74 ?_
        refine x_iloadn hN dX1_act_77 rfl ?_
        refine x_iconst hN dX1_act_78 ?_
        refine x_iandm hN dX1_act_79 4 2 (by decide) (by decide) (by decide) ?_
        refine l1_0 hN dX1_act_80 (by omega) (by omega) (fun hr80 => ?_)
        refine w1_0 hN dX1_act_81 (by omega) (by omega) (by omega) ?_
        refine x_aload hN dX1_act_82 rfl ?_
        refine a1_10 hN dX1_act_83 ?_
        refine x_iloadn hN dX1_act_86 rfl ?_
        refine l1_10 hN dX1_act_87 (by omega) (by omega) (fun hr87 => ?_)
        refine x_top (σ 10 _) rfl ?_
        replace hr87 : -2147483648 ≤ σ 10 (q) ∧ σ 10 (q) < 2147483648 := hr87
        refine x_iconst hN dX1_act_88 ?_
        refine x_cmpeq hN 96 dX1_act_89 (by decide) (by omega) (by omega) (fun h89 => ?_) (fun h89 => ?_)
        · refine x_iconst hN dX1_act_96 ?_
          exact hret _ _ _ _ dX1_act_97 (by omega) ⟨by first | (exfalso; omega) | (unfold actM; first | rw [if_pos (by omega)] | rw [if_neg (by omega), if_pos (by omega)] | rw [if_neg (by omega), if_neg (by omega), if_pos (by omega)] | rw [if_neg (by omega), if_neg (by omega), if_neg (by omega)]), by omega⟩
        · refine x_iconst hN dX1_act_92 ?_
          refine x_goto hN 97 dX1_act_93 (by decide) ?_
          exact hret _ _ _ _ dX1_act_97 (by omega) ⟨by first | (exfalso; omega) | (unfold actM; first | rw [if_pos (by omega)] | rw [if_neg (by omega), if_pos (by omega)] | rw [if_neg (by omega), if_neg (by omega), if_pos (by omega)] | rw [if_neg (by omega), if_neg (by omega), if_neg (by omega)]), by omega⟩
    · have q40 := hf (σ 11 q) (by omega) (by omega)
      refine x_aload hN dX1_act_40 rfl ?_
      refine a1_0 hN dX1_act_41 ?_
      refine x_iloadn hN dX1_act_44 rfl ?_
      refine x_aload hN dX1_act_45 rfl ?_
      refine a1_0 hN dX1_act_46 ?_
      refine x_iloadn hN dX1_act_49 rfl ?_
      refine l1_0 hN dX1_act_50 (by omega) (by omega) (fun hr50 => ?_)
      refine x_iloadn hN dX1_act_51 rfl ?_
      refine x_iadd hN dX1_act_52 ?_
      refine x_sipush hN dX1_act_53 (by decide) ?_
      refine x_iandm hN dX1_act_56 256 8 (by decide) (by decide) (by decide) ?_
      refine w1_0 hN dX1_act_57 (by omega) (by omega) (by omega) ?_
      refine x_aload hN dX1_act_58 rfl ?_
      refine a1_10 hN dX1_act_59 ?_
      refine x_iloadn hN dX1_act_62 rfl ?_
      refine l1_10 hN dX1_act_63 (by omega) (by omega) (fun hr63 => ?_)
      refine x_top (σ 10 _) rfl ?_
      replace hr63 : -2147483648 ≤ σ 10 (q) ∧ σ 10 (q) < 2147483648 := hr63
      refine x_iconst hN dX1_act_64 ?_
      refine x_cmpne hN 82 dX1_act_65 (by decide) (by omega) (by omega) (fun h65 => ?_) (fun h65 => ?_)
      · refine x_aload hN dX1_act_82 rfl ?_
        refine a1_10 hN dX1_act_83 ?_
        refine x_iloadn hN dX1_act_86 rfl ?_
        refine l1_10 hN dX1_act_87 (by omega) (by omega) (fun hr87 => ?_)
        refine x_top (σ 10 _) rfl ?_
        replace hr87 : -2147483648 ≤ σ 10 (q) ∧ σ 10 (q) < 2147483648 := hr87
        refine x_iconst hN dX1_act_88 ?_
        refine x_cmpeq hN 96 dX1_act_89 (by decide) (by omega) (by omega) (fun h89 => ?_) (fun h89 => ?_)
        · refine x_iconst hN dX1_act_96 ?_
          exact hret _ _ _ _ dX1_act_97 (by omega) ⟨by first | (exfalso; omega) | (unfold actM; first | rw [if_pos (by omega)] | rw [if_neg (by omega), if_pos (by omega)] | rw [if_neg (by omega), if_neg (by omega), if_pos (by omega)] | rw [if_neg (by omega), if_neg (by omega), if_neg (by omega)]), by omega⟩
        · refine x_iconst hN dX1_act_92 ?_
          refine x_goto hN 97 dX1_act_93 (by decide) ?_
          exact hret _ _ _ _ dX1_act_97 (by omega) ⟨by first | (exfalso; omega) | (unfold actM; first | rw [if_pos (by omega)] | rw [if_neg (by omega), if_pos (by omega)] | rw [if_neg (by omega), if_neg (by omega), if_pos (by omega)] | rw [if_neg (by omega), if_neg (by omega), if_neg (by omega)]), by omega⟩
      · have q68 := hf (σ 12 q % 4) (by omega) (by omega)
        refine x_aload hN dX1_act_68 rfl ?_
        refine a1_0 hN dX1_act_69 ?_
        refine x_iloadn hN dX1_act_72 rfl ?_
        refine x_aload hN dX1_act_73 rfl ?_
        refine a1_0 hN dX1_act_74 ?_
        refine x_iloadn hN dX1_act_77 rfl ?_
        refine x_iconst hN dX1_act_78 ?_
        refine x_iandm hN dX1_act_79 4 2 (by decide) (by decide) (by decide) ?_
        refine l1_0 hN dX1_act_80 (by omega) (by omega) (fun hr80 => ?_)
        refine w1_0 hN dX1_act_81 (by omega) (by omega) (by omega) ?_
        refine x_aload hN dX1_act_82 rfl ?_
        refine a1_10 hN dX1_act_83 ?_
        refine x_iloadn hN dX1_act_86 rfl ?_
        refine l1_10 hN dX1_act_87 (by omega) (by omega) (fun hr87 => ?_)
        refine x_top (σ 10 _) rfl ?_
        replace hr87 : -2147483648 ≤ σ 10 (q) ∧ σ 10 (q) < 2147483648 := hr87
        refine x_iconst hN dX1_act_88 ?_
        refine x_cmpeq hN 96 dX1_act_89 (by decide) (by omega) (by omega) (fun h89 => ?_) (fun h89 => ?_)
        · refine x_iconst hN dX1_act_96 ?_
          exact hret _ _ _ _ dX1_act_97 (by omega) ⟨by first | (exfalso; omega) | (unfold actM; first | rw [if_pos (by omega)] | rw [if_neg (by omega), if_pos (by omega)] | rw [if_neg (by omega), if_neg (by omega), if_pos (by omega)] | rw [if_neg (by omega), if_neg (by omega), if_neg (by omega)]), by omega⟩
        · refine x_iconst hN dX1_act_92 ?_
          refine x_goto hN 97 dX1_act_93 (by decide) ?_
          exact hret _ _ _ _ dX1_act_97 (by omega) ⟨by first | (exfalso; omega) | (unfold actM; first | rw [if_pos (by omega)] | rw [if_neg (by omega), if_pos (by omega)] | rw [if_neg (by omega), if_neg (by omega), if_pos (by omega)] | rw [if_neg (by omega), if_neg (by omega), if_neg (by omega)]), by omega⟩
  · refine x_aload hN dX1_act_23 rfl ?_
    refine a1_0 hN dX1_act_24 ?_
    refine x_iloadn hN dX1_act_27 rfl ?_
    refine x_iloadn hN dX1_act_28 rfl ?_
    refine w1_0 hN dX1_act_29 (by omega) (by omega) (by omega) ?_
    refine x_aload hN dX1_act_30 rfl ?_
    refine a1_10 hN dX1_act_31 ?_
    refine x_iloadn hN dX1_act_34 rfl ?_
    refine l1_10 hN dX1_act_35 (by omega) (by omega) (fun hr35 => ?_)
    refine x_top (σ 10 _) rfl ?_
    replace hr35 : -2147483648 ≤ σ 10 (q) ∧ σ 10 (q) < 2147483648 := hr35
    refine x_iconst hN dX1_act_36 ?_
    refine x_cmpne hN 58 dX1_act_37 (by decide) (by omega) (by omega) (fun h37 => ?_) (fun h37 => ?_)
    · refine x_aload hN dX1_act_58 rfl ?_
      refine a1_10 hN dX1_act_59 ?_
      refine x_iloadn hN dX1_act_62 rfl ?_
      refine l1_10 hN dX1_act_63 (by omega) (by omega) (fun hr63 => ?_)
      refine x_top (σ 10 _) rfl ?_
      replace hr63 : -2147483648 ≤ σ 10 (q) ∧ σ 10 (q) < 2147483648 := hr63
      refine x_iconst hN dX1_act_64 ?_
      refine x_cmpne hN 82 dX1_act_65 (by decide) (by omega) (by omega) (fun h65 => ?_) (fun h65 => ?_)
      · refine x_aload hN dX1_act_82 rfl ?_
        refine a1_10 hN dX1_act_83 ?_
        refine x_iloadn hN dX1_act_86 rfl ?_
        refine l1_10 hN dX1_act_87 (by omega) (by omega) (fun hr87 => ?_)
        refine x_top (σ 10 _) rfl ?_
        replace hr87 : -2147483648 ≤ σ 10 (q) ∧ σ 10 (q) < 2147483648 := hr87
        refine x_iconst hN dX1_act_88 ?_
        refine x_cmpeq hN 96 dX1_act_89 (by decide) (by omega) (by omega) (fun h89 => ?_) (fun h89 => ?_)
        · refine x_iconst hN dX1_act_96 ?_
          exact hret _ _ _ _ dX1_act_97 (by omega) ⟨by first | (exfalso; omega) | (unfold actM; first | rw [if_pos (by omega)] | rw [if_neg (by omega), if_pos (by omega)] | rw [if_neg (by omega), if_neg (by omega), if_pos (by omega)] | rw [if_neg (by omega), if_neg (by omega), if_neg (by omega)]), by omega⟩
        · refine x_iconst hN dX1_act_92 ?_
          refine x_goto hN 97 dX1_act_93 (by decide) ?_
          exact hret _ _ _ _ dX1_act_97 (by omega) ⟨by first | (exfalso; omega) | (unfold actM; first | rw [if_pos (by omega)] | rw [if_neg (by omega), if_pos (by omega)] | rw [if_neg (by omega), if_neg (by omega), if_pos (by omega)] | rw [if_neg (by omega), if_neg (by omega), if_neg (by omega)]), by omega⟩
      · have q68 := hf (σ 12 q % 4) (by omega) (by omega)
        refine x_aload hN dX1_act_68 rfl ?_
        refine a1_0 hN dX1_act_69 ?_
        refine x_iloadn hN dX1_act_72 rfl ?_
        refine x_aload hN dX1_act_73 rfl ?_
        refine a1_0 hN dX1_act_74 ?_
        refine x_iloadn hN dX1_act_77 rfl ?_
        refine x_iconst hN dX1_act_78 ?_
        refine x_iandm hN dX1_act_79 4 2 (by decide) (by decide) (by decide) ?_
        refine l1_0 hN dX1_act_80 (by omega) (by omega) (fun hr80 => ?_)
        refine w1_0 hN dX1_act_81 (by omega) (by omega) (by omega) ?_
        refine x_aload hN dX1_act_82 rfl ?_
        refine a1_10 hN dX1_act_83 ?_
        refine x_iloadn hN dX1_act_86 rfl ?_
        refine l1_10 hN dX1_act_87 (by omega) (by omega) (fun hr87 => ?_)
        refine x_top (σ 10 _) rfl ?_
        replace hr87 : -2147483648 ≤ σ 10 (q) ∧ σ 10 (q) < 2147483648 := hr87
        refine x_iconst hN dX1_act_88 ?_
        refine x_cmpeq hN 96 dX1_act_89 (by decide) (by omega) (by omega) (fun h89 => ?_) (fun h89 => ?_)
        · refine x_iconst hN dX1_act_96 ?_
          exact hret _ _ _ _ dX1_act_97 (by omega) ⟨by first | (exfalso; omega) | (unfold actM; first | rw [if_pos (by omega)] | rw [if_neg (by omega), if_pos (by omega)] | rw [if_neg (by omega), if_neg (by omega), if_pos (by omega)] | rw [if_neg (by omega), if_neg (by omega), if_neg (by omega)]), by omega⟩
        · refine x_iconst hN dX1_act_92 ?_
          refine x_goto hN 97 dX1_act_93 (by decide) ?_
          exact hret _ _ _ _ dX1_act_97 (by omega) ⟨by first | (exfalso; omega) | (unfold actM; first | rw [if_pos (by omega)] | rw [if_neg (by omega), if_pos (by omega)] | rw [if_neg (by omega), if_neg (by omega), if_pos (by omega)] | rw [if_neg (by omega), if_neg (by omega), if_neg (by omega)]), by omega⟩
    · have q40 := hf (σ 11 q) (by omega) (by omega)
      refine x_aload hN dX1_act_40 rfl ?_
      refine a1_0 hN dX1_act_41 ?_
      refine x_iloadn hN dX1_act_44 rfl ?_
      refine x_aload hN dX1_act_45 rfl ?_
      refine a1_0 hN dX1_act_46 ?_
      refine x_iloadn hN dX1_act_49 rfl ?_
      refine l1_0 hN dX1_act_50 (by omega) (by omega) (fun hr50 => ?_)
      refine x_iloadn hN dX1_act_51 rfl ?_
      refine x_iadd hN dX1_act_52 ?_
      refine x_sipush hN dX1_act_53 (by decide) ?_
      refine x_iandm hN dX1_act_56 256 8 (by decide) (by decide) (by decide) ?_
      refine w1_0 hN dX1_act_57 (by omega) (by omega) (by omega) ?_
      refine x_aload hN dX1_act_58 rfl ?_
      refine a1_10 hN dX1_act_59 ?_
      refine x_iloadn hN dX1_act_62 rfl ?_
      refine l1_10 hN dX1_act_63 (by omega) (by omega) (fun hr63 => ?_)
      refine x_top (σ 10 _) rfl ?_
      replace hr63 : -2147483648 ≤ σ 10 (q) ∧ σ 10 (q) < 2147483648 := hr63
      refine x_iconst hN dX1_act_64 ?_
      refine x_cmpne hN 82 dX1_act_65 (by decide) (by omega) (by omega) (fun h65 => ?_) (fun h65 => ?_)
      · refine x_aload hN dX1_act_82 rfl ?_
        refine a1_10 hN dX1_act_83 ?_
        refine x_iloadn hN dX1_act_86 rfl ?_
        refine l1_10 hN dX1_act_87 (by omega) (by omega) (fun hr87 => ?_)
        refine x_top (σ 10 _) rfl ?_
        replace hr87 : -2147483648 ≤ σ 10 (q) ∧ σ 10 (q) < 2147483648 := hr87
        refine x_iconst hN dX1_act_88 ?_
        refine x_cmpeq hN 96 dX1_act_89 (by decide) (by omega) (by omega) (fun h89 => ?_) (fun h89 => ?_)
        · refine x_iconst hN dX1_act_96 ?_
          exact hret _ _ _ _ dX1_act_97 (by omega) ⟨by first | (exfalso; omega) | (unfold actM; first | rw [if_pos (by omega)] | rw [if_neg (by omega), if_pos (by omega)] | rw [if_neg (by omega), if_neg (by omega), if_pos (by omega)] | rw [if_neg (by omega), if_neg (by omega), if_neg (by omega)]), by omega⟩
        · refine x_iconst hN dX1_act_92 ?_
          refine x_goto hN 97 dX1_act_93 (by decide) ?_
          exact hret _ _ _ _ dX1_act_97 (by omega) ⟨by first | (exfalso; omega) | (unfold actM; first | rw [if_pos (by omega)] | rw [if_neg (by omega), if_pos (by omega)] | rw [if_neg (by omega), if_neg (by omega), if_pos (by omega)] | rw [if_neg (by omega), if_neg (by omega), if_neg (by omega)]), by omega⟩
      · have q68 := hf (σ 12 q % 4) (by omega) (by omega)
        refine x_aload hN dX1_act_68 rfl ?_
        refine a1_0 hN dX1_act_69 ?_
        refine x_iloadn hN dX1_act_72 rfl ?_
        refine x_aload hN dX1_act_73 rfl ?_
        refine a1_0 hN dX1_act_74 ?_
        refine x_iloadn hN dX1_act_77 rfl ?_
        refine x_iconst hN dX1_act_78 ?_
        refine x_iandm hN dX1_act_79 4 2 (by decide) (by decide) (by decide) ?_
        refine l1_0 hN dX1_act_80 (by omega) (by omega) (fun hr80 => ?_)
        refine w1_0 hN dX1_act_81 (by omega) (by omega) (by omega) ?_
        refine x_aload hN dX1_act_82 rfl ?_
        refine a1_10 hN dX1_act_83 ?_
        refine x_iloadn hN dX1_act_86 rfl ?_
        refine l1_10 hN dX1_act_87 (by omega) (by omega) (fun hr87 => ?_)
        refine x_top (σ 10 _) rfl ?_
        replace hr87 : -2147483648 ≤ σ 10 (q) ∧ σ 10 (q) < 2147483648 := hr87
        refine x_iconst hN dX1_act_88 ?_
        refine x_cmpeq hN 96 dX1_act_89 (by decide) (by omega) (by omega) (fun h89 => ?_) (fun h89 => ?_)
        · refine x_iconst hN dX1_act_96 ?_
          exact hret _ _ _ _ dX1_act_97 (by omega) ⟨by first | (exfalso; omega) | (unfold actM; first | rw [if_pos (by omega)] | rw [if_neg (by omega), if_pos (by omega)] | rw [if_neg (by omega), if_neg (by omega), if_pos (by omega)] | rw [if_neg (by omega), if_neg (by omega), if_neg (by omega)]), by omega⟩
        · refine x_iconst hN dX1_act_92 ?_
          refine x_goto hN 97 dX1_act_93 (by decide) ?_
          exact hret _ _ _ _ dX1_act_97 (by omega) ⟨by first | (exfalso; omega) | (unfold actM; first | rw [if_pos (by omega)] | rw [if_neg (by omega), if_pos (by omega)] | rw [if_neg (by omega), if_neg (by omega), if_pos (by omega)] | rw [if_neg (by omega), if_neg (by omega), if_neg (by omega)]), by omega⟩
/-- the place of the action that table t gives -/
def sl (t b : Int) : Int := if b < 0 then 32 + t else b
theorem sl_in {σ : zSt} (hI : MI σ) {t v b : Int} (ht : t = 0 ∨ t = 1) (h : Tk σ t v (16 * t + σ 5 t) b) : (0 ≤ sl t b ∧ sl t b < 34) ∧ 0 ≤ σ 10 (sl t b) ∧ σ 10 (sl t b) ≤ 4 ∧ 0 ≤ σ 11 (sl t b) ∧ σ 11 (sl t b) ≤ 3 ∧ 0 ≤ σ 12 (sl t b) ∧ σ 12 (sl t b) ≤ 255 := by
  have hct := hI.1 t (by omega) (by omega)
  have h2 : (0 ≤ sl t b ∧ sl t b < σ 5 0) ∨ (16 ≤ sl t b ∧ sl t b < 16 + σ 5 1) ∨ sl t b = 32 ∨ sl t b = 33 := by
    unfold sl
    rcases h with ⟨h1, _⟩ | ⟨h1, h2, _⟩
    · rw [if_pos (by omega)]
      omega
    · rw [if_neg (by omega)]
      rcases ht with e | e
      · subst e
        omega
      · subst e
        omega
  refine ⟨?_, hI.2.2.2.2 (sl t b) h2⟩
  have h3 := hI.1 0 (by omega) (by omega)
  have h4 := hI.1 1 (by omega) (by omega)
  omega
set_option maxHeartbeats 4000000 in
theorem m1_process (σ : zSt) (hI : MI σ) : Cx cd1 yX1_process cX1_process 3 .int 2 σ [] (fun z u => ∃ b, Tk σ 0 (σ 0 0) (16 * 0 + σ 5 0) b ∧ ((σ 10 (sl 0 b) = 4 ∧ z = 0 ∧ u = actM σ (σ 10 (sl 0 b)) (σ 11 (sl 0 b)) (σ 12 (sl 0 b))) ∨ (σ 10 (sl 0 b) ≠ 4 ∧ ∃ τ : zSt, τ = actM σ (σ 10 (sl 0 b)) (σ 11 (sl 0 b)) (σ 12 (sl 0 b)) ∧ ∃ c, Tk τ 1 (τ 0 0) (16 * 1 + τ 5 1) c ∧ u = actM τ (τ 10 (sl 1 c)) (τ 11 (sl 1 c)) (τ 12 (sl 1 c)) ∧ ((τ 10 (sl 1 c) = 4 ∧ z = 0) ∨ (τ 10 (sl 1 c) ≠ 4 ∧ z = 1))))) := by
  refine Cx_of wf1 (by decide +kernel) rfl (Nat.le_of_ble_eq_true rfl) (Or.inl rfl) (fun th_ => [some th_, none, none]) (fun _ => rfl) ?_
  intro E hN hret hR0
  have step : ∀ (τ : zSt) (t : Int) (x2 : Option Value), zR τ → MI τ → (t = 0 ∨ t = 1) → (∀ b u, Tk τ t (τ 0 0) (16 * t + τ 5 t) b → u = actM τ (τ 10 (sl t b)) (τ 11 (sl t b)) (τ 12 (sl t b)) → τ 10 (sl t b) = 4 → WX E cd1 u 38 [some (th E), some (iv t), some (iv b)] []) → (∀ b u, Tk τ t (τ 0 0) (16 * t + τ 5 t) b → u = actM τ (τ 10 (sl t b)) (τ 11 (sl t b)) (τ 12 (sl t b)) → τ 10 (sl t b) ≠ 4 → WX E cd1 u 2 [some (th E), some (iv (t + 1)), some (iv b)] []) → WX E cd1 τ 2 [some (th E), some (iv t), x2] [] := by
    intro τ t x2 hRt hI ht k4 k1
    refine x_iloadn hN dX1_process_2 rfl ?_
    refine x_iconst hN dX1_process_3 ?_
    refine x_cmpge hN 46 dX1_process_4 (by decide) (by omega) (by omega) (fun h4 => ?_) (fun h4 => ?_)
    · exfalso; omega
    · refine x_aload hN dX1_process_7 rfl ?_
      refine x_iloadn hN dX1_process_8 rfl ?_
      refine x_aload hN dX1_process_9 rfl ?_
      refine a1_0 hN dX1_process_10 ?_
      refine x_iconst hN dX1_process_13 ?_
      refine l1_0 hN dX1_process_14 (by omega) (by omega) (fun hr14 => ?_)
      refine x_call hN (m1_taken τ t (τ 0 0) (by omega) (hRt _ _) hI) hw1_taken hy1_taken (by decide) rfl (by decide) rfl dX1_process_15 (fun z15 u15 hz15 hp15 => ?_)
      obtain ⟨hu15, hp15⟩ := hp15
      rw [hu15]
      have qs := sl_in hI ht hp15
      refine x_st2 hN dX1_process_18 ?_
      refine x_aload hN dX1_process_19 rfl ?_
      refine x_iloadn hN dX1_process_20 rfl ?_
      refine x_ifge hN 31 dX1_process_21 (by decide) (by omega) (fun h21 => ?_) (fun h21 => ?_)
      · refine x_iloadn hN dX1_process_31 rfl ?_
        refine x_top (sl t z15) (by unfold sl; first | rw [if_pos (by omega)] | rw [if_neg (by omega)]) ?_
        refine x_call hN (m1_act τ (sl t z15) qs.1 (by omega) (by omega) hI.2.2.2.1) hw1_act hy1_act (by decide) rfl (by decide) rfl dX1_process_32 (fun z32 u32 hz32 hp32 => ?_)
        refine x_ifne hN 40 dX1_process_35 (by decide) (by omega) (fun h35 => ?_) (fun h35 => ?_)
        · refine x_in1 hN dX1_process_40 ?_
          refine x_goto hN 2 dX1_process_43 (by decide) ?_
          exact k1 z15 u32 hp15 hp32.1 (by omega)
        · exact k4 z15 u32 hp15 hp32.1 (by omega)
      · refine x_bipush hN dX1_process_24 (by decide) ?_
        refine x_iloadn hN dX1_process_26 rfl ?_
        refine x_iadd hN dX1_process_27 ?_
        refine x_goto hN 32 dX1_process_28 (by decide) ?_
        refine x_top (sl t z15) (by unfold sl; first | rw [if_pos (by omega)] | rw [if_neg (by omega)]) ?_
        refine x_call hN (m1_act τ (sl t z15) qs.1 (by omega) (by omega) hI.2.2.2.1) hw1_act hy1_act (by decide) rfl (by decide) rfl dX1_process_32 (fun z32 u32 hz32 hp32 => ?_)
        refine x_ifne hN 40 dX1_process_35 (by decide) (by omega) (fun h35 => ?_) (fun h35 => ?_)
        · refine x_in1 hN dX1_process_40 ?_
          refine x_goto hN 2 dX1_process_43 (by decide) ?_
          exact k1 z15 u32 hp15 hp32.1 (by omega)
        · exact k4 z15 u32 hp15 hp32.1 (by omega)
  refine x_iconst hN dX1_process_0 ?_
  refine x_st1 hN dX1_process_1 ?_
  have hRa : ∀ (τ : zSt) (k f n : Int), zR τ → (-2147483648 ≤ n ∧ n < 2147483648) → zR (actM τ k f n) := by
    intro τ k f n h1 h2
    unfold actM
    split
    · exact h1.set _ _ h2
    · split
      · exact h1.set _ _ (by omega)
      · split
        · exact h1.set _ _ (h1 _ _)
        · exact h1
  refine step σ 0 _ hR0 hI (Or.inl rfl) (fun b u hT hu h4 => ?_) (fun b u hT hu h4 => ?_)
  · refine x_iconst hN dX1_process_38 ?_
    exact hret _ _ _ _ dX1_process_39 (by omega) ⟨b, hT, Or.inl ⟨h4, rfl, hu⟩⟩
  · have qs := sl_in hI (Or.inl rfl) hT
    have hRu : zR u := by rw [hu]; exact hRa _ _ _ _ hR0 (hR0 _ _)
    have hIu : MI u := by rw [hu]; exact MI_act hI (by omega) (by omega)
    refine step u 1 _ hRu hIu (Or.inr rfl) (fun c w hT2 hw h42 => ?_) (fun c w hT2 hw h42 => ?_)
    · refine x_iconst hN dX1_process_38 ?_
      exact hret _ _ _ _ dX1_process_39 (by omega) ⟨b, hT, Or.inr ⟨h4, u, hu, c, hT2, hw, Or.inl ⟨h42, rfl⟩⟩⟩
    · refine x_iloadn hN dX1_process_2 rfl ?_
      refine x_iconst hN dX1_process_3 ?_
      refine x_cmpge hN 46 dX1_process_4 (by decide) (by omega) (by omega) (fun h4b => ?_) (fun h4b => ?_)
      · refine x_iconst hN dX1_process_46 ?_
        exact hret _ _ _ _ dX1_process_47 (by omega) ⟨b, hT, Or.inr ⟨h4, u, hu, c, hT2, hw, Or.inr ⟨h42, rfl⟩⟩⟩
      · exfalso; omega
set_option maxHeartbeats 4000000 in
theorem m1_matching (σ : zSt) (t : Int) (ht : -2147483648 ≤ t ∧ t < 2147483648) (hI : MI σ) : Cx cd1 yX1_matching cX1_matching 4 .int 1 σ [t] (fun z u => u = σ ∧ ((¬ (0 ≤ t ∧ t ≤ 1) ∧ z = -1) ∨ ((0 ≤ t ∧ t ≤ 1) ∧ z = cn (fun q => Fit σ q (σ 0 0)) (16 * t) (σ 5 t).toNat))) := by
  refine Cx_of wf1 (by decide +kernel) rfl (Nat.le_of_ble_eq_true rfl) (Or.inl rfl) (fun th_ => [some th_, some (iv t), none, none]) (fun _ => rfl) ?_
  intro E hN hret hR0
  have hfp : (0 ≤ t ∧ t ≤ 1) → ∀ e, 16 * t ≤ e → e < 16 * t + σ 5 t → (0 ≤ e ∧ e < 32) ∧ (e < 16 → 0 ≤ σ 8 e ∧ σ 8 e ≤ 8) ∧ (16 ≤ e → 0 ≤ σ 7 e ∧ 0 ≤ σ 8 e) := by
    intro htt e h1 h2
    have hct := hI.1 t htt.1 htt.2
    refine ⟨⟨by omega, by omega⟩, fun h3 => ?_, fun h3 => ?_⟩
    · have ht0 : t = 0 := by omega
      rw [ht0] at h2
      have := hI.2.1 e (by omega) (by omega)
      omega
    · have ht1 : t = 1 := by omega
      rw [ht1] at h2
      have := hI.2.2.1 e (by omega) (by omega)
      omega
  have loop : ∀ (m : Nat) (j : Nat), (0 ≤ t ∧ t ≤ 1) → j ≤ (σ 5 t).toNat → (σ 5 t).toNat < j + m → WX E cd1 σ 17 [some (th E), some (iv t), some (iv (cn (fun q => Fit σ q (σ 0 0)) (16 * t) j)), some (iv (16 * t + j))] [] := by
    intro m
    induction m with
    | zero => intro j _ h2 h3; exact absurd h3 (by omega)
    | succ m ih =>
      intro j htt hj hjm
      have hct := hI.1 t htt.1 htt.2
      have hcn := cn_in (fun q => Fit σ q (σ 0 0)) (16 * t) j
      have ej : 16 * t + (j : Int) + 1 = 16 * t + ((j + 1 : Nat) : Int) := by omega
      refine x_iloadn hN dX1_matching_17 rfl ?_
      refine x_bipush hN dX1_matching_18 (by decide) ?_
      refine x_iloadn hN dX1_matching_20 rfl ?_
      refine x_imul hN dX1_matching_21 ?_
      refine x_aload hN dX1_matching_22 rfl ?_
      refine a1_5 hN dX1_matching_23 ?_
      refine x_iloadn hN dX1_matching_26 rfl ?_
      refine l1_5 hN dX1_matching_27 (by omega) (by omega) (fun hr27 => ?_)
      refine x_iadd hN dX1_matching_28 ?_
      refine x_cmpge hN 55 dX1_matching_29 (by decide) (by omega) (by omega) (fun h29 => ?_) (fun h29 => ?_)
      · refine x_iloadn hN dX1_matching_55 rfl ?_
        exact hret _ _ _ _ dX1_matching_56 (by omega) ⟨rfl, Or.inr ⟨htt, by rw [show (σ 5 t).toNat = j by omega]⟩⟩
      · have q24 := hfp htt (16 * t + j) (by omega) (by omega)
        refine x_aload hN dX1_matching_32 rfl ?_
        refine x_iloadn hN dX1_matching_33 rfl ?_
        refine x_aload hN dX1_matching_34 rfl ?_
        refine a1_0 hN dX1_matching_35 ?_
        refine x_iconst hN dX1_matching_38 ?_
        refine l1_0 hN dX1_matching_39 (by omega) (by omega) (fun hr39 => ?_)
        refine x_call hN (m1_fits σ (16 * t + j) (σ 0 0) q24.1 (hR0 _ _) q24.2.1 q24.2.2 hI.2.2.2.1) hw1_fits hy1_fits (by decide) rfl (by decide) rfl dX1_matching_40 (fun z40 u40 hz40 hp40 => ?_)
        obtain ⟨hu40, hp40⟩ := hp40
        rw [hu40]
        refine x_ifeq hN 49 dX1_matching_43 (by decide) (by omega) (fun h43 => ?_) (fun h43 => ?_)
        · refine x_in3 hN dX1_matching_49 ?_
          refine x_goto hN 17 dX1_matching_52 (by decide) ?_
          have e2 := cn_f (P := fun q => Fit σ q (σ 0 0)) (lo := 16 * t) (n := j) (by rcases hp40 with w | w; exact absurd w.1 (by omega); exact w.2)
          have l := ih (j + 1) htt (by omega) (by omega)
          rw [e2, ← ej] at l
          exact l
        · refine x_in2 hN dX1_matching_46 ?_
          refine x_in3 hN dX1_matching_49 ?_
          refine x_goto hN 17 dX1_matching_52 (by decide) ?_
          have e2 := cn_t (P := fun q => Fit σ q (σ 0 0)) (lo := 16 * t) (n := j) (by rcases hp40 with w | w; exact w.2; exact absurd w.1 (by omega))
          have l := ih (j + 1) htt (by omega) (by omega)
          rw [e2, ← ej] at l
          exact l
  refine x_aload hN dX1_matching_0 rfl ?_
  refine x_iloadn hN dX1_matching_1 rfl ?_
  refine x_call hN (m1_isTable σ t ht) hw1_isTable hy1_isTable (by decide) rfl (by decide) rfl dX1_matching_2 (fun z2 u2 hz2 hp2 => ?_)
  obtain ⟨hu2, hp2⟩ := hp2
  rw [hu2]
  refine x_ifne hN 10 dX1_matching_5 (by decide) (by omega) (fun h5 => ?_) (fun h5 => ?_)
  · have htt : 0 ≤ t ∧ t ≤ 1 := by omega
    have hct := hI.1 t htt.1 htt.2
    refine x_iconst hN dX1_matching_10 ?_
    refine x_st2 hN dX1_matching_11 ?_
    refine x_bipush hN dX1_matching_12 (by decide) ?_
    refine x_iloadn hN dX1_matching_14 rfl ?_
    refine x_imul hN dX1_matching_15 ?_
    refine x_st3 hN dX1_matching_16 ?_
    have l := loop 17 0 htt (by omega) (by omega)
    rw [cn_0, show 16 * t + ((0 : Nat) : Int) = 16 * t by omega] at l
    exact l
  · refine x_iconst hN dX1_matching_8 ?_
    exact hret _ _ _ _ dX1_matching_9 (by omega) ⟨rfl, Or.inl ⟨by omega, rfl⟩⟩
set_option maxHeartbeats 4000000 in
theorem m1_owned (σ : zSt) (h : Int) (hh : -2147483648 ≤ h ∧ h < 2147483648) (hI : MI σ) : Cx cd1 yX1_owned cX1_owned 5 .int 2 σ [h] (fun z u => u = σ ∧ ((z = -3 ∧ ∀ q, 0 ≤ q → q < σ 5 0 → σ 6 q ≠ h) ∨ (∃ q, 0 ≤ q ∧ q < σ 5 0 ∧ σ 6 q = h ∧ z = cn (fun v => Tk σ 0 v (16 * 0 + σ 5 0) q) 0 256) ∨ (z = -3 ∧ ∃ q, 16 ≤ q ∧ q < 16 + σ 5 1 ∧ σ 6 q = h))) := by
  refine Cx_of wf1 (by decide +kernel) rfl (Nat.le_of_ble_eq_true rfl) (Or.inl rfl) (fun th_ => [some th_, some (iv h), none, none, none]) (fun _ => rfl) ?_
  intro E hN hret hR0
  have loop : ∀ (m : Nat) (j : Nat) (q : Int), 0 ≤ q → q < σ 5 0 → σ 6 q = h → j ≤ 256 → 256 < j + m → WX E cd1 σ 24 [some (th E), some (iv h), some (iv q), some (iv (cn (fun v => Tk σ 0 v (16 * 0 + σ 5 0) q) 0 j)), some (iv j)] [] := by
    intro m
    induction m with
    | zero => intro j q _ _ _ h2 h3; exact absurd h3 (by omega)
    | succ m ih =>
      intro j q hq0 hq1 hqh hj hjm
      have hct := hI.1 0 (by omega) (by omega)
      have hcn := cn_in (fun v => Tk σ 0 v (16 * 0 + σ 5 0) q) 0 j
      have ej : (j : Int) + 1 = ((j + 1 : Nat) : Int) := by omega
      refine x_iload hN dX1_owned_24 rfl ?_
      refine x_sipush hN dX1_owned_26 (by decide) ?_
      refine x_cmpge hN 52 dX1_owned_29 (by decide) (by omega) (by omega) (fun h29 => ?_) (fun h29 => ?_)
      · refine x_iloadn hN dX1_owned_52 rfl ?_
        exact hret _ _ _ _ dX1_owned_53 (by omega) ⟨rfl, Or.inr (Or.inl ⟨q, hq0, hq1, hqh, by rw [show (256 : Nat) = j by omega]⟩)⟩
      · refine x_aload hN dX1_owned_32 rfl ?_
        refine x_iconst hN dX1_owned_33 ?_
        refine x_iload hN dX1_owned_34 rfl ?_
        refine x_call hN (m1_taken σ 0 j (by decide) (by omega) hI) hw1_taken hy1_taken (by decide) rfl (by decide) rfl dX1_owned_36 (fun z36 u36 hz36 hp36 => ?_)
        obtain ⟨hu36, hp36⟩ := hp36
        rw [hu36]
        have hz36 := hz36
        refine x_iloadn hN dX1_owned_39 rfl ?_
        refine x_cmpne hN 46 dX1_owned_40 (by decide) (by omega) (by omega) (fun h40 => ?_) (fun h40 => ?_)
        · refine x_in4 hN dX1_owned_46 ?_
          refine x_goto hN 24 dX1_owned_49 (by decide) ?_
          have e2 := cn_f (P := fun v => Tk σ 0 v (16 * 0 + σ 5 0) q) (lo := 0) (n := j) (by rw [Int.zero_add]; intro w; exact h40 (Tk_uq (by omega) hp36 w))
          have l := ih (j + 1) q hq0 hq1 hqh (by omega) (by omega)
          rw [e2, ← ej] at l
          exact l
        · refine x_in3 hN dX1_owned_43 ?_
          refine x_in4 hN dX1_owned_46 ?_
          refine x_goto hN 24 dX1_owned_49 (by decide) ?_
          have e2 := cn_t (P := fun v => Tk σ 0 v (16 * 0 + σ 5 0) q) (lo := 0) (n := j) (by rw [Int.zero_add, ← h40]; exact hp36)
          have l := ih (j + 1) q hq0 hq1 hqh (by omega) (by omega)
          rw [e2, ← ej] at l
          exact l
  refine x_aload hN dX1_owned_0 rfl ?_
  refine x_iloadn hN dX1_owned_1 rfl ?_
  refine x_call hN (m1_find σ h hh hI.1) hw1_find hy1_find (by decide) rfl (by decide) rfl dX1_owned_2 (fun z2 u2 hz2 hp2 => ?_)
  obtain ⟨hu2, hp2⟩ := hp2
  rw [hu2]
  refine x_st2 hN dX1_owned_5 ?_
  have hc0 := hI.1 0 (by omega) (by omega)
  have hc1 := hI.1 1 (by omega) (by omega)
  have hz32 : z2 < 32 := by rcases hp2 with q | q <;> omega
  refine x_iloadn hN dX1_owned_6 rfl ?_
  refine x_iflt hN 16 dX1_owned_7 (by decide) (by omega) (fun h7 => ?_) (fun h7 => ?_)
  · refine x_bipush hN dX1_owned_16 (by decide) ?_
    exact hret _ _ _ _ dX1_owned_18 (by omega) ⟨rfl, Or.inl ⟨rfl, fun q q0 q1 => by rcases hp2 with w | w; exact w.2 q q0 (by omega) (by rw [show q / 16 = 0 by omega, show q % 16 = q by omega]; exact q1); exact absurd w.1 (by omega)⟩⟩
  · refine x_iloadn hN dX1_owned_10 rfl ?_
    refine x_bipush hN dX1_owned_11 (by decide) ?_
    refine x_cmple hN 19 dX1_owned_13 (by decide) (by omega) (by omega) (fun h13 => ?_) (fun h13 => ?_)
    · rcases hp2 with w | ⟨w1, w2, w3, w4⟩
      · exact absurd w.1 (by omega)
      have w5 : z2 / 16 = 0 := by omega
      have w6 : z2 % 16 = z2 := by omega
      rw [w5, w6] at w3
      refine x_iconst hN dX1_owned_19 ?_
      refine x_st3 hN dX1_owned_20 ?_
      refine x_iconst hN dX1_owned_21 ?_
      refine x_st4 hN dX1_owned_22 ?_
      exact loop 257 0 z2 w1 w3 w4 (by omega) (by omega)
    · refine x_bipush hN dX1_owned_16 (by decide) ?_
      exact hret _ _ _ _ dX1_owned_18 (by omega) ⟨rfl, Or.inr (Or.inr ⟨rfl, z2, by omega, by rcases hp2 with w | w; omega; rw [show z2 / 16 = 1 by omega] at w; omega, by rcases hp2 with w | w; omega; exact w.2.2.2⟩)⟩
end
section
/-! THE TREE, plain: labels: the root 1, a child 2 * label + bit; a prefix of w bits of the byte a has the label (256 + a) / 2 ^ (8 - w) -/
theorem pw_0 : (2 : Int) ^ (8 - 0 : Int).toNat = 256 := by decide
theorem p9 {w : Int} (h : 0 ≤ w ∧ w ≤ 8) : (w = 0 ∧ (2 : Int) ^ (8 - w).toNat = 256) ∨ (w = 1 ∧ (2 : Int) ^ (8 - w).toNat = 128) ∨ (w = 2 ∧ (2 : Int) ^ (8 - w).toNat = 64) ∨ (w = 3 ∧ (2 : Int) ^ (8 - w).toNat = 32) ∨ (w = 4 ∧ (2 : Int) ^ (8 - w).toNat = 16) ∨ (w = 5 ∧ (2 : Int) ^ (8 - w).toNat = 8) ∨ (w = 6 ∧ (2 : Int) ^ (8 - w).toNat = 4) ∨ (w = 7 ∧ (2 : Int) ^ (8 - w).toNat = 2) ∨ (w = 8 ∧ (2 : Int) ^ (8 - w).toNat = 1) := by
  have : w = 0 ∨ w = 1 ∨ w = 2 ∨ w = 3 ∨ w = 4 ∨ w = 5 ∨ w = 6 ∨ w = 7 ∨ w = 8 := by omega
  rcases this with e | e | e | e | e | e | e | e | e <;> subst e <;> decide
theorem pl_S {v bit : Int} (hb : 0 ≤ bit ∧ bit ≤ 7) (hv : 0 ≤ v ∧ v ≤ 255) : (256 + v) / 2 ^ bit.toNat = 2 * ((256 + v) / 2 ^ (bit + 1).toNat) + v / 2 ^ bit.toNat % 2 := by
  have h1 := p9 (w := 8 - bit) (by omega)
  have h2 := p9 (w := 8 - (bit + 1)) (by omega)
  rw [show 8 - (8 - bit) = bit by omega] at h1
  rw [show 8 - (8 - (bit + 1)) = bit + 1 by omega] at h2
  rcases h1 with ⟨a, e1⟩ | ⟨a, e1⟩ | ⟨a, e1⟩ | ⟨a, e1⟩ | ⟨a, e1⟩ | ⟨a, e1⟩ | ⟨a, e1⟩ | ⟨a, e1⟩ | ⟨a, e1⟩ <;> rcases h2 with ⟨b, e2⟩ | ⟨b, e2⟩ | ⟨b, e2⟩ | ⟨b, e2⟩ | ⟨b, e2⟩ | ⟨b, e2⟩ | ⟨b, e2⟩ | ⟨b, e2⟩ | ⟨b, e2⟩ <;> first | (exfalso; omega) | (rw [e1, e2]; omega)
theorem el_eq {a b w d : Int} (ha : 0 ≤ a ∧ a ≤ 255) (hb : 0 ≤ b ∧ b ≤ 255) (hw : 0 ≤ w ∧ w ≤ 8) (hd : 0 ≤ d ∧ d ≤ 8) (h : (256 + a) / 2 ^ (8 - w).toNat = (256 + b) / 2 ^ (8 - d).toNat) : w = d ∧ a / 2 ^ (8 - w).toNat = b / 2 ^ (8 - w).toNat := by
  have h1 := p9 hw
  have h2 := p9 hd
  rcases h1 with ⟨a, e1⟩ | ⟨a, e1⟩ | ⟨a, e1⟩ | ⟨a, e1⟩ | ⟨a, e1⟩ | ⟨a, e1⟩ | ⟨a, e1⟩ | ⟨a, e1⟩ | ⟨a, e1⟩ <;> rcases h2 with ⟨b, e2⟩ | ⟨b, e2⟩ | ⟨b, e2⟩ | ⟨b, e2⟩ | ⟨b, e2⟩ | ⟨b, e2⟩ | ⟨b, e2⟩ | ⟨b, e2⟩ | ⟨b, e2⟩ <;> rw [e1, e2] at h <;> first | (exfalso; omega) | (rw [e1]; omega)
theorem el_of {a b w : Int} (ha : 0 ≤ a ∧ a ≤ 255) (hb : 0 ≤ b ∧ b ≤ 255) (hw : 0 ≤ w ∧ w ≤ 8) (h : a / 2 ^ (8 - w).toNat = b / 2 ^ (8 - w).toNat) : (256 + a) / 2 ^ (8 - w).toNat = (256 + b) / 2 ^ (8 - w).toNat := by
  have h1 := p9 hw
  rcases h1 with ⟨a, e1⟩ | ⟨a, e1⟩ | ⟨a, e1⟩ | ⟨a, e1⟩ | ⟨a, e1⟩ | ⟨a, e1⟩ | ⟨a, e1⟩ | ⟨a, e1⟩ | ⟨a, e1⟩ <;> rw [e1] at h ⊢ <;> omega
theorem el_dd (X : Int) {j k : Nat} (h : j ≤ k) : X / 2 ^ k = X / 2 ^ j / 2 ^ (k - j) := by
  rw [Int.ediv_ediv_of_nonneg (Int.le_of_lt (Int.pow_pos (by decide))), ← Int.pow_add]
  congr 2
  omega
/-- a tree: child array, how many nodes, their labels -/
def Tr (ch : Int → Int) (nc : Int) (lab : Int → Int) : Prop :=
  1 ≤ nc ∧ lab 0 = 1 ∧ (∀ x, 0 ≤ x → x < nc → 1 ≤ lab x) ∧ (∀ x y, 0 ≤ x → x < nc → 0 ≤ y → y < nc → lab x = lab y → x = y) ∧
  (∀ x b, 0 ≤ x → x < nc → (b = 0 ∨ b = 1) → ch (2 * x + b) = -1 ∨ (0 ≤ ch (2 * x + b) ∧ ch (2 * x + b) < nc ∧ lab (ch (2 * x + b)) = 2 * lab x + b)) ∧
  (∀ x, 0 < x → x < nc → ∃ y, 0 ≤ y ∧ y < nc ∧ lab y = lab x / 2 ∧ ch (2 * y + lab x % 2) = x)
/-- a label that is there is a child's -/
theorem Tr_par {ch : Int → Int} {nc : Int} {lab : Int → Int} (h : Tr ch nc lab) {x b y : Int} (hx : 0 ≤ x ∧ x < nc) (hb : b = 0 ∨ b = 1) (hy : 0 ≤ y ∧ y < nc) (e : lab y = 2 * lab x + b) : ch (2 * x + b) = y := by
  obtain ⟨n1, l0, lp, inj, chd, par⟩ := h
  have hx1 := lp x hx.1 hx.2
  have hy0 : y ≠ 0 := fun q => by rw [q, l0] at e; omega
  obtain ⟨p, p0, p1, p2, p3⟩ := par y (by omega) hy.2
  have hpx : p = x := inj p x p0 p1 hx.1 hx.2 (by rw [p2, e]; omega)
  rw [hpx, e, show (2 * lab x + b) % 2 = b by omega] at p3
  exact p3
theorem Tr_new {ch ch' lab : Int → Int} {nc x b : Int} (h : Tr ch nc lab) (hx : 0 ≤ x ∧ x < nc) (hb : b = 0 ∨ b = 1) (hc : ch (2 * x + b) < 0) (h1 : ch' (2 * x + b) = nc) (h2 : ch' (2 * nc) = -1) (h3 : ch' (2 * nc + 1) = -1) (h4 : ∀ j, 0 ≤ j → j < 2 * nc → j ≠ 2 * x + b → ch' j = ch j) : Tr ch' (nc + 1) (fun y => if y = nc then 2 * lab x + b else lab y) := by
  have hfresh : ∀ y, 0 ≤ y → y < nc → lab y ≠ 2 * lab x + b := by
    intro y y0 y1 e
    have := Tr_par h hx hb ⟨y0, y1⟩ e
    omega
  obtain ⟨n1, l0, lp, inj, chd, par⟩ := h
  have hx1 := lp x hx.1 hx.2
  have el : ∀ y, y < nc → (if y = nc then 2 * lab x + b else lab y) = lab y := fun y hy => if_neg (by omega)
  have en : (if nc = nc then 2 * lab x + b else lab nc) = 2 * lab x + b := if_pos rfl
  refine ⟨by omega, ?_, ?_, ?_, ?_, ?_⟩
  · show (if (0 : Int) = nc then _ else _) = 1
    rw [el 0 (by omega)]; exact l0
  · intro y y0 y1
    show 1 ≤ (if y = nc then _ else _)
    by_cases hy : y = nc
    · rw [if_pos hy]; omega
    · rw [if_neg hy]; exact lp y y0 (by omega)
  · intro y z y0 y1 z0 z1 e
    have e : (if y = nc then 2 * lab x + b else lab y) = (if z = nc then 2 * lab x + b else lab z) := e
    by_cases hy : y = nc <;> by_cases hz : z = nc
    · omega
    · rw [if_pos hy, if_neg hz] at e
      exact absurd e.symm (hfresh z z0 (by omega))
    · rw [if_neg hy, if_pos hz] at e
      exact absurd e (hfresh y y0 (by omega))
    · rw [if_neg hy, if_neg hz] at e
      exact inj y z y0 (by omega) z0 (by omega) e
  · intro y d y0 y1 hd
    show ch' (2 * y + d) = -1 ∨ (0 ≤ ch' (2 * y + d) ∧ ch' (2 * y + d) < nc + 1 ∧ (if ch' (2 * y + d) = nc then 2 * lab x + b else lab (ch' (2 * y + d))) = 2 * (if y = nc then 2 * lab x + b else lab y) + d)
    by_cases hy : y = nc
    · left
      rcases hd with e | e
      · rw [hy, e, Int.add_zero]; exact h2
      · rw [hy, e]; exact h3
    · rw [el y (by omega)]
      by_cases hq : 2 * y + d = 2 * x + b
      · right
        have e1 : y = x := by omega
        have e2 : d = b := by omega
        rw [hq, h1, if_pos rfl, e1, e2]
        omega
      · rw [h4 (2 * y + d) (by omega) (by omega) hq]
        rcases chd y d y0 (by omega) hd with q | ⟨q1, q2, q3⟩
        · exact Or.inl q
        · right
          rw [el _ q2]
          exact ⟨q1, by omega, q3⟩
  · intro y y0 y1
    by_cases hy : y = nc
    · refine ⟨x, hx.1, by omega, ?_, ?_⟩
      · show (if x = nc then _ else _) = (if y = nc then _ else _) / 2
        rw [el x hx.2, if_pos hy]; omega
      · show ch' (2 * x + (if y = nc then _ else _) % 2) = y
        rw [if_pos hy, show (2 * lab x + b) % 2 = b by omega, h1, hy]
    · obtain ⟨p, p0, p1, p2, p3⟩ := par y y0 (by omega)
      refine ⟨p, p0, by omega, ?_, ?_⟩
      · show (if p = nc then _ else _) = (if y = nc then _ else _) / 2
        rw [el p p1, if_neg hy]; exact p2
      · show ch' (2 * p + (if y = nc then _ else _) % 2) = y
        rw [if_neg hy]
        by_cases hq : 2 * p + lab y % 2 = 2 * x + b
        · rw [hq] at p3; omega
        · rw [h4 _ (by omega) (by omega) hq]; exact p3
/-- ancestors are there -/
theorem Tr_anc {ch : Int → Int} {nc : Int} {lab : Int → Int} (h : Tr ch nc lab) : ∀ (k : Nat) (y : Int), 0 ≤ y → y < nc → 1 ≤ lab y / 2 ^ k → ∃ z, 0 ≤ z ∧ z < nc ∧ lab z = lab y / 2 ^ k := by
  intro k
  induction k with
  | zero => intro y y0 y1 _; exact ⟨y, y0, y1, by simp⟩
  | succ k ih =>
    intro y y0 y1 hk
    have e : lab y / 2 ^ (k + 1) = lab y / 2 ^ k / 2 := by
      have := el_dd (lab y) (j := k) (k := k + 1) (by omega)
      rw [show k + 1 - k = 1 by omega] at this
      exact this
    rw [e] at hk ⊢
    obtain ⟨z, z0, z1, z2⟩ := ih y y0 y1 (by omega)
    have hz : z ≠ 0 := fun q => by rw [q, h.2.1] at z2; omega
    obtain ⟨p, p0, p1, p2, -⟩ := h.2.2.2.2.2 z (by omega) z1
    exact ⟨p, p0, p1, by rw [p2, z2]⟩
theorem Tr_root : ∀ {ch : Int → Int}, ch 0 = -1 → ch 1 = -1 → Tr ch 1 (fun _ => 1) := by
  intro ch h0 h1
  refine ⟨by omega, rfl, fun x _ _ => Int.le_refl 1, fun x y x0 x1 y0 y1 _ => by omega, fun x b x0 x1 hb => ?_, fun x x0 x1 => by omega⟩
  have hx : x = 0 := by omega
  subst hx
  left
  rcases hb with e | e
  · subst e; exact h0
  · subst e; exact h1
/-- nodeFor on its way: from σ (labels lab) to τ (labels lab'), at the node x behind the bits above 'bit' of v -/
def NF (σ : zSt) (lab : Int → Int) (v n : Int) (τ : zSt) (lab' : Int → Int) (bit x : Int) : Prop :=
  Tr (τ 11) (τ 10 0) lab' ∧ (σ 10 0 ≤ τ 10 0 ∧ τ 10 0 ≤ σ 10 0 + (7 - bit) ∧ τ 10 0 ≤ 129) ∧ (∀ y, 0 ≤ y → y < σ 10 0 → lab' y = lab y ∧ τ 12 y = σ 12 y ∧ τ 13 y = σ 13 y) ∧ (∀ y, σ 10 0 ≤ y → y < τ 10 0 → τ 12 y = -1 ∧ τ 13 y = 0) ∧ (0 ≤ x ∧ x < τ 10 0) ∧ lab' x = (256 + v) / 2 ^ (bit + 1).toNat ∧ (∀ k, k ≠ 10 → k ≠ 11 → k ≠ 12 → k ≠ 13 → τ k = σ k) ∧ ((∃ y, 0 ≤ y ∧ y < σ 10 0 ∧ lab y = (256 + v) / 2 ^ (8 - n).toNat) → τ = σ)
theorem NF_old {σ : zSt} {lab : Int → Int} {v n : Int} {τ : zSt} {lab' : Int → Int} {bit x : Int} (h : NF σ lab v n τ lab' bit x) (hv : 0 ≤ v ∧ v ≤ 255) (hb : 0 ≤ bit ∧ bit ≤ 7) (hc : 0 ≤ τ 11 (2 * x + v / 2 ^ bit.toNat % 2)) : NF σ lab v n τ lab' (bit - 1) (τ 11 (2 * x + v / 2 ^ bit.toNat % 2)) := by
  obtain ⟨h1, h2, h3, h4, h5, h6, h7, h8⟩ := h
  have hbb : v / 2 ^ bit.toNat % 2 = 0 ∨ v / 2 ^ bit.toNat % 2 = 1 := by omega
  rcases h1.2.2.2.2.1 x _ h5.1 h5.2 hbb with q | ⟨q1, q2, q3⟩
  · omega
  · refine ⟨h1, ⟨h2.1, by omega, h2.2.2⟩, h3, h4, ⟨q1, q2⟩, ?_, h7, h8⟩
    rw [q3, h6, show bit - 1 + 1 = bit by omega, pl_S hb hv]
/-- where the goal is there already, no node is wanting on the way to it -/
theorem NF_there {σ : zSt} {lab : Int → Int} {v n : Int} {τ : zSt} {lab' : Int → Int} {bit x : Int} (h : NF σ lab v n τ lab' bit x) (hv : 0 ≤ v ∧ v ≤ 255) (hb : 0 ≤ bit ∧ bit ≤ 7) (hn : 7 - n < bit ∧ 0 ≤ n ∧ n ≤ 8) (hc : τ 11 (2 * x + v / 2 ^ bit.toNat % 2) < 0) : ¬ ∃ y, 0 ≤ y ∧ y < σ 10 0 ∧ lab y = (256 + v) / 2 ^ (8 - n).toNat := by
  intro hp
  obtain ⟨h1, h2, h3, h4, h5, h6, h7, h8⟩ := h
  obtain ⟨y, y0, y1, y2⟩ := hp
  have hbb : v / 2 ^ bit.toNat % 2 = 0 ∨ v / 2 ^ bit.toNat % 2 = 1 := by omega
  have e1 : (256 + v) / 2 ^ bit.toNat = lab' y / 2 ^ (bit.toNat - (8 - n).toNat) := by
    rw [(h3 y y0 y1).1, y2]
    exact el_dd _ (by omega)
  have e2 := pl_S hb hv
  have hx1 := h1.2.2.1 x h5.1 h5.2
  obtain ⟨z, z0, z1, z2⟩ := Tr_anc h1 (bit.toNat - (8 - n).toNat) y y0 (by omega) (by rw [← e1, e2, ← h6]; omega)
  have := Tr_par h1 h5 hbb ⟨z0, z1⟩ (by rw [z2, ← e1, e2, ← h6])
  omega
theorem NF_new {σ : zSt} {lab : Int → Int} {v n : Int} {τ : zSt} {lab' : Int → Int} {bit x : Int} (h : NF σ lab v n τ lab' bit x) (hv : 0 ≤ v ∧ v ≤ 255) (hb : 0 ≤ bit ∧ bit ≤ 7) (hn : 7 - n < bit ∧ 0 ≤ n ∧ n ≤ 8) (hc : τ 11 (2 * x + v / 2 ^ bit.toNat % 2) < 0) (hr : τ 10 0 < 129) : NF σ lab v n (sset (nwN τ) 11 (2 * x + v / 2 ^ bit.toNat % 2) (τ 10 0)) (fun y => if y = τ 10 0 then 2 * lab' x + v / 2 ^ bit.toNat % 2 else lab' y) (bit - 1) (τ 10 0) := by
  have hno := NF_there h hv hb hn hc
  obtain ⟨h1, h2, h3, h4, h5, h6, h7, h8⟩ := h
  have hn0 := h1.1
  have hbb : v / 2 ^ bit.toNat % 2 = 0 ∨ v / 2 ^ bit.toNat % 2 = 1 := by omega
  generalize hB : v / 2 ^ bit.toNat % 2 = b at hbb hc ⊢
  have e10 : sset (nwN τ) 11 (2 * x + b) (τ 10 0) 10 0 = τ 10 0 + 1 := rfl
  have e12 : ∀ y, sset (nwN τ) 11 (2 * x + b) (τ 10 0) 12 y = if y = τ 10 0 then -1 else τ 12 y := fun y => by simp [nwN, sset]
  have e13 : ∀ y, sset (nwN τ) 11 (2 * x + b) (τ 10 0) 13 y = if y = τ 10 0 then 0 else τ 13 y := fun y => by simp [nwN, sset]
  have e11 : ∀ j, sset (nwN τ) 11 (2 * x + b) (τ 10 0) 11 j = if j = 2 * x + b then τ 10 0 else if j = 2 * τ 10 0 + 1 then -1 else if j = 2 * τ 10 0 then -1 else τ 11 j := fun j => by simp [nwN, sset]
  refine ⟨?_, ?_, ?_, ?_, ?_, ?_, ?_, fun q => absurd q hno⟩
  · rw [e10]
    refine Tr_new h1 h5 hbb hc ?_ ?_ ?_ ?_
    · rw [e11, if_pos rfl]
    · rw [e11, if_neg (by omega), if_neg (by omega), if_pos rfl]
    · rw [e11, if_neg (by omega), if_pos rfl]
    · intro j j0 j1 j2
      rw [e11, if_neg j2, if_neg (by omega), if_neg (by omega)]
  · rw [e10]; omega
  · intro y y0 y1
    rw [e12, e13, if_neg (by omega), if_neg (by omega)]
    have := h3 y y0 y1
    refine ⟨?_, this.2.1, this.2.2⟩
    show (if y = τ 10 0 then _ else _) = lab y
    rw [if_neg (by omega)]
    exact this.1
  · intro y y0 y1
    rw [e10] at y1
    rw [e12, e13]
    by_cases hy : y = τ 10 0
    · rw [if_pos hy, if_pos hy]; exact ⟨rfl, rfl⟩
    · rw [if_neg hy, if_neg hy]
      exact h4 y y0 (by omega)
  · rw [e10]; omega
  · show (if τ 10 0 = τ 10 0 then _ else _) = _
    rw [if_pos rfl, h6, show bit - 1 + 1 = bit by omega, pl_S hb hv, hB]
  · intro k k10 k11 k12 k13
    funext j
    have := h7 k k10 k11 k12 k13
    rw [← this]
    simp [nwN, sset, k10, k11, k12, k13]
/-- an entry's label -/
def el (ky w : Int → Int) (e : Int) : Int := (256 + ky e) / 2 ^ (8 - w e).toNat
/-- the tree of the entries below hi: h handles, ky keys, w widths; ch, eh, ec: child, endsHere, endCount -/
def TP (h ky w ch eh ec : Int → Int) (nc hi : Int) (lab : Int → Int) : Prop :=
  Tr ch nc lab ∧ nc ≤ 1 + 8 * hi ∧ (∀ e, 0 ≤ e → e < hi → 0 ≤ h e → ∃ x, 0 ≤ x ∧ x < nc ∧ lab x = el ky w e) ∧
  ∀ x, 0 ≤ x → x < nc → ((eh x = -1 ∧ ∀ e, 0 ≤ e → e < hi → 0 ≤ h e → el ky w e ≠ lab x) ∨ (0 ≤ eh x ∧ eh x < hi ∧ 0 ≤ h (eh x) ∧ el ky w (eh x) = lab x ∧ ∀ e, 0 ≤ e → e < hi → 0 ≤ h e → el ky w e = lab x → h (eh x) ≤ h e)) ∧ ec x = cn (fun e => 0 ≤ h e ∧ el ky w e = lab x) 0 hi.toNat
theorem TP_skip {h ky w ch eh ec : Int → Int} {nc hi : Int} {lab : Int → Int} (hT : TP h ky w ch eh ec nc hi lab) (h0 : 0 ≤ hi) (hn : h hi < 0) : TP h ky w ch eh ec nc (hi + 1) lab := by
  obtain ⟨h1, h2, h3, h4⟩ := hT
  refine ⟨h1, by omega, fun e e0 e1 e2 => ?_, fun x x0 x1 => ?_⟩
  · by_cases q : e = hi
    · rw [q] at e2; omega
    · exact h3 e e0 (by omega) e2
  · obtain ⟨q1, q2⟩ := h4 x x0 x1
    refine ⟨?_, ?_⟩
    · rcases q1 with ⟨a1, a2⟩ | ⟨a1, a2, a3, a4, a5⟩
      · refine Or.inl ⟨a1, fun e e0 e1 e2 => ?_⟩
        by_cases q : e = hi
        · rw [q] at e2; omega
        · exact a2 e e0 (by omega) e2
      · refine Or.inr ⟨a1, by omega, a3, a4, fun e e0 e1 e2 => ?_⟩
        by_cases q : e = hi
        · rw [q] at e2; omega
        · exact a5 e e0 (by omega) e2
    · rw [show (hi + 1).toNat = hi.toNat + 1 by omega, cn_f (by rw [show (0 : Int) + (hi.toNat : Int) = hi by omega]; omega)]
      exact q2
/-- one entry more: the way from σ to u is nodeFor's -/
theorem TP_add {h ky w ch eh ec : Int → Int} {nc hi : Int} {lab : Int → Int} (hT : TP h ky w ch eh ec nc hi lab) (h0 : 0 ≤ hi) (hl : 0 ≤ h hi) (hw : 0 ≤ w hi ∧ w hi ≤ 8) {ch' eh' ec' lab' : Int → Int} {nc' z : Int} (hTr : Tr ch' nc' lab') (hnc : nc ≤ nc' ∧ nc' ≤ nc + 8) (hz : 0 ≤ z ∧ z < nc') (hlz : lab' z = el ky w hi)
    (hold : ∀ y, 0 ≤ y → y < nc → lab' y = lab y ∧ (y ≠ z → eh' y = eh y ∧ ec' y = ec y)) (hnew : ∀ y, nc ≤ y → y < nc' → y ≠ z → eh' y = -1 ∧ ec' y = 0)
    (hez : ec' z = (if z < nc then ec z else 0) + 1) (hhz : (eh' z = hi ∧ ((if z < nc then eh z else -1) < 0 ∨ h hi < h (if z < nc then eh z else -1))) ∨ (eh' z = (if z < nc then eh z else -1) ∧ 0 ≤ (if z < nc then eh z else -1) ∧ h (if z < nc then eh z else -1) ≤ h hi)) : TP h ky w ch' eh' ec' nc' (hi + 1) lab' := by
  obtain ⟨h1, h2, h3, h4⟩ := hT
  -- a new label is no entry's
  have hnl : ∀ y, nc ≤ y → y < nc' → ∀ e, 0 ≤ e → e < hi → 0 ≤ h e → el ky w e ≠ lab' y := by
    intro y y0 y1 e e0 e1 e2 q
    obtain ⟨x, x0, x1, x2⟩ := h3 e e0 e1 e2
    have h5 := (hold x x0 x1).1
    have := hTr.2.2.2.1 x y x0 (by omega) (by have := h1.1; omega) y1 (by rw [h5, x2, q])
    omega
  have ehi : (0 : Int) + (hi.toNat : Int) = hi := by omega
  have hcn0 : ∀ y, nc ≤ y → y < nc' → cn (fun e => 0 ≤ h e ∧ el ky w e = lab' y) 0 hi.toNat = 0 := by
    intro y y0 y1
    have key : ∀ n : Nat, n ≤ hi.toNat → cn (fun e => 0 ≤ h e ∧ el ky w e = lab' y) 0 n = 0 := by
      intro n
      induction n with
      | zero => intro _; rfl
      | succ n ih =>
        intro hn
        rw [cn_f (by rintro ⟨q1, q2⟩; exact hnl y y0 y1 _ (by omega) (by omega) q1 q2)]
        exact ih (by omega)
    exact key _ (Nat.le_refl _)
  have hcno : ∀ y, 0 ≤ y → y < nc → cn (fun e => 0 ≤ h e ∧ el ky w e = lab' y) 0 hi.toNat = ec y := by
    intro y y0 y1
    rw [(hold y y0 y1).1]
    exact (h4 y y0 y1).2.symm
  refine ⟨hTr, by omega, fun e e0 e1 e2 => ?_, fun x x0 x1 => ?_⟩
  · by_cases q : e = hi
    · rw [q]; exact ⟨z, hz.1, hz.2, hlz⟩
    · obtain ⟨x, x0, x1, x2⟩ := h3 e e0 (by omega) e2
      exact ⟨x, x0, by omega, by rw [(hold x x0 x1).1]; exact x2⟩
  · by_cases hxz : x = z
    · subst hxz
      refine ⟨?_, ?_⟩
      · -- who ends here
        have old : ((if x < nc then eh x else -1) < 0 ∧ ∀ e, 0 ≤ e → e < hi → 0 ≤ h e → el ky w e ≠ lab' x) ∨ (0 ≤ (if x < nc then eh x else -1) ∧ (if x < nc then eh x else -1) < hi ∧ 0 ≤ h (if x < nc then eh x else -1) ∧ el ky w (if x < nc then eh x else -1) = lab' x ∧ ∀ e, 0 ≤ e → e < hi → 0 ≤ h e → el ky w e = lab' x → h (if x < nc then eh x else -1) ≤ h e) := by
          by_cases hx : x < nc
          · rw [if_pos hx, (hold x x0 hx).1]
            rcases (h4 x x0 hx).1 with ⟨a1, a2⟩ | a
            · exact Or.inl ⟨by omega, a2⟩
            · exact Or.inr a
          · rw [if_neg hx]
            exact Or.inl ⟨by omega, hnl x (by omega) x1⟩
        generalize (if x < nc then eh x else -1) = o at old hhz
        right
        rcases hhz with ⟨a1, a2⟩ | ⟨a1, a2, a3⟩
        · rw [a1]
          refine ⟨h0, by omega, hl, hlz.symm, fun e e0 e1 e2 e3 => ?_⟩
          by_cases q : e = hi
          · rw [q]; exact Int.le_refl _
          · rcases old with ⟨b1, b2⟩ | ⟨b1, b2, b3, b4, b5⟩
            · exact absurd e3 (b2 e e0 (by omega) e2)
            · have := b5 e e0 (by omega) e2 e3
              omega
        · rw [a1]
          rcases old with ⟨b1, b2⟩ | ⟨b1, b2, b3, b4, b5⟩
          · omega
          · refine ⟨b1, by omega, b3, b4, fun e e0 e1 e2 e3 => ?_⟩
            by_cases q : e = hi
            · rw [q]; exact a3
            · exact b5 e e0 (by omega) e2 e3
      · rw [show (hi + 1).toNat = hi.toNat + 1 by omega, cn_t (by rw [ehi]; exact ⟨hl, hlz.symm⟩), hez]
        by_cases hx : x < nc
        · rw [if_pos hx, hcno x x0 hx]
        · rw [if_neg hx, hcn0 x (by omega) x1]
    · have hne : el ky w hi ≠ lab' x := fun q => hxz (hTr.2.2.2.1 x z x0 x1 hz.1 hz.2 (by rw [hlz, q]))
      have ecn : cn (fun e => 0 ≤ h e ∧ el ky w e = lab' x) 0 (hi + 1).toNat = cn (fun e => 0 ≤ h e ∧ el ky w e = lab' x) 0 hi.toNat := by
        rw [show (hi + 1).toNat = hi.toNat + 1 by omega, cn_f (by rw [ehi]; exact fun q => hne q.2)]
      rw [ecn]
      by_cases hx : x < nc
      · obtain ⟨g1, g2⟩ := hold x x0 hx
        obtain ⟨g3, g4⟩ := g2 hxz
        rw [g3, g4, hcno x x0 hx]
        refine ⟨?_, rfl⟩
        rcases (h4 x x0 hx).1 with ⟨a1, a2⟩ | ⟨a1, a2, a3, a4, a5⟩
        · refine Or.inl ⟨a1, fun e e0 e1 e2 => ?_⟩
          by_cases q : e = hi
          · rw [q]; exact hne
          · rw [g1]; exact a2 e e0 (by omega) e2
        · refine Or.inr ⟨a1, by omega, a3, by rw [g1]; exact a4, fun e e0 e1 e2 e3 => ?_⟩
          by_cases q : e = hi
          · rw [q] at e3; exact absurd e3 hne
          · rw [g1] at e3; exact a5 e e0 (by omega) e2 e3
      · obtain ⟨g3, g4⟩ := hnew x (by omega) x1 hxz
        rw [g3, g4, hcn0 x (by omega) x1]
        refine ⟨Or.inl ⟨rfl, fun e e0 e1 e2 => ?_⟩, rfl⟩
        by_cases q : e = hi
        · rw [q]; exact hne
        · exact hnl x (by omega) x1 e e0 (by omega) e2
end
section
/-! the tree's methods -/
def WK (σ : zSt) : Prop := ∀ e, 0 ≤ e → e < 16 → 0 ≤ σ 5 e → (0 ≤ σ 7 e ∧ σ 7 e ≤ 255) ∧ (0 ≤ σ 8 e ∧ σ 8 e ≤ 8)
def TreeOK (u : zSt) : Prop := ∃ lab, TP (u 5) (u 7) (u 8) (u 11) (u 12) (u 13) (u 10 0) 16 lab
theorem MT_o {h ky w : Int → Int} {τ u : zSt} {lab lab' : Int → Int} {e z v n b : Int} (hT : TP h ky w (τ 11) (τ 12) (τ 13) (τ 10 0) e lab) (he : 0 ≤ e ∧ e < 16) (hN : NF τ lab v n u lab' b z) : (u 12 z = -1 ∨ (0 ≤ u 12 z ∧ u 12 z < 16)) ∧ 0 ≤ u 13 z ∧ u 13 z ≤ 16 := by
  obtain ⟨g1, g2, g3, g4, g5, g6, g7, g8⟩ := hN
  obtain ⟨h1, h2, h3, h4⟩ := hT
  by_cases hz : z < τ 10 0
  · obtain ⟨q1, q2, q3⟩ := g3 z g5.1 hz
    obtain ⟨p1, p2⟩ := h4 z g5.1 hz
    have := cn_in (fun y => 0 ≤ h y ∧ el ky w y = lab z) 0 e.toNat
    rw [q2, q3]
    refine ⟨?_, by omega, by omega⟩
    rcases p1 with ⟨a1, _⟩ | ⟨a1, a2, _⟩
    · exact Or.inl a1
    · exact Or.inr ⟨a1, by omega⟩
  · obtain ⟨q1, q2⟩ := g4 z (by omega) g5.2
    rw [q1, q2]
    exact ⟨Or.inl rfl, by omega, by omega⟩
theorem MT_step {h ky w : Int → Int} {τ u : zSt} {lab lab' : Int → Int} {e z : Int} (hT : TP h ky w (τ 11) (τ 12) (τ 13) (τ 10 0) e lab) (he : 0 ≤ e ∧ e < 16) (hl : 0 ≤ h e) (hw : 0 ≤ w e ∧ w e ≤ 8) (hN : NF τ lab (ky e) (w e) u lab' (7 - w e) z) (ρ : zSt) (h11 : ρ 11 = u 11) (h10 : ρ 10 0 = u 10 0) (h13 : ∀ y, ρ 13 y = if y = z then u 13 z + 1 else u 13 y)
    (h12 : (ρ 12 = u 12 ∧ 0 ≤ u 12 z ∧ h (u 12 z) ≤ h e) ∨ ((∀ y, ρ 12 y = if y = z then e else u 12 y) ∧ (u 12 z < 0 ∨ h e < h (u 12 z)))) : TP h ky w (ρ 11) (ρ 12) (ρ 13) (ρ 10 0) (e + 1) lab' := by
  obtain ⟨g1, g2, g3, g4, g5, g6, g7, g8⟩ := hN
  have hr12 : ∀ y, y ≠ z → ρ 12 y = u 12 y := by
    intro y hy
    rcases h12 with ⟨q, _⟩ | ⟨q, _⟩
    · rw [q]
    · rw [q, if_neg hy]
  have hr13 : ∀ y, y ≠ z → ρ 13 y = u 13 y := fun y hy => by rw [h13, if_neg hy]
  have ho : u 12 z = if z < τ 10 0 then τ 12 z else -1 := by
    by_cases hz : z < τ 10 0
    · rw [if_pos hz]; exact (g3 z g5.1 hz).2.1
    · rw [if_neg hz]; exact (g4 z (by omega) g5.2).1
  have hc : u 13 z = if z < τ 10 0 then τ 13 z else 0 := by
    by_cases hz : z < τ 10 0
    · rw [if_pos hz]; exact (g3 z g5.1 hz).2.2
    · rw [if_neg hz]; exact (g4 z (by omega) g5.2).2
  rw [h11, h10]
  refine TP_add hT he.1 hl hw g1 (by omega) g5 (by rw [g6, show 7 - w e + 1 = 8 - w e by omega]; rfl) (fun y y0 y1 => ?_) (fun y y0 y1 y2 => ?_) ?_ ?_
  · obtain ⟨q1, q2, q3⟩ := g3 y y0 y1
    exact ⟨q1, fun hy => ⟨by rw [hr12 y hy]; exact q2, by rw [hr13 y hy]; exact q3⟩⟩
  · obtain ⟨q1, q2⟩ := g4 y y0 y1
    exact ⟨by rw [hr12 y y2]; exact q1, by rw [hr13 y y2]; exact q2⟩
  · rw [h13, if_pos rfl, hc]
  · rw [← ho]
    rcases h12 with ⟨q1, q2, q3⟩ | ⟨q1, q2⟩
    · right
      rw [q1]
      exact ⟨rfl, q2, q3⟩
    · left
      rw [q1, if_pos rfl]
      exact ⟨rfl, q2⟩
set_option maxHeartbeats 4000000 in
theorem m0_nodeFor (σ : zSt) (v n : Int) (lab : Int → Int) (hTr : Tr (σ 11) (σ 10 0) lab) (hv : 0 ≤ v ∧ v ≤ 255) (hn : 0 ≤ n ∧ n ≤ 8) (hroom : σ 10 0 ≤ 129 ∧ (σ 10 0 + n ≤ 129 ∨ ∃ y, 0 ≤ y ∧ y < σ 10 0 ∧ lab y = (256 + v) / 2 ^ (8 - n).toNat)) : Cx cd0 yX0_nodeFor cX0_nodeFor 7 .int 1 σ [v, n] (fun z u => ∃ lab', NF σ lab v n u lab' (7 - n) z) := by
  refine Cx_of wf0 (by decide +kernel) rfl (Nat.le_of_ble_eq_true rfl) (Or.inl rfl) (fun th_ => [some th_, some (iv v), some (iv n), none, none, none, none]) (fun _ => rfl) ?_
  intro E hN hret hR0
  have loop : ∀ (m : Nat) (bit x : Int) (τ : zSt) (lab' : Int → Int) (s5 s6 : Option Value), 7 - n ≤ bit → bit ≤ 7 → bit < 7 - n + m → NF σ lab v n τ lab' bit x → WX E cd0 τ 6 [some (th E), some (iv v), some (iv n), some (iv x), some (iv bit), s5, s6] [] := by
    intro m
    induction m with
    | zero => intro bit x τ lab' s5 s6 h1 h2 h3; exact absurd h3 (by omega)
    | succ m ih =>
      intro bit x τ lab' s5 s6 hb0 hb1 hbm hF
      have hx := hF.2.2.2.2.1
      have hnc := hF.2.1
      refine x_iload hN dX0_nodeFor_6 rfl ?_
      refine x_bipush hN dX0_nodeFor_8 (by decide) ?_
      refine x_iloadn hN dX0_nodeFor_10 rfl ?_
      refine x_isub hN dX0_nodeFor_11 ?_
      refine x_cmple hN 67 dX0_nodeFor_12 (by decide) (by omega) (by omega) (fun h12 => ?_) (fun h12 => ?_)
      · refine x_iloadn hN dX0_nodeFor_67 rfl ?_
        exact hret _ _ _ _ dX0_nodeFor_68 (by omega) ⟨lab', by rw [show 7 - n = bit by omega]; exact hF⟩
      · refine x_iconst hN dX0_nodeFor_15 ?_
        refine x_iloadn hN dX0_nodeFor_16 rfl ?_
        refine x_imul hN dX0_nodeFor_17 ?_
        refine x_iloadn hN dX0_nodeFor_18 rfl ?_
        refine x_iload hN dX0_nodeFor_19 rfl ?_
        refine x_ishr hN dX0_nodeFor_21 _ rfl (by omega) (by omega) ?_
        refine x_iconst hN dX0_nodeFor_22 ?_
        refine x_iandm hN dX0_nodeFor_23 2 1 (by decide) (by decide) (by decide) ?_
        refine x_iadd hN dX0_nodeFor_24 ?_
        refine x_st5 hN dX0_nodeFor_25 ?_
        refine x_aload hN dX0_nodeFor_27 rfl ?_
        refine a0_11 hN dX0_nodeFor_28 ?_
        refine x_iload hN dX0_nodeFor_31 rfl ?_
        refine l0_11 hN dX0_nodeFor_33 (by omega) (by omega) (fun hr33 => ?_)
        refine x_ifge hN 53 dX0_nodeFor_34 (by decide) (by omega) (fun h34 => ?_) (fun h34 => ?_)
        · refine x_aload hN dX0_nodeFor_53 rfl ?_
          refine a0_11 hN dX0_nodeFor_54 ?_
          refine x_iload hN dX0_nodeFor_57 rfl ?_
          refine l0_11 hN dX0_nodeFor_59 (by omega) (by omega) (fun hr59 => ?_)
          refine x_st3 hN dX0_nodeFor_60 ?_
          refine x_in4 hN dX0_nodeFor_61 ?_
          refine x_goto hN 6 dX0_nodeFor_64 (by decide) ?_
          rw [show bit + (-1) = bit - 1 by omega]
          exact ih (bit - 1) _ τ lab' _ _ (by omega) (by omega) (by omega) (NF_old hF hv ⟨by omega, hb1⟩ h34)
        · have hno := NF_there hF hv ⟨by omega, hb1⟩ ⟨by omega, hn⟩ h34
          have hrm : τ 10 0 < 129 := by
            rcases hroom.2 with q | q
            · omega
            · exact absurd q hno
          have hn0 := hF.1.1
          refine x_aload hN dX0_nodeFor_37 rfl ?_
          refine x_call hN (m0_newNode τ ⟨by omega, hrm⟩) hw0_newNode hy0_newNode (by decide) rfl (by decide) rfl dX0_nodeFor_38 (fun z38 u38 hz38 hp38 => ?_)
          obtain ⟨hv38, hp38⟩ := hp38
          subst hp38
          refine x_st6 hN dX0_nodeFor_41 ?_
          refine x_aload hN dX0_nodeFor_43 rfl ?_
          refine a0_11 hN dX0_nodeFor_44 ?_
          refine x_iload hN dX0_nodeFor_47 rfl ?_
          refine x_iload hN dX0_nodeFor_49 rfl ?_
          refine x_i2s hN dX0_nodeFor_51 (by omega) ?_
          refine w0_11 hN dX0_nodeFor_52 (by omega) (by omega) (by omega) ?_
          refine x_aload hN dX0_nodeFor_53 rfl ?_
          refine a0_11 hN dX0_nodeFor_54 ?_
          refine x_iload hN dX0_nodeFor_57 rfl ?_
          refine l0_11 hN dX0_nodeFor_59 (by omega) (by omega) (fun hr59 => ?_)
          refine x_top (τ 10 0) (by rw [hv38]; simp [sset]) ?_
          refine x_st3 hN dX0_nodeFor_60 ?_
          refine x_in4 hN dX0_nodeFor_61 ?_
          refine x_goto hN 6 dX0_nodeFor_64 (by decide) ?_
          rw [hv38, show bit + (-1) = bit - 1 by omega]
          exact ih (bit - 1) _ _ _ _ _ (by omega) (by omega) (by omega) (NF_new hF hv ⟨by omega, hb1⟩ ⟨by omega, hn⟩ h34 hrm)
  have hn1 := hTr.1
  refine x_iconst hN dX0_nodeFor_0 ?_
  refine x_st3 hN dX0_nodeFor_1 ?_
  refine x_bipush hN dX0_nodeFor_2 (by decide) ?_
  refine x_st4 hN dX0_nodeFor_4 ?_
  exact loop 9 7 0 σ lab _ _ (by omega) (by omega) (by omega) ⟨hTr, ⟨by omega, by omega, hroom.1⟩, fun y _ _ => ⟨rfl, rfl, rfl⟩, fun y q1 q2 => by omega, by omega, by rw [hTr.2.1, show ((7 : Int) + 1).toNat = 8 from rfl]; omega, fun k _ _ _ _ => rfl, fun _ => rfl⟩
set_option maxHeartbeats 4000000 in
theorem m0_makeTree (σ : zSt) (hw : WK σ) (hr : σ 9 0 ≠ 0 → TreeOK σ) : Cv cd0 yX0_makeTree cX0_makeTree 3 2 σ [] (fun u => u 9 0 ≠ 0 ∧ TreeOK u ∧ ∀ k, k ≠ 9 → k ≠ 10 → k ≠ 11 → k ≠ 12 → k ≠ 13 → u k = σ k) := by
  refine Cv_of wf0 (by decide +kernel) rfl (Nat.le_of_ble_eq_true rfl) (fun th_ => [some th_, none, none]) (fun _ => rfl) ?_
  intro E hN hret hR0
  have loop : ∀ (m : Nat) (e : Int) (τ : zSt) (lab : Int → Int) (s2 : Option Value), 0 ≤ e → e ≤ 16 → 16 < e + m → τ 9 0 = 1 → (∀ k, k ≠ 9 → k ≠ 10 → k ≠ 11 → k ≠ 12 → k ≠ 13 → τ k = σ k) → TP (σ 5) (σ 7) (σ 8) (τ 11) (τ 12) (τ 13) (τ 10 0) e lab → WX E cd0 τ 25 [some (th E), some (iv e), s2] [] := by
    intro m
    induction m with
    | zero => intro e τ lab s2 h1 h2 h3; exact absurd h3 (by omega)
    | succ m ih =>
      intro e τ lab s2 he0 he1 hem h9 hfr hT
      have f5 : τ 5 = σ 5 := hfr 5 (by decide) (by decide) (by decide) (by decide) (by decide)
      have f7 : τ 7 = σ 7 := hfr 7 (by decide) (by decide) (by decide) (by decide) (by decide)
      have f8 : τ 8 = σ 8 := hfr 8 (by decide) (by decide) (by decide) (by decide) (by decide)
      refine x_iloadn hN dX0_makeTree_25 rfl ?_
      refine x_bipush hN dX0_makeTree_26 (by decide) ?_
      refine x_cmpge hN 114 dX0_makeTree_28 (by decide) (by omega) (by omega) (fun h28 => ?_) (fun h28 => ?_)
      · exact hret _ _ _ dX0_makeTree_114 ⟨by rw [h9]; decide, ⟨lab, by rw [f5, f7, f8, show (16 : Int) = e by omega]; exact hT⟩, hfr⟩
      · refine x_aload hN dX0_makeTree_31 rfl ?_
        refine a0_5 hN dX0_makeTree_32 ?_
        refine x_iloadn hN dX0_makeTree_35 rfl ?_
        refine l0_5 hN dX0_makeTree_36 (by omega) (by omega) (fun hr36 => ?_)
        refine x_ifge hN 43 dX0_makeTree_37 (by decide) (by omega) (fun h37 => ?_) (fun h37 => ?_)
        · rw [f5] at h37
          have hwe := hw e he0 h28 h37
          have hn1 := hT.1.1
          have hn2 := hT.2.1
          refine x_aload hN dX0_makeTree_43 rfl ?_
          refine x_aload hN dX0_makeTree_44 rfl ?_
          refine a0_7 hN dX0_makeTree_45 ?_
          refine x_iloadn hN dX0_makeTree_48 rfl ?_
          refine l0_7 hN dX0_makeTree_49 (by omega) (by omega) (fun hr49 => ?_)
          refine x_aload hN dX0_makeTree_50 rfl ?_
          refine a0_8 hN dX0_makeTree_51 ?_
          refine x_iloadn hN dX0_makeTree_54 rfl ?_
          refine l0_8 hN dX0_makeTree_55 (by omega) (by omega) (fun hr55 => ?_)
          refine x_call hN (m0_nodeFor τ (τ 7 e) (τ 8 e) lab hT.1 (by rw [f7]; exact hwe.1) (by rw [f8]; exact hwe.2) (by rw [f8]; exact ⟨by omega, Or.inl (by omega)⟩)) hw0_nodeFor hy0_nodeFor (by decide) rfl (by decide) rfl dX0_makeTree_56 (fun z56 u56 hz56 hp56 => ?_)
          refine x_st2 hN dX0_makeTree_59 ?_
          obtain ⟨lab', hF⟩ := hp56
          rw [f7, f8] at hF
          have hx := hF.2.2.2.2.1
          have hnc := hF.2.1
          have ho := MT_o hT ⟨he0, h28⟩ hF
          have g5 : u56 5 = σ 5 := (hF.2.2.2.2.2.2.1 5 (by decide) (by decide) (by decide) (by decide)).trans f5
          refine x_aload hN dX0_makeTree_60 rfl ?_
          refine a0_13 hN dX0_makeTree_61 ?_
          refine x_iloadn hN dX0_makeTree_64 rfl ?_
          refine x_dup2 hN dX0_makeTree_65 rfl rfl ?_
          refine l0_13 hN dX0_makeTree_66 (by omega) (by omega) (fun hr66 => ?_)
          replace hr66 : -2147483648 ≤ u56 13 z56 ∧ u56 13 z56 < 2147483648 := hr66
          refine x_iconst hN dX0_makeTree_67 ?_
          refine x_iadd hN dX0_makeTree_68 ?_
          refine x_i2b hN dX0_makeTree_69 (by omega) ?_
          refine w0_13 hN dX0_makeTree_70 (by omega) (by omega) (by omega) ?_
          refine x_aload hN dX0_makeTree_71 rfl ?_
          refine a0_12 hN dX0_makeTree_72 ?_
          refine x_iloadn hN dX0_makeTree_75 rfl ?_
          refine l0_12 hN dX0_makeTree_76 (by omega) (by omega) (fun hr76 => ?_)
          refine x_top (u56 12 _) rfl ?_
          replace hr76 : -2147483648 ≤ u56 12 z56 ∧ u56 12 z56 < 2147483648 := hr76
          refine x_iflt hN 100 dX0_makeTree_77 (by decide) (by omega) (fun h77 => ?_) (fun h77 => ?_)
          · refine x_aload hN dX0_makeTree_100 rfl ?_
            refine a0_12 hN dX0_makeTree_101 ?_
            refine x_iloadn hN dX0_makeTree_104 rfl ?_
            refine x_iloadn hN dX0_makeTree_105 rfl ?_
            refine x_i2b hN dX0_makeTree_106 (by omega) ?_
            refine w0_12 hN dX0_makeTree_107 (by omega) (by omega) (by omega) ?_
            refine x_in1 hN dX0_makeTree_108 ?_
            refine x_goto hN 25 dX0_makeTree_111 (by decide) ?_
            exact ih (e + 1) (sset (sset u56 13 z56 (u56 13 z56 + 1)) 12 z56 e) lab' _ (by omega) (by omega) (by omega) (by show u56 9 0 = 1; rw [hF.2.2.2.2.2.2.1 9 (by decide) (by decide) (by decide) (by decide)]; exact h9) (fun k a b c d f => by funext j; simp only [sset]; simp [f, d]; rw [hF.2.2.2.2.2.2.1 k b c d f, hfr k a b c d f]) (MT_step hT ⟨he0, h28⟩ h37 hwe.2 hF (sset (sset u56 13 z56 (u56 13 z56 + 1)) 12 z56 e) rfl rfl (fun y => by simp [sset]) (Or.inr ⟨fun y => by simp [sset], Or.inl h77⟩))
          · refine x_aload hN dX0_makeTree_80 rfl ?_
            refine a0_5 hN dX0_makeTree_81 ?_
            refine x_iloadn hN dX0_makeTree_84 rfl ?_
            refine l0_5 hN dX0_makeTree_85 (by omega) (by omega) (fun hr85 => ?_)
            refine x_top (u56 5 _) rfl ?_
            rw [show sset u56 13 z56 (u56 13 z56 + 1) 5 e = u56 5 e from rfl] at hr85
            refine x_aload hN dX0_makeTree_86 rfl ?_
            refine a0_5 hN dX0_makeTree_87 ?_
            refine x_aload hN dX0_makeTree_90 rfl ?_
            refine a0_12 hN dX0_makeTree_91 ?_
            refine x_iloadn hN dX0_makeTree_94 rfl ?_
            refine l0_12 hN dX0_makeTree_95 (by omega) (by omega) (fun hr95 => ?_)
            refine x_top (u56 12 _) rfl ?_
            replace hr95 : -2147483648 ≤ u56 12 z56 ∧ u56 12 z56 < 2147483648 := hr95
            refine l0_5 hN dX0_makeTree_96 (by omega) (by omega) (fun hr96 => ?_)
            refine x_top (u56 5 _) rfl ?_
            rw [show sset u56 13 z56 (u56 13 z56 + 1) 5 (u56 12 z56) = u56 5 (u56 12 z56) from rfl] at hr96
            refine x_cmpge hN 108 dX0_makeTree_97 (by decide) (by omega) (by omega) (fun h97 => ?_) (fun h97 => ?_)
            · refine x_in1 hN dX0_makeTree_108 ?_
              refine x_goto hN 25 dX0_makeTree_111 (by decide) ?_
              rw [g5] at h97
              exact ih (e + 1) (sset u56 13 z56 (u56 13 z56 + 1)) lab' _ (by omega) (by omega) (by omega) (by show u56 9 0 = 1; rw [hF.2.2.2.2.2.2.1 9 (by decide) (by decide) (by decide) (by decide)]; exact h9) (fun k a b c d f => by funext j; simp only [sset]; simp [f]; rw [hF.2.2.2.2.2.2.1 k b c d f, hfr k a b c d f]) (MT_step hT ⟨he0, h28⟩ h37 hwe.2 hF (sset u56 13 z56 (u56 13 z56 + 1)) rfl rfl (fun y => by simp [sset]) (Or.inl ⟨rfl, h77, h97⟩))
            · refine x_aload hN dX0_makeTree_100 rfl ?_
              refine a0_12 hN dX0_makeTree_101 ?_
              refine x_iloadn hN dX0_makeTree_104 rfl ?_
              refine x_iloadn hN dX0_makeTree_105 rfl ?_
              refine x_i2b hN dX0_makeTree_106 (by omega) ?_
              refine w0_12 hN dX0_makeTree_107 (by omega) (by omega) (by omega) ?_
              refine x_in1 hN dX0_makeTree_108 ?_
              refine x_goto hN 25 dX0_makeTree_111 (by decide) ?_
              rw [g5] at h97
              exact ih (e + 1) (sset (sset u56 13 z56 (u56 13 z56 + 1)) 12 z56 e) lab' _ (by omega) (by omega) (by omega) (by show u56 9 0 = 1; rw [hF.2.2.2.2.2.2.1 9 (by decide) (by decide) (by decide) (by decide)]; exact h9) (fun k a b c d f => by funext j; simp only [sset]; simp [f, d]; rw [hF.2.2.2.2.2.2.1 k b c d f, hfr k a b c d f]) (MT_step hT ⟨he0, h28⟩ h37 hwe.2 hF (sset (sset u56 13 z56 (u56 13 z56 + 1)) 12 z56 e) rfl rfl (fun y => by simp [sset]) (Or.inr ⟨fun y => by simp [sset], Or.inr h97⟩))
        · refine x_goto hN 108 dX0_makeTree_40 (by decide) ?_
          refine x_in1 hN dX0_makeTree_108 ?_
          refine x_goto hN 25 dX0_makeTree_111 (by decide) ?_
          rw [f5] at h37
          exact ih (e + 1) τ lab _ (by omega) (by omega) (by omega) h9 hfr (TP_skip hT he0 h37)
  refine x_aload hN dX0_makeTree_0 rfl ?_
  refine g0_9 hN dX0_makeTree_1 (fun hr1 => ?_)
  refine x_ifeq hN 8 dX0_makeTree_4 (by decide) (by omega) (fun h4 => ?_) (fun h4 => ?_)
  · refine x_aload hN dX0_makeTree_8 rfl ?_
    refine x_iconst hN dX0_makeTree_9 ?_
    refine p0_9 hN dX0_makeTree_10 (by decide) ?_
    refine x_aload hN dX0_makeTree_13 rfl ?_
    refine x_iconst hN dX0_makeTree_14 ?_
    refine p0_10 hN dX0_makeTree_15 (by omega) ?_
    refine x_aload hN dX0_makeTree_18 rfl ?_
    refine x_call hN (m0_newNode (sset (sset σ 9 0 1) 10 0 0) (show (0 : Int) ≤ 0 ∧ (0 : Int) < 129 by decide)) hw0_newNode hy0_newNode (by decide) rfl (by decide) rfl dX0_makeTree_19 (fun z19 u19 hz19 hp19 => ?_)
    obtain ⟨hv19, hp19⟩ := hp19
    subst hp19
    refine x_pop hN dX0_makeTree_22 rfl ?_
    refine x_iconst hN dX0_makeTree_23 ?_
    refine x_st1 hN dX0_makeTree_24 ?_
    refine loop 17 0 _ (fun _ => 1) _ (by omega) (by omega) (by omega) rfl (fun k a b c d f => by funext j; simp [nwN, sset, a, b, c, d, f]) ⟨Tr_root rfl rfl, (show (1 : Int) ≤ 1 + 8 * 0 by decide), fun e e0 e1 => by omega, fun x x0 x1 => ?_⟩
    have hx : x = 0 := by
      have x1 : x < 1 := x1
      omega
    subst hx
    exact ⟨Or.inl ⟨rfl, fun e e0 e1 => by omega⟩, rfl⟩
  · exact hret _ _ _ dX0_makeTree_7 ⟨h4, hr h4, fun k _ _ _ _ _ => rfl⟩
/-- the entry's prefix is that of the byte pk -/
def Mt (ky w : Int → Int) (pk e : Int) : Prop := pk / 2 ^ (8 - w e).toNat = ky e / 2 ^ (8 - w e).toNat
/-- best entry among those that match with fewer than d bits -/
def BM (h ky w : Int → Int) (pk d z : Int) : Prop := (z = -1 ∧ ∀ e, 0 ≤ e → e < 16 → 0 ≤ h e → Mt ky w pk e → ¬ w e < d) ∨ (0 ≤ z ∧ z < 16 ∧ 0 ≤ h z ∧ Mt ky w pk z ∧ w z < d ∧ ∀ e, 0 ≤ e → e < 16 → 0 ≤ h e → Mt ky w pk e → w e < d → w e < w z ∨ (w e = w z ∧ h z ≤ h e))
theorem TP_child {h ky w ch eh ec : Int → Int} {nc : Int} {lab : Int → Int} (hT : TP h ky w ch eh ec nc 16 lab) (hw : ∀ e, 0 ≤ e → e < 16 → 0 ≤ h e → (0 ≤ ky e ∧ ky e ≤ 255) ∧ (0 ≤ w e ∧ w e ≤ 8)) {pk x bit : Int} (hpk : 0 ≤ pk ∧ pk ≤ 255) (hx : 0 ≤ x ∧ x < nc) (hb : 0 ≤ bit ∧ bit ≤ 7) (hl : lab x = (256 + pk) / 2 ^ (bit + 1).toNat) : (0 ≤ ch (2 * x + pk / 2 ^ bit.toNat % 2) ∧ ch (2 * x + pk / 2 ^ bit.toNat % 2) < nc ∧ lab (ch (2 * x + pk / 2 ^ bit.toNat % 2)) = (256 + pk) / 2 ^ bit.toNat) ∨ (ch (2 * x + pk / 2 ^ bit.toNat % 2) = -1 ∧ ∀ e, 0 ≤ e → e < 16 → 0 ≤ h e → Mt ky w pk e → w e < 8 - bit) := by
  obtain ⟨h1, h2, h3, h4⟩ := hT
  have hbb : pk / 2 ^ bit.toNat % 2 = 0 ∨ pk / 2 ^ bit.toNat % 2 = 1 := by omega
  have e2 := pl_S hb hpk
  have hx1 := h1.2.2.1 x hx.1 hx.2
  rcases h1.2.2.2.2.1 x _ hx.1 hx.2 hbb with q | ⟨q1, q2, q3⟩
  · right
    refine ⟨q, fun e e0 e1 el0 em => ?_⟩
    by_cases hwe : w e < 8 - bit
    · exact hwe
    · exfalso
      obtain ⟨hk, hww⟩ := hw e e0 e1 el0
      obtain ⟨y, y0, y1, y2⟩ := h3 e e0 e1 el0
      have e3 : lab y = (256 + pk) / 2 ^ (8 - w e).toNat := by
        rw [y2]
        exact (el_of hpk hk hww em).symm
      have e1' : (256 + pk) / 2 ^ bit.toNat = lab y / 2 ^ (bit.toNat - (8 - w e).toNat) := by
        rw [e3]
        exact el_dd _ (by omega)
      obtain ⟨z, z0, z1, z2⟩ := Tr_anc h1 (bit.toNat - (8 - w e).toNat) y y0 y1 (by rw [← e1', e2, ← hl]; omega)
      have := Tr_par h1 hx hbb ⟨z0, z1⟩ (by rw [z2, ← e1', e2, ← hl])
      omega
  · left
    exact ⟨q1, q2, by rw [q3, hl, e2]⟩
theorem BM_node {h ky w ch eh ec : Int → Int} {nc : Int} {lab : Int → Int} (hT : TP h ky w ch eh ec nc 16 lab) (hw : ∀ e, 0 ≤ e → e < 16 → 0 ≤ h e → (0 ≤ ky e ∧ ky e ≤ 255) ∧ (0 ≤ w e ∧ w e ≤ 8)) {pk x d b : Int} (hpk : 0 ≤ pk ∧ pk ≤ 255) (hx : 0 ≤ x ∧ x < nc) (hd : 0 ≤ d ∧ d ≤ 8) (hl : lab x = (256 + pk) / 2 ^ (8 - d).toNat) (hB : BM h ky w pk d b) : (eh x = -1 ∧ BM h ky w pk (d + 1) b) ∨ (0 ≤ eh x ∧ eh x < 16 ∧ BM h ky w pk (d + 1) (eh x)) := by
  have key : ∀ e, 0 ≤ e → e < 16 → 0 ≤ h e → (el ky w e = lab x ↔ (w e = d ∧ Mt ky w pk e)) := by
    intro e e0 e1 e2
    obtain ⟨hk, hww⟩ := hw e e0 e1 e2
    unfold el
    rw [hl]
    constructor
    · intro q
      obtain ⟨q1, q2⟩ := el_eq hk hpk hww hd q
      exact ⟨q1, q2.symm⟩
    · rintro ⟨q1, q2⟩
      rw [← q1]
      exact (el_of hpk hk hww q2).symm
  rcases (hT.2.2.2 x hx.1 hx.2).1 with ⟨a1, a2⟩ | ⟨a1, a2, a3, a4, a5⟩
  · left
    refine ⟨a1, ?_⟩
    have hnd : ∀ e, 0 ≤ e → e < 16 → 0 ≤ h e → Mt ky w pk e → w e ≠ d := fun e e0 e1 e2 e3 q => a2 e e0 e1 e2 ((key e e0 e1 e2).mpr ⟨q, e3⟩)
    rcases hB with ⟨b1, b2⟩ | ⟨b1, b2, b3, b4, b5, b6⟩
    · refine Or.inl ⟨b1, fun e e0 e1 e2 e3 => ?_⟩
      have := b2 e e0 e1 e2 e3
      have := hnd e e0 e1 e2 e3
      omega
    · refine Or.inr ⟨b1, b2, b3, b4, by omega, fun e e0 e1 e2 e3 e4 => b6 e e0 e1 e2 e3 ?_⟩
      have := hnd e e0 e1 e2 e3
      omega
  · right
    refine ⟨a1, a2, Or.inr ⟨a1, a2, a3, ?_⟩⟩
    obtain ⟨k1, k2⟩ := (key (eh x) a1 a2 a3).mp a4
    refine ⟨k2, by omega, fun e e0 e1 e2 e3 e4 => ?_⟩
    by_cases q : w e = d
    · exact Or.inr ⟨by omega, a5 e e0 e1 e2 ((key e e0 e1 e2).mpr ⟨q, e3⟩)⟩
    · left; omega
theorem BM_up {h ky w : Int → Int} {pk d b : Int} (hB : BM h ky w pk d b) (hd : d ≤ 9) (ha : ∀ e, 0 ≤ e → e < 16 → 0 ≤ h e → Mt ky w pk e → w e < d) : BM h ky w pk 9 b := by
  rcases hB with ⟨b1, b2⟩ | ⟨b1, b2, b3, b4, b5, b6⟩
  · exact Or.inl ⟨b1, fun e e0 e1 e2 e3 => absurd (ha e e0 e1 e2 e3) (b2 e e0 e1 e2 e3)⟩
  · exact Or.inr ⟨b1, b2, b3, b4, by omega, fun e e0 e1 e2 e3 e4 => b6 e e0 e1 e2 e3 (ha e e0 e1 e2 e3)⟩
theorem cn_cg {P Q : Int → Prop} {lo : Int} : ∀ {n : Nat}, (∀ j : Nat, j < n → (P (lo + j) ↔ Q (lo + j))) → cn P lo n = cn Q lo n := by
  intro n
  induction n with
  | zero => intro _; rfl
  | succ n ih =>
    intro h
    have h1 := ih (fun j hj => h j (by omega))
    by_cases hp : P (lo + n)
    · rw [cn_t hp, cn_t ((h n (by omega)).mp hp), h1]
    · rw [cn_f hp, cn_f (fun q => hp ((h n (by omega)).mpr q)), h1]
theorem cn_or {P Q S : Int → Prop} {lo : Int} : ∀ {n : Nat}, (∀ j : Nat, j < n → (S (lo + j) ↔ P (lo + j) ∨ Q (lo + j)) ∧ ¬ (P (lo + j) ∧ Q (lo + j))) → cn S lo n = cn P lo n + cn Q lo n := by
  intro n
  induction n with
  | zero => intro _; rfl
  | succ n ih =>
    intro h
    have h1 := ih (fun j hj => h j (by omega))
    obtain ⟨h2, h3⟩ := h n (by omega)
    by_cases hp : P (lo + n)
    · have hq : ¬ Q (lo + n) := fun q => h3 ⟨hp, q⟩
      rw [cn_t hp, cn_f hq, cn_t (h2.mpr (Or.inl hp)), h1]; omega
    · by_cases hq : Q (lo + n)
      · rw [cn_f hp, cn_t hq, cn_t (h2.mpr (Or.inr hq)), h1]; omega
      · rw [cn_f hp, cn_f hq, cn_f (fun q => (h2.mp q).elim hp hq), h1]
theorem PW_node {h ky w ch eh ec : Int → Int} {nc : Int} {lab : Int → Int} (hT : TP h ky w ch eh ec nc 16 lab) (hw : ∀ e, 0 ≤ e → e < 16 → 0 ≤ h e → (0 ≤ ky e ∧ ky e ≤ 255) ∧ (0 ≤ w e ∧ w e ≤ 8)) {pk x d : Int} (hpk : 0 ≤ pk ∧ pk ≤ 255) (hx : 0 ≤ x ∧ x < nc) (hd : 0 ≤ d ∧ d ≤ 8) (hl : lab x = (256 + pk) / 2 ^ (8 - d).toNat) : cn (fun e => 0 ≤ h e ∧ Mt ky w pk e ∧ w e < d + 1) 0 16 = cn (fun e => 0 ≤ h e ∧ Mt ky w pk e ∧ w e < d) 0 16 + ec x := by
  have key : ∀ e, 0 ≤ e → e < 16 → 0 ≤ h e → (el ky w e = lab x ↔ (w e = d ∧ Mt ky w pk e)) := by
    intro e e0 e1 e2
    obtain ⟨hk, hww⟩ := hw e e0 e1 e2
    unfold el
    rw [hl]
    constructor
    · intro q
      obtain ⟨q1, q2⟩ := el_eq hk hpk hww hd q
      exact ⟨q1, q2.symm⟩
    · rintro ⟨q1, q2⟩
      rw [← q1]
      exact (el_of hpk hk hww q2).symm
  rw [(hT.2.2.2 x hx.1 hx.2).2]
  refine cn_or (fun j hj => ⟨⟨?_, ?_⟩, ?_⟩)
  · rintro ⟨q1, q2, q3⟩
    by_cases q : w (0 + (j : Int)) = d
    · exact Or.inr ⟨q1, (key _ (by omega) (by omega) q1).mpr ⟨q, q2⟩⟩
    · exact Or.inl ⟨q1, q2, by omega⟩
  · rintro (⟨q1, q2, q3⟩ | ⟨q1, q2⟩)
    · exact ⟨q1, q2, by omega⟩
    · obtain ⟨k1, k2⟩ := (key _ (by omega) (by omega) q1).mp q2
      exact ⟨q1, k2, by omega⟩
  · rintro ⟨⟨q1, q2, q3⟩, ⟨q4, q5⟩⟩
    obtain ⟨k1, k2⟩ := (key _ (by omega) (by omega) q1).mp q5
    omega
set_option maxHeartbeats 4000000 in
theorem m0_longestPrefix (σ : zSt) (hw : WK σ) (hr : σ 9 0 ≠ 0 → TreeOK σ) (hpk : 0 ≤ σ 3 0 ∧ σ 3 0 ≤ 255) : Cx cd0 yX0_longestPrefix cX0_longestPrefix 4 .int 3 σ [] (fun z u => BM (σ 5) (σ 7) (σ 8) (σ 3 0) 9 z ∧ u 9 0 ≠ 0 ∧ TreeOK u ∧ ∀ k, k ≠ 9 → k ≠ 10 → k ≠ 11 → k ≠ 12 → k ≠ 13 → u k = σ k) := by
  refine Cx_of wf0 (by decide +kernel) rfl (Nat.le_of_ble_eq_true rfl) (Or.inl rfl) (fun th_ => [some th_, none, none, none]) (fun _ => rfl) ?_
  intro E hN hret hR0
  have loop : ∀ (τ : zSt) (lab : Int → Int), τ 9 0 ≠ 0 → (∀ k, k ≠ 9 → k ≠ 10 → k ≠ 11 → k ≠ 12 → k ≠ 13 → τ k = σ k) → TP (σ 5) (σ 7) (σ 8) (τ 11) (τ 12) (τ 13) (τ 10 0) 16 lab → ∀ (m : Nat) (b x bit : Int), -2 ≤ bit → bit ≤ 7 → -1 ≤ x → x < 129 → -1 ≤ b ∧ b < 16 → 0 < m → (0 ≤ x → bit + 2 < m) → ((x < 0 ∧ BM (σ 5) (σ 7) (σ 8) (σ 3 0) 9 b) ∨ (0 ≤ x ∧ x < τ 10 0 ∧ -1 ≤ bit ∧ lab x = (256 + σ 3 0) / 2 ^ (bit + 1).toNat ∧ BM (σ 5) (σ 7) (σ 8) (σ 3 0) (7 - bit) b)) → WX E cd0 τ 11 [some (th E), some (iv b), some (iv x), some (iv bit)] [] := by
    intro τ lab h9 hfr hT
    have f5 : τ 5 = σ 5 := hfr 5 (by decide) (by decide) (by decide) (by decide) (by decide)
    have f7 : τ 7 = σ 7 := hfr 7 (by decide) (by decide) (by decide) (by decide) (by decide)
    have f8 : τ 8 = σ 8 := hfr 8 (by decide) (by decide) (by decide) (by decide) (by decide)
    have f3 : τ 3 = σ 3 := hfr 3 (by decide) (by decide) (by decide) (by decide) (by decide)
    have hnc := hT.2.1
    intro m
    induction m with
    | zero => intro b x bit _ _ _ _ _ h1; exact absurd h1 (by omega)
    | succ m ih =>
      intro b x bit hb0 hb1 hx0 hx1 hbr _ hm hI
      refine x_iloadn hN dX0_longestPrefix_11 rfl ?_
      refine x_iflt hN 65 dX0_longestPrefix_12 (by decide) (by omega) (fun h12 => ?_) (fun h12 => ?_)
      · refine x_iloadn hN dX0_longestPrefix_65 rfl ?_
        exact hret _ _ _ _ dX0_longestPrefix_66 (by omega) ⟨by rcases hI with q | q; exact q.2; exact absurd q.1 (by omega), h9, ⟨lab, by rw [f5, f7, f8]; exact hT⟩, hfr⟩
      · have hI2 : 0 ≤ x ∧ x < τ 10 0 ∧ -1 ≤ bit ∧ lab x = (256 + σ 3 0) / 2 ^ (bit + 1).toNat ∧ BM (σ 5) (σ 7) (σ 8) (σ 3 0) (7 - bit) b := by
          rcases hI with q | q
          · exact absurd q.1 (by omega)
          · exact q
        obtain ⟨j1, j2, j3, j4, j5⟩ := hI2
        have hND := BM_node hT hw hpk ⟨j1, j2⟩ (d := 7 - bit) (by omega) (by rw [j4, show 8 - (7 - bit) = bit + 1 by omega]) j5
        refine x_aload hN dX0_longestPrefix_15 rfl ?_
        refine a0_12 hN dX0_longestPrefix_16 ?_
        refine x_iloadn hN dX0_longestPrefix_19 rfl ?_
        refine l0_12 hN dX0_longestPrefix_20 (by omega) (by omega) (fun hr20 => ?_)
        refine x_iflt hN 31 dX0_longestPrefix_21 (by decide) (by omega) (fun h21 => ?_) (fun h21 => ?_)
        · have hBB : BM (σ 5) (σ 7) (σ 8) (σ 3 0) (7 - bit + 1) b := by
            rcases hND with q | q
            · exact q.2
            · exact absurd q.1 (by omega)
          refine x_iloadn hN dX0_longestPrefix_31 rfl ?_
          refine x_ifge hN 39 dX0_longestPrefix_32 (by decide) (by omega) (fun h32 => ?_) (fun h32 => ?_)
          · have hpb : 0 ≤ σ 3 0 / 2 ^ bit.toNat % 2 ∧ σ 3 0 / 2 ^ bit.toNat % 2 ≤ 1 := by omega
            refine x_aload hN dX0_longestPrefix_39 rfl ?_
            refine a0_11 hN dX0_longestPrefix_40 ?_
            refine x_iconst hN dX0_longestPrefix_43 ?_
            refine x_iloadn hN dX0_longestPrefix_44 rfl ?_
            refine x_imul hN dX0_longestPrefix_45 ?_
            refine x_aload hN dX0_longestPrefix_46 rfl ?_
            refine a0_3 hN dX0_longestPrefix_47 ?_
            refine x_iconst hN dX0_longestPrefix_50 ?_
            refine l0_3 hN dX0_longestPrefix_51 (by omega) (by omega) (fun hr51 => ?_)
            refine x_iloadn hN dX0_longestPrefix_52 rfl ?_
            refine x_ishr hN dX0_longestPrefix_53 _ rfl (by omega) (by omega) ?_
            refine x_iconst hN dX0_longestPrefix_54 ?_
            refine x_iandm hN dX0_longestPrefix_55 2 1 (by decide) (by decide) (by decide) ?_
            refine x_iadd hN dX0_longestPrefix_56 ?_
            refine l0_11 hN dX0_longestPrefix_57 (by rw [f3]; omega) (by rw [f3]; omega) (fun hr57 => ?_)
            refine x_st2 hN dX0_longestPrefix_58 ?_
            refine x_in3 hN dX0_longestPrefix_59 ?_
            refine x_goto hN 11 dX0_longestPrefix_62 (by decide) ?_
            rw [f3]
            rcases TP_child hT hw hpk ⟨j1, j2⟩ ⟨h32, hb1⟩ j4 with ⟨c1, c2, c3⟩ | ⟨c1, c2⟩
            · exact ih b _ (bit + (-1)) (by omega) (by omega) (by omega) (by omega) (by omega) (by omega) (fun _ => by omega) (Or.inr ⟨c1, c2, by omega, by rw [c3, show bit + (-1) + 1 = bit by omega], by rw [show 7 - (bit + (-1)) = 7 - bit + 1 by omega]; exact hBB⟩)
            · exact ih b _ (bit + (-1)) (by omega) (by omega) (by omega) (by omega) (by omega) (by omega) (fun q => by omega) (Or.inl ⟨by omega, BM_up hBB (by omega) (fun e e0 e1 e2 e3 => by have := c2 e e0 e1 e2 e3; omega)⟩)
          · refine x_iconst hN dX0_longestPrefix_35 ?_
            refine x_goto hN 58 dX0_longestPrefix_36 (by decide) ?_
            refine x_st2 hN dX0_longestPrefix_58 ?_
            refine x_in3 hN dX0_longestPrefix_59 ?_
            refine x_goto hN 11 dX0_longestPrefix_62 (by decide) ?_
            exact ih b _ (bit + (-1)) (by omega) (by omega) (by omega) (by omega) (by omega) (by omega) (fun q => by omega) (Or.inl ⟨by omega, by rw [show (9 : Int) = 7 - bit + 1 by omega]; exact hBB⟩)
        · have hBB : 0 ≤ τ 12 x ∧ τ 12 x < 16 ∧ BM (σ 5) (σ 7) (σ 8) (σ 3 0) (7 - bit + 1) (τ 12 x) := by
            rcases hND with q | q
            · exact absurd q.1 (by omega)
            · exact q
          refine x_aload hN dX0_longestPrefix_24 rfl ?_
          refine a0_12 hN dX0_longestPrefix_25 ?_
          refine x_iloadn hN dX0_longestPrefix_28 rfl ?_
          refine l0_12 hN dX0_longestPrefix_29 (by omega) (by omega) (fun hr29 => ?_)
          refine x_st1 hN dX0_longestPrefix_30 ?_
          refine x_iloadn hN dX0_longestPrefix_31 rfl ?_
          refine x_ifge hN 39 dX0_longestPrefix_32 (by decide) (by omega) (fun h32 => ?_) (fun h32 => ?_)
          · have hpb : 0 ≤ σ 3 0 / 2 ^ bit.toNat % 2 ∧ σ 3 0 / 2 ^ bit.toNat % 2 ≤ 1 := by omega
            refine x_aload hN dX0_longestPrefix_39 rfl ?_
            refine a0_11 hN dX0_longestPrefix_40 ?_
            refine x_iconst hN dX0_longestPrefix_43 ?_
            refine x_iloadn hN dX0_longestPrefix_44 rfl ?_
            refine x_imul hN dX0_longestPrefix_45 ?_
            refine x_aload hN dX0_longestPrefix_46 rfl ?_
            refine a0_3 hN dX0_longestPrefix_47 ?_
            refine x_iconst hN dX0_longestPrefix_50 ?_
            refine l0_3 hN dX0_longestPrefix_51 (by omega) (by omega) (fun hr51 => ?_)
            refine x_iloadn hN dX0_longestPrefix_52 rfl ?_
            refine x_ishr hN dX0_longestPrefix_53 _ rfl (by omega) (by omega) ?_
            refine x_iconst hN dX0_longestPrefix_54 ?_
            refine x_iandm hN dX0_longestPrefix_55 2 1 (by decide) (by decide) (by decide) ?_
            refine x_iadd hN dX0_longestPrefix_56 ?_
            refine l0_11 hN dX0_longestPrefix_57 (by rw [f3]; omega) (by rw [f3]; omega) (fun hr57 => ?_)
            refine x_st2 hN dX0_longestPrefix_58 ?_
            refine x_in3 hN dX0_longestPrefix_59 ?_
            refine x_goto hN 11 dX0_longestPrefix_62 (by decide) ?_
            rw [f3]
            rcases TP_child hT hw hpk ⟨j1, j2⟩ ⟨h32, hb1⟩ j4 with ⟨c1, c2, c3⟩ | ⟨c1, c2⟩
            · exact ih (τ 12 x) _ (bit + (-1)) (by omega) (by omega) (by omega) (by omega) (by omega) (by omega) (fun _ => by omega) (Or.inr ⟨c1, c2, by omega, by rw [c3, show bit + (-1) + 1 = bit by omega], by rw [show 7 - (bit + (-1)) = 7 - bit + 1 by omega]; exact hBB.2.2⟩)
            · exact ih (τ 12 x) _ (bit + (-1)) (by omega) (by omega) (by omega) (by omega) (by omega) (by omega) (fun q => by omega) (Or.inl ⟨by omega, BM_up hBB.2.2 (by omega) (fun e e0 e1 e2 e3 => by have := c2 e e0 e1 e2 e3; omega)⟩)
          · refine x_iconst hN dX0_longestPrefix_35 ?_
            refine x_goto hN 58 dX0_longestPrefix_36 (by decide) ?_
            refine x_st2 hN dX0_longestPrefix_58 ?_
            refine x_in3 hN dX0_longestPrefix_59 ?_
            refine x_goto hN 11 dX0_longestPrefix_62 (by decide) ?_
            exact ih (τ 12 x) _ (bit + (-1)) (by omega) (by omega) (by omega) (by omega) (by omega) (by omega) (fun q => by omega) (Or.inl ⟨by omega, by rw [show (9 : Int) = 7 - bit + 1 by omega]; exact hBB.2.2⟩)
  refine x_aload hN dX0_longestPrefix_0 rfl ?_
  refine x_callv hN (m0_makeTree σ hw hr) hw0_makeTree hy0_makeTree (by decide) rfl (by decide) rfl dX0_longestPrefix_1 (fun u1 hp1 => ?_)
  obtain ⟨q9, ⟨lab, hT⟩, hfr⟩ := hp1
  rw [hfr 5 (by decide) (by decide) (by decide) (by decide) (by decide), hfr 7 (by decide) (by decide) (by decide) (by decide) (by decide), hfr 8 (by decide) (by decide) (by decide) (by decide) (by decide)] at hT
  have hn1 := hT.1.1
  refine x_iconst hN dX0_longestPrefix_4 ?_
  refine x_st1 hN dX0_longestPrefix_5 ?_
  refine x_iconst hN dX0_longestPrefix_6 ?_
  refine x_st2 hN dX0_longestPrefix_7 ?_
  refine x_bipush hN dX0_longestPrefix_8 (by decide) ?_
  refine x_st3 hN dX0_longestPrefix_10 ?_
  exact loop u1 lab q9 hfr hT 10 (-1) 0 7 (by omega) (by omega) (by omega) (by omega) (by omega) (by omega) (fun _ => by omega) (Or.inr ⟨by omega, by omega, by omega, by rw [hT.1.2.1, show ((7 : Int) + 1).toNat = 8 from rfl]; omega, Or.inl ⟨rfl, fun e e0 e1 e2 e3 => by have := hw e e0 e1 e2; omega⟩⟩)
set_option maxHeartbeats 4000000 in
theorem m0_prefixesOnWay (σ : zSt) (hw : WK σ) (hr : σ 9 0 ≠ 0 → TreeOK σ) (hpk : 0 ≤ σ 3 0 ∧ σ 3 0 ≤ 255) : Cx cd0 yX0_prefixesOnWay cX0_prefixesOnWay 4 .int 3 σ [] (fun z u => z = cn (fun e => 0 ≤ σ 5 e ∧ Mt (σ 7) (σ 8) (σ 3 0) e) 0 16 ∧ u 9 0 ≠ 0 ∧ TreeOK u ∧ ∀ k, k ≠ 9 → k ≠ 10 → k ≠ 11 → k ≠ 12 → k ≠ 13 → u k = σ k) := by
  refine Cx_of wf0 (by decide +kernel) rfl (Nat.le_of_ble_eq_true rfl) (Or.inl rfl) (fun th_ => [some th_, none, none, none]) (fun _ => rfl) ?_
  intro E hN hret hR0
  have loop : ∀ (τ : zSt) (lab : Int → Int), τ 9 0 ≠ 0 → (∀ k, k ≠ 9 → k ≠ 10 → k ≠ 11 → k ≠ 12 → k ≠ 13 → τ k = σ k) → TP (σ 5) (σ 7) (σ 8) (τ 11) (τ 12) (τ 13) (τ 10 0) 16 lab → ∀ (m : Nat) (b x bit : Int), -2 ≤ bit → bit ≤ 7 → -1 ≤ x → x < 129 → 0 ≤ b ∧ b ≤ 16 → 0 < m → (0 ≤ x → bit + 2 < m) → ((x < 0 ∧ b = cn (fun e => 0 ≤ σ 5 e ∧ Mt (σ 7) (σ 8) (σ 3 0) e) 0 16) ∨ (0 ≤ x ∧ x < τ 10 0 ∧ -1 ≤ bit ∧ lab x = (256 + σ 3 0) / 2 ^ (bit + 1).toNat ∧ b = cn (fun e => 0 ≤ σ 5 e ∧ Mt (σ 7) (σ 8) (σ 3 0) e ∧ σ 8 e < 7 - bit) 0 16)) → WX E cd0 τ 11 [some (th E), some (iv b), some (iv x), some (iv bit)] [] := by
    intro τ lab h9 hfr hT
    have f5 : τ 5 = σ 5 := hfr 5 (by decide) (by decide) (by decide) (by decide) (by decide)
    have f7 : τ 7 = σ 7 := hfr 7 (by decide) (by decide) (by decide) (by decide) (by decide)
    have f8 : τ 8 = σ 8 := hfr 8 (by decide) (by decide) (by decide) (by decide) (by decide)
    have f3 : τ 3 = σ 3 := hfr 3 (by decide) (by decide) (by decide) (by decide) (by decide)
    have hnc := hT.2.1
    intro m
    induction m with
    | zero => intro b x bit _ _ _ _ _ h1; exact absurd h1 (by omega)
    | succ m ih =>
      intro b x bit hb0 hb1 hx0 hx1 hbr _ hm hI
      refine x_iloadn hN dX0_prefixesOnWay_11 rfl ?_
      refine x_iflt hN 58 dX0_prefixesOnWay_12 (by decide) (by omega) (fun h12 => ?_) (fun h12 => ?_)
      · refine x_iloadn hN dX0_prefixesOnWay_58 rfl ?_
        exact hret _ _ _ _ dX0_prefixesOnWay_59 (by omega) ⟨by rcases hI with q | q; exact q.2; exact absurd q.1 (by omega), h9, ⟨lab, by rw [f5, f7, f8]; exact hT⟩, hfr⟩
      · have hI2 : 0 ≤ x ∧ x < τ 10 0 ∧ -1 ≤ bit ∧ lab x = (256 + σ 3 0) / 2 ^ (bit + 1).toNat ∧ b = cn (fun e => 0 ≤ σ 5 e ∧ Mt (σ 7) (σ 8) (σ 3 0) e ∧ σ 8 e < 7 - bit) 0 16 := by
          rcases hI with q | q
          · exact absurd q.1 (by omega)
          · exact q
        obtain ⟨j1, j2, j3, j4, j5⟩ := hI2
        have hND := PW_node hT hw hpk ⟨j1, j2⟩ (d := 7 - bit) (by omega) (by rw [j4, show 8 - (7 - bit) = bit + 1 by omega])
        rw [← j5] at hND
        have hBB := hND.symm
        have hbq : 0 ≤ b + τ 13 x ∧ b + τ 13 x ≤ 16 := by
          rw [hBB]
          have := cn_in (fun e => 0 ≤ σ 5 e ∧ Mt (σ 7) (σ 8) (σ 3 0) e ∧ σ 8 e < 7 - bit + 1) 0 16
          omega
        refine x_iloadn hN dX0_prefixesOnWay_15 rfl ?_
        refine x_aload hN dX0_prefixesOnWay_16 rfl ?_
        refine a0_13 hN dX0_prefixesOnWay_17 ?_
        refine x_iloadn hN dX0_prefixesOnWay_20 rfl ?_
        refine l0_13 hN dX0_prefixesOnWay_21 (by omega) (by omega) (fun hr21 => ?_)
        refine x_iadd hN dX0_prefixesOnWay_22 ?_
        refine x_st1 hN dX0_prefixesOnWay_23 ?_
        refine x_iloadn hN dX0_prefixesOnWay_24 rfl ?_
        refine x_ifge hN 32 dX0_prefixesOnWay_25 (by decide) (by omega) (fun h25 => ?_) (fun h25 => ?_)
        · have hpb : 0 ≤ σ 3 0 / 2 ^ bit.toNat % 2 ∧ σ 3 0 / 2 ^ bit.toNat % 2 ≤ 1 := by omega
          refine x_aload hN dX0_prefixesOnWay_32 rfl ?_
          refine a0_11 hN dX0_prefixesOnWay_33 ?_
          refine x_iconst hN dX0_prefixesOnWay_36 ?_
          refine x_iloadn hN dX0_prefixesOnWay_37 rfl ?_
          refine x_imul hN dX0_prefixesOnWay_38 ?_
          refine x_aload hN dX0_prefixesOnWay_39 rfl ?_
          refine a0_3 hN dX0_prefixesOnWay_40 ?_
          refine x_iconst hN dX0_prefixesOnWay_43 ?_
          refine l0_3 hN dX0_prefixesOnWay_44 (by omega) (by omega) (fun hr44 => ?_)
          refine x_iloadn hN dX0_prefixesOnWay_45 rfl ?_
          refine x_ishr hN dX0_prefixesOnWay_46 _ rfl (by omega) (by omega) ?_
          refine x_iconst hN dX0_prefixesOnWay_47 ?_
          refine x_iandm hN dX0_prefixesOnWay_48 2 1 (by decide) (by decide) (by decide) ?_
          refine x_iadd hN dX0_prefixesOnWay_49 ?_
          refine l0_11 hN dX0_prefixesOnWay_50 (by rw [f3]; omega) (by rw [f3]; omega) (fun hr50 => ?_)
          refine x_st2 hN dX0_prefixesOnWay_51 ?_
          refine x_in3 hN dX0_prefixesOnWay_52 ?_
          refine x_goto hN 11 dX0_prefixesOnWay_55 (by decide) ?_
          rw [f3]
          rcases TP_child hT hw hpk ⟨j1, j2⟩ ⟨h25, hb1⟩ j4 with ⟨c1, c2, c3⟩ | ⟨c1, c2⟩
          · exact ih _ _ (bit + (-1)) (by omega) (by omega) (by omega) (by omega) hbq (by omega) (fun _ => by omega) (Or.inr ⟨c1, c2, by omega, by rw [c3, show bit + (-1) + 1 = bit by omega], by rw [show 7 - (bit + (-1)) = 7 - bit + 1 by omega]; exact hBB⟩)
          · exact ih _ _ (bit + (-1)) (by omega) (by omega) (by omega) (by omega) hbq (by omega) (fun q => by omega) (Or.inl ⟨by omega, hBB.trans (cn_cg (fun j hj => ⟨fun q => ⟨q.1, q.2.1⟩, fun q => ⟨q.1, q.2, by have := c2 (0 + (j : Int)) (by omega) (by omega) q.1 q.2; omega⟩⟩))⟩)
        · refine x_iconst hN dX0_prefixesOnWay_28 ?_
          refine x_goto hN 51 dX0_prefixesOnWay_29 (by decide) ?_
          refine x_st2 hN dX0_prefixesOnWay_51 ?_
          refine x_in3 hN dX0_prefixesOnWay_52 ?_
          refine x_goto hN 11 dX0_prefixesOnWay_55 (by decide) ?_
          exact ih _ _ (bit + (-1)) (by omega) (by omega) (by omega) (by omega) hbq (by omega) (fun q => by omega) (Or.inl ⟨by omega, hBB.trans (cn_cg (fun j hj => ⟨fun q => ⟨q.1, q.2.1⟩, fun q => ⟨q.1, q.2, by have := hw (0 + (j : Int)) (by omega) (by omega) q.1; omega⟩⟩))⟩)
  refine x_aload hN dX0_prefixesOnWay_0 rfl ?_
  refine x_callv hN (m0_makeTree σ hw hr) hw0_makeTree hy0_makeTree (by decide) rfl (by decide) rfl dX0_prefixesOnWay_1 (fun u1 hp1 => ?_)
  obtain ⟨q9, ⟨lab, hT⟩, hfr⟩ := hp1
  rw [hfr 5 (by decide) (by decide) (by decide) (by decide) (by decide), hfr 7 (by decide) (by decide) (by decide) (by decide) (by decide), hfr 8 (by decide) (by decide) (by decide) (by decide) (by decide)] at hT
  have hn1 := hT.1.1
  have hz0 : (0 : Int) = cn (fun e => 0 ≤ σ 5 e ∧ Mt (σ 7) (σ 8) (σ 3 0) e ∧ σ 8 e < 7 - 7) 0 16 := by
    have key : ∀ n : Nat, n ≤ 16 → (0 : Int) = cn (fun e => 0 ≤ σ 5 e ∧ Mt (σ 7) (σ 8) (σ 3 0) e ∧ σ 8 e < 7 - 7) 0 n := by
      intro n
      induction n with
      | zero => intro _; rfl
      | succ n ih =>
        intro hn
        rw [cn_f (by rintro ⟨q1, q2, q3⟩; have := hw (0 + (n : Int)) (by omega) (by omega) q1; omega)]
        exact ih (by omega)
    exact key 16 (Nat.le_refl _)
  refine x_iconst hN dX0_prefixesOnWay_4 ?_
  refine x_st1 hN dX0_prefixesOnWay_5 ?_
  refine x_iconst hN dX0_prefixesOnWay_6 ?_
  refine x_st2 hN dX0_prefixesOnWay_7 ?_
  refine x_bipush hN dX0_prefixesOnWay_8 (by decide) ?_
  refine x_st3 hN dX0_prefixesOnWay_10 ?_
  exact loop u1 lab q9 hfr hT 10 0 0 7 (by omega) (by omega) (by omega) (by omega) (by omega) (by omega) (fun _ => by omega) (Or.inr ⟨by omega, by omega, by omega, by rw [hT.1.2.1, show ((7 : Int) + 1).toNat = 8 from rfl]; omega, hz0⟩)
end
section
/-! owned, plain -/
/-- the entry e is the one that is taken for the byte v -/
def Bst (h ky w : Int → Int) (e v : Int) : Prop := Mt ky w v e ∧ ∀ f, 0 ≤ f → f < 16 → 0 ≤ h f → Mt ky w v f → w f < w e ∨ (w f = w e ∧ h e ≤ h f)
theorem cn_split (P : Int → Prop) (lo : Int) (a : Nat) : ∀ b : Nat, cn P lo (a + b) = cn P lo a + cn P (lo + a) b := by
  intro b
  induction b with
  | zero => rw [Nat.add_zero, cn_0]; omega
  | succ b ih =>
    have e : lo + ((a + b : Nat) : Int) = lo + (a : Int) + (b : Int) := by omega
    by_cases hp : P (lo + (a : Int) + (b : Int))
    · rw [← Nat.add_assoc, cn_t (by rw [e]; exact hp), cn_t hp, ih]; omega
    · rw [← Nat.add_assoc, cn_f (by rw [e]; exact hp), cn_f hp, ih]
theorem cn_all {P : Int → Prop} {lo : Int} : ∀ {n : Nat}, (∀ j : Nat, j < n → P (lo + j)) → cn P lo n = n := by
  intro n
  induction n with
  | zero => intro _; rfl
  | succ n ih =>
    intro h
    rw [cn_t (h n (by omega)), ih (fun j hj => h j (by omega))]; omega
theorem cn_no {P : Int → Prop} {lo : Int} : ∀ {n : Nat}, (∀ j : Nat, j < n → ¬ P (lo + j)) → cn P lo n = 0 := by
  intro n
  induction n with
  | zero => intro _; rfl
  | succ n ih =>
    intro h
    rw [cn_f (h n (by omega)), ih (fun j hj => h j (by omega))]
/-- how many bytes below the label ell of depth d -/
noncomputable def ct (Q : Int → Prop) (ell d : Int) : Int := cn Q (ell * 2 ^ (8 - d).toNat - 256) (2 ^ (8 - d).toNat)
def Bd (ell d : Int) : Prop := 256 ≤ ell * 2 ^ (8 - d).toNat ∧ ell * 2 ^ (8 - d).toNat + 2 ^ (8 - d).toNat ≤ 512
theorem p9n {d : Int} (h : 0 ≤ d ∧ d ≤ 8) : (((2 ^ (8 - d).toNat : Nat)) : Int) = (2 : Int) ^ (8 - d).toNat := by norm_cast
theorem ct_v {ell d : Int} (hd : 0 ≤ d ∧ d ≤ 8) (hB : Bd ell d) {j : Nat} (hj : j < 2 ^ (8 - d).toNat) : 0 ≤ ell * 2 ^ (8 - d).toNat - 256 + j ∧ ell * 2 ^ (8 - d).toNat - 256 + j ≤ 255 ∧ (256 + (ell * 2 ^ (8 - d).toNat - 256 + j)) / 2 ^ (8 - d).toNat = ell := by
  have hj2 : (j : Int) < (2 : Int) ^ (8 - d).toNat := by
    rw [← p9n hd]
    exact Int.ofNat_lt.mpr hj
  unfold Bd at hB
  have h1 := p9 hd
  rcases h1 with ⟨a, e1⟩ | ⟨a, e1⟩ | ⟨a, e1⟩ | ⟨a, e1⟩ | ⟨a, e1⟩ | ⟨a, e1⟩ | ⟨a, e1⟩ | ⟨a, e1⟩ | ⟨a, e1⟩ <;> rw [e1] at hB hj2 ⊢ <;> omega
theorem ct_all {Q : Int → Prop} {ell d : Int} (hd : 0 ≤ d ∧ d ≤ 8) (hB : Bd ell d) (h : ∀ v, 0 ≤ v → v ≤ 255 → (256 + v) / 2 ^ (8 - d).toNat = ell → Q v) : ct Q ell d = 2 ^ (8 - d).toNat := by
  unfold ct
  rw [cn_all (fun j hj => by obtain ⟨q1, q2, q3⟩ := ct_v hd hB hj; exact h _ q1 q2 q3)]
  exact p9n hd
theorem ct_no {Q : Int → Prop} {ell d : Int} (hd : 0 ≤ d ∧ d ≤ 8) (hB : Bd ell d) (h : ∀ v, 0 ≤ v → v ≤ 255 → (256 + v) / 2 ^ (8 - d).toNat = ell → ¬ Q v) : ct Q ell d = 0 := by
  unfold ct
  exact cn_no (fun j hj => by obtain ⟨q1, q2, q3⟩ := ct_v hd hB hj; exact h _ q1 q2 q3)
theorem ct_in (Q : Int → Prop) {ell d : Int} (hd : 0 ≤ d ∧ d ≤ 8) : 0 ≤ ct Q ell d ∧ ct Q ell d ≤ 256 := by
  unfold ct
  have h1 := cn_in Q (ell * 2 ^ (8 - d).toNat - 256) (2 ^ (8 - d).toNat)
  have h2 := p9n hd
  have h3 := p9 hd
  omega
theorem p2s {d : Int} (hd : 0 ≤ d ∧ d < 8) : (2 : Int) ^ (8 - d).toNat = 2 * 2 ^ (8 - (d + 1)).toNat ∧ (2 : Nat) ^ (8 - d).toNat = 2 ^ (8 - (d + 1)).toNat + 2 ^ (8 - (d + 1)).toNat := by
  have e : (8 - d).toNat = (8 - (d + 1)).toNat + 1 := by omega
  rw [e, Int.pow_succ, Nat.pow_succ]
  omega
theorem Bd_ch {ell d : Int} (hd : 0 ≤ d ∧ d < 8) (hB : Bd ell d) : Bd (2 * ell) (d + 1) ∧ Bd (2 * ell + 1) (d + 1) := by
  unfold Bd at hB ⊢
  rw [(p2s hd).1] at hB
  have h1 := p9 (w := d + 1) (by omega)
  rcases h1 with ⟨a, e1⟩ | ⟨a, e1⟩ | ⟨a, e1⟩ | ⟨a, e1⟩ | ⟨a, e1⟩ | ⟨a, e1⟩ | ⟨a, e1⟩ | ⟨a, e1⟩ | ⟨a, e1⟩ <;> rw [e1] at hB ⊢ <;> omega
theorem ct_split (Q : Int → Prop) {ell d : Int} (hd : 0 ≤ d ∧ d < 8) : ct Q ell d = ct Q (2 * ell) (d + 1) + ct Q (2 * ell + 1) (d + 1) := by
  unfold ct
  have e1 := (p2s hd).1
  rw [(p2s hd).2, cn_split]
  have e2 : ell * 2 ^ (8 - d).toNat - 256 = 2 * ell * 2 ^ (8 - (d + 1)).toNat - 256 := by
    rw [e1, Int.mul_left_comm, Int.mul_assoc]
  have e3 : ell * 2 ^ (8 - d).toNat - 256 + ((2 ^ (8 - (d + 1)).toNat : Nat) : Int) = (2 * ell + 1) * 2 ^ (8 - (d + 1)).toNat - 256 := by
    rw [p9n (d := d + 1) (by omega), e2, Int.add_mul, Int.one_mul]
    omega
  rw [e3, e2]
/-- a child's bytes are its parent's -/
theorem RG_up {ell d v b : Int} (hd : 0 ≤ d ∧ d < 8) (hb : b = 0 ∨ b = 1) (h : (256 + v) / 2 ^ (8 - (d + 1)).toNat = 2 * ell + b) : (256 + v) / 2 ^ (8 - d).toNat = ell := by
  have e := el_dd (256 + v) (j := (8 - (d + 1)).toNat) (k := (8 - d).toNat) (by omega)
  rw [h, show (8 - d).toNat - (8 - (d + 1)).toNat = 1 by omega] at e
  rw [e]
  show (2 * ell + b) / 2 = ell
  omega
/-- all that owned knows: the tree, entries' fields in range, the entry e, its node s, at which it is the oldest -/
def OC (h ky w ch eh ec : Int → Int) (nc : Int) (lab : Int → Int) (e s : Int) : Prop := TP h ky w ch eh ec nc 16 lab ∧ (∀ e, 0 ≤ e → e < 16 → 0 ≤ h e → (0 ≤ ky e ∧ ky e ≤ 255) ∧ (0 ≤ w e ∧ w e ≤ 8)) ∧ (0 ≤ e ∧ e < 16 ∧ 0 ≤ h e) ∧ (0 ≤ s ∧ s < nc) ∧ lab s = el ky w e ∧ eh s = e
/-- no entry ends between the entry's node and depth d, on the way to a byte below ell -/
def Clr (h ky w : Int → Int) (e ell d : Int) : Prop := ∀ v, 0 ≤ v → v ≤ 255 → (256 + v) / 2 ^ (8 - d).toNat = ell → Mt ky w v e ∧ ∀ f, 0 ≤ f → f < 16 → 0 ≤ h f → Mt ky w v f → w f < d → w f ≤ w e
section OW
variable {h ky w ch eh ec : Int → Int} {nc : Int} {lab : Int → Int} {e s : Int}
theorem OC_bst (C : OC h ky w ch eh ec nc lab e s) {v : Int} (hv : 0 ≤ v ∧ v ≤ 255) (hm : Mt ky w v e) (hf : ∀ f, 0 ≤ f → f < 16 → 0 ≤ h f → Mt ky w v f → w f ≤ w e) : Bst h ky w e v := by
  obtain ⟨hT, hw, he, hs, hl, hes⟩ := C
  refine ⟨hm, fun f f0 f1 f2 f3 => ?_⟩
  by_cases q : w f < w e
  · exact Or.inl q
  · have q1 := hf f f0 f1 f2 f3
    have q2 : w f = w e := by omega
    refine Or.inr ⟨q2, ?_⟩
    rcases (hT.2.2.2 s hs.1 hs.2).1 with ⟨a1, a2⟩ | ⟨a1, a2, a3, a4, a5⟩
    · omega
    · rw [hes] at a5
      refine a5 f f0 f1 f2 ?_
      rw [hl]
      obtain ⟨k1, k2⟩ := hw f f0 f1 f2
      obtain ⟨k3, k4⟩ := hw e he.1 he.2.1 he.2.2
      unfold el
      have m1 := el_of hv k1 k2 f3
      have m2 := el_of hv k3 k4 hm
      rw [← m1, ← m2, q2]
/-- nothing lies below a label that isn't there -/
theorem OC_gone (C : OC h ky w ch eh ec nc lab e s) {ell d : Int} (hd : 0 ≤ d ∧ d ≤ 8) (hB : Bd ell d) (hC : Clr h ky w e ell d) (hno : ∀ y, 0 ≤ y → y < nc → lab y ≠ ell) : ct (Bst h ky w e) ell d = 2 ^ (8 - d).toNat := by
  refine ct_all hd hB (fun v v0 v1 v2 => ?_)
  obtain ⟨c1, c2⟩ := hC v v0 v1 v2
  refine OC_bst C ⟨v0, v1⟩ c1 (fun f f0 f1 f2 f3 => ?_)
  by_cases q : w f < d
  · exact c2 f f0 f1 f2 f3 q
  · exfalso
    obtain ⟨hT, hw, he, hs, hl, hes⟩ := C
    obtain ⟨k1, k2⟩ := hw f f0 f1 f2
    obtain ⟨y, y0, y1, y2⟩ := hT.2.2.1 f f0 f1 f2
    have e3 : lab y = (256 + v) / 2 ^ (8 - w f).toNat := by
      rw [y2]
      exact (el_of ⟨v0, v1⟩ k1 k2 f3).symm
    have e4 : ell = lab y / 2 ^ ((8 - d).toNat - (8 - w f).toNat) := by
      rw [e3, ← v2]
      exact el_dd _ (by omega)
    have h1 : 1 ≤ ell := by
      unfold Bd at hB
      have h1 := p9 hd
      rcases h1 with ⟨a, e1⟩ | ⟨a, e1⟩ | ⟨a, e1⟩ | ⟨a, e1⟩ | ⟨a, e1⟩ | ⟨a, e1⟩ | ⟨a, e1⟩ | ⟨a, e1⟩ | ⟨a, e1⟩ <;> rw [e1] at hB <;> omega
    obtain ⟨z, z0, z1, z2⟩ := Tr_anc hT.1 ((8 - d).toNat - (8 - w f).toNat) y y0 y1 (by rw [← e4]; exact h1)
    exact hno z z0 z1 (by rw [z2, ← e4])
/-- at a node where none ends, or the entry's own, the way is free one bit further -/
theorem OC_free (C : OC h ky w ch eh ec nc lab e s) {ell d x : Int} (hd : w e ≤ d ∧ d ≤ 8) (hC : Clr h ky w e ell d) (hx : 0 ≤ x ∧ x < nc) (hlx : lab x = ell) (hend : x = s ∨ eh x < 0) {v : Int} (v0 : 0 ≤ v) (v1 : v ≤ 255) (v2 : (256 + v) / 2 ^ (8 - d).toNat = ell) : Mt ky w v e ∧ ∀ f, 0 ≤ f → f < 16 → 0 ≤ h f → Mt ky w v f → w f < d + 1 → w f ≤ w e := by
  obtain ⟨c1, c2⟩ := hC v v0 v1 v2
  refine ⟨c1, fun f f0 f1 f2 f3 f4 => ?_⟩
  by_cases q : w f < d
  · exact c2 f f0 f1 f2 f3 q
  · have q2 : w f = d := by omega
    obtain ⟨hT, hw, he, hs, hl, hes⟩ := C
    obtain ⟨k1, k2⟩ := hw f f0 f1 f2
    obtain ⟨k3, k4⟩ := hw e he.1 he.2.1 he.2.2
    have m1 := el_of ⟨v0, v1⟩ k1 k2 f3
    rcases hend with hz | hz
    · rw [hz, hl] at hlx
      have m2 := el_of ⟨v0, v1⟩ k3 k4 c1
      have m3 : (256 + ky e) / 2 ^ (8 - w e).toNat = (256 + v) / 2 ^ (8 - d).toNat := by rw [v2]; exact hlx
      have := (el_eq k3 ⟨v0, v1⟩ k4 ⟨by omega, hd.2⟩ m3).1
      omega
    · exfalso
      rcases (hT.2.2.2 x hx.1 hx.2).1 with ⟨a1, a2⟩ | ⟨a1, a2, a3, a4, a5⟩
      · refine a2 f f0 f1 f2 ?_
        rw [hlx, ← v2]
        unfold el
        rw [← m1, q2]
      · omega
theorem OC_leaf (C : OC h ky w ch eh ec nc lab e s) {ell x : Int} (hw8 : w e ≤ 8) (hB : Bd ell 8) (hC : Clr h ky w e ell 8) (hx : 0 ≤ x ∧ x < nc) (hlx : lab x = ell) (hend : x = s ∨ eh x < 0) : ct (Bst h ky w e) ell 8 = 1 := by
  have h1 := ct_all (Q := Bst h ky w e) (ell := ell) (d := 8) (by omega) hB (fun v v0 v1 v2 => by
    obtain ⟨c1, c2⟩ := OC_free C ⟨hw8, by omega⟩ hC hx hlx hend v0 v1 v2
    refine OC_bst C ⟨v0, v1⟩ c1 (fun f f0 f1 f2 f3 => c2 f f0 f1 f2 f3 ?_)
    have := (C.2.1 f f0 f1 f2).2
    omega)
  rw [h1]
  rfl
theorem OC_stop (C : OC h ky w ch eh ec nc lab e s) {ell d x : Int} (hd : w e ≤ d ∧ d ≤ 8) (hB : Bd ell d) (hC : Clr h ky w e ell d) (hx : 0 ≤ x ∧ x < nc) (hlx : lab x = ell) (hns : x ≠ s) (hend : 0 ≤ eh x) : ct (Bst h ky w e) ell d = 0 := by
  obtain ⟨hT, hw, he, hs, hl, hes⟩ := C
  obtain ⟨k3, k4⟩ := hw e he.1 he.2.1 he.2.2
  refine ct_no ⟨by omega, hd.2⟩ hB (fun v v0 v1 v2 => ?_)
  obtain ⟨c1, c2⟩ := hC v v0 v1 v2
  rintro ⟨b1, b2⟩
  rcases (hT.2.2.2 x hx.1 hx.2).1 with ⟨a1, a2⟩ | ⟨a1, a2, a3, a4, a5⟩
  · omega
  · obtain ⟨k1, k2⟩ := hw (eh x) a1 a2 a3
    rw [hlx, ← v2] at a4
    unfold el at a4
    obtain ⟨m1, m2⟩ := el_eq k1 ⟨v0, v1⟩ k2 ⟨by omega, hd.2⟩ a4
    have m3 := b2 (eh x) a1 a2 a3 m2.symm
    have m4 : w e = d := by omega
    have m5 := el_of ⟨v0, v1⟩ k3 k4 c1
    refine hns (hT.1.2.2.2.1 x s hx.1 hx.2 hs.1 hs.2 ?_)
    rw [hlx, hl, ← v2, ← m4]
    exact m5
/-- the entry's own bytes are below its node -/
theorem OC_total (C : OC h ky w ch eh ec nc lab e s) : Bd (lab s) (w e) ∧ Clr h ky w e (lab s) (w e) ∧ cn (Bst h ky w e) 0 256 = ct (Bst h ky w e) (lab s) (w e) := by
  obtain ⟨hT, hw, he, hs, hl, hes⟩ := C
  obtain ⟨k3, k4⟩ := hw e he.1 he.2.1 he.2.2
  have hlow : Bd (lab s) (w e) := by
    rw [hl]
    unfold Bd el
    have h1 := p9 k4
    rcases h1 with ⟨a, e1⟩ | ⟨a, e1⟩ | ⟨a, e1⟩ | ⟨a, e1⟩ | ⟨a, e1⟩ | ⟨a, e1⟩ | ⟨a, e1⟩ | ⟨a, e1⟩ | ⟨a, e1⟩ <;> rw [e1] <;> omega
  refine ⟨hlow, fun v v0 v1 v2 => ⟨?_, fun f _ _ _ _ q => by omega⟩, ?_⟩
  · rw [hl] at v2
    unfold el at v2
    exact (el_eq ⟨v0, v1⟩ k3 k4 k4 v2).2
  · unfold ct
    have hout : ∀ v, 0 ≤ v → v ≤ 255 → Bst h ky w e v → lab s * 2 ^ (8 - w e).toNat - 256 ≤ v ∧ v < lab s * 2 ^ (8 - w e).toNat - 256 + 2 ^ (8 - w e).toNat := by
      rintro v v0 v1 ⟨b1, -⟩
      have m5 := el_of ⟨v0, v1⟩ k3 k4 b1
      rw [hl]
      unfold el
      rw [← m5]
      have h1 := p9 k4
      rcases h1 with ⟨a, e1⟩ | ⟨a, e1⟩ | ⟨a, e1⟩ | ⟨a, e1⟩ | ⟨a, e1⟩ | ⟨a, e1⟩ | ⟨a, e1⟩ | ⟨a, e1⟩ | ⟨a, e1⟩ <;> rw [e1] <;> omega
    unfold Bd at hlow
    have e2 := p9n k4
    generalize hA : lab s * 2 ^ (8 - w e).toNat - 256 = A at hout ⊢
    generalize hM : (2 ^ (8 - w e).toNat : Nat) = M at e2 ⊢
    rw [← e2] at hout hlow
    have a0 : 0 ≤ A ∧ A + M ≤ 256 := by rw [← e2] at hA; omega
    have e3 : 256 = A.toNat + (M + (256 - A.toNat - M)) := by omega
    rw [e3, cn_split, cn_split]
    have z1 : cn (Bst h ky w e) 0 A.toNat = 0 := cn_no (fun j hj q => by have := hout (0 + (j : Int)) (by omega) (by omega) q; omega)
    have z2 : cn (Bst h ky w e) (0 + (A.toNat : Int) + (M : Int)) (256 - A.toNat - M) = 0 := cn_no (fun j hj q => by have := hout (0 + (A.toNat : Int) + (M : Int) + (j : Int)) (by omega) (by omega) q; omega)
    rw [z1, z2, show (0 : Int) + (A.toNat : Int) = A by omega]
    omega
end OW
def sm (f : Int → Int) : Nat → Int
  | 0 => 0
  | n + 1 => sm f n + f n
theorem sm_cg {f g : Int → Int} : ∀ {n : Nat}, (∀ j : Nat, j < n → f j = g j) → sm f n = sm g n := by
  intro n
  induction n with
  | zero => intro _; rfl
  | succ n ih =>
    intro q
    show sm f n + f n = sm g n + g n
    rw [ih (fun j hj => q j (by omega)), q n (by omega)]
theorem sm_nn {f : Int → Int} : ∀ {n : Nat}, (∀ j : Nat, j < n → 0 ≤ f j) → 0 ≤ sm f n := by
  intro n
  induction n with
  | zero => intro _; exact Int.le_refl 0
  | succ n ih =>
    intro q
    have h1 := ih (fun j hj => q j (by omega))
    have h2 := q n (by omega)
    show 0 ≤ sm f n + f n
    omega
/-- one part on the stack: node x, depth d, label ell -/
def It (h ky w : Int → Int) (nc : Int) (lab : Int → Int) (e x d ell : Int) : Prop := (w e ≤ d ∧ d ≤ 8) ∧ Bd ell d ∧ ((x = -1 ∧ ∀ y, 0 ≤ y → y < nc → lab y ≠ ell) ∨ (0 ≤ x ∧ x < nc ∧ lab x = ell)) ∧ Clr h ky w e ell d
/-- the stack: nodes pn, depths pd, labels g -/
def Df (h ky w : Int → Int) (nc : Int) (lab : Int → Int) (e s : Int) (pn pd g : Int → Int) (top : Nat) (total : Int) : Prop := (∀ i : Nat, i < top → (i : Int) ≤ pd i ∧ It h ky w nc lab e (pn i) (pd i) (g i)) ∧ 0 ≤ total ∧ total + sm (fun i => ct (Bst h ky w e) (g i) (pd i)) top = ct (Bst h ky w e) (lab s) (w e)
def mz (pd : Int → Int) : Nat → Int := sm (fun i => 2 * 2 ^ (8 - pd i).toNat - 1)
theorem Df_pop {h ky w : Int → Int} {nc : Int} {lab : Int → Int} {e s : Int} {pn pd g : Int → Int} {t : Nat} {total c : Int} (D : Df h ky w nc lab e s pn pd g (t + 1) total) (hc : ct (Bst h ky w e) (g t) (pd t) = c) (h0 : 0 ≤ c) : Df h ky w nc lab e s pn pd g t (total + c) := by
  obtain ⟨d1, d2, d3⟩ := D
  refine ⟨fun i hi => d1 i (by omega), by omega, ?_⟩
  have d3 : total + (sm (fun i => ct (Bst h ky w e) (g i) (pd i)) t + ct (Bst h ky w e) (g t) (pd t)) = ct (Bst h ky w e) (lab s) (w e) := d3
  omega
theorem It_ch {h ky w ch eh ec : Int → Int} {nc : Int} {lab : Int → Int} {e s : Int} (C : OC h ky w ch eh ec nc lab e s) {x d ell b : Int} (I : It h ky w nc lab e x d ell) (hx : 0 ≤ x) (hend : x = s ∨ eh x < 0) (hd : d < 8) (hb : b = 0 ∨ b = 1) : It h ky w nc lab e (ch (2 * x + b)) (d + 1) (2 * ell + b) := by
  obtain ⟨i1, i2, i3, i4⟩ := I
  have k4 := (C.2.1 e C.2.2.1.1 C.2.2.1.2.1 C.2.2.1.2.2).2
  rcases i3 with ⟨a1, _⟩ | ⟨a1, a2, a3⟩
  · omega
  · have hTr := C.1.1
    have bb := Bd_ch ⟨by omega, hd⟩ i2
    refine ⟨by omega, by rcases hb with q | q <;> subst q; rw [Int.add_zero]; exact bb.1; exact bb.2, ?_, ?_⟩
    · rcases hTr.2.2.2.2.1 x b a1 a2 hb with q | ⟨q1, q2, q3⟩
      · refine Or.inl ⟨q, fun y y0 y1 y2 => ?_⟩
        have := Tr_par hTr ⟨a1, a2⟩ hb ⟨y0, y1⟩ (by rw [y2, a3])
        omega
      · exact Or.inr ⟨q1, q2, by rw [q3, a3]⟩
    · intro v v0 v1 v2
      exact OC_free C ⟨i1.1, i1.2⟩ i4 ⟨a1, a2⟩ a3 hend v0 v1 (RG_up ⟨by omega, hd⟩ hb v2)
theorem Df_push {h ky w ch eh ec : Int → Int} {nc : Int} {lab : Int → Int} {e s : Int} (C : OC h ky w ch eh ec nc lab e s) {pn pd g : Int → Int} {t : Nat} {total : Int} (D : Df h ky w nc lab e s pn pd g (t + 1) total) (hx : 0 ≤ pn t) (hend : pn t = s ∨ eh (pn t) < 0) (hd : pd t < 8) {pn' pd' : Int → Int}
    (h1 : pn' t = ch (2 * pn t)) (h2 : pd' t = pd t + 1) (h3 : pn' (t + 1) = ch (2 * pn t + 1)) (h4 : pd' (t + 1) = pd t + 1) (h5 : ∀ i : Int, i < t → pn' i = pn i ∧ pd' i = pd i) : Df h ky w nc lab e s pn' pd' (fun i => if i = t then 2 * g t else if i = t + 1 then 2 * g t + 1 else g i) (t + 2) total ∧ mz pd' (t + 2) < mz pd (t + 1) := by
  obtain ⟨d1, d2, d3⟩ := D
  obtain ⟨d4, I⟩ := d1 t (by omega)
  have k4 := (C.2.1 e C.2.2.1.1 C.2.2.1.2.1 C.2.2.1.2.2).2
  have i1 := I.1
  have c0 := It_ch C I hx hend hd (Or.inl rfl)
  have c1 := It_ch C I hx hend hd (Or.inr rfl)
  rw [Int.add_zero, Int.add_zero] at c0
  have g0 : (fun i => if i = (t : Int) then 2 * g t else if i = (t : Int) + 1 then 2 * g t + 1 else g i) (t : Int) = 2 * g t := if_pos rfl
  have g1 : (fun i => if i = (t : Int) then 2 * g t else if i = (t : Int) + 1 then 2 * g t + 1 else g i) ((t : Int) + 1) = 2 * g t + 1 := by
    show (if (t : Int) + 1 = (t : Int) then _ else _) = _
    rw [if_neg (by omega), if_pos rfl]
  have gl : ∀ i : Int, i < t → (fun i => if i = (t : Int) then 2 * g t else if i = (t : Int) + 1 then 2 * g t + 1 else g i) i = g i := by
    intro i hi
    show (if i = (t : Int) then _ else _) = _
    rw [if_neg (by omega), if_neg (by omega)]
  generalize (fun i => if i = (t : Int) then 2 * g t else if i = (t : Int) + 1 then 2 * g t + 1 else g i) = g' at g0 g1 gl ⊢
  have et : ((t + 1 : Nat) : Int) = (t : Int) + 1 := by omega
  refine ⟨⟨fun i hi => ?_, d2, ?_⟩, ?_⟩
  · by_cases q : i = t
    · subst q
      rw [h1, h2, g0]
      exact ⟨by omega, c0⟩
    · by_cases q2 : i = t + 1
      · subst q2
        rw [et, h3, h4, g1]
        exact ⟨by omega, c1⟩
      · obtain ⟨q3, q4⟩ := h5 i (by omega)
        rw [q3, q4, gl i (by omega)]
        exact d1 i (by omega)
  · have d3 : total + (sm (fun i => ct (Bst h ky w e) (g i) (pd i)) t + ct (Bst h ky w e) (g t) (pd t)) = ct (Bst h ky w e) (lab s) (w e) := d3
    show total + (sm (fun i => ct (Bst h ky w e) (g' i) (pd' i)) t + ct (Bst h ky w e) (g' t) (pd' t) + ct (Bst h ky w e) (g' ((t + 1 : Nat) : Int)) (pd' ((t + 1 : Nat) : Int))) = _
    rw [et, g0, g1, h2, h4, sm_cg (g := fun i => ct (Bst h ky w e) (g i) (pd i)) (fun j hj => by
      obtain ⟨q3, q4⟩ := h5 j (by omega)
      show ct _ (g' j) (pd' j) = ct _ (g j) (pd j)
      rw [q4, gl j (by omega)])]
    have := ct_split (Bst h ky w e) (ell := g t) (d := pd t) (by omega)
    omega
  · show sm (fun i => 2 * 2 ^ (8 - pd' i).toNat - 1) t + (2 * 2 ^ (8 - pd' t).toNat - 1) + (2 * 2 ^ (8 - pd' ((t + 1 : Nat) : Int)).toNat - 1) < sm (fun i => 2 * 2 ^ (8 - pd i).toNat - 1) t + (2 * 2 ^ (8 - pd t).toNat - 1)
    rw [et, h2, h4, sm_cg (g := fun i => 2 * 2 ^ (8 - pd i).toNat - 1) (fun j hj => by
      obtain ⟨q3, q4⟩ := h5 j (by omega)
      show 2 * 2 ^ (8 - pd' j).toNat - 1 = 2 * 2 ^ (8 - pd j).toNat - 1
      rw [q4])]
    have := (p2s (d := pd t) (by omega)).1
    omega
theorem mz_pop {pd : Int → Int} {t : Nat} : mz pd t < mz pd (t + 1) := by
  show sm (fun i => 2 * 2 ^ (8 - pd i).toNat - 1) t < sm (fun i => 2 * 2 ^ (8 - pd i).toNat - 1) t + (2 * 2 ^ (8 - pd t).toNat - 1)
  have : (0 : Int) < 2 ^ (8 - pd t).toNat := Int.pow_pos (by decide)
  omega
theorem mz_nn {pd : Int → Int} {t : Nat} : 0 ≤ mz pd t := sm_nn (fun j _ => by
  have : (0 : Int) < 2 ^ (8 - pd j).toNat := Int.pow_pos (by decide)
  omega)
theorem Df_in {h ky w : Int → Int} {nc : Int} {lab : Int → Int} {e s : Int} {pn pd g : Int → Int} {t : Nat} {total : Int} (hw : 0 ≤ w e ∧ w e ≤ 8) (D : Df h ky w nc lab e s pn pd g t total) : 0 ≤ total ∧ total ≤ 256 := by
  obtain ⟨d1, d2, d3⟩ := D
  have h1 := ct_in (Bst h ky w e) (ell := lab s) hw
  have h2 : 0 ≤ sm (fun i => ct (Bst h ky w e) (g i) (pd i)) t := sm_nn (fun j hj => by
    obtain ⟨q1, q2⟩ := d1 j hj
    exact (ct_in _ (by have := q2.1; omega)).1)
  omega
/-- an entry with an older one at its node owns nothing -/
theorem Bst_none {h ky w ch eh ec : Int → Int} {nc : Int} {lab : Int → Int} {e s : Int} (hT : TP h ky w ch eh ec nc 16 lab) (hw : ∀ e, 0 ≤ e → e < 16 → 0 ≤ h e → (0 ≤ ky e ∧ ky e ≤ 255) ∧ (0 ≤ w e ∧ w e ≤ 8)) (he : 0 ≤ e ∧ e < 16 ∧ 0 ≤ h e) (hs : 0 ≤ s ∧ s < nc) (hl : lab s = el ky w e) (hne : eh s ≠ e) (hinj : ∀ a b, 0 ≤ a → a < 16 → 0 ≤ b → b < 16 → 0 ≤ h a → h a = h b → a = b) : cn (Bst h ky w e) 0 256 = 0 := by
  refine cn_no (fun j hj => ?_)
  rintro ⟨b1, b2⟩
  obtain ⟨k3, k4⟩ := hw e he.1 he.2.1 he.2.2
  have hv : (0 : Int) ≤ 0 + (j : Int) ∧ 0 + (j : Int) ≤ 255 := by omega
  rcases (hT.2.2.2 s hs.1 hs.2).1 with ⟨a1, a2⟩ | ⟨a1, a2, a3, a4, a5⟩
  · exact a2 e he.1 he.2.1 he.2.2 hl.symm
  · have q1 := a5 e he.1 he.2.1 he.2.2 hl.symm
    obtain ⟨k1, k2⟩ := hw (eh s) a1 a2 a3
    rw [hl] at a4
    unfold el at a4
    obtain ⟨m1, m2⟩ := el_eq k1 k3 k2 k4 a4
    have m3 : Mt ky w (0 + (j : Int)) (eh s) := by
      unfold Mt at b1 ⊢
      rw [m2, m1]
      exact b1
    have m4 := b2 (eh s) a1 a2 a3 m3
    exact hne (hinj (eh s) e a1 a2 he.1 he.2.1 a3 (by omega))
end
section
set_option maxHeartbeats 4000000 in
theorem m0_owned (σ : zSt) (h : Int) (hh : -2147483648 ≤ h ∧ h < 2147483648) (hw : WK σ) (hr : σ 9 0 ≠ 0 → TreeOK σ) (hinj : ∀ a b, 0 ≤ a → a < 16 → 0 ≤ b → b < 16 → 0 ≤ σ 5 a → σ 5 a = σ 5 b → a = b) : Cx cd0 yX0_owned cX0_owned 8 .int 3 σ [h] (fun z u => (u 9 0 ≠ 0 → TreeOK u) ∧ (∀ k, k ≠ 9 → k ≠ 10 → k ≠ 11 → k ≠ 12 → k ≠ 13 → k ≠ 14 → k ≠ 15 → u k = σ k) ∧ ((z = -3 ∧ (h < 0 ∨ (∀ e, 0 ≤ e → e < 32 → σ 5 e ≠ h) ∨ ∃ e, 16 ≤ e ∧ e < 32 ∧ 0 ≤ h ∧ σ 5 e = h)) ∨ (∃ e, 0 ≤ e ∧ e < 16 ∧ 0 ≤ h ∧ σ 5 e = h ∧ z = cn (Bst (σ 5) (σ 7) (σ 8) e) 0 256))) := by
  refine Cx_of wf0 (by decide +kernel) rfl (Nat.le_of_ble_eq_true rfl) (Or.inl rfl) (fun th_ => [some th_, some (iv h), none, none, none, none, none, none]) (fun _ => rfl) ?_
  intro E hN hret hR0
  have loop : ∀ (lab : Int → Int) (e s : Int), 0 ≤ h → σ 5 e = h → ∀ (m : Nat) (τ : zSt) (g : Int → Int) (top : Nat) (total : Int) (s6 s7 : Option Value), τ 9 0 ≠ 0 → (∀ k, k ≠ 9 → k ≠ 10 → k ≠ 11 → k ≠ 12 → k ≠ 13 → k ≠ 14 → k ≠ 15 → τ k = σ k) → OC (σ 5) (σ 7) (σ 8) (τ 11) (τ 12) (τ 13) (τ 10 0) lab e s → Df (σ 5) (σ 7) (σ 8) (τ 10 0) lab e s (τ 14) (τ 15) g top total → mz (τ 15) top < m → WX E cd0 τ 79 [some (th E), some (iv h), some (iv e), some (iv s), some (iv total), some (iv (top : Int)), s6, s7] [] := by
    intro lab e s hh0 heh m
    induction m with
    | zero =>
      intro τ g top total s6 s7 _ _ _ _ q
      have := mz_nn (pd := τ 15) (t := top)
      exact absurd q (by omega)
    | succ m ih =>
      intro τ g top total s6 s7 h9 hfr hC hD hm
      have f5 : τ 5 = σ 5 := hfr 5 (by decide) (by decide) (by decide) (by decide) (by decide) (by decide) (by decide)
      have f7 : τ 7 = σ 7 := hfr 7 (by decide) (by decide) (by decide) (by decide) (by decide) (by decide) (by decide)
      have f8 : τ 8 = σ 8 := hfr 8 (by decide) (by decide) (by decide) (by decide) (by decide) (by decide) (by decide)
      have hwe := (hC.2.1 e hC.2.2.1.1 hC.2.2.1.2.1 hC.2.2.1.2.2).2
      have htot := Df_in hwe hD
      have htop : top ≤ 9 := by
        by_cases q : top ≤ 9
        · exact q
        · obtain ⟨q1, q2⟩ := hD.1 9 (by omega)
          have := q2.1
          omega
      refine x_iload hN dX0_owned_79 rfl ?_
      refine x_ifle hN 222 dX0_owned_81 (by decide) (by omega) (fun h81 => ?_) (fun h81 => ?_)
      · refine x_iload hN dX0_owned_222 rfl ?_
        exact hret _ _ _ _ dX0_owned_224 (by omega) ⟨fun _ => ⟨lab, by rw [f5, f7, f8]; exact hC.1⟩, hfr, Or.inr ⟨e, hC.2.2.1.1, hC.2.2.1.2.1, hh0, heh, by
          have e0 : top = 0 := by omega
          have hd3 := hD.2.2
          rw [e0] at hd3
          have hd3 : total + 0 = ct (Bst (σ 5) (σ 7) (σ 8) e) (lab s) (σ 8 e) := hd3
          rw [(OC_total hC).2.2, ← hd3]; omega⟩⟩
      · obtain ⟨t, rfl⟩ : ∃ t : Nat, top = t + 1 := ⟨top - 1, by omega⟩
        obtain ⟨ht8, hIt⟩ := hD.1 t (by omega)
        have hd8 := hIt.1
        have hnc := hC.1.2.1
        have hpw : 1 ≤ (2 : Int) ^ (8 - τ 15 t).toNat ∧ (2 : Int) ^ (8 - τ 15 t).toNat ≤ 256 := by
          have := p9 (w := τ 15 t) (by omega)
          omega
        refine x_in5 hN dX0_owned_84 ?_
        rw [show ((t + 1 : Nat) : Int) + (-1) = (t : Int) by omega]
        refine x_aload hN dX0_owned_87 rfl ?_
        refine a0_14 hN dX0_owned_88 ?_
        refine x_iload hN dX0_owned_91 rfl ?_
        refine l0_14 hN dX0_owned_93 (by omega) (by omega) (fun hr93 => ?_)
        refine x_st6 hN dX0_owned_94 ?_
        refine x_aload hN dX0_owned_96 rfl ?_
        refine a0_15 hN dX0_owned_97 ?_
        refine x_iload hN dX0_owned_100 rfl ?_
        refine l0_15 hN dX0_owned_102 (by omega) (by omega) (fun hr102 => ?_)
        refine x_st7 hN dX0_owned_103 ?_
        refine x_iload hN dX0_owned_105 rfl ?_
        refine x_ifge hN 125 dX0_owned_107 (by decide) (by omega) (fun h107 => ?_) (fun h107 => ?_)
        · have hsr := hC.2.2.2.1
          have hx := hIt.2.2.1
          replace hx : τ 14 t < τ 10 0 ∧ lab (τ 14 t) = g t := by
            rcases hx with q | q
            · exact absurd q.1 (by omega)
            · exact q.2
          refine x_iload hN dX0_owned_125 rfl ?_
          refine x_iloadn hN dX0_owned_127 rfl ?_
          refine x_cmpeq hN 141 dX0_owned_128 (by decide) (by omega) (by omega) (fun h128 => ?_) (fun h128 => ?_)
          · have hend : τ 14 t = s ∨ τ 12 (τ 14 t) < 0 := Or.inl h128
            refine x_iload hN dX0_owned_141 rfl ?_
            refine x_bipush hN dX0_owned_143 (by decide) ?_
            refine x_cmpne hN 154 dX0_owned_145 (by decide) (by omega) (by omega) (fun h145 => ?_) (fun h145 => ?_)
            · have hc0 : -1 ≤ τ 11 (2 * τ 14 t) ∧ τ 11 (2 * τ 14 t) < 129 := by
                have := hC.1.1.2.2.2.2.1 (τ 14 t) 0 h107 hx.1 (Or.inl rfl)
                rw [Int.add_zero] at this
                omega
              have hc1 : -1 ≤ τ 11 (2 * τ 14 t + 1) ∧ τ 11 (2 * τ 14 t + 1) < 129 := by
                have := hC.1.1.2.2.2.2.1 (τ 14 t) 1 h107 hx.1 (Or.inr rfl)
                omega
              refine x_aload hN dX0_owned_154 rfl ?_
              refine a0_14 hN dX0_owned_155 ?_
              refine x_iload hN dX0_owned_158 rfl ?_
              refine x_aload hN dX0_owned_160 rfl ?_
              refine a0_11 hN dX0_owned_161 ?_
              refine x_iconst hN dX0_owned_164 ?_
              refine x_iload hN dX0_owned_165 rfl ?_
              refine x_imul hN dX0_owned_167 ?_
              refine l0_11 hN dX0_owned_168 (by omega) (by omega) (fun hr168 => ?_)
              refine w0_14 hN dX0_owned_169 (by omega) (by omega) (by omega) ?_
              refine x_aload hN dX0_owned_170 rfl ?_
              refine a0_15 hN dX0_owned_171 ?_
              refine x_iload hN dX0_owned_174 rfl ?_
              refine x_iload hN dX0_owned_176 rfl ?_
              refine x_iconst hN dX0_owned_178 ?_
              refine x_iadd hN dX0_owned_179 ?_
              refine x_i2b hN dX0_owned_180 (by omega) ?_
              refine w0_15 hN dX0_owned_181 (by omega) (by omega) (by omega) ?_
              refine x_aload hN dX0_owned_182 rfl ?_
              refine a0_14 hN dX0_owned_183 ?_
              refine x_iload hN dX0_owned_186 rfl ?_
              refine x_iconst hN dX0_owned_188 ?_
              refine x_iadd hN dX0_owned_189 ?_
              refine x_aload hN dX0_owned_190 rfl ?_
              refine a0_11 hN dX0_owned_191 ?_
              refine x_iconst hN dX0_owned_194 ?_
              refine x_iload hN dX0_owned_195 rfl ?_
              refine x_imul hN dX0_owned_197 ?_
              refine x_iconst hN dX0_owned_198 ?_
              refine x_iadd hN dX0_owned_199 ?_
              refine l0_11 hN dX0_owned_200 (by omega) (by omega) (fun hr200 => ?_)
              refine x_top (τ 11 _) rfl ?_
              refine w0_14 hN dX0_owned_201 (by omega) (by omega) (by omega) ?_
              refine x_aload hN dX0_owned_202 rfl ?_
              refine a0_15 hN dX0_owned_203 ?_
              refine x_iload hN dX0_owned_206 rfl ?_
              refine x_iconst hN dX0_owned_208 ?_
              refine x_iadd hN dX0_owned_209 ?_
              refine x_iload hN dX0_owned_210 rfl ?_
              refine x_iconst hN dX0_owned_212 ?_
              refine x_iadd hN dX0_owned_213 ?_
              refine x_i2b hN dX0_owned_214 (by omega) ?_
              refine w0_15 hN dX0_owned_215 (by omega) (by omega) (by omega) ?_
              refine x_in5 hN dX0_owned_216 ?_
              refine x_goto hN 79 dX0_owned_219 (by decide) ?_
              have hP := Df_push hC hD h107 hend (by omega) (pn' := (sset (sset (sset (sset τ 14 t (τ 11 (2 * τ 14 t))) 15 t (τ 15 t + 1)) 14 (t + 1) (τ 11 (2 * τ 14 t + 1))) 15 (t + 1) (τ 15 t + 1)) 14) (pd' := (sset (sset (sset (sset τ 14 t (τ 11 (2 * τ 14 t))) 15 t (τ 15 t + 1)) 14 (t + 1) (τ 11 (2 * τ 14 t + 1))) 15 (t + 1) (τ 15 t + 1)) 15) (by simp [sset]; intro q; omega) (by simp [sset]) (by simp [sset]) (by simp [sset]) (fun i hi => ⟨by simp only [sset]; rw [if_neg (by omega), if_neg (by omega), if_neg (by omega), if_neg (by omega)], by simp only [sset]; rw [if_neg (by omega), if_neg (by omega), if_neg (by omega), if_neg (by omega)]⟩)
              rw [show (t : Int) + 2 = ((t + 2 : Nat) : Int) by omega]
              exact ih (sset (sset (sset (sset τ 14 t (τ 11 (2 * τ 14 t))) 15 t (τ 15 t + 1)) 14 (t + 1) (τ 11 (2 * τ 14 t + 1))) 15 (t + 1) (τ 15 t + 1)) _ (t + 2) total _ _ h9 (fun k a b c d f p q => by funext j; simp [sset, p, q]; rw [hfr k a b c d f p q]) hC hP.1 (by have := hP.2; omega)
            · refine x_in4 hN dX0_owned_148 ?_
              refine x_goto hN 79 dX0_owned_151 (by decide) ?_
              exact ih τ g t _ _ _ h9 hfr hC (Df_pop hD (by rw [h145]; exact OC_leaf hC hwe.2 (by rw [← h145]; exact hIt.2.1) (by rw [← h145]; exact hIt.2.2.2) ⟨h107, hx.1⟩ hx.2 hend) (by omega)) (by have := mz_pop (pd := τ 15) (t := t); omega)
          · refine x_aload hN dX0_owned_131 rfl ?_
            refine a0_12 hN dX0_owned_132 ?_
            refine x_iload hN dX0_owned_135 rfl ?_
            refine l0_12 hN dX0_owned_137 (by omega) (by omega) (fun hr137 => ?_)
            refine x_ifge hN 219 dX0_owned_138 (by decide) (by omega) (fun h138 => ?_) (fun h138 => ?_)
            · refine x_goto hN 79 dX0_owned_219 (by decide) ?_
              rw [show total = total + 0 by omega]
              exact ih τ g t _ _ _ h9 hfr hC (Df_pop hD (OC_stop hC hd8 hIt.2.1 hIt.2.2.2 ⟨h107, hx.1⟩ hx.2 h128 h138) (by omega)) (by have := mz_pop (pd := τ 15) (t := t); omega)
            · have hend : τ 14 t = s ∨ τ 12 (τ 14 t) < 0 := Or.inr h138
              refine x_iload hN dX0_owned_141 rfl ?_
              refine x_bipush hN dX0_owned_143 (by decide) ?_
              refine x_cmpne hN 154 dX0_owned_145 (by decide) (by omega) (by omega) (fun h145 => ?_) (fun h145 => ?_)
              · have hc0 : -1 ≤ τ 11 (2 * τ 14 t) ∧ τ 11 (2 * τ 14 t) < 129 := by
                  have := hC.1.1.2.2.2.2.1 (τ 14 t) 0 h107 hx.1 (Or.inl rfl)
                  rw [Int.add_zero] at this
                  omega
                have hc1 : -1 ≤ τ 11 (2 * τ 14 t + 1) ∧ τ 11 (2 * τ 14 t + 1) < 129 := by
                  have := hC.1.1.2.2.2.2.1 (τ 14 t) 1 h107 hx.1 (Or.inr rfl)
                  omega
                refine x_aload hN dX0_owned_154 rfl ?_
                refine a0_14 hN dX0_owned_155 ?_
                refine x_iload hN dX0_owned_158 rfl ?_
                refine x_aload hN dX0_owned_160 rfl ?_
                refine a0_11 hN dX0_owned_161 ?_
                refine x_iconst hN dX0_owned_164 ?_
                refine x_iload hN dX0_owned_165 rfl ?_
                refine x_imul hN dX0_owned_167 ?_
                refine l0_11 hN dX0_owned_168 (by omega) (by omega) (fun hr168 => ?_)
                refine w0_14 hN dX0_owned_169 (by omega) (by omega) (by omega) ?_
                refine x_aload hN dX0_owned_170 rfl ?_
                refine a0_15 hN dX0_owned_171 ?_
                refine x_iload hN dX0_owned_174 rfl ?_
                refine x_iload hN dX0_owned_176 rfl ?_
                refine x_iconst hN dX0_owned_178 ?_
                refine x_iadd hN dX0_owned_179 ?_
                refine x_i2b hN dX0_owned_180 (by omega) ?_
                refine w0_15 hN dX0_owned_181 (by omega) (by omega) (by omega) ?_
                refine x_aload hN dX0_owned_182 rfl ?_
                refine a0_14 hN dX0_owned_183 ?_
                refine x_iload hN dX0_owned_186 rfl ?_
                refine x_iconst hN dX0_owned_188 ?_
                refine x_iadd hN dX0_owned_189 ?_
                refine x_aload hN dX0_owned_190 rfl ?_
                refine a0_11 hN dX0_owned_191 ?_
                refine x_iconst hN dX0_owned_194 ?_
                refine x_iload hN dX0_owned_195 rfl ?_
                refine x_imul hN dX0_owned_197 ?_
                refine x_iconst hN dX0_owned_198 ?_
                refine x_iadd hN dX0_owned_199 ?_
                refine l0_11 hN dX0_owned_200 (by omega) (by omega) (fun hr200 => ?_)
                refine x_top (τ 11 _) rfl ?_
                refine w0_14 hN dX0_owned_201 (by omega) (by omega) (by omega) ?_
                refine x_aload hN dX0_owned_202 rfl ?_
                refine a0_15 hN dX0_owned_203 ?_
                refine x_iload hN dX0_owned_206 rfl ?_
                refine x_iconst hN dX0_owned_208 ?_
                refine x_iadd hN dX0_owned_209 ?_
                refine x_iload hN dX0_owned_210 rfl ?_
                refine x_iconst hN dX0_owned_212 ?_
                refine x_iadd hN dX0_owned_213 ?_
                refine x_i2b hN dX0_owned_214 (by omega) ?_
                refine w0_15 hN dX0_owned_215 (by omega) (by omega) (by omega) ?_
                refine x_in5 hN dX0_owned_216 ?_
                refine x_goto hN 79 dX0_owned_219 (by decide) ?_
                have hP := Df_push hC hD h107 hend (by omega) (pn' := (sset (sset (sset (sset τ 14 t (τ 11 (2 * τ 14 t))) 15 t (τ 15 t + 1)) 14 (t + 1) (τ 11 (2 * τ 14 t + 1))) 15 (t + 1) (τ 15 t + 1)) 14) (pd' := (sset (sset (sset (sset τ 14 t (τ 11 (2 * τ 14 t))) 15 t (τ 15 t + 1)) 14 (t + 1) (τ 11 (2 * τ 14 t + 1))) 15 (t + 1) (τ 15 t + 1)) 15) (by simp [sset]; intro q; omega) (by simp [sset]) (by simp [sset]) (by simp [sset]) (fun i hi => ⟨by simp only [sset]; rw [if_neg (by omega), if_neg (by omega), if_neg (by omega), if_neg (by omega)], by simp only [sset]; rw [if_neg (by omega), if_neg (by omega), if_neg (by omega), if_neg (by omega)]⟩)
                rw [show (t : Int) + 2 = ((t + 2 : Nat) : Int) by omega]
                exact ih (sset (sset (sset (sset τ 14 t (τ 11 (2 * τ 14 t))) 15 t (τ 15 t + 1)) 14 (t + 1) (τ 11 (2 * τ 14 t + 1))) 15 (t + 1) (τ 15 t + 1)) _ (t + 2) total _ _ h9 (fun k a b c d f p q => by funext j; simp [sset, p, q]; rw [hfr k a b c d f p q]) hC hP.1 (by have := hP.2; omega)
              · refine x_in4 hN dX0_owned_148 ?_
                refine x_goto hN 79 dX0_owned_151 (by decide) ?_
                exact ih τ g t _ _ _ h9 hfr hC (Df_pop hD (by rw [h145]; exact OC_leaf hC hwe.2 (by rw [← h145]; exact hIt.2.1) (by rw [← h145]; exact hIt.2.2.2) ⟨h107, hx.1⟩ hx.2 hend) (by omega)) (by have := mz_pop (pd := τ 15) (t := t); omega)
        · refine x_iload hN dX0_owned_110 rfl ?_
          refine x_iconst hN dX0_owned_112 ?_
          refine x_bipush hN dX0_owned_113 (by decide) ?_
          refine x_iload hN dX0_owned_115 rfl ?_
          refine x_isub hN dX0_owned_117 ?_
          refine x_ishl hN dX0_owned_118 _ rfl (by omega) (by omega) (by omega) ?_
          refine x_iadd hN dX0_owned_119 ?_
          refine x_st4 hN dX0_owned_120 ?_
          refine x_goto hN 219 dX0_owned_122 (by decide) ?_
          refine x_goto hN 79 dX0_owned_219 (by decide) ?_
          have hgone : ∀ y, 0 ≤ y → y < τ 10 0 → lab y ≠ g t := by
            rcases hIt.2.2.1 with q | q
            · exact q.2
            · exact absurd q.1 (by omega)
          rw [Int.one_mul]
          exact ih τ g t _ _ _ h9 hfr hC (Df_pop hD (OC_gone hC ⟨by omega, hd8.2⟩ hIt.2.1 hIt.2.2.2 hgone) (by omega)) (by have := mz_pop (pd := τ 15) (t := t); omega)
  refine x_aload hN dX0_owned_0 rfl ?_
  refine x_iloadn hN dX0_owned_1 rfl ?_
  refine x_call hN (m0_entryWith σ h hh) hw0_entryWith hy0_entryWith (by decide) rfl (by decide) rfl dX0_owned_2 (fun z2 u2 hz2 hp2 => ?_)
  obtain ⟨hu2, hp2⟩ := hp2
  rw [hu2]
  refine x_st2 hN dX0_owned_5 ?_
  refine x_iloadn hN dX0_owned_6 rfl ?_
  refine x_iflt hN 16 dX0_owned_7 (by decide) (by omega) (fun h7 => ?_) (fun h7 => ?_)
  · refine x_bipush hN dX0_owned_16 (by decide) ?_
    exact hret _ _ _ _ dX0_owned_18 (by omega) ⟨hr, fun k _ _ _ _ _ _ _ => rfl, Or.inl ⟨rfl, by rcases hp2 with q | q; rcases q.2 with q | q; exact Or.inl q; exact Or.inr (Or.inl q); exact absurd q.1 (by omega)⟩⟩
  · have hE2 : z2 < 32 ∧ 0 ≤ h ∧ σ 5 z2 = h := by
      rcases hp2 with q | q
      · exact absurd q.1 (by omega)
      · exact q.2
    refine x_iloadn hN dX0_owned_10 rfl ?_
    refine x_bipush hN dX0_owned_11 (by decide) ?_
    refine x_cmplt hN 19 dX0_owned_13 (by decide) (by omega) (by omega) (fun h13 => ?_) (fun h13 => ?_)
    · refine x_aload hN dX0_owned_19 rfl ?_
      refine x_callv hN (m0_makeTree σ hw hr) hw0_makeTree hy0_makeTree (by decide) rfl (by decide) rfl dX0_owned_20 (fun u20 hp20 => ?_)
      obtain ⟨q9, ⟨lab, hT⟩, hfr⟩ := hp20
      have g5 : u20 5 = σ 5 := hfr 5 (by decide) (by decide) (by decide) (by decide) (by decide)
      have g7 : u20 7 = σ 7 := hfr 7 (by decide) (by decide) (by decide) (by decide) (by decide)
      have g8 : u20 8 = σ 8 := hfr 8 (by decide) (by decide) (by decide) (by decide) (by decide)
      rw [g5, g7, g8] at hT
      have hlive : 0 ≤ σ 5 z2 := by omega
      have hwe := hw z2 (by omega) h13 hlive
      have hpres := hT.2.2.1 z2 (by omega) h13 hlive
      have hnc := hT.2.1
      refine x_aload hN dX0_owned_23 rfl ?_
      refine x_aload hN dX0_owned_24 rfl ?_
      refine a0_7 hN dX0_owned_25 ?_
      refine x_iloadn hN dX0_owned_28 rfl ?_
      refine l0_7 hN dX0_owned_29 (by omega) (by omega) (fun hr29 => ?_)
      refine x_aload hN dX0_owned_30 rfl ?_
      refine a0_8 hN dX0_owned_31 ?_
      refine x_iloadn hN dX0_owned_34 rfl ?_
      refine l0_8 hN dX0_owned_35 (by omega) (by omega) (fun hr35 => ?_)
      refine x_call hN (m0_nodeFor u20 (u20 7 z2) (u20 8 z2) lab hT.1 (by rw [g7]; exact hwe.1) (by rw [g8]; exact hwe.2) ⟨by omega, Or.inr (by rw [g7, g8]; exact hpres)⟩) hw0_nodeFor hy0_nodeFor (by decide) rfl (by decide) rfl dX0_owned_36 (fun z36 u36 hz36 hp36 => ?_)
      obtain ⟨lab', hF⟩ := hp36
      have hu36 : u36 = u20 := hF.2.2.2.2.2.2.2 (by rw [g7, g8]; exact hpres)
      rw [hu36] at hF ⊢
      have hs := hF.2.2.2.2.1
      have hls : lab z36 = el (σ 7) (σ 8) z2 := by
        rw [← (hF.2.2.1 z36 hs.1 hs.2).1, hF.2.2.2.2.2.1, show 7 - u20 8 z2 + 1 = 8 - u20 8 z2 by omega, g7, g8]
        rfl
      refine x_st3 hN dX0_owned_39 ?_
      refine x_aload hN dX0_owned_40 rfl ?_
      refine a0_12 hN dX0_owned_41 ?_
      refine x_iloadn hN dX0_owned_44 rfl ?_
      refine l0_12 hN dX0_owned_45 (by omega) (by omega) (fun hr45 => ?_)
      refine x_iloadn hN dX0_owned_46 rfl ?_
      refine x_cmpeq hN 52 dX0_owned_47 (by decide) (by omega) (by omega) (fun h47 => ?_) (fun h47 => ?_)
      · refine x_iconst hN dX0_owned_52 ?_
        refine x_st4 hN dX0_owned_53 ?_
        refine x_iconst hN dX0_owned_55 ?_
        refine x_st5 hN dX0_owned_56 ?_
        refine x_aload hN dX0_owned_58 rfl ?_
        refine a0_14 hN dX0_owned_59 ?_
        refine x_iconst hN dX0_owned_62 ?_
        refine x_iloadn hN dX0_owned_63 rfl ?_
        refine x_i2s hN dX0_owned_64 (by omega) ?_
        refine w0_14 hN dX0_owned_65 (by omega) (by omega) (by omega) ?_
        refine x_aload hN dX0_owned_66 rfl ?_
        refine a0_15 hN dX0_owned_67 ?_
        refine x_iconst hN dX0_owned_70 ?_
        refine x_aload hN dX0_owned_71 rfl ?_
        refine a0_8 hN dX0_owned_72 ?_
        refine x_iloadn hN dX0_owned_75 rfl ?_
        refine l0_8 hN dX0_owned_76 (by omega) (by omega) (fun hr76 => ?_)
        refine x_top (u20 8 _) rfl ?_
        rw [g8]
        refine x_i2b hN dX0_owned_77 (by omega) ?_
        refine w0_15 hN dX0_owned_78 (by omega) (by omega) (by omega) ?_
        have hC : OC (σ 5) (σ 7) (σ 8) (u20 11) (u20 12) (u20 13) (u20 10 0) lab z2 z36 := ⟨hT, hw, ⟨h7, h13, hlive⟩, hs, hls, h47⟩
        have hOT := OC_total hC
        exact loop lab z2 z36 hE2.2.1 hE2.2.2 600 (sset (sset u20 14 0 z36) 15 0 (σ 8 z2)) (fun _ => lab z36) 1 0 _ _ q9 (fun k a b c d f p q => by funext j; simp [sset, p, q]; rw [hfr k a b c d f]) hC ⟨fun i hi => by
          have e0 : i = 0 := by omega
          subst e0
          exact ⟨(by show (0 : Int) ≤ σ 8 z2; omega), ⟨(by show σ 8 z2 ≤ σ 8 z2 ∧ σ 8 z2 ≤ 8; omega), hOT.1, Or.inr ⟨hs.1, hs.2, rfl⟩, hOT.2.1⟩⟩, by omega, (by show (0 : Int) + (0 + ct (Bst (σ 5) (σ 7) (σ 8) z2) (lab z36) (σ 8 z2)) = _; omega)⟩ (by
          show (0 : Int) + (2 * 2 ^ (8 - σ 8 z2).toNat - 1) < _
          have := p9 hwe.2
          omega)
      · refine x_iconst hN dX0_owned_50 ?_
        exact hret _ _ _ _ dX0_owned_51 (by omega) ⟨fun _ => ⟨lab, by rw [g5, g7, g8]; exact hT⟩, fun k a b c d f _ _ => hfr k a b c d f, Or.inr ⟨z2, h7, h13, hE2.2.1, hE2.2.2, (Bst_none hT hw ⟨h7, h13, hlive⟩ hs hls h47 hinj).symm⟩⟩
    · refine x_bipush hN dX0_owned_16 (by decide) ?_
      exact hret _ _ _ _ dX0_owned_18 (by omega) ⟨hr, fun k _ _ _ _ _ _ _ => rfl, Or.inl ⟨rfl, Or.inr (Or.inr ⟨z2, h13, hE2.1, hE2.2.1, hE2.2.2⟩)⟩⟩
end
section
/-! THE GROUPS, plain. h handles, ky keys, w widths (masks), gm groupMask, gt groupTop, gc groupCount, lf listFirst, ln listNext -/
def G1 (h ky w gm gt : Int → Int) (gc hi : Int) : Prop := (0 ≤ gc ∧ gc ≤ hi - 16) ∧ (∀ a b, 0 ≤ a → a < gc → 0 ≤ b → b < gc → gm a = gm b → a = b) ∧ (∀ g, 0 ≤ g → g < gc → (0 ≤ gt g ∧ gt g ≤ 15) ∧ (0 ≤ gm g ∧ gm g ≤ 65535)) ∧ ∀ e, 16 ≤ e → e < hi → 0 ≤ h e → ∃ g, 0 ≤ g ∧ g < gc ∧ gm g = w e ∧ ky e / 65536 ≤ gt g
theorem G1_skip {h ky w gm gt : Int → Int} {gc hi : Int} (G : G1 h ky w gm gt gc hi) (hn : h hi < 0) : G1 h ky w gm gt gc (hi + 1) := by
  obtain ⟨g1, g2, g3, g4⟩ := G
  refine ⟨by omega, g2, g3, fun e e0 e1 e2 => ?_⟩
  by_cases q : e = hi
  · rw [q] at e2; omega
  · exact g4 e e0 (by omega) e2
theorem G1_old {h ky w gm gt gt' : Int → Int} {gc hi g : Int} (G : G1 h ky w gm gt gc hi) (hg : 0 ≤ g ∧ g < gc) (hm : gm g = w hi) (h1 : ∀ y, y ≠ g → gt' y = gt y) (h2 : gt g ≤ gt' g ∧ ky hi / 65536 ≤ gt' g ∧ gt' g ≤ 15) : G1 h ky w gm gt' gc (hi + 1) := by
  obtain ⟨g1, g2, g3, g4⟩ := G
  refine ⟨by omega, g2, fun y y0 y1 => ?_, fun e e0 e1 e2 => ?_⟩
  · by_cases q : y = g
    · rw [q]
      have := g3 g hg.1 hg.2
      exact ⟨by omega, this.2⟩
    · rw [h1 y q]; exact g3 y y0 y1
  · by_cases q : e = hi
    · rw [q]; exact ⟨g, hg.1, hg.2, hm, h2.2.1⟩
    · obtain ⟨y, y0, y1, y2, y3⟩ := g4 e e0 (by omega) e2
      refine ⟨y, y0, y1, y2, ?_⟩
      by_cases q2 : y = g
      · rw [q2] at y3 ⊢; omega
      · rw [h1 y q2]; exact y3
theorem G1_new {h ky w gm gt gm' gt' : Int → Int} {gc hi : Int} (G : G1 h ky w gm gt gc hi) (hm : ∀ g, 0 ≤ g → g < gc → gm g ≠ w hi) (h1 : ∀ y, y ≠ gc → gt' y = gt y ∧ gm' y = gm y) (h2 : gm' gc = w hi) (h3 : 0 ≤ gt' gc ∧ ky hi / 65536 ≤ gt' gc ∧ gt' gc ≤ 15) (h4 : 0 ≤ w hi ∧ w hi ≤ 65535) : G1 h ky w gm' gt' (gc + 1) (hi + 1) := by
  obtain ⟨g1, g2, g3, g4⟩ := G
  refine ⟨by omega, fun a b a0 a1 b0 b1 e => ?_, fun y y0 y1 => ?_, fun e e0 e1 e2 => ?_⟩
  · by_cases qa : a = gc <;> by_cases qb : b = gc
    · omega
    · rw [qa, h2, (h1 b qb).2] at e
      exact absurd e.symm (hm b b0 (by omega))
    · rw [qb, h2, (h1 a qa).2] at e
      exact absurd e (hm a a0 (by omega))
    · rw [(h1 a qa).2, (h1 b qb).2] at e
      exact g2 a b a0 (by omega) b0 (by omega) e
  · by_cases q : y = gc
    · rw [q, h2]; exact ⟨by omega, h4⟩
    · rw [(h1 y q).1, (h1 y q).2]; exact g3 y y0 (by omega)
  · by_cases q : e = hi
    · rw [q]; exact ⟨gc, by omega, by omega, h2, h3.2.1⟩
    · obtain ⟨y, y0, y1, y2, y3⟩ := g4 e e0 (by omega) e2
      have q2 : y ≠ gc := by omega
      exact ⟨y, y0, by omega, by rw [(h1 y q2).2]; exact y2, by rw [(h1 y q2).1]; exact y3⟩
def up (f : Int → Int) (k v : Int) : Int → Int := fun y => if y = k then v else f y
theorem up_s (f : Int → Int) (k v : Int) : up f k v k = v := if_pos rfl
theorem up_n (f : Int → Int) {k y : Int} (v : Int) (q : y ≠ k) : up f k v y = f y := if_neg q
theorem up_id (f : Int → Int) (k : Int) : up f k (f k) = f := by
  funext y
  unfold up
  split
  · rename_i q; rw [q]
  · rfl
/-- two places change places -/
theorem G1_swap {h ky w gm gt gm' gt' : Int → Int} {gc hi a b : Int} (G : G1 h ky w gm gt gc hi) (ha : 0 ≤ a ∧ a < gc) (hb : 0 ≤ b ∧ b < gc) (hab : a ≠ b) (h1 : gm' a = gm b ∧ gt' a = gt b) (h2 : gm' b = gm a ∧ gt' b = gt a) (h3 : ∀ y, y ≠ a → y ≠ b → gm' y = gm y ∧ gt' y = gt y) : G1 h ky w gm' gt' gc hi := by
  obtain ⟨g1, g2, g3, g4⟩ := G
  have key : ∀ y, 0 ≤ y → y < gc → ∃ z, 0 ≤ z ∧ z < gc ∧ gm' y = gm z ∧ gt' y = gt z ∧ gm y = gm' z ∧ gt y = gt' z ∧ (y = a → z = b) ∧ (y = b → z = a) ∧ (y ≠ a → y ≠ b → z = y) := by
    intro y y0 y1
    by_cases qa : y = a
    · subst qa
      exact ⟨b, hb.1, hb.2, h1.1, h1.2, h2.1.symm, h2.2.symm, fun _ => rfl, fun q => absurd q hab, fun q => absurd rfl q⟩
    · by_cases qb : y = b
      · subst qb
        exact ⟨a, ha.1, ha.2, h2.1, h2.2, h1.1.symm, h1.2.symm, fun q => absurd q qa, fun _ => rfl, fun _ q => absurd rfl q⟩
      · obtain ⟨p, q⟩ := h3 y qa qb
        exact ⟨y, y0, y1, p, q, p.symm, q.symm, fun r => absurd r qa, fun r => absurd r qb, fun _ _ => rfl⟩
  refine ⟨g1, fun x y x0 x1 y0 y1 e => ?_, fun y y0 y1 => ?_, fun e e0 e1 e2 => ?_⟩
  · obtain ⟨z, z0, z1, z2, -, -, -, za, zb, zn⟩ := key x x0 x1
    obtain ⟨v, v0, v1, v2, -, -, -, va, vb, vn⟩ := key y y0 y1
    have hzv := g2 z v z0 z1 v0 v1 (by rw [← z2, ← v2]; exact e)
    by_cases xa : x = a <;> by_cases ya : y = a
    · omega
    · by_cases yb : y = b
      · have := za xa; have := vb yb; omega
      · have := za xa; have := vn ya yb; omega
    · by_cases xb : x = b
      · have := zb xb; have := va ya; omega
      · have := zn xa xb; have := va ya; omega
    · by_cases xb : x = b <;> by_cases yb : y = b
      · omega
      · have := zb xb; have := vn ya yb; omega
      · have := zn xa xb; have := vb yb; omega
      · have := zn xa xb; have := vn ya yb; omega
  · obtain ⟨z, z0, z1, z2, z3, -⟩ := key y y0 y1
    rw [z3, z2]; exact g3 z z0 z1
  · obtain ⟨y, y0, y1, y2, y3⟩ := g4 e e0 e1 e2
    obtain ⟨z, z0, z1, -, -, z4, z5, -⟩ := key y y0 y1
    exact ⟨z, z0, z1, by rw [← z4]; exact y2, by rw [← z5]; exact y3⟩
/-- sorting, inner loop: the hole is at k -/
def IS (h ky w gm gt : Int → Int) (gc i k ma tp : Int) : Prop := G1 h ky w (up gm k ma) (up gt k tp) gc 32 ∧ (∀ a b, 0 ≤ a → a < b → b ≤ i → a ≠ k → b ≠ k → gt b ≤ gt a) ∧ ∀ b, k < b → b ≤ i → gt b ≤ tp
theorem IS_step {h ky w gm gt gm' gt' : Int → Int} {gc i k ma tp : Int} (I : IS h ky w gm gt gc i k ma tp) (hk : 0 < k ∧ k ≤ i ∧ i < gc) (ht : gt (k - 1) < tp) (hm' : ∀ y, gm' y = if y = k then gm (k - 1) else gm y) (ht' : ∀ y, gt' y = if y = k then gt (k - 1) else gt y) : IS h ky w gm' gt' gc i (k - 1) ma tp := by
  obtain ⟨i1, i2, i3⟩ := I
  have hk1 : k ≠ k - 1 := by omega
  have tk : gt' k = gt (k - 1) := by rw [ht', if_pos rfl]
  have tn : ∀ y, y ≠ k → gt' y = gt y := fun y q => by rw [ht', if_neg q]
  have mk : gm' k = gm (k - 1) := by rw [hm', if_pos rfl]
  have mn : ∀ y, y ≠ k → gm' y = gm y := fun y q => by rw [hm', if_neg q]
  refine ⟨G1_swap i1 (a := k) (b := k - 1) (by omega) (by omega) hk1 ?_ ?_ ?_, ?_, ?_⟩
  · rw [up_n _ _ hk1, up_n _ _ hk1, up_n _ _ (Ne.symm hk1), up_n _ _ (Ne.symm hk1)]
    exact ⟨mk, tk⟩
  · rw [up_s, up_s, up_s, up_s]
    exact ⟨rfl, rfl⟩
  · intro y q1 q2
    rw [up_n _ _ q2, up_n _ _ q2, up_n _ _ q1, up_n _ _ q1]
    exact ⟨mn y q1, tn y q1⟩
  · intro a b a0 a1 b1 qa qb
    by_cases qbk : b = k
    · subst qbk
      rw [tk, tn a (by omega)]
      exact i2 a (b - 1) a0 (by omega) (by omega) (by omega) (by omega)
    · rw [tn b qbk]
      by_cases qak : a = k
      · subst qak
        rw [tk]
        exact i2 (a - 1) b (by omega) (by omega) b1 (by omega) qbk
      · rw [tn a qak]
        exact i2 a b a0 a1 b1 qak qbk
  · intro b b0 b1
    by_cases qbk : b = k
    · rw [qbk, tk]; omega
    · rw [tn b qbk]; exact i3 b (by omega) b1
def Srt (gt : Int → Int) (i : Int) : Prop := ∀ a b, 0 ≤ a → a < b → b < i → gt b ≤ gt a
theorem IS_0 {h ky w gm gt : Int → Int} {gc i : Int} (G : G1 h ky w gm gt gc 32) (S : Srt gt i) : IS h ky w gm gt gc i i (gm i) (gt i) := by
  refine ⟨by rw [up_id, up_id]; exact G, fun a b a0 a1 b1 qa qb => S a b a0 a1 (by omega), fun b b0 b1 => by omega⟩
theorem IS_end {h ky w gm gt : Int → Int} {gc i k ma tp : Int} (I : IS h ky w gm gt gc i k ma tp) (hk : 0 ≤ k ∧ k ≤ i) (he : k ≤ 0 ∨ tp ≤ gt (k - 1)) : G1 h ky w (up gm k ma) (up gt k tp) gc 32 ∧ Srt (up gt k tp) (i + 1) := by
  obtain ⟨i1, i2, i3⟩ := I
  refine ⟨i1, fun a b a0 a1 b1 => ?_⟩
  by_cases qa : a = k
  · rw [qa, up_s, up_n _ _ (by omega)]
    exact i3 b (by omega) (by omega)
  · rw [up_n _ _ qa]
    by_cases qb : b = k
    · rw [qb, up_s]
      have : tp ≤ gt (k - 1) := by omega
      by_cases qc : a = k - 1
      · rw [qc]; exact this
      · have := i2 a (k - 1) a0 (by omega) (by omega) qa (by omega)
        omega
    · rw [up_n _ _ qb]
      exact i2 a b a0 a1 (by omega) qa qb
/-- the order in a list -/
def od (h ky : Int → Int) (e : Int) : Int := h e - 65536 * (ky e / 65536)
def Inn (h : Int → Int) (hi y : Int) : Prop := 16 ≤ y ∧ y < hi ∧ 0 ≤ h y
def Ls (ky w gm : Int → Int) (gc y l : Int) : Prop := ∃ g, 0 ≤ g ∧ g < gc ∧ gm g = w y ∧ l = 8 * g + slt (ky y % 65536)
def MinP (P : Int → Prop) (o : Int → Int) (r : Int) : Prop := (r = -1 ∧ ∀ y, ¬ P y) ∨ (P r ∧ ∀ y, P y → o r ≤ o y)
def G3 (h ky w gm lf ln : Int → Int) (gc hi : Int) : Prop := (∀ l, 0 ≤ l → l < 128 → MinP (fun y => Inn h hi y ∧ Ls ky w gm gc y l) (od h ky) (lf l)) ∧ ∀ x l, Inn h hi x → Ls ky w gm gc x l → MinP (fun y => (Inn h hi y ∧ Ls ky w gm gc y l) ∧ od h ky x < od h ky y) (od h ky) (ln x)
/-- the entries of table 1 are in range, their handles differ -/
def HE (h ky w : Int → Int) : Prop := (∀ e, 16 ≤ e → e < 32 → 0 ≤ h e → h e < 65536 ∧ (0 ≤ ky e / 65536 ∧ ky e / 65536 ≤ 15) ∧ (0 ≤ w e ∧ w e ≤ 65535)) ∧ ∀ a b, 16 ≤ a → a < 32 → 16 ≤ b → b < 32 → 0 ≤ h a → h a = h b → a = b
theorem MinP_cg {P Q : Int → Prop} {o : Int → Int} {r : Int} (h : ∀ y, P y ↔ Q y) (m : MinP P o r) : MinP Q o r := by
  rcases m with ⟨m1, m2⟩ | ⟨m1, m2⟩
  · exact Or.inl ⟨m1, fun y q => m2 y ((h y).mpr q)⟩
  · exact Or.inr ⟨(h r).mp m1, fun y q => m2 y ((h y).mpr q)⟩
theorem od_inj {h ky w : Int → Int} (H : HE h ky w) {a b : Int} (ha : Inn h 32 a) (hb : Inn h 32 b) (e : od h ky a = od h ky b) : a = b := by
  have h1 := H.1 a ha.1 ha.2.1 ha.2.2
  have h2 := H.1 b hb.1 hb.2.1 hb.2.2
  unfold od at e
  have := ha.2.2
  have := hb.2.2
  exact H.2 a b ha.1 ha.2.1 hb.1 hb.2.1 ha.2.2 (by omega)
theorem Ls_uq {h ky w gm gt : Int → Int} {gc hi : Int} (G : G1 h ky w gm gt gc hi) {y l l' : Int} (a : Ls ky w gm gc y l) (b : Ls ky w gm gc y l') : l = l' := by
  obtain ⟨g, g0, g1, g2, g3⟩ := a
  obtain ⟨k, k0, k1, k2, k3⟩ := b
  have := G.2.1 g k g0 g1 k0 k1 (by rw [g2, k2])
  rw [g3, k3, this]
theorem G3_skip {h ky w gm lf ln : Int → Int} {gc hi : Int} (G : G3 h ky w gm lf ln gc hi) (hn : h hi < 0) : G3 h ky w gm lf ln gc (hi + 1) := by
  have e : Inn h (hi + 1) = Inn h hi := by
    funext y
    apply propext
    unfold Inn
    constructor
    · rintro ⟨q1, q2, q3⟩
      by_cases q : y = hi
      · rw [q] at q3; omega
      · exact ⟨q1, by omega, q3⟩
    · rintro ⟨q1, q2, q3⟩
      exact ⟨q1, by omega, q3⟩
  unfold G3
  rw [e]
  exact G
theorem G3_0 {h ky w gm lf ln : Int → Int} {gc : Int} (hl : ∀ l, 0 ≤ l → l < 128 → lf l = -1) : G3 h ky w gm lf ln gc 16 := by
  refine ⟨fun l l0 l1 => Or.inl ⟨hl l l0 l1, fun y q => ?_⟩, fun x l q => ?_⟩
  · have := q.1; unfold Inn at this; omega
  · unfold Inn at q; omega
/-- hang on its way: 'b' before, 'a' after the place of the entry hi in the list l -/
def HW (h ky w gm lf ln : Int → Int) (gc hi l b a : Int) : Prop := (b = -1 ∧ a = lf l) ∨ ((Inn h hi b ∧ Ls ky w gm gc b l) ∧ od h ky b < od h ky hi ∧ a = ln b)
theorem HW_a {h ky w gm lf ln : Int → Int} {gc hi l b a : Int} (G : G3 h ky w gm lf ln gc hi) (hl : 0 ≤ l ∧ l < 128) (W : HW h ky w gm lf ln gc hi l b a) : a = -1 ∨ (Inn h hi a ∧ Ls ky w gm gc a l ∧ (b = -1 ∨ od h ky b < od h ky a)) := by
  rcases W with ⟨w1, w2⟩ | ⟨w1, w2, w3⟩
  · rw [w2]
    rcases G.1 l hl.1 hl.2 with ⟨m1, m2⟩ | ⟨m1, m2⟩
    · exact Or.inl m1
    · exact Or.inr ⟨m1.1, m1.2, Or.inl w1⟩
  · rw [w3]
    rcases G.2 b l w1.1 w1.2 with ⟨m1, m2⟩ | ⟨m1, m2⟩
    · exact Or.inl m1
    · exact Or.inr ⟨m1.1.1, m1.1.2, Or.inr m1.2⟩
theorem G3_ins {h ky w gm gt lf ln lf' ln' : Int → Int} {gc hi l0 b a : Int} (H : HE h ky w) (G2 : G1 h ky w gm gt gc 32) (G : G3 h ky w gm lf ln gc hi) (hhi : 16 ≤ hi ∧ hi < 32 ∧ 0 ≤ h hi) (hl : 0 ≤ l0 ∧ l0 < 128) (hL : Ls ky w gm gc hi l0) (W : HW h ky w gm lf ln gc hi l0 b a) (ha : a = -1 ∨ od h ky hi < od h ky a)
    (n1 : ln' hi = a) (n2 : b = -1 → lf' l0 = hi ∧ (∀ l, l ≠ l0 → lf' l = lf l) ∧ ∀ y, y ≠ hi → ln' y = ln y) (n3 : b ≠ -1 → (∀ l, lf' l = lf l) ∧ ln' b = hi ∧ ∀ y, y ≠ hi → y ≠ b → ln' y = ln y) : G3 h ky w gm lf' ln' gc (hi + 1) := by
  have hA := HW_a G hl W
  -- the new set
  have hin : ∀ y, Inn h (hi + 1) y ↔ Inn h hi y ∨ y = hi := by
    intro y
    unfold Inn
    constructor
    · rintro ⟨q1, q2, q3⟩
      by_cases q : y = hi
      · exact Or.inr q
      · exact Or.inl ⟨q1, by omega, q3⟩
    · rintro (⟨q1, q2, q3⟩ | q)
      · exact ⟨q1, by omega, q3⟩
      · rw [q]; exact ⟨hhi.1, by omega, hhi.2.2⟩
  have h32 : ∀ y, Inn h hi y → Inn h 32 y := fun y q => ⟨q.1, by have := q.2.1; omega, q.2.2⟩
  have hhin : Inn h 32 hi := ⟨hhi.1, hhi.2.1, hhi.2.2⟩
  have hne : ∀ y, Inn h hi y → od h ky y ≠ od h ky hi := fun y q e => by
    have := od_inj H (h32 y q) hhin e
    have := q.2.1
    omega
  -- who lies below and above
  have hlow : ∀ y, Inn h hi y → Ls ky w gm gc y l0 → od h ky y < od h ky hi → b ≠ -1 ∧ od h ky y ≤ od h ky b := by
    intro y y1 y2 y3
    rcases W with ⟨w1, w2⟩ | ⟨w1, w2, w3⟩
    · exfalso
      rcases G.1 l0 hl.1 hl.2 with ⟨m1, m2⟩ | ⟨m1, m2⟩
      · exact m2 y ⟨y1, y2⟩
      · have := m2 y ⟨y1, y2⟩
        rw [← w2] at this m1
        rcases ha with q | q
        · have := m1.1.1; omega
        · omega
    · refine ⟨fun q => by have := w1.1.1; omega, ?_⟩
      by_cases q : od h ky b < od h ky y
      · exfalso
        rcases G.2 b l0 w1.1 w1.2 with ⟨m1, m2⟩ | ⟨m1, m2⟩
        · exact m2 y ⟨⟨y1, y2⟩, q⟩
        · have := m2 y ⟨⟨y1, y2⟩, q⟩
          rw [← w3] at this m1
          rcases ha with q | q
          · have := m1.1.1.1; omega
          · omega
      · omega
  have hupp : ∀ y, Inn h hi y → Ls ky w gm gc y l0 → od h ky hi < od h ky y → a ≠ -1 ∧ od h ky a ≤ od h ky y := by
    intro y y1 y2 y3
    rcases W with ⟨w1, w2⟩ | ⟨w1, w2, w3⟩
    · rcases G.1 l0 hl.1 hl.2 with ⟨m1, m2⟩ | ⟨m1, m2⟩
      · exact absurd ⟨y1, y2⟩ (m2 y)
      · have := m2 y ⟨y1, y2⟩
        rw [← w2] at this m1
        exact ⟨fun q => by have := m1.1.1; omega, this⟩
    · rcases G.2 b l0 w1.1 w1.2 with ⟨m1, m2⟩ | ⟨m1, m2⟩
      · exact absurd ⟨⟨y1, y2⟩, by omega⟩ (m2 y)
      · have := m2 y ⟨⟨y1, y2⟩, by omega⟩
        rw [← w3] at this m1
        exact ⟨fun q => by have := m1.1.1.1; omega, this⟩
  have hbin : b ≠ -1 → (Inn h hi b ∧ Ls ky w gm gc b l0) ∧ od h ky b < od h ky hi := by
    intro q
    rcases W with ⟨w1, w2⟩ | ⟨w1, w2, w3⟩
    · exact absurd w1 q
    · exact ⟨w1, w2⟩
  refine ⟨fun l q0 q1 => ?_, fun x l q0 q1 => ?_⟩
  · by_cases hll : l = l0
    · subst hll
      by_cases hb : b = -1
      · obtain ⟨p1, p2, p3⟩ := n2 hb
        rw [p1]
        refine Or.inr ⟨⟨(hin hi).mpr (Or.inr rfl), hL⟩, fun y ⟨y1, y2⟩ => ?_⟩
        rcases (hin y).mp y1 with y3 | y3
        · have k1 := hne y y3
          by_cases q : od h ky y < od h ky hi
          · exact absurd hb (hlow y y3 y2 q).1
          · omega
        · rw [y3]; exact Int.le_refl _
      · obtain ⟨p1, p2, p3⟩ := n3 hb
        rw [p1]
        obtain ⟨k1, k2⟩ := hbin hb
        rcases G.1 l hl.1 hl.2 with ⟨m1, m2⟩ | ⟨m1, m2⟩
        · exact absurd k1 (m2 b)
        · refine Or.inr ⟨⟨(hin _).mpr (Or.inl m1.1), m1.2⟩, fun y ⟨y1, y2⟩ => ?_⟩
          rcases (hin y).mp y1 with y3 | y3
          · exact m2 y ⟨y3, y2⟩
          · rw [y3]
            have := m2 b k1
            omega
    · have e1 : lf' l = lf l := by
        by_cases hb : b = -1
        · exact (n2 hb).2.1 l hll
        · exact (n3 hb).1 l
      rw [e1]
      refine MinP_cg (fun y => ⟨fun ⟨y1, y2⟩ => ⟨(hin y).mpr (Or.inl y1), y2⟩, fun ⟨y1, y2⟩ => ⟨?_, y2⟩⟩) (G.1 l q0 q1)
      rcases (hin y).mp y1 with y3 | y3
      · exact y3
      · rw [y3] at y2
        exact absurd (Ls_uq G2 y2 hL) hll
  · rcases (hin x).mp q0 with x1 | x1
    · have hxhi : x ≠ hi := fun q => by have := x1.2.1; omega
      by_cases hll : l = l0
      · subst hll
        by_cases hxb : x = b
        · subst hxb
          have hb : x ≠ -1 := fun q => by have := x1.1; omega
          obtain ⟨p1, p2, p3⟩ := n3 hb
          obtain ⟨k1, k2⟩ := hbin hb
          rw [p2]
          refine Or.inr ⟨⟨⟨(hin hi).mpr (Or.inr rfl), hL⟩, k2⟩, fun y ⟨⟨y1, y2⟩, y3⟩ => ?_⟩
          rcases (hin y).mp y1 with y4 | y4
          · by_cases q : od h ky y < od h ky hi
            · have := (hlow y y4 y2 q).2; omega
            · omega
          · rw [y4]; exact Int.le_refl _
        · have e1 : ln' x = ln x := by
            by_cases hb : b = -1
            · exact (n2 hb).2.2 x hxhi
            · exact (n3 hb).2.2 x hxhi hxb
          rw [e1]
          by_cases q : od h ky x < od h ky hi
          · obtain ⟨k3, k4⟩ := hlow x x1 q1 q
            obtain ⟨k1, k2⟩ := hbin k3
            have k5 : od h ky x < od h ky b := by
              by_cases r : od h ky x = od h ky b
              · exact absurd (od_inj H (h32 x x1) (h32 b k1.1) r) hxb
              · omega
            rcases G.2 x l x1 q1 with ⟨m1, m2⟩ | ⟨m1, m2⟩
            · exact absurd ⟨k1, k5⟩ (m2 b)
            · refine Or.inr ⟨⟨⟨(hin _).mpr (Or.inl m1.1.1), m1.1.2⟩, m1.2⟩, fun y ⟨⟨y1, y2⟩, y3⟩ => ?_⟩
              rcases (hin y).mp y1 with y4 | y4
              · exact m2 y ⟨⟨y4, y2⟩, y3⟩
              · rw [y4]
                have := m2 b ⟨k1, k5⟩
                omega
          · refine MinP_cg (fun y => ⟨fun ⟨⟨y1, y2⟩, y3⟩ => ⟨⟨(hin y).mpr (Or.inl y1), y2⟩, y3⟩, fun ⟨⟨y1, y2⟩, y3⟩ => ⟨⟨?_, y2⟩, y3⟩⟩) (G.2 x l x1 q1)
            rcases (hin y).mp y1 with y4 | y4
            · exact y4
            · rw [y4] at y3; exact absurd y3 q
      · have hxb : x ≠ b := fun q => by
          have hb : b ≠ -1 := fun r => by have := x1.1; omega
          obtain ⟨k1, k2⟩ := hbin hb
          rw [← q] at k1
          exact hll (Ls_uq G2 q1 k1.2)
        have e1 : ln' x = ln x := by
          by_cases hb : b = -1
          · exact (n2 hb).2.2 x hxhi
          · exact (n3 hb).2.2 x hxhi hxb
        rw [e1]
        refine MinP_cg (fun y => ⟨fun ⟨⟨y1, y2⟩, y3⟩ => ⟨⟨(hin y).mpr (Or.inl y1), y2⟩, y3⟩, fun ⟨⟨y1, y2⟩, y3⟩ => ⟨⟨?_, y2⟩, y3⟩⟩) (G.2 x l x1 q1)
        rcases (hin y).mp y1 with y4 | y4
        · exact y4
        · rw [y4] at y2
          exact absurd (Ls_uq G2 y2 hL) hll
    · subst x1
      have e1 := Ls_uq G2 q1 hL
      subst e1
      rw [n1]
      rcases hA with q | ⟨q2, q3, q4⟩
      · refine Or.inl ⟨q, fun y ⟨⟨y1, y2⟩, y3⟩ => ?_⟩
        rcases (hin y).mp y1 with y4 | y4
        · exact (hupp y y4 y2 y3).1 q
        · rw [y4] at y3; omega
      · have q5 : od h ky x < od h ky a := by
          rcases ha with r | r
          · have := q2.1; omega
          · exact r
        refine Or.inr ⟨⟨⟨(hin a).mpr (Or.inl q2), q3⟩, q5⟩, fun y ⟨⟨y1, y2⟩, y3⟩ => ?_⟩
        rcases (hin y).mp y1 with y4 | y4
        · exact (hupp y y4 y2 y3).2
        · rw [y4] at y3; omega
/-- an entry of table 1 matches the fields f -/
def Kk (ky w : Int → Int) (f y : Int) : Prop := lnd f (w y) = ky y % 65536
/-- the groups as they are when ready -/
def GO (h ky w gm gt lf ln : Int → Int) (gc : Int) : Prop := G1 h ky w gm gt gc 32 ∧ Srt gt gc ∧ G3 h ky w gm lf ln gc 32
/-- the best of the first g groups -/
def GB (h ky w gm : Int → Int) (f g z : Int) : Prop := MinP (fun y => Inn h 32 y ∧ Kk ky w f y ∧ ∃ k, 0 ≤ k ∧ k < g ∧ gm k = w y) (od h ky) z
theorem GB_end {h ky w gm gt : Int → Int} {gc f g z : Int} (G : G1 h ky w gm gt gc 32) (hg : gc ≤ g) (B : GB h ky w gm f g z) : MinP (fun y => Inn h 32 y ∧ Kk ky w f y) (od h ky) z := by
  refine MinP_cg (fun y => ⟨fun ⟨y1, y2, y3⟩ => ⟨y1, y2⟩, fun ⟨y1, y2⟩ => ⟨y1, y2, ?_⟩⟩) B
  obtain ⟨k, k0, k1, k2, k3⟩ := G.2.2.2 y y1.1 y1.2.1 y1.2.2
  exact ⟨k, k0, by omega, k2⟩
theorem GB_early {h ky w gm gt : Int → Int} {gc f g z : Int} (H : HE h ky w) (G : G1 h ky w gm gt gc 32) (S : Srt gt gc) (hg : 0 ≤ g ∧ g < gc) (B : GB h ky w gm f g z) (hz : 0 ≤ z) (ht : gt g < ky z / 65536) : MinP (fun y => Inn h 32 y ∧ Kk ky w f y) (od h ky) z := by
  rcases B with ⟨b1, b2⟩ | ⟨⟨b1, b2, b3⟩, b4⟩
  · omega
  · refine Or.inr ⟨⟨b1, b2⟩, fun y ⟨y1, y2⟩ => ?_⟩
    obtain ⟨k, k0, k1, k2, k3⟩ := G.2.2.2 y y1.1 y1.2.1 y1.2.2
    by_cases q : k < g
    · exact b4 y ⟨y1, y2, k, k0, q, k2⟩
    · have h1 : gt k ≤ gt g := by
        by_cases r : k = g
        · rw [r]; exact Int.le_refl _
        · exact S g k hg.1 (by omega) k1
      have e1 := H.1 y y1.1 y1.2.1 y1.2.2
      have e2 := H.1 z b1.1 b1.2.1 b1.2.2
      have := y1.2.2
      have := b1.2.2
      unfold od
      omega
/-- the search in a list: all before e have another value -/
def SR (h ky w gm : Int → Int) (gc l wn e : Int) : Prop := (∀ y, Inn h 32 y ∧ Ls ky w gm gc y l → (e = -1 ∨ od h ky y < od h ky e) → ky y % 65536 ≠ wn) ∧ (e = -1 ∨ (Inn h 32 e ∧ Ls ky w gm gc e l))
theorem SR_0 {h ky w gm lf ln : Int → Int} {gc l wn : Int} (G : G3 h ky w gm lf ln gc 32) (hl : 0 ≤ l ∧ l < 128) : SR h ky w gm gc l wn (lf l) := by
  rcases G.1 l hl.1 hl.2 with ⟨m1, m2⟩ | ⟨m1, m2⟩
  · exact ⟨fun y q _ => absurd q (m2 y), Or.inl m1⟩
  · refine ⟨fun y q r => ?_, Or.inr m1⟩
    have := m2 y q
    rcases r with r | r
    · have := m1.1.1; omega
    · omega
theorem SR_s {h ky w gm lf ln : Int → Int} {gc l wn e : Int} (H : HE h ky w) (G : G3 h ky w gm lf ln gc 32) (S : SR h ky w gm gc l wn e) (he : 0 ≤ e) (hk : ky e % 65536 ≠ wn) : SR h ky w gm gc l wn (ln e) ∧ (ln e = -1 ∨ od h ky e < od h ky (ln e)) := by
  obtain ⟨s1, s2⟩ := S
  have s3 : Inn h 32 e ∧ Ls ky w gm gc e l := by
    rcases s2 with q | q
    · omega
    · exact q
  have before : ∀ y, Inn h 32 y ∧ Ls ky w gm gc y l → ¬ od h ky e < od h ky y → ky y % 65536 ≠ wn := by
    intro y q r
    by_cases r2 : od h ky y = od h ky e
    · rw [od_inj H q.1 s3.1 r2]; exact hk
    · exact s1 y q (Or.inr (by omega))
  rcases G.2 e l s3.1 s3.2 with ⟨m1, m2⟩ | ⟨m1, m2⟩
  · exact ⟨⟨fun y q _ => before y q (fun r => m2 y ⟨q, r⟩), Or.inl m1⟩, Or.inl m1⟩
  · refine ⟨⟨fun y q r => before y q (fun r2 => ?_), Or.inr m1.1⟩, Or.inr m1.2⟩
    have := m2 y ⟨q, r2⟩
    rcases r with r | r
    · have := m1.1.1.1; omega
    · omega
/-- what the search in the list of group g answers -/
theorem SR_e {h ky w gm gt : Int → Int} {gc f g e : Int} (G : G1 h ky w gm gt gc 32) (hg : 0 ≤ g ∧ g < gc) (S : SR h ky w gm gc (8 * g + slt (lnd f (gm g))) (lnd f (gm g)) e) (he : e = -1 ∨ ky e % 65536 = lnd f (gm g)) : MinP (fun y => Inn h 32 y ∧ Kk ky w f y ∧ gm g = w y) (od h ky) e := by
  obtain ⟨s1, s2⟩ := S
  have key : ∀ y, (Inn h 32 y ∧ Kk ky w f y ∧ gm g = w y) → (Inn h 32 y ∧ Ls ky w gm gc y (8 * g + slt (lnd f (gm g)))) ∧ ky y % 65536 = lnd f (gm g) := by
    rintro y ⟨y1, y2, y3⟩
    unfold Kk at y2
    rw [← y3] at y2
    exact ⟨⟨y1, g, hg.1, hg.2, y3, by rw [y2]⟩, y2.symm⟩
  rcases s2 with q | ⟨q1, q2⟩
  · refine Or.inl ⟨q, fun y q2 => ?_⟩
    obtain ⟨k1, k2⟩ := key y q2
    exact s1 y k1 (Or.inl q) k2
  · rcases he with r | r
    · have := q1.1; omega
    · refine Or.inr ⟨⟨q1, ?_, ?_⟩, fun y q3 => ?_⟩
      · obtain ⟨k, k0, k1, k2, k3⟩ := q2
        have := slt_in (lnd f (gm g))
        have := slt_in (ky e % 65536)
        have : k = g := by omega
        rw [this] at k2
        unfold Kk
        rw [← k2]
        exact r.symm
      · obtain ⟨k, k0, k1, k2, k3⟩ := q2
        have := slt_in (lnd f (gm g))
        have := slt_in (ky e % 65536)
        have : k = g := by omega
        rw [this] at k2
        exact k2
      · obtain ⟨k1, k2⟩ := key y q3
        by_cases r2 : od h ky y < od h ky e
        · exact absurd k2 (s1 y k1 (Or.inr r2))
        · omega
theorem MinP_or {P Q S : Int → Prop} {o : Int → Int} {r s : Int} (hp : MinP P o r) (hq : MinP Q o s) (h0 : ∀ y, P y ∨ Q y → 0 ≤ y) (hS : ∀ y, S y ↔ P y ∨ Q y) : (0 ≤ s → (r < 0 ∨ o s < o r) → MinP S o s) ∧ ((s < 0 ∨ (0 ≤ r ∧ o r ≤ o s)) → MinP S o r) := by
  refine ⟨fun s0 hr => ?_, fun hr => ?_⟩
  · rcases hq with ⟨q1, q2⟩ | ⟨q1, q2⟩
    · omega
    · refine Or.inr ⟨(hS s).mpr (Or.inr q1), fun y hy => ?_⟩
      rcases (hS y).mp hy with y1 | y1
      · rcases hp with ⟨p1, p2⟩ | ⟨p1, p2⟩
        · exact absurd y1 (p2 y)
        · have := p2 y y1
          have := h0 r (Or.inl p1)
          rcases hr with q | q <;> omega
      · exact q2 y y1
  · rcases hp with ⟨p1, p2⟩ | ⟨p1, p2⟩
    · rcases hq with ⟨q1, q2⟩ | ⟨q1, q2⟩
      · exact Or.inl ⟨p1, fun y hy => ((hS y).mp hy).elim (p2 y) (q2 y)⟩
      · have := h0 s (Or.inr q1)
        omega
    · refine Or.inr ⟨(hS r).mpr (Or.inl p1), fun y hy => ?_⟩
      rcases (hS y).mp hy with y1 | y1
      · exact p2 y y1
      · rcases hq with ⟨q1, q2⟩ | ⟨q1, q2⟩
        · exact absurd y1 (q2 y)
        · have := q2 y y1
          have := h0 s (Or.inr q1)
          rcases hr with q | q <;> omega
theorem GB_next {h ky w gm : Int → Int} {f g z e : Int} (hg : 0 ≤ g) (B : GB h ky w gm f g z) (M : MinP (fun y => Inn h 32 y ∧ Kk ky w f y ∧ gm g = w y) (od h ky) e) : (0 ≤ e → (z < 0 ∨ od h ky e < od h ky z) → GB h ky w gm f (g + 1) e) ∧ ((e < 0 ∨ (0 ≤ z ∧ od h ky z ≤ od h ky e)) → GB h ky w gm f (g + 1) z) := by
  refine MinP_or B M (fun y q => ?_) (fun y => ⟨?_, ?_⟩)
  · rcases q with q | q
    · have := q.1.1; omega
    · have := q.1.1; omega
  · rintro ⟨y1, y2, k, k0, k1, k2⟩
    by_cases q : k = g
    · rw [q] at k2; exact Or.inr ⟨y1, y2, k2⟩
    · exact Or.inl ⟨y1, y2, k, k0, by omega, k2⟩
  · rintro (⟨y1, y2, k, k0, k1, k2⟩ | ⟨y1, y2, y3⟩)
    · exact ⟨y1, y2, k, k0, by omega, k2⟩
    · exact ⟨y1, y2, g, hg, by omega, y3⟩
theorem cn_one {e lo : Int} {n : Nat} (h : lo ≤ e ∧ e < lo + n) : cn (fun y => y = e) lo n = 1 := by
  induction n with
  | zero => omega
  | succ n ih =>
    by_cases q : e = lo + n
    · rw [cn_t q.symm, cn_no (fun j hj r => by omega)]; omega
    · rw [cn_f (fun r => q r.symm), ih (by omega)]
/-- the count in a list: those before e (all, at its end) -/
noncomputable def CL (h ky w gm : Int → Int) (gc l wn e : Int) : Int := cn (fun y => (Inn h 32 y ∧ Ls ky w gm gc y l) ∧ ky y % 65536 = wn ∧ (e = -1 ∨ od h ky y < od h ky e)) 16 16
theorem CL_0 {h ky w gm lf ln : Int → Int} {gc l wn : Int} (G : G3 h ky w gm lf ln gc 32) (hl : 0 ≤ l ∧ l < 128) : CL h ky w gm gc l wn (lf l) = 0 := by
  unfold CL
  refine cn_no (fun j hj => ?_)
  rintro ⟨q1, q2, q3⟩
  rcases G.1 l hl.1 hl.2 with ⟨m1, m2⟩ | ⟨m1, m2⟩
  · exact m2 _ q1
  · have := m2 _ q1
    rcases q3 with q3 | q3
    · have := m1.1.1; omega
    · omega
theorem CL_s {h ky w gm lf ln : Int → Int} {gc l wn e : Int} (H : HE h ky w) (G : G3 h ky w gm lf ln gc 32) (he : Inn h 32 e ∧ Ls ky w gm gc e l) : (ky e % 65536 = wn → CL h ky w gm gc l wn (ln e) = CL h ky w gm gc l wn e + 1) ∧ (ky e % 65536 ≠ wn → CL h ky w gm gc l wn (ln e) = CL h ky w gm gc l wn e) ∧ (ln e = -1 ∨ ((Inn h 32 (ln e) ∧ Ls ky w gm gc (ln e) l) ∧ od h ky e < od h ky (ln e))) := by
  have he1 : e ≠ -1 := fun q => by have := he.1.1; omega
  have key : ∀ y, (Inn h 32 y ∧ Ls ky w gm gc y l) → ((ln e = -1 ∨ od h ky y < od h ky (ln e)) ↔ (od h ky y < od h ky e ∨ y = e)) := by
    intro y hy
    constructor
    · intro q
      by_cases r : od h ky y < od h ky e
      · exact Or.inl r
      · by_cases r2 : od h ky y = od h ky e
        · exact Or.inr (od_inj H hy.1 he.1 r2)
        · exfalso
          rcases G.2 e l he.1 he.2 with ⟨m1, m2⟩ | ⟨m1, m2⟩
          · exact m2 y ⟨hy, by omega⟩
          · have := m2 y ⟨hy, by omega⟩
            rcases q with q | q
            · have := m1.1.1.1; omega
            · omega
    · intro q
      rcases G.2 e l he.1 he.2 with ⟨m1, m2⟩ | ⟨m1, m2⟩
      · exact Or.inl m1
      · right
        have := m1.2
        rcases q with q | q
        · omega
        · rw [q]; exact this
  refine ⟨fun hk => ?_, fun hk => ?_, ?_⟩
  · unfold CL
    have e1 := cn_one (e := e) (lo := 16) (n := 16) (by have := he.1.1; have := he.1.2.1; omega)
    refine Eq.trans (cn_or (P := fun y => (Inn h 32 y ∧ Ls ky w gm gc y l) ∧ ky y % 65536 = wn ∧ (e = -1 ∨ od h ky y < od h ky e)) (Q := fun y => y = e) (fun j hj => ⟨⟨?_, ?_⟩, ?_⟩)) (by rw [e1])
    · rintro ⟨q1, q2, q3⟩
      rcases (key _ q1).mp q3 with r | r
      · exact Or.inl ⟨q1, q2, Or.inr r⟩
      · exact Or.inr r
    · rintro (⟨q1, q2, q3⟩ | q)
      · refine ⟨q1, q2, (key _ q1).mpr (Or.inl ?_)⟩
        rcases q3 with q3 | q3
        · exact absurd q3 he1
        · exact q3
      · rw [q]
        exact ⟨he, hk, (key _ he).mpr (Or.inr rfl)⟩
    · rintro ⟨⟨q1, q2, q3⟩, q4⟩
      rw [q4] at q3
      rcases q3 with q3 | q3
      · exact he1 q3
      · omega
  · unfold CL
    refine cn_cg (fun j hj => ⟨?_, ?_⟩)
    · rintro ⟨q1, q2, q3⟩
      refine ⟨q1, q2, Or.inr ?_⟩
      rcases (key _ q1).mp q3 with r | r
      · exact r
      · rw [r] at q2; exact absurd q2 hk
    · rintro ⟨q1, q2, q3⟩
      refine ⟨q1, q2, (key _ q1).mpr (Or.inl ?_)⟩
      rcases q3 with q3 | q3
      · exact absurd q3 he1
      · exact q3
  · rcases G.2 e l he.1 he.2 with ⟨m1, m2⟩ | ⟨m1, m2⟩
    · exact Or.inl m1
    · exact Or.inr m1
/-- the count of the first g groups -/
noncomputable def CG (h ky w gm : Int → Int) (f g : Int) : Int := cn (fun y => 0 ≤ h y ∧ Kk ky w f y ∧ ∃ k, 0 ≤ k ∧ k < g ∧ gm k = w y) 16 16
theorem CG_0 {h ky w gm : Int → Int} {f : Int} : CG h ky w gm f 0 = 0 := cn_no (fun j hj => by rintro ⟨-, -, k, k0, k1, -⟩; omega)
theorem CG_s {h ky w gm gt : Int → Int} {gc f g : Int} (G : G1 h ky w gm gt gc 32) (hg : 0 ≤ g ∧ g < gc) : CG h ky w gm f (g + 1) = CG h ky w gm f g + CL h ky w gm gc (8 * g + slt (lnd f (gm g))) (lnd f (gm g)) (-1) := by
  unfold CG CL
  refine cn_or (fun j hj => ⟨⟨?_, ?_⟩, ?_⟩)
  · rintro ⟨q1, q2, k, k0, k1, k2⟩
    by_cases q : k = g
    · right
      rw [q] at k2
      unfold Kk at q2
      rw [← k2] at q2
      exact ⟨⟨⟨by omega, by omega, q1⟩, g, hg.1, hg.2, k2, by rw [q2]⟩, q2.symm, Or.inl rfl⟩
    · exact Or.inl ⟨q1, q2, k, k0, by omega, k2⟩
  · rintro (⟨q1, q2, k, k0, k1, k2⟩ | ⟨⟨q1, k, k0, k1, k2, k3⟩, q2, q3⟩)
    · exact ⟨q1, q2, k, k0, by omega, k2⟩
    · have := slt_in (lnd f (gm g))
      have := slt_in (ky (16 + (j : Int)) % 65536)
      have e1 : k = g := by omega
      rw [e1] at k2
      refine ⟨q1.2.2, ?_, g, hg.1, by omega, k2⟩
      unfold Kk
      rw [← k2]
      exact q2.symm
  · rintro ⟨⟨q1, q2, k, k0, k1, k2⟩, ⟨⟨q3, k', k0', k1', k2', k3'⟩, q4, q5⟩⟩
    have := slt_in (lnd f (gm g))
    have := slt_in (ky (16 + (j : Int)) % 65536)
    have e1 : k' = g := by omega
    rw [e1] at k2'
    have := G.2.1 k g k0 (by omega) hg.1 hg.2 (by rw [k2, k2'])
    omega
theorem CG_e {h ky w gm gt : Int → Int} {gc f g : Int} (G : G1 h ky w gm gt gc 32) (hg : gc ≤ g) : CG h ky w gm f g = cn (fun y => 0 ≤ h y ∧ Kk ky w f y) 16 16 := by
  unfold CG
  refine cn_cg (fun j hj => ⟨fun ⟨q1, q2, _⟩ => ⟨q1, q2⟩, fun ⟨q1, q2⟩ => ⟨q1, q2, ?_⟩⟩)
  obtain ⟨k, k0, k1, k2, k3⟩ := G.2.2.2 (16 + (j : Int)) (by omega) (by omega) q1
  exact ⟨k, k0, by omega, k2⟩
end
section
/-! the groups' methods -/
def GroupsOK (u : zSt) : Prop := GO (u 5) (u 7) (u 8) (u 18) (u 19) (u 20) (u 21) (u 17 0)
theorem pr_od {h ky w : Int → Int} (H : HE h ky w) {a b : Int} (ha : Inn h 32 a) (hb : Inn h 32 b) : (ky b / 65536 < ky a / 65536 ∨ (ky a / 65536 = ky b / 65536 ∧ h a < h b)) ↔ od h ky a < od h ky b := by
  have h1 := H.1 a ha.1 ha.2.1 ha.2.2
  have h2 := H.1 b hb.1 hb.2.1 hb.2.2
  have h3 := ha.2.2
  have h4 := hb.2.2
  unfold od
  omega
/-- the range of all values may be had at any place -/
theorem x_zR {E : zE} {d : zC} {σ : zSt} {pc : Nat} {L : List (Option Value)} {st : List Value} (k : zR σ → WX E d σ pc L st) : WX E d σ pc L st :=
  fun H locs ls a1 a2 a3 a4 a5 => k a4 H locs ls a1 a2 a3 a4 a5
set_option maxHeartbeats 4000000 in
theorem m0_noteGroup (σ : zSt) (e : Int) (he : 16 ≤ e ∧ e < 32) (H : HE (σ 5) (σ 7) (σ 8)) (hl : 0 ≤ σ 5 e) (G : G1 (σ 5) (σ 7) (σ 8) (σ 18) (σ 19) (σ 17 0) e) : Cv cd0 yX0_noteGroup cX0_noteGroup 3 1 σ [e] (fun u => G1 (σ 5) (σ 7) (σ 8) (u 18) (u 19) (u 17 0) (e + 1) ∧ ∀ k, k ≠ 17 → k ≠ 18 → k ≠ 19 → u k = σ k) := by
  refine Cv_of wf0 (by decide +kernel) rfl (Nat.le_of_ble_eq_true rfl) (fun th_ => [some th_, some (iv e), none]) (fun _ => rfl) ?_
  intro E hN hret hR0
  have hgc := G.1
  have hHe := H.1 e he.1 he.2 hl
  refine x_aload hN dX0_noteGroup_0 rfl ?_
  refine x_aload hN dX0_noteGroup_1 rfl ?_
  refine a0_8 hN dX0_noteGroup_2 ?_
  refine x_iloadn hN dX0_noteGroup_5 rfl ?_
  refine l0_8 hN dX0_noteGroup_6 (by omega) (by omega) (fun hr6 => ?_)
  refine x_call hN (m0_groupOf σ (σ 8 e) (hR0 _ _) (by omega)) hw0_groupOf hy0_groupOf (by decide) rfl (Nat.le_of_ble_eq_true rfl) rfl dX0_noteGroup_7 (fun z7 u7 hz7 hp7 => ?_)
  obtain ⟨hu7, hp7⟩ := hp7
  rw [hu7]
  refine x_st2 hN dX0_noteGroup_10 ?_
  refine x_iloadn hN dX0_noteGroup_11 rfl ?_
  refine x_ifge hN 49 dX0_noteGroup_12 (by decide) (by omega) (fun h12 => ?_) (fun h12 => ?_)
  · have hq : z7 < σ 17 0 ∧ σ 18 z7 = σ 8 e := by
      rcases hp7 with q | q
      · exact absurd q.1 (by omega)
      · exact q.2
    have hgt := G.2.2.1 z7 h12 hq.1
    refine x_aload hN dX0_noteGroup_49 rfl ?_
    refine x_iloadn hN dX0_noteGroup_50 rfl ?_
    refine x_call hN (m0_priorityOf σ e (by omega)) hw0_priorityOf hy0_priorityOf (by decide) rfl (Nat.le_of_ble_eq_true rfl) rfl dX0_noteGroup_51 (fun z51 u51 hz51 hp51 => ?_)
    obtain ⟨hu51, hp51⟩ := hp51
    rw [hu51]
    refine x_aload hN dX0_noteGroup_54 rfl ?_
    refine a0_19 hN dX0_noteGroup_55 ?_
    refine x_iloadn hN dX0_noteGroup_58 rfl ?_
    refine l0_19 hN dX0_noteGroup_59 (by omega) (by omega) (fun hr59 => ?_)
    refine x_cmple hN 79 dX0_noteGroup_60 (by decide) (by omega) (by omega) (fun h60 => ?_) (fun h60 => ?_)
    · exact hret _ _ _ dX0_noteGroup_79 ⟨G1_old G ⟨h12, hq.1⟩ hq.2 (fun y _ => rfl) ⟨Int.le_refl _, by omega, hgt.1.2⟩, fun k _ _ _ => rfl⟩
    · refine x_aload hN dX0_noteGroup_63 rfl ?_
      refine a0_19 hN dX0_noteGroup_64 ?_
      refine x_iloadn hN dX0_noteGroup_67 rfl ?_
      refine x_aload hN dX0_noteGroup_68 rfl ?_
      refine a0_7 hN dX0_noteGroup_69 ?_
      refine x_iloadn hN dX0_noteGroup_72 rfl ?_
      refine l0_7 hN dX0_noteGroup_73 (by omega) (by omega) (fun hr73 => ?_)
      replace hr73 : -2147483648 ≤ σ 7 e ∧ σ 7 e < 2147483648 := hr73
      refine x_bipush hN dX0_noteGroup_74 (by decide) ?_
      refine x_ishr hN dX0_noteGroup_76 65536 (by decide) (by omega) (by omega) ?_
      refine x_i2b hN dX0_noteGroup_77 (by omega) ?_
      refine w0_19 hN dX0_noteGroup_78 (by omega) (by omega) (by omega) ?_
      exact hret _ _ _ dX0_noteGroup_79 ⟨G1_old (gt' := sset σ 19 z7 (σ 7 e / 65536) 19) G ⟨h12, hq.1⟩ hq.2 (fun y q => by simp [sset, q]) (by rw [show sset σ 19 z7 (σ 7 e / 65536) 19 z7 = σ 7 e / 65536 by simp [sset]]; omega), fun k _ _ q => by funext j; simp [sset, q]⟩
  · refine x_aload hN dX0_noteGroup_15 rfl ?_
    refine g0_17 hN dX0_noteGroup_16 (fun hr16 => ?_)
    refine x_st2 hN dX0_noteGroup_19 ?_
    refine x_aload hN dX0_noteGroup_20 rfl ?_
    refine x_dup hN dX0_noteGroup_21 rfl ?_
    refine g0_17 hN dX0_noteGroup_22 (fun hr22 => ?_)
    refine x_iconst hN dX0_noteGroup_25 ?_
    refine x_iadd hN dX0_noteGroup_26 ?_
    refine p0_17 hN dX0_noteGroup_27 (by omega) ?_
    refine x_aload hN dX0_noteGroup_30 rfl ?_
    refine a0_18 hN dX0_noteGroup_31 ?_
    refine x_iloadn hN dX0_noteGroup_34 rfl ?_
    refine x_aload hN dX0_noteGroup_35 rfl ?_
    refine a0_8 hN dX0_noteGroup_36 ?_
    refine x_iloadn hN dX0_noteGroup_39 rfl ?_
    refine l0_8 hN dX0_noteGroup_40 (by omega) (by omega) (fun hr40 => ?_)
    refine x_top (σ 8 _) rfl ?_
    refine w0_18 hN dX0_noteGroup_41 (by omega) (by omega) (by omega) ?_
    refine x_aload hN dX0_noteGroup_42 rfl ?_
    refine a0_19 hN dX0_noteGroup_43 ?_
    refine x_iloadn hN dX0_noteGroup_46 rfl ?_
    refine x_iconst hN dX0_noteGroup_47 ?_
    refine w0_19 hN dX0_noteGroup_48 (by omega) (by omega) (by omega) ?_
    have hq : ∀ g, 0 ≤ g → g < σ 17 0 → σ 18 g ≠ σ 8 e := by
      rcases hp7 with q | q
      · exact q.2
      · exact absurd q.1 (by omega)
    refine x_aload hN dX0_noteGroup_49 rfl ?_
    refine x_iloadn hN dX0_noteGroup_50 rfl ?_
    refine x_call hN (m0_priorityOf (sset (sset (sset σ 17 0 (σ 17 0 + 1)) 18 (σ 17 0) (σ 8 e)) 19 (σ 17 0) 0) e (by omega)) hw0_priorityOf hy0_priorityOf (by decide) rfl (Nat.le_of_ble_eq_true rfl) rfl dX0_noteGroup_51 (fun z51 u51 hz51 hp51 => ?_)
    obtain ⟨hu51, hp51⟩ := hp51
    rw [hu51]
    replace hp51 : z51 = σ 7 e / 65536 := hp51
    refine x_aload hN dX0_noteGroup_54 rfl ?_
    refine a0_19 hN dX0_noteGroup_55 ?_
    refine x_iloadn hN dX0_noteGroup_58 rfl ?_
    refine l0_19 hN dX0_noteGroup_59 (by omega) (by omega) (fun hr59 => ?_)
    refine x_top 0 (by simp [sset]) ?_
    refine x_cmple hN 79 dX0_noteGroup_60 (by decide) (by omega) (by omega) (fun h60 => ?_) (fun h60 => ?_)
    · exact hret _ _ _ dX0_noteGroup_79 ⟨G1_new G hq (fun y q => ⟨by simp [sset, q], by simp [sset, q]⟩) (by simp [sset]) (by simp [sset]; omega) hHe.2.2, fun k a b c => by funext j; simp [sset, a, b, c]⟩
    · refine x_aload hN dX0_noteGroup_63 rfl ?_
      refine a0_19 hN dX0_noteGroup_64 ?_
      refine x_iloadn hN dX0_noteGroup_67 rfl ?_
      refine x_aload hN dX0_noteGroup_68 rfl ?_
      refine a0_7 hN dX0_noteGroup_69 ?_
      refine x_iloadn hN dX0_noteGroup_72 rfl ?_
      refine l0_7 hN dX0_noteGroup_73 (by omega) (by omega) (fun hr73 => ?_)
      refine x_top (σ 7 _) rfl ?_
      replace hr73 : -2147483648 ≤ σ 7 e ∧ σ 7 e < 2147483648 := hr73
      refine x_bipush hN dX0_noteGroup_74 (by decide) ?_
      refine x_ishr hN dX0_noteGroup_76 65536 (by decide) (by omega) (by omega) ?_
      refine x_i2b hN dX0_noteGroup_77 (by omega) ?_
      refine w0_19 hN dX0_noteGroup_78 (by omega) (by omega) (by omega) ?_
      exact hret _ _ _ dX0_noteGroup_79 ⟨G1_new G hq (fun y q => ⟨by simp [sset, q], by simp [sset, q]⟩) (by simp [sset]) (by simp [sset]; omega) hHe.2.2, fun k a b c => by funext j; simp [sset, a, b, c]⟩
set_option maxHeartbeats 4000000 in
theorem m0_sortGroups (σ : zSt) (G : G1 (σ 5) (σ 7) (σ 8) (σ 18) (σ 19) (σ 17 0) 32) : Cv cd0 yX0_sortGroups cX0_sortGroups 5 0 σ [] (fun u => G1 (σ 5) (σ 7) (σ 8) (u 18) (u 19) (σ 17 0) 32 ∧ Srt (u 19) (σ 17 0) ∧ ∀ k, k ≠ 18 → k ≠ 19 → u k = σ k) := by
  refine Cv_of wf0 (by decide +kernel) rfl (Nat.le_of_ble_eq_true rfl) (fun th_ => [some th_, none, none, none, none]) (fun _ => rfl) ?_
  intro E hN hret hR0
  have hgc := G.1
  have loop : ∀ (m : Nat) (i : Int) (τ : zSt) (s2 s3 s4 : Option Value), 1 ≤ i → i ≤ 17 → 17 < i + m → zR τ → G1 (σ 5) (σ 7) (σ 8) (τ 18) (τ 19) (σ 17 0) 32 → Srt (τ 19) i → (∀ k, k ≠ 18 → k ≠ 19 → τ k = σ k) → WX E cd0 τ 2 [some (th E), some (iv i), s2, s3, s4] [] := by
    intro m
    induction m with
    | zero => intro i τ s2 s3 s4 h1 h2 h3; exact absurd h3 (by omega)
    | succ m ih =>
      intro i τ s2 s3 s4 hi0 hi1 him hRt hG hS hfr
      have f17 : τ 17 0 = σ 17 0 := by rw [hfr 17 (by decide) (by decide)]
      have inner : ∀ (n : Nat) (k ma tp : Int) (ρ : zSt), i < σ 17 0 → 0 ≤ k → k ≤ i → k < n → zR ρ → (-2147483648 ≤ ma ∧ ma < 2147483648) → IS (σ 5) (σ 7) (σ 8) (ρ 18) (ρ 19) (σ 17 0) i k ma tp → (∀ k, k ≠ 18 → k ≠ 19 → ρ k = σ k) → WX E cd0 ρ 27 [some (th E), some (iv i), some (iv ma), some (iv tp), some (iv k)] [] := by
        intro n
        induction n with
        | zero => intro k ma tp ρ _ h1 h2 h3; exact absurd h3 (by omega)
        | succ n ihn =>
          intro k ma tp ρ hig hk0 hk1 hkn hRr hma hI hfr2
          have htp : 0 ≤ tp ∧ tp ≤ 15 := by
            have := hI.1.2.2.1 k hk0 (by omega)
            rw [up_s] at this
            exact this.1
          refine x_iload hN dX0_sortGroups_27 rfl ?_
          refine x_ifle hN 83 dX0_sortGroups_29 (by decide) (by omega) (fun h29 => ?_) (fun h29 => ?_)
          · refine x_aload hN dX0_sortGroups_83 rfl ?_
            refine a0_18 hN dX0_sortGroups_84 ?_
            refine x_iload hN dX0_sortGroups_87 rfl ?_
            refine x_iloadn hN dX0_sortGroups_89 rfl ?_
            refine w0_18 hN dX0_sortGroups_90 (by omega) (by omega) (by omega) ?_
            refine x_aload hN dX0_sortGroups_91 rfl ?_
            refine a0_19 hN dX0_sortGroups_92 ?_
            refine x_iload hN dX0_sortGroups_95 rfl ?_
            refine x_iloadn hN dX0_sortGroups_97 rfl ?_
            refine w0_19 hN dX0_sortGroups_98 (by omega) (by omega) (by omega) ?_
            refine x_in1 hN dX0_sortGroups_99 ?_
            refine x_goto hN 2 dX0_sortGroups_102 (by decide) ?_
            have hE := IS_end hI ⟨hk0, hk1⟩ (Or.inl h29)
            have e18 : sset (sset ρ 18 k ma) 19 k tp 18 = up (ρ 18) k ma := by funext y; simp [sset, up]
            have e19 : sset (sset ρ 18 k ma) 19 k tp 19 = up (ρ 19) k tp := by funext y; simp [sset, up]
            exact ih (i + 1) _ _ _ _ (by omega) (by omega) (by omega) ((hRr.set _ _ hma).set _ _ (by omega)) (by rw [e18, e19]; exact hE.1) (by rw [e19]; exact hE.2) (fun k' a b => by funext j; simp [sset, a, b]; rw [hfr2 k' a b])
          · refine x_aload hN dX0_sortGroups_32 rfl ?_
            refine a0_19 hN dX0_sortGroups_33 ?_
            refine x_iload hN dX0_sortGroups_36 rfl ?_
            refine x_iconst hN dX0_sortGroups_38 ?_
            refine x_isub hN dX0_sortGroups_39 ?_
            refine l0_19 hN dX0_sortGroups_40 (by omega) (by omega) (fun hr40 => ?_)
            refine x_iloadn hN dX0_sortGroups_41 rfl ?_
            refine x_cmpge hN 83 dX0_sortGroups_42 (by decide) (by omega) (by omega) (fun h42 => ?_) (fun h42 => ?_)
            · refine x_aload hN dX0_sortGroups_83 rfl ?_
              refine a0_18 hN dX0_sortGroups_84 ?_
              refine x_iload hN dX0_sortGroups_87 rfl ?_
              refine x_iloadn hN dX0_sortGroups_89 rfl ?_
              refine w0_18 hN dX0_sortGroups_90 (by omega) (by omega) (by omega) ?_
              refine x_aload hN dX0_sortGroups_91 rfl ?_
              refine a0_19 hN dX0_sortGroups_92 ?_
              refine x_iload hN dX0_sortGroups_95 rfl ?_
              refine x_iloadn hN dX0_sortGroups_97 rfl ?_
              refine w0_19 hN dX0_sortGroups_98 (by omega) (by omega) (by omega) ?_
              refine x_in1 hN dX0_sortGroups_99 ?_
              refine x_goto hN 2 dX0_sortGroups_102 (by decide) ?_
              have hE := IS_end hI ⟨hk0, hk1⟩ (Or.inr h42)
              have e18 : sset (sset ρ 18 k ma) 19 k tp 18 = up (ρ 18) k ma := by funext y; simp [sset, up]
              have e19 : sset (sset ρ 18 k ma) 19 k tp 19 = up (ρ 19) k tp := by funext y; simp [sset, up]
              exact ih (i + 1) _ _ _ _ (by omega) (by omega) (by omega) ((hRr.set _ _ hma).set _ _ (by omega)) (by rw [e18, e19]; exact hE.1) (by rw [e19]; exact hE.2) (fun k' a b => by funext j; simp [sset, a, b]; rw [hfr2 k' a b])
            · have hg19 : 0 ≤ ρ 19 (k - 1) ∧ ρ 19 (k - 1) ≤ 15 := by
                have := hI.1.2.2.1 (k - 1) (by omega) (by omega)
                rw [up_n _ _ (by omega), up_n _ _ (by omega)] at this
                exact this.1
              refine x_aload hN dX0_sortGroups_45 rfl ?_
              refine a0_18 hN dX0_sortGroups_46 ?_
              refine x_iload hN dX0_sortGroups_49 rfl ?_
              refine x_aload hN dX0_sortGroups_51 rfl ?_
              refine a0_18 hN dX0_sortGroups_52 ?_
              refine x_iload hN dX0_sortGroups_55 rfl ?_
              refine x_iconst hN dX0_sortGroups_57 ?_
              refine x_isub hN dX0_sortGroups_58 ?_
              refine l0_18 hN dX0_sortGroups_59 (by omega) (by omega) (fun hr59 => ?_)
              refine w0_18 hN dX0_sortGroups_60 (by omega) (by omega) (by omega) ?_
              refine x_aload hN dX0_sortGroups_61 rfl ?_
              refine a0_19 hN dX0_sortGroups_62 ?_
              refine x_iload hN dX0_sortGroups_65 rfl ?_
              refine x_aload hN dX0_sortGroups_67 rfl ?_
              refine a0_19 hN dX0_sortGroups_68 ?_
              refine x_iload hN dX0_sortGroups_71 rfl ?_
              refine x_iconst hN dX0_sortGroups_73 ?_
              refine x_isub hN dX0_sortGroups_74 ?_
              refine l0_19 hN dX0_sortGroups_75 (by omega) (by omega) (fun hr75 => ?_)
              refine x_top (ρ 19 _) rfl ?_
              replace hr75 : -2147483648 ≤ ρ 19 (k - 1) ∧ ρ 19 (k - 1) < 2147483648 := hr75
              refine w0_19 hN dX0_sortGroups_76 (by omega) (by omega) (by omega) ?_
              refine x_in4 hN dX0_sortGroups_77 ?_
              refine x_goto hN 27 dX0_sortGroups_80 (by decide) ?_
              rw [show k + (-1) = k - 1 by omega]
              exact ihn (k - 1) ma tp (sset (sset ρ 18 k (ρ 18 (k - 1))) 19 k (ρ 19 (k - 1))) hig (by omega) (by omega) (by omega) ((hRr.set _ _ (hRr _ _)).set _ _ (by omega)) hma (IS_step hI ⟨by omega, hk1, hig⟩ h42 (fun y => by simp [sset]) (fun y => by simp [sset])) (fun k' a b => by funext j; simp [sset, a, b]; rw [hfr2 k' a b])
      refine x_iloadn hN dX0_sortGroups_2 rfl ?_
      refine x_aload hN dX0_sortGroups_3 rfl ?_
      refine g0_17 hN dX0_sortGroups_4 (fun hr4 => ?_)
      rw [f17] at hr4
      refine x_top (σ 17 0) f17 ?_
      refine x_cmpge hN 105 dX0_sortGroups_7 (by decide) (by omega) (by omega) (fun h7 => ?_) (fun h7 => ?_)
      · exact hret _ _ _ dX0_sortGroups_105 ⟨hG, fun a b a0 a1 b1 => hS a b a0 a1 (by omega), hfr⟩
      · refine x_aload hN dX0_sortGroups_10 rfl ?_
        refine a0_18 hN dX0_sortGroups_11 ?_
        refine x_iloadn hN dX0_sortGroups_14 rfl ?_
        refine l0_18 hN dX0_sortGroups_15 (by omega) (by omega) (fun hr15 => ?_)
        refine x_st2 hN dX0_sortGroups_16 ?_
        refine x_aload hN dX0_sortGroups_17 rfl ?_
        refine a0_19 hN dX0_sortGroups_18 ?_
        refine x_iloadn hN dX0_sortGroups_21 rfl ?_
        refine l0_19 hN dX0_sortGroups_22 (by omega) (by omega) (fun hr22 => ?_)
        refine x_st3 hN dX0_sortGroups_23 ?_
        refine x_iloadn hN dX0_sortGroups_24 rfl ?_
        refine x_st4 hN dX0_sortGroups_25 ?_
        exact inner 18 i (τ 18 i) (τ 19 i) τ h7 (by omega) (by omega) (by omega) hRt (hRt _ _) (IS_0 hG hS) hfr
  refine x_iconst hN dX0_sortGroups_0 ?_
  refine x_st1 hN dX0_sortGroups_1 ?_
  exact loop 17 1 σ _ _ _ (by omega) (by omega) (by omega) hR0 G (fun a b a0 a1 b1 => by omega) (fun k _ _ => rfl)
set_option maxHeartbeats 4000000 in
theorem m0_hang (σ : zSt) (e : Int) (he : 16 ≤ e ∧ e < 32) (H : HE (σ 5) (σ 7) (σ 8)) (hl : 0 ≤ σ 5 e) (G2 : G1 (σ 5) (σ 7) (σ 8) (σ 18) (σ 19) (σ 17 0) 32) (G : G3 (σ 5) (σ 7) (σ 8) (σ 18) (σ 20) (σ 21) (σ 17 0) e) : Cv cd0 yX0_hang cX0_hang 5 2 σ [e] (fun u => G3 (σ 5) (σ 7) (σ 8) (σ 18) (u 20) (u 21) (σ 17 0) (e + 1) ∧ ∀ k, k ≠ 20 → k ≠ 21 → u k = σ k) := by
  refine Cv_of wf0 (by decide +kernel) rfl (Nat.le_of_ble_eq_true rfl) (fun th_ => [some th_, some (iv e), none, none, none]) (fun _ => rfl) ?_
  intro E hN hret hR0
  have hgc := G2.1
  have hHe := H.1 e he.1 he.2 hl
  have hei : Inn (σ 5) 32 e := ⟨he.1, he.2, hl⟩
  have loop : ∀ (m : Nat) (l b a : Int), 0 ≤ l → l < 128 → Ls (σ 7) (σ 8) (σ 18) (σ 17 0) e l → HW (σ 5) (σ 7) (σ 8) (σ 18) (σ 20) (σ 21) (σ 17 0) e l b a → (b = -1 ∨ od (σ 5) (σ 7) e - od (σ 5) (σ 7) b < m) → (b = -1 → 2000000 < m) → WX E cd0 σ 38 [some (th E), some (iv e), some (iv l), some (iv b), some (iv a)] [] := by
    intro m
    induction m with
    | zero =>
      intro l b a _ _ _ hW h1 h2
      exfalso
      rcases hW with ⟨w1, w2⟩ | ⟨w1, w2, w3⟩
      · have := h2 w1; omega
      · rcases h1 with q | q
        · have := h2 q; omega
        · omega
    | succ m ih =>
      intro l b a hl0 hl1 hL hW hm1 hm2
      have hA := HW_a G ⟨hl0, hl1⟩ hW
      have har : -1 ≤ a ∧ a < 32 := by
        rcases hA with q | ⟨q, _⟩
        · omega
        · have := q.1; have := q.2.1; omega
      have hbr : b = -1 ∨ (16 ≤ b ∧ b < e) := by
        rcases hW with ⟨w1, w2⟩ | ⟨w1, w2, w3⟩
        · exact Or.inl w1
        · exact Or.inr ⟨w1.1.1, w1.1.2.1⟩
      refine x_iload hN dX0_hang_38 rfl ?_
      refine x_iflt hN 68 dX0_hang_40 (by decide) (by omega) (fun h40 => ?_) (fun h40 => ?_)
      · refine x_aload hN dX0_hang_68 rfl ?_
        refine a0_21 hN dX0_hang_69 ?_
        refine x_iloadn hN dX0_hang_72 rfl ?_
        refine x_iload hN dX0_hang_73 rfl ?_
        refine x_i2b hN dX0_hang_75 (by omega) ?_
        refine w0_21 hN dX0_hang_76 (by omega) (by omega) (by omega) ?_
        refine x_iloadn hN dX0_hang_77 rfl ?_
        refine x_ifge hN 92 dX0_hang_78 (by decide) (by omega) (fun h78 => ?_) (fun h78 => ?_)
        · refine x_aload hN dX0_hang_92 rfl ?_
          refine a0_21 hN dX0_hang_93 ?_
          refine x_iloadn hN dX0_hang_96 rfl ?_
          refine x_iloadn hN dX0_hang_97 rfl ?_
          refine x_i2b hN dX0_hang_98 (by omega) ?_
          refine w0_21 hN dX0_hang_99 (by omega) (by omega) (by omega) ?_
          exact hret _ _ _ dX0_hang_100 ⟨G3_ins H G2 G ⟨he.1, he.2, hl⟩ ⟨hl0, hl1⟩ hL hW (Or.inl (by omega)) (lf' := (sset (sset σ 21 e a) 21 b e) 20) (ln' := (sset (sset σ 21 e a) 21 b e) 21) (by simp [sset]; intro q; omega) (fun q => absurd q (by omega)) (fun q => ⟨fun l1 => by simp [sset], by simp [sset], fun y q1 q2 => by simp [sset, q1, q2]⟩), fun k c d => by funext j; simp [sset, c, d]⟩
        · refine x_aload hN dX0_hang_81 rfl ?_
          refine a0_20 hN dX0_hang_82 ?_
          refine x_iloadn hN dX0_hang_85 rfl ?_
          refine x_iloadn hN dX0_hang_86 rfl ?_
          refine x_i2b hN dX0_hang_87 (by omega) ?_
          refine w0_20 hN dX0_hang_88 (by omega) (by omega) (by omega) ?_
          refine x_goto hN 100 dX0_hang_89 (by decide) ?_
          exact hret _ _ _ dX0_hang_100 ⟨G3_ins H G2 G ⟨he.1, he.2, hl⟩ ⟨hl0, hl1⟩ hL hW (Or.inl (by omega)) (lf' := (sset (sset σ 21 e a) 20 l e) 20) (ln' := (sset (sset σ 21 e a) 20 l e) 21) (by simp [sset]) (fun q => ⟨by simp [sset], fun l1 q1 => by simp [sset, q1], fun y q1 => by simp [sset, q1]⟩) (fun q => absurd q (by omega)), fun k c d => by funext j; simp [sset, c, d]⟩
      · have hAi : Inn (σ 5) e a ∧ Ls (σ 7) (σ 8) (σ 18) (σ 17 0) a l := by
          rcases hA with q | q
          · exact absurd q (by omega)
          · exact ⟨q.1, q.2.1⟩
        have hA32 : Inn (σ 5) 32 a := ⟨hAi.1.1, by have := hAi.1.2.1; omega, hAi.1.2.2⟩
        refine x_aload hN dX0_hang_43 rfl ?_
        refine x_iload hN dX0_hang_44 rfl ?_
        refine x_iloadn hN dX0_hang_46 rfl ?_
        refine x_call hN (m0_precedes σ a e (by omega) (by omega)) hw0_precedes hy0_precedes (by decide) rfl (Nat.le_of_ble_eq_true rfl) rfl dX0_hang_47 (fun z47 u47 hz47 hp47 => ?_)
        obtain ⟨hu47, hp47⟩ := hp47
        rw [hu47]
        refine x_ifeq hN 68 dX0_hang_50 (by decide) (by omega) (fun h50 => ?_) (fun h50 => ?_)
        · have hod : od (σ 5) (σ 7) e < od (σ 5) (σ 7) a := by
            have q1 : ¬ od (σ 5) (σ 7) a < od (σ 5) (σ 7) e := fun q2 => by
              rcases hp47 with q3 | q3
              · exact absurd q3.1 (by omega)
              · exact q3.2 ((pr_od H hA32 hei).mpr q2)
            have q2 : od (σ 5) (σ 7) a ≠ od (σ 5) (σ 7) e := fun q3 => by
              have := od_inj H hA32 hei q3
              have := hAi.1.2.1
              omega
            omega
          refine x_aload hN dX0_hang_68 rfl ?_
          refine a0_21 hN dX0_hang_69 ?_
          refine x_iloadn hN dX0_hang_72 rfl ?_
          refine x_iload hN dX0_hang_73 rfl ?_
          refine x_i2b hN dX0_hang_75 (by omega) ?_
          refine w0_21 hN dX0_hang_76 (by omega) (by omega) (by omega) ?_
          refine x_iloadn hN dX0_hang_77 rfl ?_
          refine x_ifge hN 92 dX0_hang_78 (by decide) (by omega) (fun h78 => ?_) (fun h78 => ?_)
          · refine x_aload hN dX0_hang_92 rfl ?_
            refine a0_21 hN dX0_hang_93 ?_
            refine x_iloadn hN dX0_hang_96 rfl ?_
            refine x_iloadn hN dX0_hang_97 rfl ?_
            refine x_i2b hN dX0_hang_98 (by omega) ?_
            refine w0_21 hN dX0_hang_99 (by omega) (by omega) (by omega) ?_
            exact hret _ _ _ dX0_hang_100 ⟨G3_ins H G2 G ⟨he.1, he.2, hl⟩ ⟨hl0, hl1⟩ hL hW (Or.inr hod) (lf' := (sset (sset σ 21 e a) 21 b e) 20) (ln' := (sset (sset σ 21 e a) 21 b e) 21) (by simp [sset]; intro q; omega) (fun q => absurd q (by omega)) (fun q => ⟨fun l1 => by simp [sset], by simp [sset], fun y q1 q2 => by simp [sset, q1, q2]⟩), fun k c d => by funext j; simp [sset, c, d]⟩
          · refine x_aload hN dX0_hang_81 rfl ?_
            refine a0_20 hN dX0_hang_82 ?_
            refine x_iloadn hN dX0_hang_85 rfl ?_
            refine x_iloadn hN dX0_hang_86 rfl ?_
            refine x_i2b hN dX0_hang_87 (by omega) ?_
            refine w0_20 hN dX0_hang_88 (by omega) (by omega) (by omega) ?_
            refine x_goto hN 100 dX0_hang_89 (by decide) ?_
            exact hret _ _ _ dX0_hang_100 ⟨G3_ins H G2 G ⟨he.1, he.2, hl⟩ ⟨hl0, hl1⟩ hL hW (Or.inr hod) (lf' := (sset (sset σ 21 e a) 20 l e) 20) (ln' := (sset (sset σ 21 e a) 20 l e) 21) (by simp [sset]) (fun q => ⟨by simp [sset], fun l1 q1 => by simp [sset, q1], fun y q1 => by simp [sset, q1]⟩) (fun q => absurd q (by omega)), fun k c d => by funext j; simp [sset, c, d]⟩
        · have hod : od (σ 5) (σ 7) a < od (σ 5) (σ 7) e := by
            rcases hp47 with q3 | q3
            · exact (pr_od H hA32 hei).mp q3.2
            · exact absurd q3.1 (by omega)
          have hba : b = -1 ∨ od (σ 5) (σ 7) b < od (σ 5) (σ 7) a := by
            rcases hA with q | q
            · exact absurd q (by omega)
            · exact q.2.2
          have hdist : od (σ 5) (σ 7) e - od (σ 5) (σ 7) a < 2000000 := by
            have h1 := H.1 a hA32.1 hA32.2.1 hA32.2.2
            have h3 := hA32.2.2
            unfold od
            omega
          refine x_iload hN dX0_hang_53 rfl ?_
          refine x_st3 hN dX0_hang_55 ?_
          refine x_aload hN dX0_hang_56 rfl ?_
          refine a0_21 hN dX0_hang_57 ?_
          refine x_iload hN dX0_hang_60 rfl ?_
          refine l0_21 hN dX0_hang_62 (by omega) (by omega) (fun hr62 => ?_)
          refine x_st4 hN dX0_hang_63 ?_
          refine x_goto hN 38 dX0_hang_65 (by decide) ?_
          exact ih l a (σ 21 a) hl0 hl1 hL (Or.inr ⟨hAi, hod, rfl⟩) (Or.inr (by rcases hm1 with q | q; have := hm2 q; omega; rcases hba with q2 | q2; have := hm2 q2; omega; omega)) (fun q => by omega)
  refine x_bipush hN dX0_hang_0 (by decide) ?_
  refine x_aload hN dX0_hang_2 rfl ?_
  refine x_aload hN dX0_hang_3 rfl ?_
  refine a0_8 hN dX0_hang_4 ?_
  refine x_iloadn hN dX0_hang_7 rfl ?_
  refine l0_8 hN dX0_hang_8 (by omega) (by omega) (fun hr8 => ?_)
  refine x_call hN (m0_groupOf σ (σ 8 e) (hR0 _ _) (by omega)) hw0_groupOf hy0_groupOf (by decide) rfl (Nat.le_of_ble_eq_true rfl) rfl dX0_hang_9 (fun z9 u9 hz9 hp9 => ?_)
  obtain ⟨hu9, hp9⟩ := hp9
  rw [hu9]
  have hq : 0 ≤ z9 ∧ z9 < σ 17 0 ∧ σ 18 z9 = σ 8 e := by
    rcases hp9 with q | q
    · obtain ⟨g, g0, g1, g2, g3⟩ := G2.2.2.2 e he.1 he.2 hl
      exact absurd g2 (q.2 g g0 g1)
    · exact q
  refine x_imul hN dX0_hang_12 ?_
  refine x_aload hN dX0_hang_13 rfl ?_
  refine x_aload hN dX0_hang_14 rfl ?_
  refine a0_7 hN dX0_hang_15 ?_
  refine x_iloadn hN dX0_hang_18 rfl ?_
  refine l0_7 hN dX0_hang_19 (by omega) (by omega) (fun hr19 => ?_)
  refine x_ldc (v := 65535) hN dX0_hang_20 q124 rfl ?_
  refine x_iandm hN dX0_hang_22 65536 16 (by decide) (by decide) (by decide) ?_
  refine x_call hN (m0_slotOf σ (σ 7 e % 65536) (by omega)) hw0_slotOf hy0_slotOf (by decide) rfl (Nat.le_of_ble_eq_true rfl) rfl dX0_hang_23 (fun z23 u23 hz23 hp23 => ?_)
  obtain ⟨hu23, hp23⟩ := hp23
  rw [hu23]
  have hsl := slt_in (σ 7 e % 65536)
  refine x_iadd hN dX0_hang_26 ?_
  refine x_st2 hN dX0_hang_27 ?_
  refine x_iconst hN dX0_hang_28 ?_
  refine x_st3 hN dX0_hang_29 ?_
  refine x_aload hN dX0_hang_30 rfl ?_
  refine a0_20 hN dX0_hang_31 ?_
  refine x_iloadn hN dX0_hang_34 rfl ?_
  refine l0_20 hN dX0_hang_35 (by omega) (by omega) (fun hr35 => ?_)
  refine x_st4 hN dX0_hang_36 ?_
  exact loop 2000001 (8 * z9 + z23) (-1) _ (by omega) (by omega) ⟨z9, hq.1, hq.2.1, hq.2.2, by rw [hp23]⟩ (Or.inl ⟨rfl, rfl⟩) (Or.inl rfl) (fun _ => by omega)
set_option maxHeartbeats 4000000 in
theorem m0_makeGroups (σ : zSt) (H : HE (σ 5) (σ 7) (σ 8)) (hr : σ 16 0 ≠ 0 → GroupsOK σ) : Cv cd0 yX0_makeGroups cX0_makeGroups 2 3 σ [] (fun u => u 16 0 ≠ 0 ∧ GroupsOK u ∧ ∀ k, k ≠ 16 → k ≠ 17 → k ≠ 18 → k ≠ 19 → k ≠ 20 → k ≠ 21 → u k = σ k) := by
  refine Cv_of wf0 (by decide +kernel) rfl (Nat.le_of_ble_eq_true rfl) (fun th_ => [some th_, none]) (fun _ => rfl) ?_
  intro E hN hret hR0
  have loopC : ∀ (m : Nat) (e : Int) (τ : zSt), 16 ≤ e → e ≤ 32 → 32 < e + m → τ 16 0 = 1 → (∀ k, k ≠ 16 → k ≠ 17 → k ≠ 18 → k ≠ 19 → k ≠ 20 → k ≠ 21 → τ k = σ k) → G1 (σ 5) (σ 7) (σ 8) (τ 18) (τ 19) (τ 17 0) 32 → Srt (τ 19) (τ 17 0) → G3 (σ 5) (σ 7) (σ 8) (τ 18) (τ 20) (τ 21) (τ 17 0) e → WX E cd0 τ 76 [some (th E), some (iv e)] [] := by
    intro m
    induction m with
    | zero => intro e τ h1 h2 h3; exact absurd h3 (by omega)
    | succ m ih =>
      intro e τ he0 he1 hem h16 hfr hG hS hG3
      have f5 : τ 5 = σ 5 := hfr 5 (by decide) (by decide) (by decide) (by decide) (by decide) (by decide)
      have f7 : τ 7 = σ 7 := hfr 7 (by decide) (by decide) (by decide) (by decide) (by decide) (by decide)
      have f8 : τ 8 = σ 8 := hfr 8 (by decide) (by decide) (by decide) (by decide) (by decide) (by decide)
      refine x_iloadn hN dX0_makeGroups_76 rfl ?_
      refine x_bipush hN dX0_makeGroups_77 (by decide) ?_
      refine x_cmpge hN 102 dX0_makeGroups_79 (by decide) (by omega) (by omega) (fun h79 => ?_) (fun h79 => ?_)
      · exact hret _ _ _ dX0_makeGroups_102 ⟨by rw [h16]; decide, ⟨by rw [f5, f7, f8]; exact hG, hS, by rw [f5, f7, f8, show (32 : Int) = e by omega]; exact hG3⟩, hfr⟩
      · refine x_aload hN dX0_makeGroups_82 rfl ?_
        refine a0_5 hN dX0_makeGroups_83 ?_
        refine x_iloadn hN dX0_makeGroups_86 rfl ?_
        refine l0_5 hN dX0_makeGroups_87 (by omega) (by omega) (fun hr87 => ?_)
        refine x_iflt hN 96 dX0_makeGroups_88 (by decide) (by omega) (fun h88 => ?_) (fun h88 => ?_)
        · refine x_in1 hN dX0_makeGroups_96 ?_
          refine x_goto hN 76 dX0_makeGroups_99 (by decide) ?_
          rw [f5] at h88
          exact ih (e + 1) τ (by omega) (by omega) (by omega) h16 hfr hG hS (G3_skip hG3 h88)
        · rw [f5] at h88
          refine x_aload hN dX0_makeGroups_91 rfl ?_
          refine x_iloadn hN dX0_makeGroups_92 rfl ?_
          refine x_callv hN (m0_hang τ e ⟨he0, h79⟩ (by rw [f5, f7, f8]; exact H) (by rw [f5]; exact h88) (by rw [f5, f7, f8]; exact hG) (by rw [f5, f7, f8]; exact hG3)) hw0_hang hy0_hang (by decide) rfl (Nat.le_of_ble_eq_true rfl) rfl dX0_makeGroups_93 (fun u93 hp93 => ?_)
          refine x_in1 hN dX0_makeGroups_96 ?_
          refine x_goto hN 76 dX0_makeGroups_99 (by decide) ?_
          obtain ⟨q1, q2⟩ := hp93
          rw [f5, f7, f8] at q1
          have e17 : u93 17 = τ 17 := q2 17 (by decide) (by decide)
          have e18 : u93 18 = τ 18 := q2 18 (by decide) (by decide)
          have e19 : u93 19 = τ 19 := q2 19 (by decide) (by decide)
          exact ih (e + 1) u93 (by omega) (by omega) (by omega) (by rw [q2 16 (by decide) (by decide)]; exact h16) (fun k a b c d f p => by rw [q2 k f p]; exact hfr k a b c d f p) (by rw [e17, e18, e19]; exact hG) (by rw [e17, e19]; exact hS) (by rw [e17, e18]; exact q1)
  have loopB : ∀ (m : Nat) (e : Int) (τ : zSt), 16 ≤ e → e ≤ 32 → 32 < e + m → τ 16 0 = 1 → (∀ k, k ≠ 16 → k ≠ 17 → k ≠ 18 → k ≠ 19 → k ≠ 20 → k ≠ 21 → τ k = σ k) → (∀ l, 0 ≤ l → l < 128 → τ 20 l = -1) → G1 (σ 5) (σ 7) (σ 8) (τ 18) (τ 19) (τ 17 0) e → WX E cd0 τ 43 [some (th E), some (iv e)] [] := by
    intro m
    induction m with
    | zero => intro e τ h1 h2 h3; exact absurd h3 (by omega)
    | succ m ih =>
      intro e τ he0 he1 hem h16 hfr h20 hG
      have f5 : τ 5 = σ 5 := hfr 5 (by decide) (by decide) (by decide) (by decide) (by decide) (by decide)
      have f7 : τ 7 = σ 7 := hfr 7 (by decide) (by decide) (by decide) (by decide) (by decide) (by decide)
      have f8 : τ 8 = σ 8 := hfr 8 (by decide) (by decide) (by decide) (by decide) (by decide) (by decide)
      refine x_iloadn hN dX0_makeGroups_43 rfl ?_
      refine x_bipush hN dX0_makeGroups_44 (by decide) ?_
      refine x_cmpge hN 69 dX0_makeGroups_46 (by decide) (by omega) (by omega) (fun h46 => ?_) (fun h46 => ?_)
      · rw [show e = 32 by omega] at hG
        refine x_aload hN dX0_makeGroups_69 rfl ?_
        refine x_callv hN (m0_sortGroups τ (by rw [f5, f7, f8]; exact hG)) hw0_sortGroups hy0_sortGroups (by decide) rfl (Nat.le_of_ble_eq_true rfl) rfl dX0_makeGroups_70 (fun u70 hp70 => ?_)
        refine x_bipush hN dX0_makeGroups_73 (by decide) ?_
        refine x_st1 hN dX0_makeGroups_75 ?_
        obtain ⟨q1, q3, q2⟩ := hp70
        rw [f5, f7, f8] at q1
        have e17 : u70 17 = τ 17 := q2 17 (by decide) (by decide)
        exact loopC 17 16 u70 (by omega) (by omega) (by omega) (by rw [q2 16 (by decide) (by decide)]; exact h16) (fun k a b c d f p => by rw [q2 k c d]; exact hfr k a b c d f p) (by rw [e17]; exact q1) (by rw [e17]; exact q3) (G3_0 (by rw [q2 20 (by decide) (by decide)]; exact h20))
      · refine x_aload hN dX0_makeGroups_49 rfl ?_
        refine a0_5 hN dX0_makeGroups_50 ?_
        refine x_iloadn hN dX0_makeGroups_53 rfl ?_
        refine l0_5 hN dX0_makeGroups_54 (by omega) (by omega) (fun hr54 => ?_)
        refine x_iflt hN 63 dX0_makeGroups_55 (by decide) (by omega) (fun h55 => ?_) (fun h55 => ?_)
        · refine x_in1 hN dX0_makeGroups_63 ?_
          refine x_goto hN 43 dX0_makeGroups_66 (by decide) ?_
          rw [f5] at h55
          exact ih (e + 1) τ (by omega) (by omega) (by omega) h16 hfr h20 (G1_skip hG h55)
        · rw [f5] at h55
          refine x_aload hN dX0_makeGroups_58 rfl ?_
          refine x_iloadn hN dX0_makeGroups_59 rfl ?_
          refine x_callv hN (m0_noteGroup τ e ⟨he0, h46⟩ (by rw [f5, f7, f8]; exact H) (by rw [f5]; exact h55) (by rw [f5, f7, f8]; exact hG)) hw0_noteGroup hy0_noteGroup (by decide) rfl (Nat.le_of_ble_eq_true rfl) rfl dX0_makeGroups_60 (fun u60 hp60 => ?_)
          refine x_in1 hN dX0_makeGroups_63 ?_
          refine x_goto hN 43 dX0_makeGroups_66 (by decide) ?_
          obtain ⟨q1, q2⟩ := hp60
          rw [f5, f7, f8] at q1
          exact ih (e + 1) u60 (by omega) (by omega) (by omega) (by rw [q2 16 (by decide) (by decide) (by decide)]; exact h16) (fun k a b c d f p => by rw [q2 k b c d]; exact hfr k a b c d f p) (by rw [q2 20 (by decide) (by decide) (by decide)]; exact h20) q1
  have loopA : ∀ (m : Nat) (i : Int) (τ : zSt), 0 ≤ i → i ≤ 128 → 128 < i + m → τ 16 0 = 1 → τ 17 0 = 0 → (∀ k, k ≠ 16 → k ≠ 17 → k ≠ 18 → k ≠ 19 → k ≠ 20 → k ≠ 21 → τ k = σ k) → (∀ l, 0 ≤ l → l < i → τ 20 l = -1) → WX E cd0 τ 20 [some (th E), some (iv i)] [] := by
    intro m
    induction m with
    | zero => intro i τ h1 h2 h3; exact absurd h3 (by omega)
    | succ m ih =>
      intro i τ hi0 hi1 him h16 h17 hfr h20
      refine x_iloadn hN dX0_makeGroups_20 rfl ?_
      refine x_sipush hN dX0_makeGroups_21 (by decide) ?_
      refine x_cmpge hN 40 dX0_makeGroups_24 (by decide) (by omega) (by omega) (fun h24 => ?_) (fun h24 => ?_)
      · refine x_bipush hN dX0_makeGroups_40 (by decide) ?_
        refine x_st1 hN dX0_makeGroups_42 ?_
        exact loopB 17 16 τ (by omega) (by omega) (by omega) h16 hfr (fun l q0 q1 => h20 l q0 (by omega)) (by rw [h17]; exact ⟨by omega, fun a b a0 a1 => by omega, fun g g0 g1 => by omega, fun e e0 e1 => by omega⟩)
      · refine x_aload hN dX0_makeGroups_27 rfl ?_
        refine a0_20 hN dX0_makeGroups_28 ?_
        refine x_iloadn hN dX0_makeGroups_31 rfl ?_
        refine x_iconst hN dX0_makeGroups_32 ?_
        refine w0_20 hN dX0_makeGroups_33 (by omega) (by omega) (by omega) ?_
        refine x_in1 hN dX0_makeGroups_34 ?_
        refine x_goto hN 20 dX0_makeGroups_37 (by decide) ?_
        exact ih (i + 1) (sset τ 20 i (-1)) (by omega) (by omega) (by omega) h16 h17 (fun k a b c d f p => by funext j; simp [sset, f]; rw [hfr k a b c d f p]) (fun l q0 q1 => by
          by_cases q : l = i
          · simp [sset, q]
          · simp [sset, q]; exact h20 l q0 (by omega))
  refine x_aload hN dX0_makeGroups_0 rfl ?_
  refine g0_16 hN dX0_makeGroups_1 (fun hr1 => ?_)
  refine x_ifeq hN 8 dX0_makeGroups_4 (by decide) (by omega) (fun h4 => ?_) (fun h4 => ?_)
  · refine x_aload hN dX0_makeGroups_8 rfl ?_
    refine x_iconst hN dX0_makeGroups_9 ?_
    refine p0_16 hN dX0_makeGroups_10 (by decide) ?_
    refine x_aload hN dX0_makeGroups_13 rfl ?_
    refine x_iconst hN dX0_makeGroups_14 ?_
    refine p0_17 hN dX0_makeGroups_15 (by omega) ?_
    refine x_iconst hN dX0_makeGroups_18 ?_
    refine x_st1 hN dX0_makeGroups_19 ?_
    exact loopA 129 0 _ (by omega) (by omega) (by omega) rfl rfl (fun k a b c d f p => by funext j; simp [sset, a, b]) (fun l q0 q1 => by omega)
  · exact hret _ _ _ dX0_makeGroups_7 ⟨h4, hr h4, fun k _ _ _ _ _ _ => rfl⟩
set_option maxHeartbeats 4000000 in
theorem m0_greatestPriority (σ : zSt) (H : HE (σ 5) (σ 7) (σ 8)) (hr : σ 16 0 ≠ 0 → GroupsOK σ) (hpk : ∀ j, 0 ≤ j → j < 4 → 0 ≤ σ 3 j ∧ σ 3 j ≤ 255) : Cx cd0 yX0_greatestPriority cX0_greatestPriority 6 .int 4 σ [] (fun z u => MinP (fun y => Inn (σ 5) 32 y ∧ Kk (σ 7) (σ 8) (σ 3 1 * 256 + σ 3 2) y) (od (σ 5) (σ 7)) z ∧ u 16 0 ≠ 0 ∧ GroupsOK u ∧ ∀ k, k ≠ 16 → k ≠ 17 → k ≠ 18 → k ≠ 19 → k ≠ 20 → k ≠ 21 → u k = σ k) := by
  refine Cx_of wf0 (by decide +kernel) rfl (Nat.le_of_ble_eq_true rfl) (Or.inl rfl) (fun th_ => [some th_, none, none, none, none, none]) (fun _ => rfl) ?_
  intro E hN hret hR0
  have hf1 := hpk 1 (by omega) (by omega)
  have hf2 := hpk 2 (by omega) (by omega)
  obtain ⟨f, hfe⟩ : ∃ f, f = σ 3 1 * 256 + σ 3 2 := ⟨_, rfl⟩
  have loop : ∀ (τ : zSt), zR τ → HE (τ 5) (τ 7) (τ 8) → GroupsOK τ → (∀ (z : Int) (L : List (Option Value)) (pc : Nat), decode cX0_greatestPriority pc = .ok (.ireturn, 1) → (-1 ≤ z ∧ z < 32) → MinP (fun y => Inn (τ 5) 32 y ∧ Kk (τ 7) (τ 8) f y) (od (τ 5) (τ 7)) z → WX E cd0 τ pc L [iv z]) → ∀ (m : Nat) (b g : Int) (s4 s5 : Option Value), 0 ≤ g → g ≤ τ 17 0 → τ 17 0 < g + m → GB (τ 5) (τ 7) (τ 8) (τ 18) f g b → WX E cd0 τ 25 [some (th E), some (iv f), some (iv b), some (iv g), s4, s5] [] := by
    intro τ hRt Hτ hGO kret m
    obtain ⟨hG, hS, hG3⟩ := hGO
    have hgc := hG.1
    induction m with
    | zero => intro b g s4 s5 h1 h2 h3; exact absurd h3 (by omega)
    | succ m ih =>
      intro b g s4 s5 hg0 hg1 hgm hB
      have hbr : b = -1 ∨ Inn (τ 5) 32 b := by
        rcases hB with ⟨q1, q2⟩ | ⟨q1, q2⟩
        · exact Or.inl q1
        · exact Or.inr q1.1
      have hbr2 : -1 ≤ b ∧ b < 32 := by
        rcases hbr with q | q
        · omega
        · have := q.1; have := q.2.1; omega
      have fin : ∀ (e : Int), g < τ 17 0 → (e = -1 ∨ Inn (τ 5) 32 e) → MinP (fun y => Inn (τ 5) 32 y ∧ Kk (τ 7) (τ 8) f y ∧ τ 18 g = τ 8 y) (od (τ 5) (τ 7)) e → WX E cd0 τ 113 [some (th E), some (iv f), some (iv b), some (iv g), some (iv (lnd f (τ 18 g))), some (iv e)] [] := by
        intro e hgg hei hM
        have her : -1 ≤ e ∧ e < 32 := by
          rcases hei with q | q
          · omega
          · have := q.1; have := q.2.1; omega
        obtain ⟨n1, n2⟩ := GB_next hg0 hB hM
        refine x_iload hN dX0_greatestPriority_113 rfl ?_
        refine x_iflt hN 135 dX0_greatestPriority_115 (by decide) (by omega) (fun h115 => ?_) (fun h115 => ?_)
        · refine x_in3 hN dX0_greatestPriority_135 ?_
          refine x_goto hN 25 dX0_greatestPriority_138 (by decide) ?_
          exact ih b (g + 1) _ _ (by omega) (by omega) (by omega) (n2 (Or.inl h115))
        · refine x_iloadn hN dX0_greatestPriority_118 rfl ?_
          refine x_iflt hN 132 dX0_greatestPriority_119 (by decide) (by omega) (fun h119 => ?_) (fun h119 => ?_)
          · refine x_iload hN dX0_greatestPriority_132 rfl ?_
            refine x_st2 hN dX0_greatestPriority_134 ?_
            refine x_in3 hN dX0_greatestPriority_135 ?_
            refine x_goto hN 25 dX0_greatestPriority_138 (by decide) ?_
            exact ih e (g + 1) _ _ (by omega) (by omega) (by omega) (n1 h115 (Or.inl h119))
          · have hbi : Inn (τ 5) 32 b := by
              rcases hbr with q | q
              · exact absurd q (by omega)
              · exact q
            have hei2 : Inn (τ 5) 32 e := by
              rcases hei with q | q
              · exact absurd q (by omega)
              · exact q
            have hpo := pr_od Hτ hei2 hbi
            refine x_aload hN dX0_greatestPriority_122 rfl ?_
            refine x_iload hN dX0_greatestPriority_123 rfl ?_
            refine x_iloadn hN dX0_greatestPriority_125 rfl ?_
            refine x_call hN (m0_precedes τ e b (by omega) (by omega)) hw0_precedes hy0_precedes (by decide) rfl (Nat.le_of_ble_eq_true rfl) rfl dX0_greatestPriority_126 (fun z126 u126 hz126 hp126 => ?_)
            obtain ⟨hu126, hp126⟩ := hp126
            rw [hu126]
            refine x_ifeq hN 135 dX0_greatestPriority_129 (by decide) (by omega) (fun h129 => ?_) (fun h129 => ?_)
            · refine x_in3 hN dX0_greatestPriority_135 ?_
              refine x_goto hN 25 dX0_greatestPriority_138 (by decide) ?_
              exact ih b (g + 1) _ _ (by omega) (by omega) (by omega) (n2 (Or.inr ⟨h119, by
                rcases hp126 with q | q
                · exact absurd q.1 (by omega)
                · exact Int.not_lt.mp (fun r => q.2 (hpo.mpr r))⟩))
            · refine x_iload hN dX0_greatestPriority_132 rfl ?_
              refine x_st2 hN dX0_greatestPriority_134 ?_
              refine x_in3 hN dX0_greatestPriority_135 ?_
              refine x_goto hN 25 dX0_greatestPriority_138 (by decide) ?_
              exact ih e (g + 1) _ _ (by omega) (by omega) (by omega) (n1 h115 (Or.inr (by
                rcases hp126 with q | q
                · exact hpo.mp q.2
                · exact absurd q.1 (by omega))))
      have inner : ∀ (n : Nat) (e : Int), g < τ 17 0 → SR (τ 5) (τ 7) (τ 8) (τ 18) (τ 17 0) (8 * g + slt (lnd f (τ 18 g))) (lnd f (τ 18 g)) e → 0 < n → (e = -1 ∨ 65536 - od (τ 5) (τ 7) e < n) → WX E cd0 τ 81 [some (th E), some (iv f), some (iv b), some (iv g), some (iv (lnd f (τ 18 g))), some (iv e)] [] := by
        intro n
        induction n with
        | zero => intro e _ _ h1; exact absurd h1 (by omega)
        | succ n ihn =>
          intro e hgg hSR _ hm
          have hmask := (hG.2.2.1 g hg0 hgg).2
          have hln := lnd_nn f (τ 18 g)
          have hln2 := lnd_le (a := f) hmask.1
          have hei : e = -1 ∨ Inn (τ 5) 32 e := hSR.2.elim Or.inl (fun q => Or.inr q.1)
          have her : -1 ≤ e ∧ e < 32 := by
            rcases hei with q | q
            · omega
            · have := q.1; have := q.2.1; omega
          refine x_iload hN dX0_greatestPriority_81 rfl ?_
          refine x_iflt hN 113 dX0_greatestPriority_83 (by decide) (by omega) (fun h83 => ?_) (fun h83 => ?_)
          · exact fin e hgg hei (SR_e hG ⟨hg0, hgg⟩ hSR (Or.inl (by omega)))
          · refine x_aload hN dX0_greatestPriority_86 rfl ?_
            refine a0_7 hN dX0_greatestPriority_87 ?_
            refine x_iload hN dX0_greatestPriority_90 rfl ?_
            refine l0_7 hN dX0_greatestPriority_92 (by omega) (by omega) (fun hr92 => ?_)
            refine x_ldc (v := 65535) hN dX0_greatestPriority_93 q124 rfl ?_
            refine x_iandm hN dX0_greatestPriority_95 65536 16 (by decide) (by decide) (by decide) ?_
            refine x_iload hN dX0_greatestPriority_96 rfl ?_
            refine x_cmpeq hN 113 dX0_greatestPriority_98 (by decide) (by omega) (by omega) (fun h98 => ?_) (fun h98 => ?_)
            · exact fin e hgg hei (SR_e hG ⟨hg0, hgg⟩ hSR (Or.inr h98))
            · refine x_aload hN dX0_greatestPriority_101 rfl ?_
              refine a0_21 hN dX0_greatestPriority_102 ?_
              refine x_iload hN dX0_greatestPriority_105 rfl ?_
              refine l0_21 hN dX0_greatestPriority_107 (by omega) (by omega) (fun hr107 => ?_)
              refine x_st5 hN dX0_greatestPriority_108 ?_
              refine x_goto hN 81 dX0_greatestPriority_110 (by decide) ?_
              obtain ⟨q1, q2⟩ := SR_s Hτ hG3 hSR h83 h98
              have he2 : Inn (τ 5) 32 e := by
                rcases hei with q | q
                · exact absurd q (by omega)
                · exact q
              have hh := Hτ.1 e he2.1 he2.2.1 he2.2.2
              have hod : od (τ 5) (τ 7) e < 65536 := by
                unfold od
                omega
              exact ihn (τ 21 e) hgg q1 (by omega) (by omega)
      have mid : g < τ 17 0 → 0 ≤ f → WX E cd0 τ 53 [some (th E), some (iv f), some (iv b), some (iv g), s4, s5] [] := by
        intro hgg hf0
        have hmask := (hG.2.2.1 g hg0 hgg).2
        have hln := lnd_nn f (τ 18 g)
        have hln2 := lnd_le (a := f) hmask.1
        have hsl := slt_in (lnd f (τ 18 g))
        refine x_iloadn hN dX0_greatestPriority_53 rfl ?_
        refine x_aload hN dX0_greatestPriority_54 rfl ?_
        refine a0_18 hN dX0_greatestPriority_55 ?_
        refine x_iloadn hN dX0_greatestPriority_58 rfl ?_
        refine l0_18 hN dX0_greatestPriority_59 (by omega) (by omega) (fun hr59 => ?_)
        refine x_iand hN dX0_greatestPriority_60 (by omega) (by omega) ?_
        refine x_st4 hN dX0_greatestPriority_61 ?_
        refine x_aload hN dX0_greatestPriority_63 rfl ?_
        refine a0_20 hN dX0_greatestPriority_64 ?_
        refine x_bipush hN dX0_greatestPriority_67 (by decide) ?_
        refine x_iloadn hN dX0_greatestPriority_69 rfl ?_
        refine x_imul hN dX0_greatestPriority_70 ?_
        refine x_aload hN dX0_greatestPriority_71 rfl ?_
        refine x_iload hN dX0_greatestPriority_72 rfl ?_
        refine x_call hN (m0_slotOf τ (lnd f (τ 18 g)) (by omega)) hw0_slotOf hy0_slotOf (by decide) rfl (Nat.le_of_ble_eq_true rfl) rfl dX0_greatestPriority_74 (fun z74 u74 hz74 hp74 => ?_)
        obtain ⟨hu74, hp74⟩ := hp74
        rw [hu74]
        rw [hp74]
        refine x_iadd hN dX0_greatestPriority_77 ?_
        refine l0_20 hN dX0_greatestPriority_78 (by omega) (by omega) (fun hr78 => ?_)
        refine x_st5 hN dX0_greatestPriority_79 ?_
        exact inner 2000000 _ hgg (SR_0 hG3 ⟨by omega, by omega⟩) (by omega) (by
          rcases hG3.1 (8 * g + slt (lnd f (τ 18 g))) (by omega) (by omega) with ⟨q1, q2⟩ | ⟨q1, q2⟩
          · exact Or.inl q1
          · right
            have hh := Hτ.1 _ q1.1.1 q1.1.2.1 q1.1.2.2
            have := q1.1.2.2
            unfold od
            omega)
      refine x_iloadn hN dX0_greatestPriority_25 rfl ?_
      refine x_aload hN dX0_greatestPriority_26 rfl ?_
      refine g0_17 hN dX0_greatestPriority_27 (fun hr27 => ?_)
      refine x_cmpge hN 141 dX0_greatestPriority_30 (by decide) (by omega) (by omega) (fun h30 => ?_) (fun h30 => ?_)
      · refine x_iloadn hN dX0_greatestPriority_141 rfl ?_
        exact kret b _ _ dX0_greatestPriority_142 hbr2 (GB_end hG (by omega) hB)
      · refine x_iloadn hN dX0_greatestPriority_33 rfl ?_
        refine x_iflt hN 53 dX0_greatestPriority_34 (by decide) (by omega) (fun h34 => ?_) (fun h34 => ?_)
        · exact mid h30 (by omega)
        · have hbi : Inn (τ 5) 32 b := by
            rcases hbr with q | q
            · exact absurd q (by omega)
            · exact q
          refine x_aload hN dX0_greatestPriority_37 rfl ?_
          refine a0_19 hN dX0_greatestPriority_38 ?_
          refine x_iloadn hN dX0_greatestPriority_41 rfl ?_
          refine l0_19 hN dX0_greatestPriority_42 (by omega) (by omega) (fun hr42 => ?_)
          refine x_aload hN dX0_greatestPriority_43 rfl ?_
          refine x_iloadn hN dX0_greatestPriority_44 rfl ?_
          refine x_call hN (m0_priorityOf τ b (by omega)) hw0_priorityOf hy0_priorityOf (by decide) rfl (Nat.le_of_ble_eq_true rfl) rfl dX0_greatestPriority_45 (fun z45 u45 hz45 hp45 => ?_)
          obtain ⟨hu45, hp45⟩ := hp45
          rw [hu45]
          refine x_cmpge hN 53 dX0_greatestPriority_48 (by decide) (by omega) (by omega) (fun h48 => ?_) (fun h48 => ?_)
          · exact mid h30 (by omega)
          · refine x_iloadn hN dX0_greatestPriority_51 rfl ?_
            exact kret b _ _ dX0_greatestPriority_52 hbr2 (GB_early Hτ hG hS ⟨hg0, h30⟩ hB h34 (by rw [← hp45]; exact h48))
  refine x_aload hN dX0_greatestPriority_0 rfl ?_
  refine x_callv hN (m0_makeGroups σ H hr) hw0_makeGroups hy0_makeGroups (by decide) rfl (Nat.le_of_ble_eq_true rfl) rfl dX0_greatestPriority_1 (fun u1 hp1 => ?_)
  obtain ⟨q16, hGO, hfr⟩ := hp1
  have g3 : u1 3 = σ 3 := hfr 3 (by decide) (by decide) (by decide) (by decide) (by decide) (by decide)
  have g5 : u1 5 = σ 5 := hfr 5 (by decide) (by decide) (by decide) (by decide) (by decide) (by decide)
  have g7 : u1 7 = σ 7 := hfr 7 (by decide) (by decide) (by decide) (by decide) (by decide) (by decide)
  have g8 : u1 8 = σ 8 := hfr 8 (by decide) (by decide) (by decide) (by decide) (by decide) (by decide)
  have hg1 : 0 ≤ u1 3 1 ∧ u1 3 1 ≤ 255 := by rw [g3]; exact hf1
  have hg2 : 0 ≤ u1 3 2 ∧ u1 3 2 ≤ 255 := by rw [g3]; exact hf2
  refine x_aload hN dX0_greatestPriority_4 rfl ?_
  refine a0_3 hN dX0_greatestPriority_5 ?_
  refine x_iconst hN dX0_greatestPriority_8 ?_
  refine l0_3 hN dX0_greatestPriority_9 (by omega) (by omega) (fun hr9 => ?_)
  refine x_bipush hN dX0_greatestPriority_10 (by decide) ?_
  refine x_ishl hN dX0_greatestPriority_12 256 (by decide) (by omega) (by omega) (by omega) ?_
  refine x_aload hN dX0_greatestPriority_13 rfl ?_
  refine a0_3 hN dX0_greatestPriority_14 ?_
  refine x_iconst hN dX0_greatestPriority_17 ?_
  refine l0_3 hN dX0_greatestPriority_18 (by omega) (by omega) (fun hr18 => ?_)
  refine x_ior1 (m := 256) hN dX0_greatestPriority_19 8 (by decide) (by omega) (by omega) (by omega) (by omega) ?_
  refine x_top f (by rw [hfe, g3]) ?_
  refine x_st1 hN dX0_greatestPriority_20 ?_
  refine x_iconst hN dX0_greatestPriority_21 ?_
  refine x_st2 hN dX0_greatestPriority_22 ?_
  refine x_iconst hN dX0_greatestPriority_23 ?_
  refine x_st3 hN dX0_greatestPriority_24 ?_
  refine x_zR (fun hRu => ?_)
  exact loop u1 hRu (by rw [g5, g7, g8]; exact H) hGO (fun z L pc hd hz hM => hret _ _ _ _ hd (by omega) ⟨by rw [g5, g7, g8, hfe] at hM; exact hM, q16, hGO, hfr⟩) 17 (-1) 0 _ _ (by omega) hGO.1.1.1 (by have := hGO.1.1.2; omega) (Or.inl ⟨rfl, fun y q => by obtain ⟨-, -, k, k0, k1, -⟩ := q; omega⟩)
set_option maxHeartbeats 4000000 in
theorem m0_maskedMatching (σ : zSt) (H : HE (σ 5) (σ 7) (σ 8)) (hr : σ 16 0 ≠ 0 → GroupsOK σ) (hpk : ∀ j, 0 ≤ j → j < 4 → 0 ≤ σ 3 j ∧ σ 3 j ≤ 255) : Cx cd0 yX0_maskedMatching cX0_maskedMatching 6 .int 4 σ [] (fun z u => z = cn (fun y => 0 ≤ σ 5 y ∧ Kk (σ 7) (σ 8) (σ 3 1 * 256 + σ 3 2) y) 16 16 ∧ u 16 0 ≠ 0 ∧ GroupsOK u ∧ ∀ k, k ≠ 16 → k ≠ 17 → k ≠ 18 → k ≠ 19 → k ≠ 20 → k ≠ 21 → u k = σ k) := by
  refine Cx_of wf0 (by decide +kernel) rfl (Nat.le_of_ble_eq_true rfl) (Or.inl rfl) (fun th_ => [some th_, none, none, none, none, none]) (fun _ => rfl) ?_
  intro E hN hret hR0
  have hf1 := hpk 1 (by omega) (by omega)
  have hf2 := hpk 2 (by omega) (by omega)
  obtain ⟨f, hfe⟩ : ∃ f, f = σ 3 1 * 256 + σ 3 2 := ⟨_, rfl⟩
  have loop : ∀ (τ : zSt), HE (τ 5) (τ 7) (τ 8) → GroupsOK τ → (∀ (z : Int) (L : List (Option Value)) (pc : Nat), decode cX0_maskedMatching pc = .ok (.ireturn, 1) → (0 ≤ z ∧ z ≤ 16) → z = cn (fun y => 0 ≤ τ 5 y ∧ Kk (τ 7) (τ 8) f y) 16 16 → WX E cd0 τ pc L [iv z]) → ∀ (m : Nat) (b g : Int) (s4 s5 : Option Value), 0 ≤ g → g ≤ τ 17 0 → τ 17 0 < g + m → b = CG (τ 5) (τ 7) (τ 8) (τ 18) f g → WX E cd0 τ 25 [some (th E), some (iv f), some (iv b), some (iv g), s4, s5] [] := by
    intro τ Hτ hGO kret m
    obtain ⟨hG, hS, hG3⟩ := hGO
    have hgc := hG.1
    induction m with
    | zero => intro b g s4 s5 h1 h2 h3; exact absurd h3 (by omega)
    | succ m ih =>
      intro b g s4 s5 hg0 hg1 hgm hB
      have hb16 : 0 ≤ b ∧ b ≤ 16 := by rw [hB]; exact cn_in _ _ _
      have inner : ∀ (n : Nat) (e c : Int), g < τ 17 0 → c = CG (τ 5) (τ 7) (τ 8) (τ 18) f g + CL (τ 5) (τ 7) (τ 8) (τ 18) (τ 17 0) (8 * g + slt (lnd f (τ 18 g))) (lnd f (τ 18 g)) e → (e = -1 ∨ (Inn (τ 5) 32 e ∧ Ls (τ 7) (τ 8) (τ 18) (τ 17 0) e (8 * g + slt (lnd f (τ 18 g))))) → 0 < n → (e = -1 ∨ 65536 - od (τ 5) (τ 7) e < n) → WX E cd0 τ 61 [some (th E), some (iv f), some (iv c), some (iv g), some (iv (lnd f (τ 18 g))), some (iv e)] [] := by
        intro n
        induction n with
        | zero => intro e c _ _ _ h1; exact absurd h1 (by omega)
        | succ n ihn =>
          intro e c hgg hc hei _ hm
          have hmask := (hG.2.2.1 g hg0 hgg).2
          have hln := lnd_nn f (τ 18 g)
          have hln2 := lnd_le (a := f) hmask.1
          have hc32 : 0 ≤ c ∧ c ≤ 32 := by
            rw [hc, ← hB]
            have : 0 ≤ CL (τ 5) (τ 7) (τ 8) (τ 18) (τ 17 0) (8 * g + slt (lnd f (τ 18 g))) (lnd f (τ 18 g)) e ∧ CL (τ 5) (τ 7) (τ 8) (τ 18) (τ 17 0) (8 * g + slt (lnd f (τ 18 g))) (lnd f (τ 18 g)) e ≤ 16 := cn_in _ _ _
            omega
          have her : -1 ≤ e ∧ e < 32 := by
            rcases hei with q | q
            · omega
            · have := q.1.1; have := q.1.2.1; omega
          refine x_iload hN dX0_maskedMatching_61 rfl ?_
          refine x_iflt hN 96 dX0_maskedMatching_63 (by decide) (by omega) (fun h63 => ?_) (fun h63 => ?_)
          · refine x_in3 hN dX0_maskedMatching_96 ?_
            refine x_goto hN 25 dX0_maskedMatching_99 (by decide) ?_
            exact ih c (g + 1) _ _ (by omega) (by omega) (by omega) (by rw [CG_s hG ⟨hg0, hgg⟩, hc, show e = -1 by omega])
          · refine x_aload hN dX0_maskedMatching_66 rfl ?_
            refine a0_7 hN dX0_maskedMatching_67 ?_
            refine x_iload hN dX0_maskedMatching_70 rfl ?_
            refine l0_7 hN dX0_maskedMatching_72 (by omega) (by omega) (fun hr72 => ?_)
            refine x_ldc (v := 65535) hN dX0_maskedMatching_73 q124 rfl ?_
            refine x_iandm hN dX0_maskedMatching_75 65536 16 (by decide) (by decide) (by decide) ?_
            refine x_iload hN dX0_maskedMatching_76 rfl ?_
            refine x_cmpne hN 84 dX0_maskedMatching_78 (by decide) (by omega) (by omega) (fun h78 => ?_) (fun h78 => ?_)
            · refine x_aload hN dX0_maskedMatching_84 rfl ?_
              refine a0_21 hN dX0_maskedMatching_85 ?_
              refine x_iload hN dX0_maskedMatching_88 rfl ?_
              refine l0_21 hN dX0_maskedMatching_90 (by omega) (by omega) (fun hr90 => ?_)
              refine x_st5 hN dX0_maskedMatching_91 ?_
              refine x_goto hN 61 dX0_maskedMatching_93 (by decide) ?_
              have he2 : Inn (τ 5) 32 e ∧ Ls (τ 7) (τ 8) (τ 18) (τ 17 0) e (8 * g + slt (lnd f (τ 18 g))) := by
                rcases hei with q | q
                · exact absurd q (by omega)
                · exact q
              have hh := Hτ.1 e he2.1.1 he2.1.2.1 he2.1.2.2
              have hod : od (τ 5) (τ 7) e < 65536 := by
                have := he2.1.2.2
                unfold od
                omega
              obtain ⟨k1, k2, k3⟩ := CL_s Hτ hG3 (wn := lnd f (τ 18 g)) he2
              exact ihn (τ 21 e) c hgg (by rw [k2 h78]; exact hc) (k3.elim Or.inl (fun q => Or.inr q.1)) (by omega) (by omega)
            · refine x_in2 hN dX0_maskedMatching_81 ?_
              refine x_aload hN dX0_maskedMatching_84 rfl ?_
              refine a0_21 hN dX0_maskedMatching_85 ?_
              refine x_iload hN dX0_maskedMatching_88 rfl ?_
              refine l0_21 hN dX0_maskedMatching_90 (by omega) (by omega) (fun hr90 => ?_)
              refine x_st5 hN dX0_maskedMatching_91 ?_
              refine x_goto hN 61 dX0_maskedMatching_93 (by decide) ?_
              have he2 : Inn (τ 5) 32 e ∧ Ls (τ 7) (τ 8) (τ 18) (τ 17 0) e (8 * g + slt (lnd f (τ 18 g))) := by
                rcases hei with q | q
                · exact absurd q (by omega)
                · exact q
              have hh := Hτ.1 e he2.1.1 he2.1.2.1 he2.1.2.2
              have hod : od (τ 5) (τ 7) e < 65536 := by
                have := he2.1.2.2
                unfold od
                omega
              obtain ⟨k1, k2, k3⟩ := CL_s Hτ hG3 (wn := lnd f (τ 18 g)) he2
              exact ihn (τ 21 e) (c + 1) hgg (by rw [k1 h78, hc]; omega) (k3.elim Or.inl (fun q => Or.inr q.1)) (by omega) (by omega)
      refine x_iloadn hN dX0_maskedMatching_25 rfl ?_
      refine x_aload hN dX0_maskedMatching_26 rfl ?_
      refine g0_17 hN dX0_maskedMatching_27 (fun hr27 => ?_)
      refine x_cmpge hN 102 dX0_maskedMatching_30 (by decide) (by omega) (by omega) (fun h30 => ?_) (fun h30 => ?_)
      · refine x_iloadn hN dX0_maskedMatching_102 rfl ?_
        exact kret b _ _ dX0_maskedMatching_103 hb16 (by rw [hB]; exact CG_e hG (by omega))
      · have hmask := (hG.2.2.1 g hg0 h30).2
        have hln := lnd_nn f (τ 18 g)
        have hln2 := lnd_le (a := f) hmask.1
        have hsl := slt_in (lnd f (τ 18 g))
        refine x_iloadn hN dX0_maskedMatching_33 rfl ?_
        refine x_aload hN dX0_maskedMatching_34 rfl ?_
        refine a0_18 hN dX0_maskedMatching_35 ?_
        refine x_iloadn hN dX0_maskedMatching_38 rfl ?_
        refine l0_18 hN dX0_maskedMatching_39 (by omega) (by omega) (fun hr39 => ?_)
        refine x_iand hN dX0_maskedMatching_40 (by omega) (by omega) ?_
        refine x_st4 hN dX0_maskedMatching_41 ?_
        refine x_aload hN dX0_maskedMatching_43 rfl ?_
        refine a0_20 hN dX0_maskedMatching_44 ?_
        refine x_bipush hN dX0_maskedMatching_47 (by decide) ?_
        refine x_iloadn hN dX0_maskedMatching_49 rfl ?_
        refine x_imul hN dX0_maskedMatching_50 ?_
        refine x_aload hN dX0_maskedMatching_51 rfl ?_
        refine x_iload hN dX0_maskedMatching_52 rfl ?_
        refine x_call hN (m0_slotOf τ (lnd f (τ 18 g)) (by omega)) hw0_slotOf hy0_slotOf (by decide) rfl (Nat.le_of_ble_eq_true rfl) rfl dX0_maskedMatching_54 (fun z54 u54 hz54 hp54 => ?_)
        obtain ⟨hu54, hp54⟩ := hp54
        rw [hu54]
        rw [hp54]
        refine x_iadd hN dX0_maskedMatching_57 ?_
        refine l0_20 hN dX0_maskedMatching_58 (by omega) (by omega) (fun hr58 => ?_)
        refine x_st5 hN dX0_maskedMatching_59 ?_
        have hms := hG3.1 (8 * g + slt (lnd f (τ 18 g))) (by omega) (by omega)
        exact inner 2000000 _ b h30 (by rw [CL_0 hG3 ⟨by omega, by omega⟩, hB]; omega) (hms.elim (fun q => Or.inl q.1) (fun q => Or.inr q.1)) (by omega) (by
          rcases hms with ⟨q1, q2⟩ | ⟨q1, q2⟩
          · exact Or.inl q1
          · right
            have hh := Hτ.1 _ q1.1.1 q1.1.2.1 q1.1.2.2
            have := q1.1.2.2
            unfold od
            omega)
  refine x_aload hN dX0_maskedMatching_0 rfl ?_
  refine x_callv hN (m0_makeGroups σ H hr) hw0_makeGroups hy0_makeGroups (by decide) rfl (Nat.le_of_ble_eq_true rfl) rfl dX0_maskedMatching_1 (fun u1 hp1 => ?_)
  obtain ⟨q16, hGO, hfr⟩ := hp1
  have g3 : u1 3 = σ 3 := hfr 3 (by decide) (by decide) (by decide) (by decide) (by decide) (by decide)
  have g5 : u1 5 = σ 5 := hfr 5 (by decide) (by decide) (by decide) (by decide) (by decide) (by decide)
  have g7 : u1 7 = σ 7 := hfr 7 (by decide) (by decide) (by decide) (by decide) (by decide) (by decide)
  have g8 : u1 8 = σ 8 := hfr 8 (by decide) (by decide) (by decide) (by decide) (by decide) (by decide)
  have hg1 : 0 ≤ u1 3 1 ∧ u1 3 1 ≤ 255 := by rw [g3]; exact hf1
  have hg2 : 0 ≤ u1 3 2 ∧ u1 3 2 ≤ 255 := by rw [g3]; exact hf2
  refine x_aload hN dX0_maskedMatching_4 rfl ?_
  refine a0_3 hN dX0_maskedMatching_5 ?_
  refine x_iconst hN dX0_maskedMatching_8 ?_
  refine l0_3 hN dX0_maskedMatching_9 (by omega) (by omega) (fun hr9 => ?_)
  refine x_bipush hN dX0_maskedMatching_10 (by decide) ?_
  refine x_ishl hN dX0_maskedMatching_12 256 (by decide) (by omega) (by omega) (by omega) ?_
  refine x_aload hN dX0_maskedMatching_13 rfl ?_
  refine a0_3 hN dX0_maskedMatching_14 ?_
  refine x_iconst hN dX0_maskedMatching_17 ?_
  refine l0_3 hN dX0_maskedMatching_18 (by omega) (by omega) (fun hr18 => ?_)
  refine x_ior1 (m := 256) hN dX0_maskedMatching_19 8 (by decide) (by omega) (by omega) (by omega) (by omega) ?_
  refine x_top f (by rw [hfe, g3]) ?_
  refine x_st1 hN dX0_maskedMatching_20 ?_
  refine x_iconst hN dX0_maskedMatching_21 ?_
  refine x_st2 hN dX0_maskedMatching_22 ?_
  refine x_iconst hN dX0_maskedMatching_23 ?_
  refine x_st3 hN dX0_maskedMatching_24 ?_
  exact loop u1 (by rw [g5, g7, g8]; exact H) hGO (fun z L pc hd hz hM => hret _ _ _ _ hd (by omega) ⟨by rw [g5, g7, g8, hfe] at hM; exact hM, q16, hGO, hfr⟩) 17 0 0 _ _ (by omega) hGO.1.1.1 (by have := hGO.1.1.2; omega) CG_0.symm
end
section
/-! THE TWO SIDES, plain -/
def AOK (a : Int) : Prop := 0 ≤ a ∧ a < 8192 ∧ a % 8 ≤ 4
/-- what the class's cells hold, but for what it makes when it needs it; N bounds the handles -/
def CB (σ : zSt) (N : Int) : Prop := (0 ≤ σ 1 0 ∧ σ 1 0 ≤ N) ∧ (AOK (σ 0 0) ∧ AOK (σ 2 0) ∧ AOK (σ 2 1)) ∧ (∀ j, 0 ≤ j → j < 4 → 0 ≤ σ 3 j ∧ σ 3 j ≤ 255) ∧ (∀ t, 0 ≤ t → t ≤ 1 → σ 4 t = cn (fun e => 0 ≤ σ 5 e) (16 * t) 16) ∧ (∀ e, 0 ≤ e → e < 32 → -1 ≤ σ 5 e ∧ σ 5 e < σ 1 0) ∧ (∀ a b, 0 ≤ a → a < 32 → 0 ≤ b → b < 32 → 0 ≤ σ 5 a → σ 5 a = σ 5 b → a = b) ∧ (∀ e, 0 ≤ e → e < 32 → 0 ≤ σ 5 e → AOK (σ 6 e)) ∧ (∀ e, 0 ≤ e → e < 16 → 0 ≤ σ 5 e → (0 ≤ σ 7 e ∧ σ 7 e ≤ 255) ∧ (0 ≤ σ 8 e ∧ σ 8 e ≤ 8)) ∧ (∀ e, 16 ≤ e → e < 32 → 0 ≤ σ 5 e → (0 ≤ σ 7 e / 65536 ∧ σ 7 e / 65536 ≤ 15) ∧ (0 ≤ σ 8 e ∧ σ 8 e ≤ 65535))
/-- the entry at e (class) and that at q (reference) are one -/
def DM (σ μ : zSt) (e q : Int) : Prop := (μ 10 q = σ 6 e % 8 ∧ μ 11 q = σ 6 e / 8 % 4 ∧ μ 12 q = σ 6 e / 32) ∧ (e < 16 → μ 7 q = σ 7 e ∧ μ 8 q = σ 8 e ∧ μ 9 q = σ 8 e) ∧ (16 ≤ e → (0 ≤ μ 7 q ∧ μ 7 q ≤ 65535 ∧ 0 ≤ μ 8 q ∧ μ 8 q ≤ 65535 ∧ 0 ≤ μ 9 q ∧ μ 9 q ≤ 15) ∧ σ 8 e = μ 7 q % 256 * 256 + μ 8 q % 256 ∧ σ 7 e = lnd (μ 7 q / 256 * 256 + μ 8 q / 256) (μ 7 q % 256 * 256 + μ 8 q % 256) + μ 9 q * 65536)
/-- the tables' part of the relation -/
def RT (σ μ : zSt) (t : Int) : Prop := (μ 10 (32 + t) = σ 2 t % 8 ∧ μ 11 (32 + t) = σ 2 t / 8 % 4 ∧ μ 12 (32 + t) = σ 2 t / 32) ∧ σ 4 t = μ 5 t ∧ (∀ e, 16 * t ≤ e → e < 16 * t + 16 → 0 ≤ σ 5 e → ∃ q, 16 * t ≤ q ∧ q < 16 * t + μ 5 t ∧ μ 6 q = σ 5 e ∧ DM σ μ e q) ∧ (∀ q, 16 * t ≤ q → q < 16 * t + μ 5 t → ∃ e, 16 * t ≤ e ∧ e < 16 * t + 16 ∧ 0 ≤ σ 5 e ∧ σ 5 e = μ 6 q ∧ DM σ μ e q) ∧ (∀ q q', 16 * t ≤ q → q < q' → q' < 16 * t + μ 5 t → μ 6 q < μ 6 q')
def Rl (σ μ : zSt) : Prop := (∀ j, 0 ≤ j → j < 4 → σ 3 j = μ 0 j) ∧ (μ 1 0 = σ 0 0 % 8 ∧ μ 2 0 = σ 0 0 / 8 % 4 ∧ μ 3 0 = σ 0 0 / 32) ∧ σ 1 0 = μ 4 0 ∧ ∀ t, 0 ≤ t → t ≤ 1 → RT σ μ t
theorem CB_cg {σ u : zSt} {N : Int} (h : ∀ k, k ≤ 8 → u k = σ k) (c : CB σ N) : CB u N := by
  unfold CB at c ⊢
  rw [h 0 (by decide), h 1 (by decide), h 2 (by decide), h 3 (by decide), h 4 (by decide), h 5 (by decide), h 6 (by decide), h 7 (by decide), h 8 (by decide)]
  exact c
theorem Rl_cg {σ u μ : zSt} (h : ∀ k, k ≤ 8 → u k = σ k) (c : Rl σ μ) : Rl u μ := by
  unfold Rl RT DM at c ⊢
  rw [h 0 (by decide), h 1 (by decide), h 2 (by decide), h 3 (by decide), h 4 (by decide), h 5 (by decide), h 6 (by decide), h 7 (by decide), h 8 (by decide)]
  exact c
theorem CB_up {σ : zSt} {N M : Int} (h : N ≤ M) (c : CB σ N) : CB σ M := ⟨⟨c.1.1, by have := c.1.2; omega⟩, c.2⟩
theorem CB_ct {σ : zSt} {N : Int} (c : CB σ N) : ∀ t, 0 ≤ t → t ≤ 1 → 0 ≤ σ 4 t ∧ σ 4 t ≤ 16 := by
  intro t t0 t1
  rw [c.2.2.2.1 t t0 t1]
  exact cn_in _ _ _
theorem CB_free {σ : zSt} {N : Int} (c : CB σ N) {t : Int} (t0 : 0 ≤ t) (t1 : t ≤ 1) (h : σ 4 t < 16) : ∃ e0, 16 * t ≤ e0 ∧ e0 < 16 * t + 16 ∧ σ 5 e0 < 0 := by
  apply Classical.byContradiction
  intro hn
  have h1 := cn_all (P := fun e => 0 ≤ σ 5 e) (lo := 16 * t) (n := 16) (fun j hj => by
    show 0 ≤ σ 5 (16 * t + j)
    by_cases q : 0 ≤ σ 5 (16 * t + j)
    · exact q
    · exact absurd ⟨16 * t + j, by omega, by omega, by omega⟩ hn)
  rw [← c.2.2.2.1 t t0 t1] at h1
  omega
theorem CB_HE {σ : zSt} {N : Int} (c : CB σ N) (hN : N ≤ 1000) : HE (σ 5) (σ 7) (σ 8) := by
  obtain ⟨c1, c2, c3, c4, c5, c6, c7, c8, c9⟩ := c
  refine ⟨fun e e0 e1 e2 => ⟨by have := (c5 e (by omega) e1).2; omega, c9 e e0 e1 e2⟩, fun a b a0 a1 b0 b1 h0 h1 => c6 a b (by omega) a1 (by omega) b1 h0 h1⟩
theorem MI_of {σ μ : zSt} {N : Int} (c : CB σ N) (r : Rl σ μ) : MI μ := by
  obtain ⟨r1, r2, r3, r4⟩ := r
  have hct := CB_ct c
  obtain ⟨c1, c2, c3, c4, c5, c6, c7, c8, c9⟩ := c
  have R0 := r4 0 (by omega) (by omega)
  have R1 := r4 1 (by omega) (by omega)
  have act : ∀ e q, 0 ≤ e → e < 32 → 0 ≤ σ 5 e → DM σ μ e q → 0 ≤ μ 10 q ∧ μ 10 q ≤ 4 ∧ 0 ≤ μ 11 q ∧ μ 11 q ≤ 3 ∧ 0 ≤ μ 12 q ∧ μ 12 q ≤ 255 := by
    intro e q e0 e1 e2 d
    obtain ⟨⟨d1, d2, d3⟩, -⟩ := d
    have := c7 e e0 e1 e2
    unfold AOK at this
    rw [d1, d2, d3]
    omega
  refine ⟨fun t t0 t1 => ?_, fun q q0 q1 => ?_, fun q q0 q1 => ?_, fun j j0 j1 => ?_, fun q hq => ?_⟩
  · rw [← (r4 t t0 t1).2.1]; exact hct t t0 t1
  · obtain ⟨e, e0, e1, e2, e3, d⟩ := R0.2.2.2.1 q (by omega) (by omega)
    obtain ⟨d1, d2, d3⟩ := d.2.1 (by omega)
    have := c8 e (by omega) (by omega) e2
    rw [d1, d2]
    omega
  · obtain ⟨e, e0, e1, e2, e3, d⟩ := R1.2.2.2.1 q (by omega) (by omega)
    have := (d.2.2 (by omega)).1
    omega
  · rw [← r1 j j0 j1]; exact c3 j j0 j1
  · rcases hq with ⟨q0, q1⟩ | ⟨q0, q1⟩ | q0 | q0
    · obtain ⟨e, e0, e1, e2, e3, d⟩ := R0.2.2.2.1 q (by omega) (by omega)
      exact act e q (by omega) (by omega) e2 d
    · obtain ⟨e, e0, e1, e2, e3, d⟩ := R1.2.2.2.1 q (by omega) (by omega)
      exact act e q (by omega) (by omega) e2 d
    · obtain ⟨d1, d2, d3⟩ := R0.1
      have := c2.2.1
      unfold AOK at this
      rw [q0]
      rw [show (32 : Int) + 0 = 32 by omega] at d1 d2 d3
      rw [d1, d2, d3]
      omega
    · obtain ⟨d1, d2, d3⟩ := R1.1
      have := c2.2.2
      unfold AOK at this
      rw [q0]
      rw [show (32 : Int) + 1 = 33 by omega] at d1 d2 d3
      rw [d1, d2, d3]
      omega
/-- best entry of a table of the class -/
def BC (σ : zSt) (t : Int) (M : Int → Prop) (ρ : Int → Int) (b : Int) : Prop := (b = -1 ∧ ∀ e, 16 * t ≤ e → e < 16 * t + 16 → 0 ≤ σ 5 e → ¬ M e) ∨ (16 * t ≤ b ∧ b < 16 * t + 16 ∧ 0 ≤ σ 5 b ∧ M b ∧ ∀ e, 16 * t ≤ e → e < 16 * t + 16 → 0 ≤ σ 5 e → M e → ρ e < ρ b ∨ (ρ e = ρ b ∧ σ 5 b ≤ σ 5 e))
theorem RT_uq {σ μ : zSt} {t : Int} (R : RT σ μ t) {q q' : Int} (a0 : 16 * t ≤ q) (a1 : q < 16 * t + μ 5 t) (b0 : 16 * t ≤ q') (b1 : q' < 16 * t + μ 5 t) (e : μ 6 q = μ 6 q') : q = q' := by
  rcases Int.lt_trichotomy q q' with h | h | h
  · have := R.2.2.2.2 q q' a0 h b1; omega
  · exact h
  · have := R.2.2.2.2 q' q b0 h a1; omega
theorem LK {σ μ : zSt} {t v : Int} {M : Int → Prop} {ρ : Int → Int} {b q : Int} (ht : 0 ≤ t) (R : RT σ μ t) (hM : ∀ e q, 16 * t ≤ e → e < 16 * t + 16 → 0 ≤ σ 5 e → 16 * t ≤ q → q < 16 * t + μ 5 t → DM σ μ e q → ((M e ↔ Fit μ q v) ∧ ρ e = μ 9 q)) (hb : BC σ t M ρ b) (hq : Tk μ t v (16 * t + μ 5 t) q) : (b = -1 ∧ q = -1) ∨ (16 * t ≤ b ∧ b < 16 * t + 16 ∧ 0 ≤ σ 5 b ∧ 16 * t ≤ q ∧ q < 16 * t + μ 5 t ∧ σ 5 b = μ 6 q ∧ DM σ μ b q) := by
  rcases hb with ⟨b1, b2⟩ | ⟨b0, b1, b2, b3, b4⟩
  · rcases hq with ⟨q1, q2⟩ | ⟨q0, q1, q2, q3⟩
    · exact Or.inl ⟨b1, q1⟩
    · obtain ⟨e, e0, e1, e2, e3, d⟩ := R.2.2.2.1 q q0 q1
      exact absurd ((hM e q e0 e1 e2 q0 q1 d).1.mpr q2) (b2 e e0 e1 e2)
  · obtain ⟨p, p0, p1, p2, dp⟩ := R.2.2.1 b b0 b1 b2
    obtain ⟨k1, k2⟩ := hM b p b0 b1 b2 p0 p1 dp
    rcases hq with ⟨q1, q2⟩ | ⟨q0, q1, q2, q3⟩
    · exact absurd (k1.mp b3) (q2 p p0 p1)
    · obtain ⟨e, e0, e1, e2, e3, d⟩ := R.2.2.2.1 q q0 q1
      obtain ⟨k3, k4⟩ := hM e q e0 e1 e2 q0 q1 d
      have h1 := b4 e e0 e1 e2 (k3.mpr q2)
      have h2 := q3 p p0 p1 (k1.mp b3)
      have h3 : p = q := by
        rcases Int.lt_trichotomy p q with h | h | h
        · omega
        · exact h
        · have := R.2.2.2.2 q p q0 h p1; omega
      subst h3
      exact Or.inr ⟨b0, b1, b2, q0, q1, p2.symm, dp⟩
theorem Fit_lo {σ μ : zSt} {v e q : Int} (he : e < 16) (hq : q < 16) (d : DM σ μ e q) : Mt (σ 7) (σ 8) v e ↔ Fit μ q v := by
  obtain ⟨d1, d2, d3⟩ := d.2.1 he
  unfold Mt Fit
  rw [d1, d2]
  constructor
  · intro h; exact Or.inl ⟨hq, h⟩
  · rintro (⟨_, h⟩ | ⟨h, _⟩)
    · exact h
    · omega
theorem lnd_two {x y c d : Int} (hx : 0 ≤ x) (hy : 0 ≤ y ∧ y < 256) (hc : 0 ≤ c) (hd : 0 ≤ d ∧ d < 256) : lnd (x * 256 + y) (c * 256 + d) = lnd x c * 256 + lnd y d := by
  obtain ⟨x, rfl⟩ : ∃ n : Nat, x = n := ⟨x.toNat, by omega⟩
  obtain ⟨y, rfl⟩ : ∃ n : Nat, y = n := ⟨y.toNat, by omega⟩
  obtain ⟨c, rfl⟩ : ∃ n : Nat, c = n := ⟨c.toNat, by omega⟩
  obtain ⟨d, rfl⟩ : ∃ n : Nat, d = n := ⟨d.toNat, by omega⟩
  unfold lnd
  have e1 : ((x : Int) * 256 + (y : Int)).toNat = x * 256 + y := by omega
  have e2 : ((c : Int) * 256 + (d : Int)).toNat = c * 256 + d := by omega
  rw [e1, e2]
  simp only [Int.toNat_natCast]
  have h1 : ((x * 256 + y) &&& (c * 256 + d)) / 2 ^ 8 = x &&& c := by
    rw [Nat.and_div_two_pow]
    congr 1 <;> omega
  have h2 : ((x * 256 + y) &&& (c * 256 + d)) % 2 ^ 8 = y &&& d := by
    rw [Nat.and_mod_two_pow]
    congr 1 <;> omega
  omega
theorem lnd_md {x a : Int} (hx : 0 ≤ x ∧ x < 256) (ha : 0 ≤ a) : lnd x a % 256 = lnd x (a % 256) := by
  obtain ⟨x, rfl⟩ : ∃ n : Nat, x = n := ⟨x.toNat, by omega⟩
  obtain ⟨a, rfl⟩ : ∃ n : Nat, a = n := ⟨a.toNat, by omega⟩
  unfold lnd
  have e2 : ((a : Int) % 256).toNat = a % 256 := by omega
  rw [e2]
  simp only [Int.toNat_natCast]
  have h2 : (x &&& a) % 2 ^ 8 = x &&& (a % 256) := by
    rw [Nat.and_mod_two_pow]
    congr 1
    omega
  omega
theorem Fit_hi {σ μ : zSt} {v e q : Int} (he : 16 ≤ e) (hq : 16 ≤ q) (hp : ∀ j, 0 ≤ j → j < 4 → σ 3 j = μ 0 j) (hb : ∀ j, 0 ≤ j → j < 4 → 0 ≤ σ 3 j ∧ σ 3 j ≤ 255) (d : DM σ μ e q) : Kk (σ 7) (σ 8) (σ 3 1 * 256 + σ 3 2) e ↔ Fit μ q v := by
  obtain ⟨d1, d2, d3⟩ := d.2.2 he
  have f1 := hb 1 (by omega) (by omega)
  have f2 := hb 2 (by omega) (by omega)
  unfold Kk Fit
  rw [← hp 1 (by omega) (by omega), ← hp 2 (by omega) (by omega), d2, d3]
  generalize μ 7 q = a at d1 ⊢
  generalize μ 8 q = b at d1 ⊢
  have m1 : lnd (σ 3 1 * 256 + σ 3 2) (a % 256 * 256 + b % 256) = lnd (σ 3 1) (a % 256) * 256 + lnd (σ 3 2) (b % 256) := lnd_two (by omega) (by omega) (by omega) (by omega)
  have m2 : lnd (a / 256 * 256 + b / 256) (a % 256 * 256 + b % 256) = lnd (a / 256) (a % 256) * 256 + lnd (b / 256) (b % 256) := lnd_two (by omega) (by omega) (by omega) (by omega)
  have n1 := lnd_nn (a / 256) (a % 256)
  have n2 := lnd_nn (b / 256) (b % 256)
  have n3 := lnd_nn (σ 3 1) (a % 256)
  have n4 := lnd_nn (σ 3 2) (b % 256)
  have l1 := lnd_le (a := a / 256) (b := a % 256) (by omega)
  have l2 := lnd_le (a := b / 256) (b := b % 256) (by omega)
  have l3 := lnd_le (a := σ 3 1) (b := a % 256) (by omega)
  have l4 := lnd_le (a := σ 3 2) (b := b % 256) (by omega)
  rw [m1, m2, lnd_md (by omega) (by omega), lnd_md (by omega) (by omega), lnd_md (by omega) (by omega), lnd_md (by omega) (by omega)]
  omega
/-- counting by handles -/
theorem cn_img {P : Int → Prop} {f : Int → Int} {lo : Int} {N : Nat} : ∀ {n : Nat}, (∀ j : Nat, j < n → P (lo + j) → 0 ≤ f (lo + j) ∧ f (lo + j) < N) → (∀ i j : Nat, i < n → j < n → P (lo + i) → P (lo + j) → f (lo + i) = f (lo + j) → i = j) → cn P lo n = cn (fun h => ∃ j : Nat, j < n ∧ P (lo + j) ∧ f (lo + j) = h) 0 N := by
  intro n
  induction n with
  | zero =>
    intro _ _
    rw [cn_0, cn_no]
    rintro j hj ⟨i, hi, _⟩
    omega
  | succ n ih =>
    intro h1 h2
    have h3 := ih (fun j hj => h1 j (by omega)) (fun i j hi hj => h2 i j (by omega) (by omega))
    by_cases hp : P (lo + n)
    · have h4 := h1 n (by omega) hp
      have h5 := cn_one (e := f (lo + n)) (lo := 0) (n := N) (by omega)
      rw [cn_t hp, h3]
      refine (Eq.trans (cn_or (P := fun h => ∃ j : Nat, j < n ∧ P (lo + j) ∧ f (lo + j) = h) (Q := fun y => y = f (lo + n)) (fun j hj => ⟨⟨?_, ?_⟩, ?_⟩)) (by rw [h5])).symm
      · rintro ⟨i, hi, i1, i2⟩
        by_cases q : i = n
        · subst q; exact Or.inr i2.symm
        · exact Or.inl ⟨i, by omega, i1, i2⟩
      · rintro (⟨i, hi, i1, i2⟩ | q)
        · exact ⟨i, by omega, i1, i2⟩
        · exact ⟨n, by omega, hp, q.symm⟩
      · rintro ⟨⟨i, hi, i1, i2⟩, q⟩
        have := h2 i n (by omega) (by omega) i1 hp (by rw [i2, q])
        omega
    · rw [cn_f hp, h3]
      refine cn_cg (fun j hj => ⟨?_, ?_⟩)
      · rintro ⟨i, hi, i1⟩
        exact ⟨i, by omega, i1⟩
      · rintro ⟨i, hi, i1, i2⟩
        by_cases q : i = n
        · subst q; exact absurd i1 hp
        · exact ⟨i, by omega, i1, i2⟩
/-- both sides count the same -/
theorem MC {σ μ : zSt} {N t v : Int} {M : Int → Prop} (ht : 0 ≤ t ∧ t ≤ 1) (c : CB σ N) (R : RT σ μ t) (hM : ∀ e q, 16 * t ≤ e → e < 16 * t + 16 → 0 ≤ σ 5 e → 16 * t ≤ q → q < 16 * t + μ 5 t → DM σ μ e q → (M e ↔ Fit μ q v)) : cn (fun e => 0 ≤ σ 5 e ∧ M e) (16 * t) 16 = cn (fun q => Fit μ q v) (16 * t) (μ 5 t).toNat := by
  have hct := CB_ct c t ht.1 ht.2
  have e5 := R.2.1
  obtain ⟨c1, c2, c3, c4, c5, c6, c7, c8, c9⟩ := c
  have hN : ∃ K : Nat, σ 1 0 ≤ K := ⟨(σ 1 0).toNat, by omega⟩
  obtain ⟨K, hK⟩ := hN
  rw [cn_img (f := σ 5) (N := K) (fun j hj q => ⟨q.1, by have := (c5 (16 * t + j) (by omega) (by omega)).2; omega⟩) (fun i j hi hj qi qj e => by
    have := c6 (16 * t + i) (16 * t + j) (by omega) (by omega) (by omega) (by omega) qi.1 e
    omega)]
  rw [cn_img (P := fun q => Fit μ q v) (f := μ 6) (N := K) (fun j hj q => by
    obtain ⟨e, e0, e1, e2, e3, d⟩ := R.2.2.2.1 (16 * t + j) (by omega) (by omega)
    rw [← e3]
    exact ⟨e2, by have := (c5 e (by omega) (by omega)).2; omega⟩) (fun i j hi hj qi qj e => by
    have := RT_uq R (q := 16 * t + i) (q' := 16 * t + j) (by omega) (by omega) (by omega) (by omega) e
    omega)]
  refine cn_cg (fun h hh => ⟨?_, ?_⟩)
  · rintro ⟨j, hj, ⟨j1, j2⟩, j3⟩
    obtain ⟨q, q0, q1, q2, d⟩ := R.2.2.1 (16 * t + j) (by omega) (by omega) j1
    refine ⟨(q - 16 * t).toNat, by omega, ?_, ?_⟩
    · rw [show 16 * t + ((q - 16 * t).toNat : Int) = q by omega]
      exact (hM _ q (by omega) (by omega) j1 q0 q1 d).mp j2
    · rw [show 16 * t + ((q - 16 * t).toNat : Int) = q by omega, q2]
      exact j3
  · rintro ⟨j, hj, j1, j2⟩
    obtain ⟨e, e0, e1, e2, e3, d⟩ := R.2.2.2.1 (16 * t + j) (by omega) (by omega)
    refine ⟨(e - 16 * t).toNat, by omega, ?_, ?_⟩
    · rw [show 16 * t + ((e - 16 * t).toNat : Int) = e by omega]
      exact ⟨e2, (hM e _ e0 e1 e2 (by omega) (by omega) d).mpr j1⟩
    · rw [show 16 * t + ((e - 16 * t).toNat : Int) = e by omega, e3]
      exact j2
/-- owned, both sides -/
theorem OWN {σ μ : zSt} {N e q : Int} (c : CB σ N) (R : RT σ μ 0) (he : 0 ≤ e ∧ e < 16) (hl : 0 ≤ σ 5 e) (hq : 0 ≤ q ∧ q < μ 5 0) (hh : σ 5 e = μ 6 q) : cn (Bst (σ 5) (σ 7) (σ 8) e) 0 256 = cn (fun v => Tk μ 0 v (16 * 0 + μ 5 0) q) 0 256 := by
  have hct := CB_ct c 0 (by omega) (by omega)
  have e5 := R.2.1
  obtain ⟨p, p0, p1, p2, dp⟩ := R.2.2.1 e (by omega) (by omega) hl
  have hpq : p = q := RT_uq R p0 p1 (by omega) (by omega) (by omega)
  subst hpq
  have d1 := dp.2.1 he.2
  refine cn_cg (fun j hj => ⟨?_, ?_⟩)
  · rintro ⟨b1, b2⟩
    refine Or.inr ⟨p0, p1, (Fit_lo he.2 (by omega) dp).mp b1, fun x x0 x1 x2 => ?_⟩
    obtain ⟨f, f0, f1, f2, f3, d⟩ := R.2.2.2.1 x x0 x1
    have d2 := d.2.1 (by omega)
    have h1 := b2 f (by omega) (by omega) f2 ((Fit_lo (by omega) (by omega) d).mpr x2)
    rw [d1.2.2, d2.2.2]
    rcases Int.lt_trichotomy x p with h | h | h
    · have := R.2.2.2.2 x p x0 h p1; omega
    · omega
    · omega
  · rintro (⟨k1, k2⟩ | ⟨k0, k1, k2, k3⟩)
    · omega
    · refine ⟨(Fit_lo he.2 (by omega) dp).mpr k2, fun f f0 f1 f2 f3 => ?_⟩
      obtain ⟨x, x0, x1, x2, d⟩ := R.2.2.1 f (by omega) (by omega) f2
      have d2 := d.2.1 f1
      have h1 := k3 x x0 x1 ((Fit_lo f1 (by omega) d).mp f3)
      rw [d1.2.2, d2.2.2] at h1
      rcases h1 with h1 | ⟨h1, h2⟩
      · exact Or.inl h1
      · refine Or.inr ⟨h1, ?_⟩
        by_cases r : x = p
        · rw [r] at x2; omega
        · have := R.2.2.2.2 p x p0 (by omega) x1; omega
end
section
/-! the class's public questions, plain: CI: the class's cells, with what it keeps for later; Ag: the same entries -/
def CI (σ : zSt) (N : Int) : Prop := CB σ N ∧ (σ 9 0 ≠ 0 → TreeOK σ) ∧ (σ 16 0 ≠ 0 → GroupsOK σ)
def Ag (u σ : zSt) : Prop := ∀ k, k ≤ 8 → u k = σ k
theorem CI_lo {σ u : zSt} {N : Int} (c : CI σ N) (h9 : u 9 0 ≠ 0 → TreeOK u) (hf : ∀ k, k ≠ 9 → k ≠ 10 → k ≠ 11 → k ≠ 12 → k ≠ 13 → k ≠ 14 → k ≠ 15 → u k = σ k) : CI u N ∧ Ag u σ := by
  have ha : Ag u σ := fun k hk => hf k (by omega) (by omega) (by omega) (by omega) (by omega) (by omega) (by omega)
  have g : ∀ k, 16 ≤ k → u k = σ k := fun k hk => hf k (by omega) (by omega) (by omega) (by omega) (by omega) (by omega) (by omega)
  refine ⟨⟨CB_cg ha c.1, h9, ?_⟩, ha⟩
  unfold GroupsOK
  rw [ha 5 (by decide), ha 7 (by decide), ha 8 (by decide), g 16 (by decide), g 17 (by decide), g 18 (by decide), g 19 (by decide), g 20 (by decide), g 21 (by decide)]
  exact c.2.2
theorem CI_hi {σ u : zSt} {N : Int} (c : CI σ N) (h16 : u 16 0 ≠ 0 → GroupsOK u) (hf : ∀ k, k ≠ 16 → k ≠ 17 → k ≠ 18 → k ≠ 19 → k ≠ 20 → k ≠ 21 → u k = σ k) : CI u N ∧ Ag u σ := by
  have g : ∀ k, k ≤ 15 → u k = σ k := fun k hk => hf k (by omega) (by omega) (by omega) (by omega) (by omega) (by omega)
  have ha : Ag u σ := fun k hk => g k (by omega)
  refine ⟨⟨CB_cg ha c.1, ?_, h16⟩, ha⟩
  unfold TreeOK
  rw [g 5 (by decide), g 7 (by decide), g 8 (by decide), g 9 (by decide), g 10 (by decide), g 11 (by decide), g 12 (by decide), g 13 (by decide)]
  exact c.2.1
theorem CI_WK {σ : zSt} {N : Int} (c : CI σ N) : WK σ := c.1.2.2.2.2.2.2.2.1
theorem CI_pk {σ : zSt} {N : Int} (c : CI σ N) : ∀ j, 0 ≤ j → j < 4 → 0 ≤ σ 3 j ∧ σ 3 j ≤ 255 := c.1.2.2.1
theorem perf_k (σ : zSt) (a : Int) {k : Nat} (hk : k ≠ 3) : perf σ a k = σ k := by
  unfold perf
  split
  · funext j; simp [sset, hk]
  · split
    · funext j; simp [sset, hk]
    · split
      · funext j; simp [sset, hk]
      · rfl
theorem ss_3 (σ : zSt) (x v j : Int) (k : Nat) : sset σ k x v k j = if j = x then v else σ k j := by simp [sset]
theorem ss_k (σ : zSt) {k k' : Nat} (x v : Int) (h : k' ≠ k) : sset σ k x v k' = σ k' := by funext j; simp [sset, h]
theorem perf_in {σ : zSt} {a : Int} (ha : AOK a) (hp : ∀ j, 0 ≤ j → j < 4 → 0 ≤ σ 3 j ∧ σ 3 j ≤ 255) : ∀ j, 0 ≤ j → j < 4 → 0 ≤ perf σ a 3 j ∧ perf σ a 3 j ≤ 255 := by
  intro j j0 j1
  have h1 := hp j j0 j1
  have h2 := hp (a / 32 % 4) (by omega) (by omega)
  unfold AOK at ha
  unfold perf
  split
  · rw [ss_3]
    split <;> omega
  · split
    · rw [ss_3]
      split <;> omega
    · split
      · rw [ss_3]
        split <;> omega
      · exact h1
theorem CB_perf {σ : zSt} {N a : Int} (c : CB σ N) (ha : AOK a) : CB (perf σ a) N := by
  obtain ⟨c1, c2, c3, c4⟩ := c
  unfold CB
  rw [perf_k σ a (k := 0) (by decide), perf_k σ a (k := 1) (by decide), perf_k σ a (k := 2) (by decide), perf_k σ a (k := 4) (by decide), perf_k σ a (k := 5) (by decide), perf_k σ a (k := 6) (by decide), perf_k σ a (k := 7) (by decide), perf_k σ a (k := 8) (by decide)]
  exact ⟨c1, c2, perf_in ha c3, c4⟩
theorem CI_perf {σ : zSt} {N a : Int} (c : CI σ N) (ha : AOK a) : CI (perf σ a) N := by
  obtain ⟨c0, ct, cg⟩ := c
  refine ⟨CB_perf c0 ha, ?_, ?_⟩
  · unfold TreeOK
    rw [perf_k σ a (k := 5) (by decide), perf_k σ a (k := 7) (by decide), perf_k σ a (k := 8) (by decide), perf_k σ a (k := 9) (by decide), perf_k σ a (k := 10) (by decide), perf_k σ a (k := 11) (by decide), perf_k σ a (k := 12) (by decide), perf_k σ a (k := 13) (by decide)]
    exact ct
  · unfold GroupsOK
    rw [perf_k σ a (k := 5) (by decide), perf_k σ a (k := 7) (by decide), perf_k σ a (k := 8) (by decide), perf_k σ a (k := 16) (by decide), perf_k σ a (k := 17) (by decide), perf_k σ a (k := 18) (by decide), perf_k σ a (k := 19) (by decide), perf_k σ a (k := 20) (by decide), perf_k σ a (k := 21) (by decide)]
    exact cg
/-- what matches in a table, and its rank -/
def Mm (σ : zSt) (t e : Int) : Prop := (t = 0 ∧ Mt (σ 7) (σ 8) (σ 3 0) e) ∨ (t = 1 ∧ Kk (σ 7) (σ 8) (σ 3 1 * 256 + σ 3 2) e)
def Rk (σ : zSt) (t e : Int) : Int := if t = 0 then σ 8 e else σ 7 e / 65536
theorem Mm_0 {σ : zSt} {e : Int} : Mm σ 0 e ↔ Mt (σ 7) (σ 8) (σ 3 0) e := by
  unfold Mm
  constructor
  · rintro (⟨-, h⟩ | ⟨h, -⟩)
    · exact h
    · omega
  · intro h; exact Or.inl ⟨rfl, h⟩
theorem Mm_1 {σ : zSt} {e : Int} : Mm σ 1 e ↔ Kk (σ 7) (σ 8) (σ 3 1 * 256 + σ 3 2) e := by
  unfold Mm
  constructor
  · rintro (⟨h, -⟩ | ⟨-, h⟩)
    · omega
    · exact h
  · intro h; exact Or.inr ⟨rfl, h⟩
def BT (σ : zSt) (t b : Int) : Prop := BC σ t (Mm σ t) (Rk σ t) b
theorem BT_0 {σ : zSt} {z : Int} (hw : WK σ) (h : BM (σ 5) (σ 7) (σ 8) (σ 3 0) 9 z) : BT σ 0 z := by
  rcases h with ⟨h1, h2⟩ | ⟨h0, h1, h2, h3, h4, h5⟩
  · refine Or.inl ⟨h1, fun e e0 e1 e2 e3 => h2 e (by omega) (by omega) e2 (Mm_0.mp e3) ?_⟩
    have := (hw e (by omega) (by omega) e2).2
    omega
  · refine Or.inr ⟨by omega, by omega, h2, Mm_0.mpr h3, fun e e0 e1 e2 e3 => ?_⟩
    have hwe := (hw e (by omega) (by omega) e2).2
    exact h5 e (by omega) (by omega) e2 (Mm_0.mp e3) (by omega)
theorem BT_1 {σ : zSt} {z : Int} (H : HE (σ 5) (σ 7) (σ 8)) (h : MinP (fun y => Inn (σ 5) 32 y ∧ Kk (σ 7) (σ 8) (σ 3 1 * 256 + σ 3 2) y) (od (σ 5) (σ 7)) z) : BT σ 1 z := by
  rcases h with ⟨h1, h2⟩ | ⟨⟨h1, h2⟩, h3⟩
  · exact Or.inl ⟨h1, fun e e0 e1 e2 e3 => h2 e ⟨⟨by omega, by omega, e2⟩, Mm_1.mp e3⟩⟩
  · obtain ⟨z0, z1, z2⟩ := h1
    refine Or.inr ⟨by omega, by omega, z2, Mm_1.mpr h2, fun e e0 e1 e2 e3 => ?_⟩
    have q := h3 e ⟨⟨by omega, by omega, e2⟩, Mm_1.mp e3⟩
    have g1 := H.1 e (by omega) (by omega) e2
    have g2 := H.1 z z0 z1 z2
    show σ 7 e / 65536 < σ 7 z / 65536 ∨ (σ 7 e / 65536 = σ 7 z / 65536 ∧ σ 5 z ≤ σ 5 e)
    unfold od at q
    omega
theorem BT_lt {σ : zSt} {t b : Int} (ht : 0 ≤ t ∧ t ≤ 1) (h : BT σ t b) : -1 ≤ b ∧ b < 32 := by
  rcases h with ⟨h, -⟩ | ⟨h0, h1, -⟩ <;> omega
theorem BT_cg {σ u : zSt} (h : Ag u σ) {t b : Int} : BT u t b ↔ BT σ t b := by
  unfold BT BC Mm Rk
  rw [h 3 (by decide), h 5 (by decide), h 7 (by decide), h 8 (by decide)]
/-- the action that is done -/
def acs (σ : zSt) (t b : Int) : Int := if b < 0 then σ 2 t else σ 6 b
theorem acs_cg {σ u : zSt} (h : Ag u σ) (t b : Int) : acs u t b = acs σ t b := by
  unfold acs
  rw [h 2 (by decide), h 6 (by decide)]
theorem acs_ok {σ : zSt} {N t b : Int} (c : CI σ N) (ht : t = 0 ∨ t = 1) (h : BT σ t b) : AOK (acs σ t b) := by
  obtain ⟨⟨c1, c2, c3, c4, c5, c6, c7, c8⟩, -⟩ := c
  unfold acs
  rcases h with ⟨h, -⟩ | ⟨h0, h1, h2, -⟩
  · rw [if_pos (by omega)]
    rcases ht with e | e
    · rw [e]; exact c2.2.1
    · rw [e]; exact c2.2.2
  · rw [if_neg (by omega)]
    exact c7 b (by omega) (by omega) h2
end
section
/-! the class's lookup, matching, process -/
set_option maxHeartbeats 4000000 in
theorem m0_lookup (σ : zSt) (t N : Int) (ht : -2147483648 ≤ t ∧ t < 2147483648) (hN1 : N ≤ 1000) (c : CI σ N) : Cx cd0 yX0_lookup cX0_lookup 3 .int 5 σ [t] (fun z u => CI u N ∧ Ag u σ ∧ ((¬ (0 ≤ t ∧ t ≤ 1) ∧ z = -1) ∨ ((0 ≤ t ∧ t ≤ 1) ∧ ∃ b, BT σ t b ∧ ((b < 0 ∧ z = -3) ∨ (0 ≤ b ∧ z = σ 5 b))))) := by
  refine Cx_of wf0 (by decide +kernel) rfl (Nat.le_of_ble_eq_true rfl) (Or.inl rfl) (fun th_ => [some th_, some (iv t), none]) (fun _ => rfl) ?_
  intro E hN hret hR0
  refine x_iloadn hN dX0_lookup_0 rfl ?_
  refine x_iflt hN 9 dX0_lookup_1 (by decide) (by omega) (fun h1 => ?_) (fun h1 => ?_)
  · refine x_iconst hN dX0_lookup_9 ?_
    exact hret _ _ _ _ dX0_lookup_10 (by omega) ⟨c, fun k _ => rfl, Or.inl ⟨by omega, rfl⟩⟩
  · refine x_iloadn hN dX0_lookup_4 rfl ?_
    refine x_iconst hN dX0_lookup_5 ?_
    refine x_cmple hN 11 dX0_lookup_6 (by decide) (by omega) (by omega) (fun h6 => ?_) (fun h6 => ?_)
    · refine x_iloadn hN dX0_lookup_11 rfl ?_
      refine x_ifne hN 22 dX0_lookup_12 (by decide) (by omega) (fun h12 => ?_) (fun h12 => ?_)
      · refine x_aload hN dX0_lookup_22 rfl ?_
        refine x_call hN (m0_greatestPriority σ (CB_HE c.1 hN1) c.2.2 (CI_pk c)) hw0_greatestPriority hy0_greatestPriority (by decide) rfl (Nat.le_of_ble_eq_true rfl) rfl dX0_lookup_23 (fun z23 u23 hz23 hp23 => ?_)
        obtain ⟨hB, q16, hT, hfr⟩ := hp23
        obtain ⟨hC, hA⟩ := CI_hi c (fun _ => hT) hfr
        have ht1 : t = 1 := by omega
        have hb : BT σ t z23 := by rw [ht1]; exact BT_1 (CB_HE c.1 hN1) hB
        have hlt := BT_lt (by omega) hb
        refine x_st2 hN dX0_lookup_26 ?_
        refine x_iloadn hN dX0_lookup_27 rfl ?_
        refine x_ifge hN 36 dX0_lookup_28 (by decide) (by omega) (fun h28 => ?_) (fun h28 => ?_)
        · refine x_aload hN dX0_lookup_36 rfl ?_
          refine a0_5 hN dX0_lookup_37 ?_
          refine x_iloadn hN dX0_lookup_40 rfl ?_
          refine l0_5 hN dX0_lookup_41 (by omega) (by omega) (fun hr41 => ?_)
          exact hret _ _ _ _ dX0_lookup_42 (by omega) ⟨hC, hA, Or.inr ⟨⟨by omega, by omega⟩, z23, hb, Or.inr ⟨h28, by rw [hA 5 (by decide)]⟩⟩⟩
        · refine x_bipush hN dX0_lookup_31 (by decide) ?_
          refine x_goto hN 42 dX0_lookup_33 (by decide) ?_
          exact hret _ _ _ _ dX0_lookup_42 (by omega) ⟨hC, hA, Or.inr ⟨⟨by omega, by omega⟩, z23, hb, Or.inl ⟨h28, rfl⟩⟩⟩
      · refine x_aload hN dX0_lookup_15 rfl ?_
        refine x_call hN (m0_longestPrefix σ (CI_WK c) c.2.1 (CI_pk c 0 (by omega) (by omega))) hw0_longestPrefix hy0_longestPrefix (by decide) rfl (Nat.le_of_ble_eq_true rfl) rfl dX0_lookup_16 (fun z16 u16 hz16 hp16 => ?_)
        obtain ⟨hB, q9, hT, hfr⟩ := hp16
        obtain ⟨hC, hA⟩ := CI_lo c (fun _ => hT) (fun k a b d e f _ _ => hfr k a b d e f)
        have hb : BT σ t z16 := by rw [h12]; exact BT_0 (CI_WK c) hB
        have hlt := BT_lt (by omega) hb
        refine x_goto hN 26 dX0_lookup_19 (by decide) ?_
        refine x_st2 hN dX0_lookup_26 ?_
        refine x_iloadn hN dX0_lookup_27 rfl ?_
        refine x_ifge hN 36 dX0_lookup_28 (by decide) (by omega) (fun h28 => ?_) (fun h28 => ?_)
        · refine x_aload hN dX0_lookup_36 rfl ?_
          refine a0_5 hN dX0_lookup_37 ?_
          refine x_iloadn hN dX0_lookup_40 rfl ?_
          refine l0_5 hN dX0_lookup_41 (by omega) (by omega) (fun hr41 => ?_)
          exact hret _ _ _ _ dX0_lookup_42 (by omega) ⟨hC, hA, Or.inr ⟨⟨by omega, by omega⟩, z16, hb, Or.inr ⟨h28, by rw [hA 5 (by decide)]⟩⟩⟩
        · refine x_bipush hN dX0_lookup_31 (by decide) ?_
          refine x_goto hN 42 dX0_lookup_33 (by decide) ?_
          exact hret _ _ _ _ dX0_lookup_42 (by omega) ⟨hC, hA, Or.inr ⟨⟨by omega, by omega⟩, z16, hb, Or.inl ⟨h28, rfl⟩⟩⟩
    · refine x_iconst hN dX0_lookup_9 ?_
      exact hret _ _ _ _ dX0_lookup_10 (by omega) ⟨c, fun k _ => rfl, Or.inl ⟨by omega, rfl⟩⟩
set_option maxHeartbeats 4000000 in
theorem m0_matching (σ : zSt) (t N : Int) (ht : -2147483648 ≤ t ∧ t < 2147483648) (hN1 : N ≤ 1000) (c : CI σ N) : Cx cd0 yX0_matching cX0_matching 2 .int 5 σ [t] (fun z u => CI u N ∧ Ag u σ ∧ ((¬ (0 ≤ t ∧ t ≤ 1) ∧ z = -1) ∨ ((0 ≤ t ∧ t ≤ 1) ∧ z = cn (fun e => 0 ≤ σ 5 e ∧ Mm σ t e) (16 * t) 16))) := by
  refine Cx_of wf0 (by decide +kernel) rfl (Nat.le_of_ble_eq_true rfl) (Or.inl rfl) (fun th_ => [some th_, some (iv t)]) (fun _ => rfl) ?_
  intro E hN hret hR0
  refine x_iloadn hN dX0_matching_0 rfl ?_
  refine x_iflt hN 9 dX0_matching_1 (by decide) (by omega) (fun h1 => ?_) (fun h1 => ?_)
  · refine x_iconst hN dX0_matching_9 ?_
    exact hret _ _ _ _ dX0_matching_10 (by omega) ⟨c, fun k _ => rfl, Or.inl ⟨by omega, rfl⟩⟩
  · refine x_iloadn hN dX0_matching_4 rfl ?_
    refine x_iconst hN dX0_matching_5 ?_
    refine x_cmple hN 11 dX0_matching_6 (by decide) (by omega) (by omega) (fun h6 => ?_) (fun h6 => ?_)
    · refine x_iloadn hN dX0_matching_11 rfl ?_
      refine x_ifne hN 22 dX0_matching_12 (by decide) (by omega) (fun h12 => ?_) (fun h12 => ?_)
      · refine x_aload hN dX0_matching_22 rfl ?_
        refine x_call hN (m0_maskedMatching σ (CB_HE c.1 hN1) c.2.2 (CI_pk c)) hw0_maskedMatching hy0_maskedMatching (by decide) rfl (Nat.le_of_ble_eq_true rfl) rfl dX0_matching_23 (fun z23 u23 hz23 hp23 => ?_)
        obtain ⟨hB, q16, hT, hfr⟩ := hp23
        obtain ⟨hC, hA⟩ := CI_hi c (fun _ => hT) hfr
        have ht1 : t = 1 := by omega
        exact hret _ _ _ _ dX0_matching_26 (by omega) ⟨hC, hA, Or.inr ⟨⟨by omega, by omega⟩, by rw [hB, ht1]; exact cn_cg (lo := 16) (fun j _ => by simp only [Mm_1])⟩⟩
      · refine x_aload hN dX0_matching_15 rfl ?_
        refine x_call hN (m0_prefixesOnWay σ (CI_WK c) c.2.1 (CI_pk c 0 (by omega) (by omega))) hw0_prefixesOnWay hy0_prefixesOnWay (by decide) rfl (Nat.le_of_ble_eq_true rfl) rfl dX0_matching_16 (fun z16 u16 hz16 hp16 => ?_)
        obtain ⟨hB, q9, hT, hfr⟩ := hp16
        obtain ⟨hC, hA⟩ := CI_lo c (fun _ => hT) (fun k a b d e f _ _ => hfr k a b d e f)
        
        refine x_goto hN 26 dX0_matching_19 (by decide) ?_
        exact hret _ _ _ _ dX0_matching_26 (by omega) ⟨hC, hA, Or.inr ⟨⟨by omega, by omega⟩, by rw [hB, h12]; exact cn_cg (lo := 0) (fun j _ => by simp only [Mm_0])⟩⟩
    · refine x_iconst hN dX0_matching_9 ?_
      exact hret _ _ _ _ dX0_matching_10 (by omega) ⟨c, fun k _ => rfl, Or.inl ⟨by omega, rfl⟩⟩
set_option maxHeartbeats 4000000 in
theorem m0_process (σ : zSt) (N : Int) (hN1 : N ≤ 1000) (c : CI σ N) : Cx cd0 yX0_process cX0_process 4 .int 5 σ [] (fun z u => CI u N ∧ ∃ (b : Int) (v : zSt), BT σ 0 b ∧ Ag v σ ∧ ((acs σ 0 b % 8 = 4 ∧ z = 0 ∧ u = perf v (acs σ 0 b)) ∨ (acs σ 0 b % 8 ≠ 4 ∧ ∃ (τ : zSt), τ = perf v (acs σ 0 b) ∧ ∃ (d : Int) (w : zSt), BT τ 1 d ∧ Ag w τ ∧ u = perf w (acs τ 1 d) ∧ ((acs τ 1 d % 8 = 4 ∧ z = 0) ∨ (acs τ 1 d % 8 ≠ 4 ∧ z = 1))))) := by
  refine Cx_of wf0 (by decide +kernel) rfl (Nat.le_of_ble_eq_true rfl) (Or.inl rfl) (fun th_ => [some th_, none, none, none]) (fun _ => rfl) ?_
  intro E hN hret hR0
  refine x_aload hN dX0_process_0 rfl ?_
  refine x_call hN (m0_longestPrefix σ (CI_WK c) c.2.1 (CI_pk c 0 (by omega) (by omega))) hw0_longestPrefix hy0_longestPrefix (by decide) rfl (Nat.le_of_ble_eq_true rfl) rfl dX0_process_1 (fun z1 u1 hz1 hp1 => ?_)
  obtain ⟨hB1, q9, hT1, hfr1⟩ := hp1
  obtain ⟨hC1, hA1⟩ := CI_lo c (fun _ => hT1) (fun k a b d e f _ _ => hfr1 k a b d e f)
  have hb1 : BT σ 0 z1 := BT_0 (CI_WK c) hB1
  have hlt1 := BT_lt (by omega) hb1
  have hok1 := acs_ok c (Or.inl rfl) hb1
  refine x_st1 hN dX0_process_4 ?_
  refine x_aload hN dX0_process_5 rfl ?_
  refine x_iloadn hN dX0_process_6 rfl ?_
  refine x_ifge hN 19 dX0_process_7 (by decide) (by omega) (fun h7 => ?_) (fun h7 => ?_)
  · refine x_aload hN dX0_process_19 rfl ?_
    refine a0_6 hN dX0_process_20 ?_
    refine x_iloadn hN dX0_process_23 rfl ?_
    refine l0_6 hN dX0_process_24 (by omega) (by omega) (fun hr24 => ?_)
    refine x_top (acs σ 0 z1) (by unfold acs; first | rw [if_pos (by omega), hA1 2 (by decide)] | rw [if_neg (by omega), hA1 6 (by decide)]) ?_
    refine x_call hN (m0_perform u1 (acs σ 0 z1) (by unfold AOK at hok1; omega) (CI_pk hC1)) hw0_perform hy0_perform (by decide) rfl (Nat.le_of_ble_eq_true rfl) rfl dX0_process_25 (fun z25 u25 hz25 hp25 => ?_)
    have hC25 : CI u25 N := by rw [hp25.1]; exact CI_perf hC1 hok1
    refine x_st2 hN dX0_process_28 ?_
    refine x_iloadn hN dX0_process_29 rfl ?_
    refine x_ifne hN 35 dX0_process_30 (by decide) (by omega) (fun h30 => ?_) (fun h30 => ?_)
    · refine x_aload hN dX0_process_35 rfl ?_
      refine x_call hN (m0_greatestPriority u25 (CB_HE hC25.1 hN1) hC25.2.2 (CI_pk hC25)) hw0_greatestPriority hy0_greatestPriority (by decide) rfl (Nat.le_of_ble_eq_true rfl) rfl dX0_process_36 (fun z36 u36 hz36 hp36 => ?_)
      obtain ⟨hB36, q16, hT36, hfr36⟩ := hp36
      obtain ⟨hC36, hA36⟩ := CI_hi hC25 (fun _ => hT36) hfr36
      have hb36 : BT u25 1 z36 := BT_1 (CB_HE hC25.1 hN1) hB36
      have hlt36 := BT_lt (by omega) hb36
      have hok36 := acs_ok hC25 (Or.inr rfl) hb36
      refine x_st3 hN dX0_process_39 ?_
      refine x_aload hN dX0_process_40 rfl ?_
      refine x_iloadn hN dX0_process_41 rfl ?_
      refine x_ifge hN 54 dX0_process_42 (by decide) (by omega) (fun h42 => ?_) (fun h42 => ?_)
      · refine x_aload hN dX0_process_54 rfl ?_
        refine a0_6 hN dX0_process_55 ?_
        refine x_iloadn hN dX0_process_58 rfl ?_
        refine l0_6 hN dX0_process_59 (by omega) (by omega) (fun hr59 => ?_)
        refine x_top (acs u25 1 z36) (by unfold acs; first | rw [if_pos (by omega), hA36 2 (by decide)] | rw [if_neg (by omega), hA36 6 (by decide)]) ?_
        refine x_call hN (m0_perform u36 (acs u25 1 z36) (by unfold AOK at hok36; omega) (CI_pk hC36)) hw0_perform hy0_perform (by decide) rfl (Nat.le_of_ble_eq_true rfl) rfl dX0_process_60 (fun z60 u60 hz60 hp60 => ?_)
        have hC60 : CI u60 N := by rw [hp60.1]; exact CI_perf hC36 hok36
        refine x_ifeq hN 70 dX0_process_63 (by decide) (by omega) (fun h63 => ?_) (fun h63 => ?_)
        · refine x_iconst hN dX0_process_70 ?_
          exact hret _ _ _ _ dX0_process_71 (by omega) ⟨hC60, z1, u1, hb1, hA1, Or.inr ⟨by omega, u25, hp25.1, z36, u36, hb36, hA36, hp60.1, by omega⟩⟩
        · refine x_iconst hN dX0_process_66 ?_
          refine x_goto hN 71 dX0_process_67 (by decide) ?_
          exact hret _ _ _ _ dX0_process_71 (by omega) ⟨hC60, z1, u1, hb1, hA1, Or.inr ⟨by omega, u25, hp25.1, z36, u36, hb36, hA36, hp60.1, by omega⟩⟩
      · refine x_aload hN dX0_process_45 rfl ?_
        refine a0_2 hN dX0_process_46 ?_
        refine x_iconst hN dX0_process_49 ?_
        refine l0_2 hN dX0_process_50 (by omega) (by omega) (fun hr50 => ?_)
        refine x_goto hN 60 dX0_process_51 (by decide) ?_
        refine x_top (acs u25 1 z36) (by unfold acs; first | rw [if_pos (by omega), hA36 2 (by decide)] | rw [if_neg (by omega), hA36 6 (by decide)]) ?_
        refine x_call hN (m0_perform u36 (acs u25 1 z36) (by unfold AOK at hok36; omega) (CI_pk hC36)) hw0_perform hy0_perform (by decide) rfl (Nat.le_of_ble_eq_true rfl) rfl dX0_process_60 (fun z60 u60 hz60 hp60 => ?_)
        have hC60 : CI u60 N := by rw [hp60.1]; exact CI_perf hC36 hok36
        refine x_ifeq hN 70 dX0_process_63 (by decide) (by omega) (fun h63 => ?_) (fun h63 => ?_)
        · refine x_iconst hN dX0_process_70 ?_
          exact hret _ _ _ _ dX0_process_71 (by omega) ⟨hC60, z1, u1, hb1, hA1, Or.inr ⟨by omega, u25, hp25.1, z36, u36, hb36, hA36, hp60.1, by omega⟩⟩
        · refine x_iconst hN dX0_process_66 ?_
          refine x_goto hN 71 dX0_process_67 (by decide) ?_
          exact hret _ _ _ _ dX0_process_71 (by omega) ⟨hC60, z1, u1, hb1, hA1, Or.inr ⟨by omega, u25, hp25.1, z36, u36, hb36, hA36, hp60.1, by omega⟩⟩
    · refine x_iconst hN dX0_process_33 ?_
      exact hret _ _ _ _ dX0_process_34 (by omega) ⟨hC25, z1, u1, hb1, hA1, Or.inl ⟨by omega, rfl, hp25.1⟩⟩
  · refine x_aload hN dX0_process_10 rfl ?_
    refine a0_2 hN dX0_process_11 ?_
    refine x_iconst hN dX0_process_14 ?_
    refine l0_2 hN dX0_process_15 (by omega) (by omega) (fun hr15 => ?_)
    refine x_goto hN 25 dX0_process_16 (by decide) ?_
    refine x_top (acs σ 0 z1) (by unfold acs; first | rw [if_pos (by omega), hA1 2 (by decide)] | rw [if_neg (by omega), hA1 6 (by decide)]) ?_
    refine x_call hN (m0_perform u1 (acs σ 0 z1) (by unfold AOK at hok1; omega) (CI_pk hC1)) hw0_perform hy0_perform (by decide) rfl (Nat.le_of_ble_eq_true rfl) rfl dX0_process_25 (fun z25 u25 hz25 hp25 => ?_)
    have hC25 : CI u25 N := by rw [hp25.1]; exact CI_perf hC1 hok1
    refine x_st2 hN dX0_process_28 ?_
    refine x_iloadn hN dX0_process_29 rfl ?_
    refine x_ifne hN 35 dX0_process_30 (by decide) (by omega) (fun h30 => ?_) (fun h30 => ?_)
    · refine x_aload hN dX0_process_35 rfl ?_
      refine x_call hN (m0_greatestPriority u25 (CB_HE hC25.1 hN1) hC25.2.2 (CI_pk hC25)) hw0_greatestPriority hy0_greatestPriority (by decide) rfl (Nat.le_of_ble_eq_true rfl) rfl dX0_process_36 (fun z36 u36 hz36 hp36 => ?_)
      obtain ⟨hB36, q16, hT36, hfr36⟩ := hp36
      obtain ⟨hC36, hA36⟩ := CI_hi hC25 (fun _ => hT36) hfr36
      have hb36 : BT u25 1 z36 := BT_1 (CB_HE hC25.1 hN1) hB36
      have hlt36 := BT_lt (by omega) hb36
      have hok36 := acs_ok hC25 (Or.inr rfl) hb36
      refine x_st3 hN dX0_process_39 ?_
      refine x_aload hN dX0_process_40 rfl ?_
      refine x_iloadn hN dX0_process_41 rfl ?_
      refine x_ifge hN 54 dX0_process_42 (by decide) (by omega) (fun h42 => ?_) (fun h42 => ?_)
      · refine x_aload hN dX0_process_54 rfl ?_
        refine a0_6 hN dX0_process_55 ?_
        refine x_iloadn hN dX0_process_58 rfl ?_
        refine l0_6 hN dX0_process_59 (by omega) (by omega) (fun hr59 => ?_)
        refine x_top (acs u25 1 z36) (by unfold acs; first | rw [if_pos (by omega), hA36 2 (by decide)] | rw [if_neg (by omega), hA36 6 (by decide)]) ?_
        refine x_call hN (m0_perform u36 (acs u25 1 z36) (by unfold AOK at hok36; omega) (CI_pk hC36)) hw0_perform hy0_perform (by decide) rfl (Nat.le_of_ble_eq_true rfl) rfl dX0_process_60 (fun z60 u60 hz60 hp60 => ?_)
        have hC60 : CI u60 N := by rw [hp60.1]; exact CI_perf hC36 hok36
        refine x_ifeq hN 70 dX0_process_63 (by decide) (by omega) (fun h63 => ?_) (fun h63 => ?_)
        · refine x_iconst hN dX0_process_70 ?_
          exact hret _ _ _ _ dX0_process_71 (by omega) ⟨hC60, z1, u1, hb1, hA1, Or.inr ⟨by omega, u25, hp25.1, z36, u36, hb36, hA36, hp60.1, by omega⟩⟩
        · refine x_iconst hN dX0_process_66 ?_
          refine x_goto hN 71 dX0_process_67 (by decide) ?_
          exact hret _ _ _ _ dX0_process_71 (by omega) ⟨hC60, z1, u1, hb1, hA1, Or.inr ⟨by omega, u25, hp25.1, z36, u36, hb36, hA36, hp60.1, by omega⟩⟩
      · refine x_aload hN dX0_process_45 rfl ?_
        refine a0_2 hN dX0_process_46 ?_
        refine x_iconst hN dX0_process_49 ?_
        refine l0_2 hN dX0_process_50 (by omega) (by omega) (fun hr50 => ?_)
        refine x_goto hN 60 dX0_process_51 (by decide) ?_
        refine x_top (acs u25 1 z36) (by unfold acs; first | rw [if_pos (by omega), hA36 2 (by decide)] | rw [if_neg (by omega), hA36 6 (by decide)]) ?_
        refine x_call hN (m0_perform u36 (acs u25 1 z36) (by unfold AOK at hok36; omega) (CI_pk hC36)) hw0_perform hy0_perform (by decide) rfl (Nat.le_of_ble_eq_true rfl) rfl dX0_process_60 (fun z60 u60 hz60 hp60 => ?_)
        have hC60 : CI u60 N := by rw [hp60.1]; exact CI_perf hC36 hok36
        refine x_ifeq hN 70 dX0_process_63 (by decide) (by omega) (fun h63 => ?_) (fun h63 => ?_)
        · refine x_iconst hN dX0_process_70 ?_
          exact hret _ _ _ _ dX0_process_71 (by omega) ⟨hC60, z1, u1, hb1, hA1, Or.inr ⟨by omega, u25, hp25.1, z36, u36, hb36, hA36, hp60.1, by omega⟩⟩
        · refine x_iconst hN dX0_process_66 ?_
          refine x_goto hN 71 dX0_process_67 (by decide) ?_
          exact hret _ _ _ _ dX0_process_71 (by omega) ⟨hC60, z1, u1, hb1, hA1, Or.inr ⟨by omega, u25, hp25.1, z36, u36, hb36, hA36, hp60.1, by omega⟩⟩
    · refine x_iconst hN dX0_process_33 ?_
      exact hret _ _ _ _ dX0_process_34 (by omega) ⟨hC25, z1, u1, hb1, hA1, Or.inl ⟨by omega, rfl, hp25.1⟩⟩
end
section
/-! what an entry more, or one less, keeps -/
theorem TP_cg {h ky w h' ky' w' ch eh ec : Int → Int} {nc : Int} {lab : Int → Int} (g : ∀ e, 0 ≤ e → e < 16 → h' e = h e ∧ ky' e = ky e ∧ w' e = w e) (hT : TP h ky w ch eh ec nc 16 lab) : TP h' ky' w' ch eh ec nc 16 lab := by
  have gl : ∀ e, 0 ≤ e → e < 16 → el ky' w' e = el ky w e := fun e e0 e1 => by
    unfold el
    rw [(g e e0 e1).2.1, (g e e0 e1).2.2]
  obtain ⟨h1, h2, h3, h4⟩ := hT
  refine ⟨h1, h2, fun e e0 e1 e2 => ?_, fun x x0 x1 => ⟨?_, ?_⟩⟩
  · rw [gl e e0 e1]
    exact h3 e e0 e1 (by rw [← (g e e0 e1).1]; exact e2)
  · rcases (h4 x x0 x1).1 with ⟨a1, a2⟩ | ⟨a1, a2, a3, a4, a5⟩
    · exact Or.inl ⟨a1, fun e e0 e1 e2 => by rw [gl e e0 e1]; exact a2 e e0 e1 (by rw [← (g e e0 e1).1]; exact e2)⟩
    · refine Or.inr ⟨a1, a2, by rw [(g _ a1 a2).1]; exact a3, by rw [gl _ a1 a2]; exact a4, fun e e0 e1 e2 e3 => ?_⟩
      rw [(g _ a1 a2).1, (g e e0 e1).1]
      exact a5 e e0 e1 (by rw [← (g e e0 e1).1]; exact e2) (by rw [← gl e e0 e1]; exact e3)
  · rw [(h4 x x0 x1).2]
    refine cn_cg (fun j hj => ?_)
    have hj : j < 16 := hj
    show (0 ≤ h (0 + j) ∧ el ky w (0 + j) = lab x) ↔ (0 ≤ h' (0 + j) ∧ el ky' w' (0 + j) = lab x)
    rw [(g (0 + j) (by omega) (by omega)).1, gl (0 + j) (by omega) (by omega)]
theorem MinP_cg2 {P Q : Int → Prop} {o o' : Int → Int} {r : Int} (h : ∀ y, P y ↔ Q y) (ho : ∀ y, Q y → o' y = o y) (m : MinP P o r) : MinP Q o' r := by
  rcases m with ⟨m1, m2⟩ | ⟨m1, m2⟩
  · exact Or.inl ⟨m1, fun y q => m2 y ((h y).mpr q)⟩
  · refine Or.inr ⟨(h r).mp m1, fun y q => ?_⟩
    rw [ho r ((h r).mp m1), ho y q]
    exact m2 y ((h y).mpr q)
theorem GO_cg {h ky w h' ky' w' gm gt lf ln : Int → Int} {gc : Int} (g : ∀ e, 16 ≤ e → e < 32 → h' e = h e ∧ ky' e = ky e ∧ w' e = w e) (G : GO h ky w gm gt lf ln gc) : GO h' ky' w' gm gt lf ln gc := by
  have gI : ∀ y, Inn h 32 y ↔ Inn h' 32 y := fun y => by
    unfold Inn
    constructor
    · rintro ⟨a, b, c⟩
      exact ⟨a, b, by rw [(g y a b).1]; exact c⟩
    · rintro ⟨a, b, c⟩
      exact ⟨a, b, by rw [← (g y a b).1]; exact c⟩
  have gL : ∀ y l, Inn h 32 y → (Ls ky w gm gc y l ↔ Ls ky' w' gm gc y l) := fun y l i => by
    unfold Ls
    rw [(g y i.1 i.2.1).2.1, (g y i.1 i.2.1).2.2]
  have gO : ∀ y, Inn h 32 y → od h' ky' y = od h ky y := fun y i => by
    unfold od
    rw [(g y i.1 i.2.1).1, (g y i.1 i.2.1).2.1]
  obtain ⟨⟨a1, a2, a3, a4⟩, b, c1, c2⟩ := G
  refine ⟨⟨a1, a2, a3, fun e e0 e1 e2 => ?_⟩, b, fun l l0 l1 => ?_, fun x l xi xl => ?_⟩
  · rw [(g e e0 e1).2.1, (g e e0 e1).2.2]
    exact a4 e e0 e1 (by rw [← (g e e0 e1).1]; exact e2)
  · refine MinP_cg2 (fun y => ?_) (fun y q => gO y ((gI y).mpr q.1)) (c1 l l0 l1)
    constructor
    · rintro ⟨i, j⟩
      exact ⟨(gI y).mp i, (gL y l i).mp j⟩
    · rintro ⟨i, j⟩
      exact ⟨(gI y).mpr i, (gL y l ((gI y).mpr i)).mpr j⟩
  · have xi' := (gI x).mpr xi
    refine MinP_cg2 (fun y => ?_) (fun y q => gO y ((gI y).mpr q.1.1)) (c2 x l xi' ((gL x l xi').mpr xl))
    constructor
    · rintro ⟨⟨i, j⟩, k⟩
      exact ⟨⟨(gI y).mp i, (gL y l i).mp j⟩, by rw [gO x xi', gO y i]; exact k⟩
    · rintro ⟨⟨i, j⟩, k⟩
      have i' := (gI y).mpr i
      exact ⟨⟨i', (gL y l i').mpr j⟩, by rw [gO x xi', gO y i'] at k; exact k⟩
/-- an entry more, the class's cells -/
def UpC (σ u : zSt) (t e key w : Int) : Prop := u 0 = σ 0 ∧ u 1 0 = σ 1 0 + 1 ∧ u 2 = σ 2 ∧ u 3 = σ 3 ∧ u 4 = up (σ 4) t (σ 4 t + 1) ∧ u 5 = up (σ 5) e (σ 1 0) ∧ u 6 = up (σ 6) e (σ 0 0) ∧ u 7 = up (σ 7) e key ∧ u 8 = up (σ 8) e w
theorem addE_f (σ : zSt) (t e key w : Int) {fl : Nat} (hfl : fl = 9 ∨ fl = 16) : UpC σ (addE (sset σ fl 0 0) t e key w) t e key w ∧ addE (sset σ fl 0 0) t e key w fl 0 = 0 ∧ ∀ k, 9 ≤ k → k ≠ fl → addE (sset σ fl 0 0) t e key w k = σ k := by
  refine ⟨⟨?_, ?_, ?_, ?_, ?_, ?_, ?_, ?_, ?_⟩, ?_, ?_⟩
  · rcases hfl with q | q <;> subst q <;> funext j <;> simp [addE, sset]
  · rcases hfl with q | q <;> subst q <;> simp [addE, sset]
  · rcases hfl with q | q <;> subst q <;> funext j <;> simp [addE, sset]
  · rcases hfl with q | q <;> subst q <;> funext j <;> simp [addE, sset]
  · rcases hfl with q | q <;> subst q <;> funext j <;> simp [addE, sset, up]
  · rcases hfl with q | q <;> subst q <;> funext j <;> simp [addE, sset, up]
  · rcases hfl with q | q <;> subst q <;> funext j <;> simp [addE, sset, up]
  · rcases hfl with q | q <;> subst q <;> funext j <;> simp [addE, sset, up]
  · rcases hfl with q | q <;> subst q <;> funext j <;> simp [addE, sset, up]
  · rcases hfl with q | q <;> subst q <;> simp [addE, sset]
  · intro k hk hne
    have h1 : ¬ k = 1 := by omega
    have h4 : ¬ k = 4 := by omega
    have h5 : ¬ k = 5 := by omega
    have h6 : ¬ k = 6 := by omega
    have h7 : ¬ k = 7 := by omega
    have h8 : ¬ k = 8 := by omega
    funext j
    simp [addE, sset, h1, h4, h5, h6, h7, h8, hne]
theorem CB_add {σ u : zSt} {N t e key w : Int} (c : CB σ N) (U : UpC σ u t e key w) (ht : 0 ≤ t ∧ t ≤ 1) (he : 16 * t ≤ e ∧ e < 16 * t + 16) (hf : σ 5 e < 0) (h0 : t = 0 → (0 ≤ key ∧ key ≤ 255) ∧ (0 ≤ w ∧ w ≤ 8)) (h1 : t = 1 → (0 ≤ key / 65536 ∧ key / 65536 ≤ 15) ∧ (0 ≤ w ∧ w ≤ 65535)) : CB u (N + 1) := by
  obtain ⟨u0, u1, u2, u3, u4, u5, u6, u7, u8⟩ := U
  obtain ⟨c1, c2, c3, c4, c5, c6, c7, c8, c9⟩ := c
  have s5 : ∀ y, y ≠ e → u 5 y = σ 5 y := fun y q => by rw [u5]; exact up_n _ _ q
  have s6 : ∀ y, y ≠ e → u 6 y = σ 6 y := fun y q => by rw [u6]; exact up_n _ _ q
  have s7 : ∀ y, y ≠ e → u 7 y = σ 7 y := fun y q => by rw [u7]; exact up_n _ _ q
  have s8 : ∀ y, y ≠ e → u 8 y = σ 8 y := fun y q => by rw [u8]; exact up_n _ _ q
  have e5 : u 5 e = σ 1 0 := by rw [u5]; exact up_s _ _ _
  have e6 : u 6 e = σ 0 0 := by rw [u6]; exact up_s _ _ _
  have e7 : u 7 e = key := by rw [u7]; exact up_s _ _ _
  have e8 : u 8 e = w := by rw [u8]; exact up_s _ _ _
  refine ⟨by omega, by rw [u0, u2]; exact c2, by rw [u3]; exact c3, fun t' a b => ?_, fun y a b => ?_, fun x y x0 x1 y0 y1 x2 xy => ?_, fun y a b q => ?_, fun y a b q => ?_, fun y a b q => ?_⟩
  · by_cases q : t' = t
    · rw [q, u4, up_s, c4 t ht.1 ht.2]
      refine ((cn_or (P := fun y => 0 ≤ σ 5 y) (Q := fun y => y = e) (S := fun y => 0 ≤ u 5 y) (lo := 16 * t) (n := 16) (fun j hj => ⟨⟨?_, ?_⟩, ?_⟩)).trans (by rw [cn_one ⟨by omega, by omega⟩])).symm
      · intro h
        have h : 0 ≤ u 5 (16 * t + j) := h
        show 0 ≤ σ 5 (16 * t + j) ∨ 16 * t + j = e
        by_cases r : 16 * t + (j : Int) = e
        · exact Or.inr r
        · rw [s5 _ r] at h
          exact Or.inl h
      · intro h
        show 0 ≤ u 5 (16 * t + j)
        by_cases r : 16 * t + (j : Int) = e
        · rw [r, e5]; exact c1.1
        · rw [s5 _ r]
          rcases h with h | h
          · exact h
          · exact absurd h r
      · rintro ⟨h1, h2⟩
        have h2 : 16 * t + (j : Int) = e := h2
        have h1 : 0 ≤ σ 5 (16 * t + j) := h1
        rw [h2] at h1
        omega
    · rw [u4, up_n _ _ q, c4 t' a b]
      refine cn_cg (fun j hj => ?_)
      show 0 ≤ σ 5 (16 * t' + j) ↔ 0 ≤ u 5 (16 * t' + j)
      rw [s5 _ (by omega)]
  · by_cases q : y = e
    · rw [q, e5, u1]; omega
    · rw [s5 y q, u1]
      have := c5 y a b
      omega
  · by_cases qx : x = e
    · by_cases qy : y = e
      · omega
      · rw [qx, e5, s5 y qy] at xy
        have := (c5 y y0 y1).2
        omega
    · by_cases qy : y = e
      · rw [qy, e5, s5 x qx] at xy
        have := (c5 x x0 x1).2
        omega
      · rw [s5 x qx] at x2
        rw [s5 x qx, s5 y qy] at xy
        exact c6 x y x0 x1 y0 y1 x2 xy
  · by_cases r : y = e
    · rw [r, e6]; exact c2.1
    · rw [s5 y r] at q
      rw [s6 y r]
      exact c7 y a b q
  · by_cases r : y = e
    · rw [r, e7, e8]; exact h0 (by omega)
    · rw [s5 y r] at q
      rw [s7 y r, s8 y r]
      exact c8 y a b q
  · by_cases r : y = e
    · rw [r, e7, e8]; exact h1 (by omega)
    · rw [s5 y r] at q
      rw [s7 y r, s8 y r]
      exact c9 y a b q
/-- an entry more, the reference's cells -/
def UpM (μ v : zSt) (t a b r : Int) : Prop := v 0 = μ 0 ∧ v 1 = μ 1 ∧ v 2 = μ 2 ∧ v 3 = μ 3 ∧ v 4 0 = μ 4 0 + 1 ∧ v 5 = up (μ 5) t (μ 5 t + 1) ∧ v 6 = up (μ 6) (16 * t + μ 5 t) (μ 4 0) ∧ v 7 = up (μ 7) (16 * t + μ 5 t) a ∧ v 8 = up (μ 8) (16 * t + μ 5 t) b ∧ v 9 = up (μ 9) (16 * t + μ 5 t) r ∧ v 10 = up (μ 10) (16 * t + μ 5 t) (μ 1 0) ∧ v 11 = up (μ 11) (16 * t + μ 5 t) (μ 2 0) ∧ v 12 = up (μ 12) (16 * t + μ 5 t) (μ 3 0)
theorem addM_f (μ : zSt) (t a b r : Int) : UpM μ (addM μ t a b r) t a b r := by
  refine ⟨?_, ?_, ?_, ?_, ?_, ?_, ?_, ?_, ?_, ?_, ?_, ?_, ?_⟩
  · funext j; simp [addM, giveA, sset]
  · funext j; simp [addM, giveA, sset]
  · funext j; simp [addM, giveA, sset]
  · funext j; simp [addM, giveA, sset]
  · simp [addM, giveA, sset]
  · funext j; simp [addM, giveA, sset, up]
  · funext j; simp [addM, giveA, sset, up]
  · funext j; simp [addM, giveA, sset, up]
  · funext j; simp [addM, giveA, sset, up]
  · funext j; simp [addM, giveA, sset, up]
  · funext j; simp [addM, giveA, sset, up]
  · funext j; simp [addM, giveA, sset, up]
  · funext j; simp [addM, giveA, sset, up]
theorem DM_cg {σ μ u v : zSt} {e q e' q' : Int} (h6 : u 6 e' = σ 6 e) (h7 : u 7 e' = σ 7 e) (h8 : u 8 e' = σ 8 e) (he : (e' < 16 → e < 16) ∧ (16 ≤ e' → 16 ≤ e)) (hv : ∀ f, 7 ≤ f → f ≤ 12 → v f q' = μ f q) (d : DM σ μ e q) : DM u v e' q' := by
  unfold DM at d ⊢
  rw [h6, h7, h8, hv 7 (by decide) (by decide), hv 8 (by decide) (by decide), hv 9 (by decide) (by decide), hv 10 (by decide) (by decide), hv 11 (by decide) (by decide), hv 12 (by decide) (by decide)]
  exact ⟨d.1, fun h => d.2.1 (he.1 h), fun h => d.2.2 (he.2 h)⟩
theorem Rl_add {σ μ u v : zSt} {N t e key w a b r : Int} (c : CB σ N) (R : Rl σ μ) (ht : 0 ≤ t ∧ t ≤ 1) (hcn : σ 4 t < 16) (U : UpC σ u t e key w) (V : UpM μ v t a b r) (he : 16 * t ≤ e ∧ e < 16 * t + 16) (hf : σ 5 e < 0) (hD : (e < 16 → a = key ∧ b = w ∧ r = w) ∧ (16 ≤ e → (0 ≤ a ∧ a ≤ 65535 ∧ 0 ≤ b ∧ b ≤ 65535 ∧ 0 ≤ r ∧ r ≤ 15) ∧ w = a % 256 * 256 + b % 256 ∧ key = lnd (a / 256 * 256 + b / 256) (a % 256 * 256 + b % 256) + r * 65536)) : Rl u v := by
  have hct := CB_ct c
  obtain ⟨u0, u1, u2, u3, u4, u5, u6, u7, u8⟩ := U
  obtain ⟨v0, v1, v2, v3, v4, v5, v6, v7, v8, v9, v10, v11, v12⟩ := V
  obtain ⟨c1, c2, c3, c4, c5, c6, c7, c8, c9⟩ := c
  obtain ⟨r1, r2, r3, r4⟩ := R
  have s5 : ∀ y, y ≠ e → u 5 y = σ 5 y := fun y q => by rw [u5]; exact up_n _ _ q
  have e5 : u 5 e = σ 1 0 := by rw [u5]; exact up_s _ _ _
  have hn := (r4 t ht.1 ht.2).2.1
  have hc0 := hct t ht.1 ht.2
  have m6 : ∀ p, p ≠ 16 * t + μ 5 t → v 6 p = μ 6 p := fun p q => by rw [v6]; exact up_n _ _ q
  have M6 : v 6 (16 * t + μ 5 t) = μ 4 0 := by rw [v6]; exact up_s _ _ _
  have mm : ∀ p, p ≠ 16 * t + μ 5 t → ∀ f, 7 ≤ f → f ≤ 12 → v f p = μ f p := by
    intro p q f f0 f1
    have : f = 7 ∨ f = 8 ∨ f = 9 ∨ f = 10 ∨ f = 11 ∨ f = 12 := by omega
    rcases this with k | k | k | k | k | k <;> rw [k]
    · rw [v7]; exact up_n _ _ q
    · rw [v8]; exact up_n _ _ q
    · rw [v9]; exact up_n _ _ q
    · rw [v10]; exact up_n _ _ q
    · rw [v11]; exact up_n _ _ q
    · rw [v12]; exact up_n _ _ q
  have dm : ∀ y p, y ≠ e → p ≠ 16 * t + μ 5 t → DM σ μ y p → DM u v y p := fun y p q1 q2 d =>
    DM_cg (by rw [u6]; exact up_n _ _ q1) (by rw [u7]; exact up_n _ _ q1) (by rw [u8]; exact up_n _ _ q1) ⟨id, id⟩ (mm p q2) d
  have dnew : DM u v e (16 * t + μ 5 t) := by
    unfold DM
    rw [u6, u7, u8, v7, v8, v9, v10, v11, v12]
    simp only [up_s]
    exact ⟨r2, hD⟩
  refine ⟨fun j j0 j1 => by rw [u3, v0]; exact r1 j j0 j1, by rw [v1, v2, v3, u0]; exact r2, by rw [u1, v4]; omega, fun t' t0 t1 => ?_⟩
  obtain ⟨d, n, f1, f2, mo⟩ := r4 t' t0 t1
  have hc1 := hct t' t0 t1
  have hdef : v 10 (32 + t') = u 2 t' % 8 ∧ v 11 (32 + t') = u 2 t' / 8 % 4 ∧ v 12 (32 + t') = u 2 t' / 32 := by
    rw [mm (32 + t') (by omega) 10 (by decide) (by decide), mm (32 + t') (by omega) 11 (by decide) (by decide), mm (32 + t') (by omega) 12 (by decide) (by decide), u2]
    exact d
  by_cases q : t' = t
  · subst q
    refine ⟨hdef, by rw [u4, v5, up_s, up_s, n], fun y y0 y1 y2 => ?_, fun p p0 p1 => ?_, fun p p' p0 pp p1 => ?_⟩
    · by_cases q : y = e
      · exact ⟨16 * t' + μ 5 t', by omega, by rw [v5, up_s]; omega, by rw [M6, q, e5]; exact r3.symm, by rw [q]; exact dnew⟩
      · rw [s5 y q] at y2
        obtain ⟨p, p0, p1, p2, p3⟩ := f1 y y0 y1 y2
        exact ⟨p, p0, by rw [v5, up_s]; omega, by rw [m6 p (by omega), s5 y q]; exact p2, dm y p q (by omega) p3⟩
    · rw [v5, up_s] at p1
      by_cases q : p = 16 * t' + μ 5 t'
      · exact ⟨e, he.1, he.2, by rw [e5]; exact c1.1, by rw [e5, q, M6]; exact r3, by rw [q]; exact dnew⟩
      · obtain ⟨y, y0, y1, y2, y3, y4⟩ := f2 p p0 (by omega)
        have qy : y ≠ e := fun h => by rw [h] at y2; omega
        exact ⟨y, y0, y1, by rw [s5 y qy]; exact y2, by rw [s5 y qy, m6 p q]; exact y3, dm y p qy q y4⟩
    · rw [v5, up_s] at p1
      rw [m6 p (by omega)]
      by_cases q : p' = 16 * t' + μ 5 t'
      · rw [q, M6]
        obtain ⟨y, y0, y1, y2, y3, y4⟩ := f2 p p0 (by omega)
        have := (c5 y (by omega) (by omega)).2
        omega
      · rw [m6 p' q]
        exact mo p p' p0 pp (by omega)
  · refine ⟨hdef, by rw [u4, v5, up_n _ _ q, up_n _ _ q]; exact n, fun y y0 y1 y2 => ?_, fun p p0 p1 => ?_, fun p p' p0 pp p1 => ?_⟩
    · rw [s5 y (by omega)] at y2
      obtain ⟨p, p0, p1, p2, p3⟩ := f1 y y0 y1 y2
      exact ⟨p, p0, by rw [v5, up_n _ _ q]; exact p1, by rw [m6 p (by omega), s5 y (by omega)]; exact p2, dm y p (by omega) (by omega) p3⟩
    · rw [v5, up_n _ _ q] at p1
      obtain ⟨y, y0, y1, y2, y3, y4⟩ := f2 p p0 p1
      exact ⟨y, y0, y1, by rw [s5 y (by omega)]; exact y2, by rw [s5 y (by omega), m6 p (by omega)]; exact y3, dm y p (by omega) (by omega) y4⟩
    · rw [v5, up_n _ _ q] at p1
      rw [m6 p (by omega), m6 p' (by omega)]
      exact mo p p' p0 pp p1
/-- an entry less -/
def DnC (σ u : zSt) (e : Int) : Prop := u 0 = σ 0 ∧ u 1 = σ 1 ∧ u 2 = σ 2 ∧ u 3 = σ 3 ∧ u 4 = up (σ 4) (e / 16) (σ 4 (e / 16) - 1) ∧ u 5 = up (σ 5) e (-1) ∧ u 6 = σ 6 ∧ u 7 = σ 7 ∧ u 8 = σ 8
theorem remE_f (σ : zSt) (e : Int) : DnC σ (remE σ e) e ∧ remE σ e 9 0 = 0 ∧ remE σ e 16 0 = 0 := by
  refine ⟨⟨?_, ?_, ?_, ?_, ?_, ?_, ?_, ?_, ?_⟩, ?_, ?_⟩
  · funext j; simp [remE, sset]
  · funext j; simp [remE, sset]
  · funext j; simp [remE, sset]
  · funext j; simp [remE, sset]
  · funext j; simp [remE, sset, up]
  · funext j; simp [remE, sset, up]
  · funext j; simp [remE, sset]
  · funext j; simp [remE, sset]
  · funext j; simp [remE, sset]
  · simp [remE, sset]
  · simp [remE, sset]
theorem CB_rem {σ u : zSt} {N e : Int} (c : CB σ N) (U : DnC σ u e) (he : 0 ≤ e ∧ e < 32) (hl : 0 ≤ σ 5 e) : CB u N := by
  obtain ⟨u0, u1, u2, u3, u4, u5, u6, u7, u8⟩ := U
  obtain ⟨c1, c2, c3, c4, c5, c6, c7, c8, c9⟩ := c
  have s5 : ∀ y, y ≠ e → u 5 y = σ 5 y := fun y q => by rw [u5]; exact up_n _ _ q
  have e5 : u 5 e = -1 := by rw [u5]; exact up_s _ _ _
  have lv : ∀ y, 0 ≤ u 5 y → y ≠ e ∧ 0 ≤ σ 5 y := fun y q => by
    have h : y ≠ e := fun r => by rw [r, e5] at q; omega
    rw [s5 y h] at q
    exact ⟨h, q⟩
  refine ⟨by rw [u1]; exact c1, by rw [u0, u2]; exact c2, by rw [u3]; exact c3, fun t' a b => ?_, fun y a b => ?_, fun x y x0 x1 y0 y1 x2 xy => ?_, fun y a b q => ?_, fun y a b q => ?_, fun y a b q => ?_⟩
  · by_cases q : t' = e / 16
    · rw [q, u4, up_s, c4 (e / 16) (by omega) (by omega)]
      have h := cn_or (P := fun y => 0 ≤ u 5 y) (Q := fun y => y = e) (S := fun y => 0 ≤ σ 5 y) (lo := 16 * (e / 16)) (n := 16) (fun j hj => ⟨⟨?_, ?_⟩, ?_⟩)
      · rw [cn_one ⟨by omega, by omega⟩] at h
        omega
      · intro h
        have h : 0 ≤ σ 5 (16 * (e / 16) + j) := h
        show 0 ≤ u 5 (16 * (e / 16) + j) ∨ 16 * (e / 16) + j = e
        by_cases r : 16 * (e / 16) + (j : Int) = e
        · exact Or.inr r
        · rw [s5 _ r]
          exact Or.inl h
      · intro h
        show 0 ≤ σ 5 (16 * (e / 16) + j)
        rcases h with h | h
        · exact (lv _ h).2
        · have h : 16 * (e / 16) + (j : Int) = e := h
          rw [h]; exact hl
      · rintro ⟨h1, h2⟩
        exact (lv _ h1).1 h2
    · rw [u4, up_n _ _ q, c4 t' a b]
      refine cn_cg (fun j hj => ?_)
      show 0 ≤ σ 5 (16 * t' + j) ↔ 0 ≤ u 5 (16 * t' + j)
      rw [s5 _ (by omega)]
  · rw [u1]
    by_cases q : y = e
    · rw [q, e5]; omega
    · rw [s5 y q]; exact c5 y a b
  · obtain ⟨qx, x3⟩ := lv x x2
    obtain ⟨qy, y3⟩ := lv y (by rw [← xy]; exact x2)
    rw [s5 x qx, s5 y qy] at xy
    exact c6 x y x0 x1 y0 y1 x3 xy
  · rw [u6]; exact c7 y a b (lv y q).2
  · rw [u7, u8]; exact c8 y a b (lv y q).2
  · rw [u7, u8]; exact c9 y a b (lv y q).2
theorem remM_f (μ : zSt) (q : Int) : (∀ k, k ≤ 4 → remM μ q k = μ k) ∧ remM μ q 5 = up (μ 5) (q / 16) (μ 5 (q / 16) - 1) ∧ ∀ f j, 6 ≤ f → f ≤ 12 → remM μ q f j = if q ≤ j ∧ j < 16 * (q / 16) + μ 5 (q / 16) - 1 then μ f (j + 1) else μ f j := by
  refine ⟨fun k hk => ?_, ?_, fun f j f0 f1 => ?_⟩
  · have h1 : ¬ k = 5 := by omega
    have h2 : ¬ 6 ≤ k := by omega
    funext j
    simp [remM, sset, shU, h1, h2]
  · funext j
    simp [remM, sset, shU, up]
  · have h1 : ¬ f = 5 := by omega
    simp [remM, sset, shU, h1, f0, f1]
theorem Rl_rem {σ μ : zSt} {N e q : Int} (c : CB σ N) (R : Rl σ μ) (he : 0 ≤ e ∧ e < 32) (hl : 0 ≤ σ 5 e) (hq : 0 ≤ q ∧ q < 32) (hqc : q % 16 < μ 5 (q / 16)) (hh : μ 6 q = σ 5 e) : e / 16 = q / 16 ∧ Rl (remE σ e) (remM μ q) := by
  have hct := CB_ct c
  obtain ⟨u0, u1, u2, u3, u4, u5, u6, u7, u8⟩ := (remE_f σ e).1
  obtain ⟨w0, w5, w6⟩ := remM_f μ q
  generalize remE σ e = u at *
  generalize remM μ q = v at *
  obtain ⟨c1, c2, c3, c4, c5, c6, c7, c8, c9⟩ := c
  obtain ⟨r1, r2, r3, r4⟩ := R
  have s5 : ∀ y, y ≠ e → u 5 y = σ 5 y := fun y q => by rw [u5]; exact up_n _ _ q
  have e5 : u 5 e = -1 := by rw [u5]; exact up_s _ _ _
  have lv : ∀ y, 0 ≤ u 5 y → y ≠ e ∧ 0 ≤ σ 5 y := fun y q => by
    have h : y ≠ e := fun r => by rw [r, e5] at q; omega
    rw [s5 y h] at q
    exact ⟨h, q⟩
  have hRq := r4 (q / 16) (by omega) (by omega)
  have hcq := hct (q / 16) (by omega) (by omega)
  have hee : e / 16 = q / 16 := by
    obtain ⟨y, y0, y1, y2, y3, -⟩ := hRq.2.2.2.1 q (by omega) (by omega)
    have := c6 e y he.1 he.2 (by omega) (by omega) hl (by omega)
    omega
  refine ⟨hee, ?_⟩
  rw [hee] at u4
  generalize hT : q / 16 = t at *
  have hn := hRq.2.1
  refine ⟨fun j j0 j1 => by rw [u3, w0 0 (by decide)]; exact r1 j j0 j1, by rw [w0 1 (by decide), w0 2 (by decide), w0 3 (by decide), u0]; exact r2, by rw [u1, w0 4 (by decide)]; exact r3, fun t' t0 t1 => ?_⟩
  obtain ⟨d, n, f1, f2, mo⟩ := r4 t' t0 t1
  have hc1 := hct t' t0 t1
  have hdef : v 10 (32 + t') = u 2 t' % 8 ∧ v 11 (32 + t') = u 2 t' / 8 % 4 ∧ v 12 (32 + t') = u 2 t' / 32 := by
    rw [w6 10 (32 + t') (by decide) (by decide), w6 11 (32 + t') (by decide) (by decide), w6 12 (32 + t') (by decide) (by decide), if_neg (by omega), if_neg (by omega), if_neg (by omega), u2]
    exact d
  by_cases ht : t' = t
  · subst ht
    have uq : ∀ p, 16 * t' ≤ p → p < 16 * t' + μ 5 t' → μ 6 p = μ 6 q → p = q := fun p p0 p1 p2 => RT_uq hRq p0 p1 (by omega) (by omega) p2
    have sh : ∀ p, 16 * t' ≤ p → p < 16 * t' + μ 5 t' - 1 → ∃ p', 16 * t' ≤ p' ∧ p' < 16 * t' + μ 5 t' ∧ p' ≠ q ∧ (∀ f, 6 ≤ f → f ≤ 12 → v f p = μ f p') ∧ ((p < q ∧ p' = p) ∨ (q ≤ p ∧ p' = p + 1)) := by
      intro p p0 p1
      by_cases r : p < q
      · exact ⟨p, p0, by omega, by omega, fun f f0 f1 => by rw [w6 f p f0 f1, if_neg (by omega)], Or.inl ⟨r, rfl⟩⟩
      · exact ⟨p + 1, by omega, by omega, by omega, fun f f0 f1 => by rw [w6 f p f0 f1, if_pos (by omega)], Or.inr ⟨by omega, rfl⟩⟩
    refine ⟨hdef, by rw [u4, w5, up_s, up_s, n], fun y y0 y1 y2 => ?_, fun p p0 p1 => ?_, fun p p' p0 pp p1 => ?_⟩
    · obtain ⟨y3, y4⟩ := lv y y2
      obtain ⟨p, p0, p1, p2, p3⟩ := f1 y y0 y1 y4
      have hpq : p ≠ q := fun h => y3 (c6 y e (by omega) (by omega) he.1 he.2 y4 (by rw [← p2, h]; exact hh))
      by_cases r : p < q
      · refine ⟨p, p0, by rw [w5, up_s]; omega, by rw [w6 6 p (by decide) (by decide), if_neg (by omega), s5 y y3]; exact p2, ?_⟩
        exact DM_cg (by rw [u6]) (by rw [u7]) (by rw [u8]) ⟨id, id⟩ (fun f f0 f1 => by rw [w6 f p (by omega) f1, if_neg (by omega)]) p3
      · refine ⟨p - 1, by omega, by rw [w5, up_s]; omega, by rw [w6 6 (p - 1) (by decide) (by decide), if_pos (by omega), s5 y y3, show p - 1 + 1 = p by omega]; exact p2, ?_⟩
        exact DM_cg (by rw [u6]) (by rw [u7]) (by rw [u8]) ⟨id, id⟩ (fun f f0 f1 => by rw [w6 f (p - 1) (by omega) f1, if_pos (by omega), show p - 1 + 1 = p by omega]) p3
    · rw [w5, up_s] at p1
      obtain ⟨p', a0, a1, a2, a3, -⟩ := sh p p0 (by omega)
      obtain ⟨y, y0, y1, y2, y3, y4⟩ := f2 p' a0 a1
      have qy : y ≠ e := fun h => a2 (uq p' a0 a1 (by rw [← y3, h]; exact hh.symm))
      refine ⟨y, y0, y1, by rw [s5 y qy]; exact y2, by rw [s5 y qy, a3 6 (by decide) (by decide)]; exact y3, ?_⟩
      exact DM_cg (by rw [u6]) (by rw [u7]) (by rw [u8]) ⟨id, id⟩ (fun f f0 f1 => a3 f (by omega) f1) y4
    · rw [w5, up_s] at p1
      obtain ⟨x, a0, a1, a2, a3, a4⟩ := sh p p0 (by omega)
      obtain ⟨x', b0, b1, b2, b3, b4⟩ := sh p' (by omega) (by omega)
      rw [a3 6 (by decide) (by decide), b3 6 (by decide) (by decide)]
      exact mo x x' a0 (by omega) b1
  · have sm : ∀ p, 16 * t' ≤ p → p < 16 * t' + 16 → ∀ f, 6 ≤ f → f ≤ 12 → v f p = μ f p := fun p p0 p1 f f0 f1 => by
      rw [w6 f p f0 f1, if_neg (by omega)]
    refine ⟨hdef, by rw [u4, w5, up_n _ _ ht, up_n _ _ ht]; exact n, fun y y0 y1 y2 => ?_, fun p p0 p1 => ?_, fun p p' p0 pp p1 => ?_⟩
    · rw [s5 y (by omega)] at y2
      obtain ⟨p, p0, p1, p2, p3⟩ := f1 y y0 y1 y2
      refine ⟨p, p0, by rw [w5, up_n _ _ ht]; exact p1, by rw [sm p p0 (by omega) 6 (by decide) (by decide), s5 y (by omega)]; exact p2, ?_⟩
      exact DM_cg (by rw [u6]) (by rw [u7]) (by rw [u8]) ⟨id, id⟩ (fun f f0 f1 => sm p p0 (by omega) f (by omega) f1) p3
    · rw [w5, up_n _ _ ht] at p1
      obtain ⟨y, y0, y1, y2, y3, y4⟩ := f2 p p0 p1
      refine ⟨y, y0, y1, by rw [s5 y (by omega)]; exact y2, by rw [s5 y (by omega), sm p p0 (by omega) 6 (by decide) (by decide)]; exact y3, ?_⟩
      exact DM_cg (by rw [u6]) (by rw [u7]) (by rw [u8]) ⟨id, id⟩ (fun f f0 f1 => sm p p0 (by omega) f (by omega) f1) y4
    · rw [w5, up_n _ _ ht] at p1
      rw [sm p p0 (by omega) 6 (by decide) (by decide), sm p' (by omega) (by omega) 6 (by decide) (by decide)]
      exact mo p p' p0 pp p1
end
section
/-! both sides, call by call, plain: from the relation, the same answer, and the relation again -/
def INV (σ μ : zSt) (N : Int) : Prop := CI σ N ∧ Rl σ μ
theorem CI_up {σ : zSt} {N M : Int} (h : N ≤ M) (c : CI σ N) : CI σ M := ⟨CB_up h c.1, c.2⟩
theorem INV_up {σ μ : zSt} {N : Int} (I : INV σ μ N) : INV σ μ (N + 1) := ⟨CI_up (by omega) I.1, I.2⟩
theorem CI_of {σ u : zSt} {N : Int} (c : CI σ N) (h : ∀ k, k ≠ 0 → k ≠ 2 → k ≠ 3 → u k = σ k) (h0 : AOK (u 0 0)) (h2 : AOK (u 2 0) ∧ AOK (u 2 1)) (h3 : ∀ j, 0 ≤ j → j < 4 → 0 ≤ u 3 j ∧ u 3 j ≤ 255) : CI u N := by
  obtain ⟨⟨c1, c2, c3, c4⟩, ct, cg⟩ := c
  refine ⟨?_, ?_, ?_⟩
  · unfold CB
    rw [h 1 (by decide) (by decide) (by decide), h 4 (by decide) (by decide) (by decide), h 5 (by decide) (by decide) (by decide), h 6 (by decide) (by decide) (by decide), h 7 (by decide) (by decide) (by decide), h 8 (by decide) (by decide) (by decide)]
    exact ⟨c1, ⟨h0, h2⟩, h3, c4⟩
  · unfold TreeOK
    rw [h 5 (by decide) (by decide) (by decide), h 7 (by decide) (by decide) (by decide), h 8 (by decide) (by decide) (by decide), h 9 (by decide) (by decide) (by decide), h 10 (by decide) (by decide) (by decide), h 11 (by decide) (by decide) (by decide), h 12 (by decide) (by decide) (by decide), h 13 (by decide) (by decide) (by decide)]
    exact ct
  · unfold GroupsOK
    rw [h 5 (by decide) (by decide) (by decide), h 7 (by decide) (by decide) (by decide), h 8 (by decide) (by decide) (by decide), h 16 (by decide) (by decide) (by decide), h 17 (by decide) (by decide) (by decide), h 18 (by decide) (by decide) (by decide), h 19 (by decide) (by decide) (by decide), h 20 (by decide) (by decide) (by decide), h 21 (by decide) (by decide) (by decide)]
    exact cg
theorem Rl_of {σ μ u v : zSt} (r : Rl σ μ) (hc : ∀ t, 0 ≤ t → t ≤ 1 → μ 5 t ≤ 16) (h : ∀ k, k ≠ 0 → k ≠ 2 → k ≠ 3 → u k = σ k) (g : ∀ k, 4 ≤ k → k ≤ 9 → v k = μ k) (gd : ∀ k, 10 ≤ k → k ≤ 12 → ∀ q, q < 32 → v k q = μ k q) (h3 : ∀ j, 0 ≤ j → j < 4 → u 3 j = v 0 j) (h0 : v 1 0 = u 0 0 % 8 ∧ v 2 0 = u 0 0 / 8 % 4 ∧ v 3 0 = u 0 0 / 32) (h2 : ∀ t, 0 ≤ t → t ≤ 1 → v 10 (32 + t) = u 2 t % 8 ∧ v 11 (32 + t) = u 2 t / 8 % 4 ∧ v 12 (32 + t) = u 2 t / 32) : Rl u v := by
  obtain ⟨r1, r2, r3, r4⟩ := r
  have e5 : u 5 = σ 5 := h 5 (by decide) (by decide) (by decide)
  have g5 : v 5 = μ 5 := g 5 (by decide) (by decide)
  have g6 : v 6 = μ 6 := g 6 (by decide) (by decide)
  refine ⟨h3, h0, by rw [h 1 (by decide) (by decide) (by decide), g 4 (by decide) (by decide)]; exact r3, fun t t0 t1 => ?_⟩
  obtain ⟨d, n, f1, f2, mo⟩ := r4 t t0 t1
  have hc1 := hc t t0 t1
  have dm : ∀ y p, p < 32 → DM σ μ y p → DM u v y p := fun y p p1 dd => DM_cg (by rw [h 6 (by decide) (by decide) (by decide)]) (by rw [h 7 (by decide) (by decide) (by decide)]) (by rw [h 8 (by decide) (by decide) (by decide)]) ⟨id, id⟩ (fun f f0 f1 => by
    by_cases q : f ≤ 9
    · rw [g f (by omega) q]
    · exact gd f (by omega) f1 p p1) dd
  refine ⟨h2 t t0 t1, by rw [h 4 (by decide) (by decide) (by decide), g5]; exact n, ?_, ?_, ?_⟩
  · rw [e5, g5, g6]
    intro y y0 y1 y2
    obtain ⟨p, p0, p1, p2, p3⟩ := f1 y y0 y1 y2
    exact ⟨p, p0, p1, p2, dm y p (by omega) p3⟩
  · rw [e5, g5, g6]
    intro p p0 p1
    obtain ⟨y, y0, y1, y2, y3, y4⟩ := f2 p p0 p1
    exact ⟨y, y0, y1, y2, y3, dm y p (by omega) y4⟩
  · rw [g5, g6]
    exact mo
theorem INV_ct {σ μ : zSt} {N : Int} (c : CB σ N) (r : Rl σ μ) : ∀ t, 0 ≤ t → t ≤ 1 → 0 ≤ μ 5 t ∧ μ 5 t ≤ 16 := fun t t0 t1 => by
  rw [← (r.2.2.2 t t0 t1).2.1]
  exact CB_ct c t t0 t1
theorem op_action {σ μ u v : zSt} {N k f n z y : Int} (I : INV σ μ N) (h0 : (0 ≤ k ∧ k ≤ 4 ∧ 0 ≤ f ∧ f ≤ 3 ∧ 0 ≤ n ∧ n ≤ 255 ∧ z = 1 ∧ u = sset σ 0 0 (k + f * 8 + n * 32)) ∨ (¬ (0 ≤ k ∧ k ≤ 4 ∧ 0 ≤ f ∧ f ≤ 3 ∧ 0 ≤ n ∧ n ≤ 255) ∧ z = 0 ∧ u = σ)) (h1 : (0 ≤ k ∧ k ≤ 4 ∧ 0 ≤ f ∧ f ≤ 3 ∧ 0 ≤ n ∧ n ≤ 255 ∧ y = 1 ∧ v = sset (sset (sset μ 1 0 k) 2 0 f) 3 0 n) ∨ (¬ (0 ≤ k ∧ k ≤ 4 ∧ 0 ≤ f ∧ f ≤ 3 ∧ 0 ≤ n ∧ n ≤ 255) ∧ y = 0 ∧ v = μ)) : z = y ∧ INV u v (N + 1) := by
  rcases h0 with ⟨a1, a2, a3, a4, a5, a6, a7, a8⟩ | ⟨a1, a2, a3⟩
  · rcases h1 with ⟨b1, b2, b3, b4, b5, b6, b7, b8⟩ | ⟨b1, b2, b3⟩
    · refine ⟨by omega, ?_⟩
      apply INV_up
      have e0 : u 0 0 = k + f * 8 + n * 32 := by rw [a8]; simp [sset]
      have hu : ∀ j, j ≠ 0 → u j = σ j := fun j hj => by rw [a8]; exact ss_k _ _ _ hj
      have hv : ∀ j, j ≠ 1 → j ≠ 2 → j ≠ 3 → v j = μ j := fun j j1 j2 j3 => by rw [b8, ss_k _ _ _ j3, ss_k _ _ _ j2, ss_k _ _ _ j1]
      have v1 : v 1 0 = k := by rw [b8]; simp [sset]
      have v2 : v 2 0 = f := by rw [b8]; simp [sset]
      have v3 : v 3 0 = n := by rw [b8]; simp [sset]
      refine ⟨CI_of I.1 (fun j j0 _ _ => hu j j0) (by rw [e0]; unfold AOK; omega) (by rw [hu 2 (by decide)]; exact I.1.1.2.1.2) (by rw [hu 3 (by decide)]; exact I.1.1.2.2.1), ?_⟩
      refine Rl_of I.2 (fun t t0 t1 => (INV_ct I.1.1 I.2 t t0 t1).2) (fun j j0 _ _ => hu j j0) (fun j j0 j1 => hv j (by omega) (by omega) (by omega)) (fun j j0 j1 q _ => by rw [hv j (by omega) (by omega) (by omega)]) (by rw [hu 3 (by decide), hv 0 (by decide) (by decide) (by decide)]; exact I.2.1) (by rw [e0, v1, v2, v3]; omega) ?_
      rw [hu 2 (by decide), hv 10 (by decide) (by decide) (by decide), hv 11 (by decide) (by decide) (by decide), hv 12 (by decide) (by decide) (by decide)]
      exact fun t t0 t1 => (I.2.2.2.2 t t0 t1).1
    · exact absurd ⟨a1, a2, a3, a4, a5, a6⟩ b1
  · rcases h1 with ⟨b1, b2, b3, b4, b5, b6, b7, b8⟩ | ⟨b1, b2, b3⟩
    · exact absurd ⟨b1, b2, b3, b4, b5, b6⟩ a1
    · rw [a3, b3]
      exact ⟨by omega, INV_up I⟩
theorem op_field {σ μ u v : zSt} {N f x z y : Int} (I : INV σ μ N) (h0 : (0 ≤ f ∧ f ≤ 3 ∧ 0 ≤ x ∧ x ≤ 255 ∧ z = 1 ∧ u = sset σ 3 f x) ∨ (¬ (0 ≤ f ∧ f ≤ 3 ∧ 0 ≤ x ∧ x ≤ 255) ∧ z = 0 ∧ u = σ)) (h1 : (0 ≤ f ∧ f ≤ 3 ∧ 0 ≤ x ∧ x ≤ 255 ∧ y = 1 ∧ v = sset μ 0 f x) ∨ (¬ (0 ≤ f ∧ f ≤ 3 ∧ 0 ≤ x ∧ x ≤ 255) ∧ y = 0 ∧ v = μ)) : z = y ∧ INV u v (N + 1) := by
  rcases h0 with ⟨a1, a2, a3, a4, a7, a8⟩ | ⟨a1, a2, a3⟩
  · rcases h1 with ⟨b1, b2, b3, b4, b7, b8⟩ | ⟨b1, b2, b3⟩
    · refine ⟨by omega, ?_⟩
      apply INV_up
      have hu : ∀ j, j ≠ 3 → u j = σ j := fun j hj => by rw [a8]; exact ss_k _ _ _ hj
      have hv : ∀ j, j ≠ 0 → v j = μ j := fun j hj => by rw [b8]; exact ss_k _ _ _ hj
      have e3 : ∀ j, u 3 j = if j = f then x else σ 3 j := fun j => by rw [a8, ss_3]
      have e0 : ∀ j, v 0 j = if j = f then x else μ 0 j := fun j => by rw [b8, ss_3]
      refine ⟨CI_of I.1 (fun j _ _ j3 => hu j j3) (by rw [hu 0 (by decide)]; exact I.1.1.2.1.1) (by rw [hu 2 (by decide)]; exact I.1.1.2.1.2) (fun j j0 j1 => ?_), ?_⟩
      · have := I.1.1.2.2.1 j j0 j1
        rw [e3]
        split <;> omega
      refine Rl_of I.2 (fun t t0 t1 => (INV_ct I.1.1 I.2 t t0 t1).2) (fun j _ _ j3 => hu j j3) (fun j j0 j1 => hv j (by omega)) (fun j j0 j1 q _ => by rw [hv j (by omega)]) (fun j j0 j1 => ?_) (by rw [hu 0 (by decide), hv 1 (by decide), hv 2 (by decide), hv 3 (by decide)]; exact I.2.2.1) ?_
      · rw [e3, e0, I.2.1 j j0 j1]
      rw [hu 2 (by decide), hv 10 (by decide), hv 11 (by decide), hv 12 (by decide)]
      exact fun t t0 t1 => (I.2.2.2.2 t t0 t1).1
    · exact absurd ⟨a1, a2, a3, a4⟩ b1
  · rcases h1 with ⟨b1, b2, b3, b4, b7, b8⟩ | ⟨b1, b2, b3⟩
    · exact absurd ⟨b1, b2, b3, b4⟩ a1
    · rw [a3, b3]
      exact ⟨by omega, INV_up I⟩
theorem op_setDefault {σ μ u v : zSt} {N t z y : Int} (I : INV σ μ N) (h0 : (0 ≤ t ∧ t ≤ 1 ∧ z = 1 ∧ u = sset σ 2 t (σ 0 0)) ∨ (¬ (0 ≤ t ∧ t ≤ 1) ∧ z = 0 ∧ u = σ)) (h1 : (0 ≤ t ∧ t ≤ 1 ∧ y = 1 ∧ v = giveA μ (32 + t)) ∨ (¬ (0 ≤ t ∧ t ≤ 1) ∧ y = 0 ∧ v = μ)) : z = y ∧ INV u v (N + 1) := by
  rcases h0 with ⟨a1, a2, a7, a8⟩ | ⟨a1, a2, a3⟩
  · rcases h1 with ⟨b1, b2, b7, b8⟩ | ⟨b1, b2, b3⟩
    · refine ⟨by omega, ?_⟩
      apply INV_up
      have hu : ∀ j, j ≠ 2 → u j = σ j := fun j hj => by rw [a8]; exact ss_k _ _ _ hj
      have hv : ∀ j, j ≠ 10 → j ≠ 11 → j ≠ 12 → v j = μ j := fun j j1 j2 j3 => by rw [b8]; unfold giveA; rw [ss_k _ _ _ j3, ss_k _ _ _ j2, ss_k _ _ _ j1]
      have e2 : ∀ j, u 2 j = if j = t then σ 0 0 else σ 2 j := fun j => by rw [a8, ss_3]
      have v10 : ∀ q, v 10 q = if q = 32 + t then μ 1 0 else μ 10 q := fun q => by rw [b8]; simp [giveA, sset]
      have v11 : ∀ q, v 11 q = if q = 32 + t then μ 2 0 else μ 11 q := fun q => by rw [b8]; simp [giveA, sset]
      have v12 : ∀ q, v 12 q = if q = 32 + t then μ 3 0 else μ 12 q := fun q => by rw [b8]; simp [giveA, sset]
      have hA : ∀ j, (j = 0 ∨ j = 1) → AOK (u 2 j) := fun j hj => by
        rw [e2]
        split
        · exact I.1.1.2.1.1
        · rcases hj with q | q
          · rw [q]; exact I.1.1.2.1.2.1
          · rw [q]; exact I.1.1.2.1.2.2
      refine ⟨CI_of I.1 (fun j _ j2 _ => hu j j2) (by rw [hu 0 (by decide)]; exact I.1.1.2.1.1) ⟨hA 0 (Or.inl rfl), hA 1 (Or.inr rfl)⟩ (by rw [hu 3 (by decide)]; exact I.1.1.2.2.1), ?_⟩
      refine Rl_of I.2 (fun t t0 t1 => (INV_ct I.1.1 I.2 t t0 t1).2) (fun j _ j2 _ => hu j j2) (fun j j0 j1 => hv j (by omega) (by omega) (by omega)) (fun j j0 j1 q q1 => ?_) (by rw [hu 3 (by decide), hv 0 (by decide) (by decide) (by decide)]; exact I.2.1) (by rw [hu 0 (by decide), hv 1 (by decide) (by decide) (by decide), hv 2 (by decide) (by decide) (by decide), hv 3 (by decide) (by decide) (by decide)]; exact I.2.2.1) (fun s s0 s1 => ?_)
      · have : j = 10 ∨ j = 11 ∨ j = 12 := by omega
        rcases this with k | k | k <;> rw [k]
        · rw [v10, if_neg (by omega)]
        · rw [v11, if_neg (by omega)]
        · rw [v12, if_neg (by omega)]
      · rw [v10, v11, v12, e2]
        by_cases q : s = t
        · have q2 : 32 + s = 32 + t := by omega
          rw [if_pos q2, if_pos q2, if_pos q2, if_pos q]
          exact I.2.2.1
        · have q2 : ¬ 32 + s = 32 + t := by omega
          rw [if_neg q2, if_neg q2, if_neg q2, if_neg q]
          exact (I.2.2.2.2 s s0 s1).1
    · exact absurd ⟨a1, a2⟩ b1
  · rcases h1 with ⟨b1, b2, b7, b8⟩ | ⟨b1, b2, b3⟩
    · exact absurd ⟨b1, b2⟩ a1
    · rw [a3, b3]
      exact ⟨by omega, INV_up I⟩
theorem op_get {σ μ u v : zSt} {N f z y : Int} (I : INV σ μ N) (h0 : u = σ ∧ ((0 ≤ f ∧ f ≤ 3 ∧ z = σ 3 f) ∨ (¬ (0 ≤ f ∧ f ≤ 3) ∧ z = -1))) (h1 : v = μ ∧ ((0 ≤ f ∧ f ≤ 3 ∧ y = μ 0 f) ∨ (¬ (0 ≤ f ∧ f ≤ 3) ∧ y = -1))) : z = y ∧ INV u v (N + 1) := by
  obtain ⟨a, h0⟩ := h0
  obtain ⟨b, h1⟩ := h1
  rw [a, b]
  refine ⟨?_, INV_up I⟩
  rcases h0 with ⟨a1, a2, a3⟩ | ⟨a1, a2⟩
  · have := I.2.1 f a1 (by omega)
    omega
  · omega
/-- matches and ranks agree -/
theorem MR {σ μ : zSt} {N t : Int} (c : CB σ N) (r : Rl σ μ) (ht : t = 0 ∨ t = 1) : ∀ e q, 16 * t ≤ e → e < 16 * t + 16 → 0 ≤ σ 5 e → 16 * t ≤ q → q < 16 * t + μ 5 t → DM σ μ e q → ((Mm σ t e ↔ Fit μ q (μ 0 0)) ∧ Rk σ t e = μ 9 q) := by
  intro e q e0 e1 e2 q0 q1 d
  have hc := INV_ct c r
  rcases ht with k | k
  · rw [k] at e0 e1 q0 q1 ⊢
    have h5 := hc 0 (by omega) (by omega)
    refine ⟨?_, ?_⟩
    · rw [Mm_0, r.1 0 (by omega) (by omega)]
      exact Fit_lo (by omega) (by omega) d
    · show (if (0 : Int) = 0 then σ 8 e else σ 7 e / 65536) = μ 9 q
      rw [if_pos rfl]
      exact (d.2.1 (by omega)).2.2.symm
  · rw [k] at e0 e1 q0 q1 ⊢
    refine ⟨?_, ?_⟩
    · rw [Mm_1]
      exact Fit_hi (by omega) (by omega) r.1 c.2.2.1 d
    · show (if (1 : Int) = 0 then σ 8 e else σ 7 e / 65536) = μ 9 q
      rw [if_neg (by decide)]
      obtain ⟨d1, d2, d3⟩ := d.2.2 (by omega)
      have l1 := lnd_nn (μ 7 q / 256 * 256 + μ 8 q / 256) (μ 7 q % 256 * 256 + μ 8 q % 256)
      have l2 := lnd_le (a := μ 7 q / 256 * 256 + μ 8 q / 256) (b := μ 7 q % 256 * 256 + μ 8 q % 256) (by omega)
      omega
theorem LKB {σ μ : zSt} {N t b q : Int} (c : CB σ N) (r : Rl σ μ) (ht : t = 0 ∨ t = 1) (hb : BT σ t b) (hq : Tk μ t (μ 0 0) (16 * t + μ 5 t) q) : (b = -1 ∧ q = -1) ∨ (16 * t ≤ b ∧ b < 16 * t + 16 ∧ 0 ≤ σ 5 b ∧ 16 * t ≤ q ∧ q < 16 * t + μ 5 t ∧ σ 5 b = μ 6 q ∧ DM σ μ b q) :=
  LK (by omega) (r.2.2.2 t (by omega) (by omega)) (MR c r ht) hb hq
theorem op_lookup {σ μ u v : zSt} {N t z y : Int} (I : INV σ μ N) (h0 : CI u N ∧ Ag u σ ∧ ((¬ (0 ≤ t ∧ t ≤ 1) ∧ z = -1) ∨ ((0 ≤ t ∧ t ≤ 1) ∧ ∃ b, BT σ t b ∧ ((b < 0 ∧ z = -3) ∨ (0 ≤ b ∧ z = σ 5 b))))) (h1 : v = μ ∧ ((¬ (0 ≤ t ∧ t ≤ 1) ∧ y = -1) ∨ ((0 ≤ t ∧ t ≤ 1) ∧ ∃ b, Tk μ t (μ 0 0) (16 * t + μ 5 t) b ∧ ((b < 0 ∧ y = -3) ∨ (0 ≤ b ∧ y = μ 6 b))))) : z = y ∧ INV u v (N + 1) := by
  obtain ⟨cu, ag, h0⟩ := h0
  obtain ⟨b, h1⟩ := h1
  rw [b]
  refine ⟨?_, INV_up ⟨cu, Rl_cg ag I.2⟩⟩
  rcases h0 with ⟨a1, a2⟩ | ⟨a1, p, a2, a3⟩
  · rcases h1 with ⟨b1, b2⟩ | ⟨b1, q, b2, b3⟩
    · omega
    · exact absurd b1 a1
  · rcases h1 with ⟨b1, b2⟩ | ⟨b1, q, b2, b3⟩
    · exact absurd a1 b1
    · rcases LKB I.1.1 I.2 (by omega) a2 b2 with ⟨k1, k2⟩ | ⟨k1, k2, k3, k4, k5, k6, -⟩
      · omega
      · omega
theorem op_matching {σ μ u v : zSt} {N t z y : Int} (I : INV σ μ N) (h0 : CI u N ∧ Ag u σ ∧ ((¬ (0 ≤ t ∧ t ≤ 1) ∧ z = -1) ∨ ((0 ≤ t ∧ t ≤ 1) ∧ z = cn (fun e => 0 ≤ σ 5 e ∧ Mm σ t e) (16 * t) 16))) (h1 : v = μ ∧ ((¬ (0 ≤ t ∧ t ≤ 1) ∧ y = -1) ∨ ((0 ≤ t ∧ t ≤ 1) ∧ y = cn (fun q => Fit μ q (μ 0 0)) (16 * t) (μ 5 t).toNat))) : z = y ∧ INV u v (N + 1) := by
  obtain ⟨cu, ag, h0⟩ := h0
  obtain ⟨b, h1⟩ := h1
  rw [b]
  refine ⟨?_, INV_up ⟨cu, Rl_cg ag I.2⟩⟩
  rcases h0 with ⟨a1, a2⟩ | ⟨a1, a2⟩
  · rcases h1 with ⟨b1, b2⟩ | ⟨b1, b2⟩
    · omega
    · exact absurd b1 a1
  · rcases h1 with ⟨b1, b2⟩ | ⟨b1, b2⟩
    · exact absurd a1 b1
    · rw [a2, b2]
      exact MC a1 I.1.1 (I.2.2.2.2 t a1.1 a1.2) (fun e q e0 e1 e2 q0 q1 d => (MR I.1.1 I.2 (by omega) e q e0 e1 e2 q0 q1 d).1)
/-- the action that is done, both sides -/
theorem AS {σ μ : zSt} {N t b q : Int} (c : CB σ N) (r : Rl σ μ) (ht : t = 0 ∨ t = 1) (hb : BT σ t b) (hq : Tk μ t (μ 0 0) (16 * t + μ 5 t) q) : μ 10 (sl t q) = acs σ t b % 8 ∧ μ 11 (sl t q) = acs σ t b / 8 % 4 ∧ μ 12 (sl t q) = acs σ t b / 32 := by
  unfold sl acs
  rcases LKB c r ht hb hq with ⟨k1, k2⟩ | ⟨k1, k2, k3, k4, k5, k6, d⟩
  · rw [if_pos (by omega), if_pos (by omega)]
    exact (r.2.2.2 t (by omega) (by omega)).1
  · rw [if_neg (by omega), if_neg (by omega)]
    exact d.1
theorem actM_k (μ : zSt) (k f n : Int) {j : Nat} (hj : j ≠ 0) : actM μ k f n j = μ j := by
  unfold actM
  split
  · exact ss_k _ _ _ hj
  · split
    · exact ss_k _ _ _ hj
    · split
      · exact ss_k _ _ _ hj
      · rfl
theorem Rl_act {σ μ : zSt} {N a k f n : Int} (c : CB σ N) (r : Rl σ μ) (hk : k = a % 8) (hf : f = a / 8 % 4) (hn : n = a / 32) : Rl (perf σ a) (actM μ k f n) := by
  have hu : ∀ j, j ≠ 3 → perf σ a j = σ j := fun j hj => perf_k σ a hj
  have hv : ∀ j, j ≠ 0 → actM μ k f n j = μ j := fun j hj => actM_k μ k f n hj
  refine Rl_of r (fun t t0 t1 => (INV_ct c r t t0 t1).2) (fun j _ _ j3 => hu j j3) (fun j j0 j1 => hv j (by omega)) (fun j j0 j1 q _ => by rw [hv j (by omega)]) (fun j j0 j1 => ?_) (by rw [hu 0 (by decide), hv 1 (by decide), hv 2 (by decide), hv 3 (by decide)]; exact r.2.1) ?_
  · have e1 := r.1 j j0 j1
    have e2 := r.1 (a / 8 % 4) (by omega) (by omega)
    have e3 := r.1 (a / 32 % 4) (by omega) (by omega)
    unfold perf actM
    rw [hk, hf, hn]
    by_cases q0 : a % 8 = 0
    · rw [if_pos q0, if_pos q0, ss_3, ss_3, e1]
    · rw [if_neg q0, if_neg q0]
      by_cases q1 : a % 8 = 1
      · rw [if_pos q1, if_pos q1, ss_3, ss_3, e1, e2]
      · rw [if_neg q1, if_neg q1]
        by_cases q2 : a % 8 = 2
        · rw [if_pos q2, if_pos q2, ss_3, ss_3, e1, e3]
        · rw [if_neg q2, if_neg q2]
          exact e1
  · rw [hu 2 (by decide), hv 10 (by decide), hv 11 (by decide), hv 12 (by decide)]
    exact fun t t0 t1 => (r.2.2.2 t t0 t1).1
theorem op_process {σ μ u v : zSt} {N z y : Int} (I : INV σ μ N)
    (h0 : CI u N ∧ ∃ (b : Int) (v : zSt), BT σ 0 b ∧ Ag v σ ∧ ((acs σ 0 b % 8 = 4 ∧ z = 0 ∧ u = perf v (acs σ 0 b)) ∨ (acs σ 0 b % 8 ≠ 4 ∧ ∃ (τ : zSt), τ = perf v (acs σ 0 b) ∧ ∃ (d : Int) (w : zSt), BT τ 1 d ∧ Ag w τ ∧ u = perf w (acs τ 1 d) ∧ ((acs τ 1 d % 8 = 4 ∧ z = 0) ∨ (acs τ 1 d % 8 ≠ 4 ∧ z = 1)))))
    (h1 : ∃ b, Tk μ 0 (μ 0 0) (16 * 0 + μ 5 0) b ∧ ((μ 10 (sl 0 b) = 4 ∧ y = 0 ∧ v = actM μ (μ 10 (sl 0 b)) (μ 11 (sl 0 b)) (μ 12 (sl 0 b))) ∨ (μ 10 (sl 0 b) ≠ 4 ∧ ∃ τ : zSt, τ = actM μ (μ 10 (sl 0 b)) (μ 11 (sl 0 b)) (μ 12 (sl 0 b)) ∧ ∃ c, Tk τ 1 (τ 0 0) (16 * 1 + τ 5 1) c ∧ v = actM τ (τ 10 (sl 1 c)) (τ 11 (sl 1 c)) (τ 12 (sl 1 c)) ∧ ((τ 10 (sl 1 c) = 4 ∧ y = 0) ∨ (τ 10 (sl 1 c) ≠ 4 ∧ y = 1))))) : z = y ∧ INV u v (N + 1) := by
  obtain ⟨cu, b, s, hb, hs, h0⟩ := h0
  obtain ⟨q, hq, h1⟩ := h1
  obtain ⟨a1, a2, a3⟩ := AS I.1.1 I.2 (Or.inl rfl) hb hq
  have hok := acs_ok I.1 (Or.inl rfl) hb
  have cs : CB s N := CB_cg hs I.1.1
  have rs : Rl s μ := Rl_cg hs I.2
  have rp : Rl (perf s (acs σ 0 b)) (actM μ (μ 10 (sl 0 q)) (μ 11 (sl 0 q)) (μ 12 (sl 0 q))) := Rl_act cs rs a1 a2 a3
  have cp : CB (perf s (acs σ 0 b)) N := CB_perf cs hok
  rcases h0 with ⟨k1, k2, k3⟩ | ⟨k1, τ, k2, d, w, k3, k4, k5, k6⟩
  · rcases h1 with ⟨l1, l2, l3⟩ | ⟨l1, l2⟩
    · exact ⟨by omega, INV_up ⟨cu, by rw [k3, l3]; exact rp⟩⟩
    · exact absurd (a1.trans k1) l1
  · rcases h1 with ⟨l1, l2, l3⟩ | ⟨l1, τ', l2, e, l3, l4, l5⟩
    · exact absurd (a1.symm.trans l1) k1
    · rw [← k2, ← l2] at rp
      rw [← k2] at cp
      obtain ⟨b1, b2, b3⟩ := AS cp rp (Or.inr rfl) k3 l3
      have rf : Rl u v := by
        rw [k5, l4]
        exact Rl_act (CB_cg k4 cp) (Rl_cg k4 rp) b1 b2 b3
      exact ⟨by omega, INV_up ⟨cu, rf⟩⟩
theorem op_owned {σ μ u v : zSt} {N h z y : Int} (I : INV σ μ N)
    (h0 : (u 9 0 ≠ 0 → TreeOK u) ∧ (∀ k, k ≠ 9 → k ≠ 10 → k ≠ 11 → k ≠ 12 → k ≠ 13 → k ≠ 14 → k ≠ 15 → u k = σ k) ∧ ((z = -3 ∧ (h < 0 ∨ (∀ e, 0 ≤ e → e < 32 → σ 5 e ≠ h) ∨ ∃ e, 16 ≤ e ∧ e < 32 ∧ 0 ≤ h ∧ σ 5 e = h)) ∨ (∃ e, 0 ≤ e ∧ e < 16 ∧ 0 ≤ h ∧ σ 5 e = h ∧ z = cn (Bst (σ 5) (σ 7) (σ 8) e) 0 256)))
    (h1 : v = μ ∧ ((y = -3 ∧ ∀ q, 0 ≤ q → q < μ 5 0 → μ 6 q ≠ h) ∨ (∃ q, 0 ≤ q ∧ q < μ 5 0 ∧ μ 6 q = h ∧ y = cn (fun v => Tk μ 0 v (16 * 0 + μ 5 0) q) 0 256) ∨ (y = -3 ∧ ∃ q, 16 ≤ q ∧ q < 16 + μ 5 1 ∧ μ 6 q = h))) : z = y ∧ INV u v (N + 1) := by
  obtain ⟨t9, fr, h0⟩ := h0
  obtain ⟨b, h1⟩ := h1
  rw [b]
  obtain ⟨cu, ag⟩ := CI_lo I.1 t9 fr
  refine ⟨?_, INV_up ⟨cu, Rl_cg ag I.2⟩⟩
  have hc := INV_ct I.1.1 I.2
  have hc0 := hc 0 (by omega) (by omega)
  have hc1 := hc 1 (by omega) (by omega)
  have R0 := I.2.2.2.2 0 (by omega) (by omega)
  have R1 := I.2.2.2.2 1 (by omega) (by omega)
  have inj := I.1.1.2.2.2.2.2.1
  rcases h0 with ⟨a1, a2⟩ | ⟨e, a1, a2, a3, a4, a5⟩
  · rcases h1 with ⟨b1, b2⟩ | ⟨q, b1, b2, b3, b4⟩ | ⟨b1, b2⟩
    · omega
    · exfalso
      obtain ⟨e, e0, e1, e2, e3, -⟩ := R0.2.2.2.1 q (by omega) (by omega)
      rcases a2 with a2 | a2 | ⟨f, f0, f1, f2, f3⟩
      · omega
      · exact a2 e (by omega) (by omega) (by omega)
      · have := inj e f (by omega) (by omega) (by omega) f1 e2 (by omega)
        omega
    · omega
  · rcases h1 with ⟨b1, b2⟩ | ⟨q, b1, b2, b3, b4⟩ | ⟨b1, q, b2, b3, b4⟩
    · exfalso
      obtain ⟨q, q0, q1, q2, -⟩ := R0.2.2.1 e (by omega) (by omega) (by omega)
      exact b2 q (by omega) (by omega) (by omega)
    · rw [a5, b4]
      exact OWN I.1.1 R0 ⟨a1, a2⟩ (by omega) ⟨b1, b2⟩ (by omega)
    · exfalso
      obtain ⟨f, f0, f1, f2, f3, -⟩ := R1.2.2.2.1 q (by omega) (by omega)
      have := inj e f (by omega) (by omega) (by omega) (by omega) (by omega) (by omega)
      omega
theorem op_remove {σ μ u v : zSt} {N h z y : Int} (I : INV σ μ N)
    (h0 : (z = -3 ∧ u = σ ∧ (h < 0 ∨ ∀ e, 0 ≤ e → e < 32 → σ 5 e ≠ h)) ∨ (∃ e, 0 ≤ e ∧ e < 32 ∧ 0 ≤ h ∧ σ 5 e = h ∧ z = σ 4 (e / 16) - 1 ∧ u = remE σ e))
    (h1 : (y = -3 ∧ v = μ ∧ ∀ q, 0 ≤ q → q < 32 → q % 16 < μ 5 (q / 16) → μ 6 q ≠ h) ∨ (∃ q, 0 ≤ q ∧ q < 32 ∧ q % 16 < μ 5 (q / 16) ∧ μ 6 q = h ∧ y = μ 5 (q / 16) - 1 ∧ v = remM μ q)) : z = y ∧ INV u v (N + 1) := by
  have hc := INV_ct I.1.1 I.2
  rcases h0 with ⟨a1, a2, a3⟩ | ⟨e, a1, a2, a3, a4, a5, a6⟩
  · rcases h1 with ⟨b1, b2, b3⟩ | ⟨q, b1, b2, b3, b4, b5, b6⟩
    · rw [a2, b2]
      exact ⟨by omega, INV_up I⟩
    · exfalso
      obtain ⟨e, e0, e1, e2, e3, -⟩ := (I.2.2.2.2 (q / 16) (by omega) (by omega)).2.2.2.1 q (by omega) (by omega)
      rcases a3 with a3 | a3
      · omega
      · exact a3 e (by omega) (by omega) (by omega)
  · rcases h1 with ⟨b1, b2, b3⟩ | ⟨q, b1, b2, b3, b4, b5, b6⟩
    · exfalso
      have h5 := hc (e / 16) (by omega) (by omega)
      obtain ⟨q, q0, q1, q2, -⟩ := (I.2.2.2.2 (e / 16) (by omega) (by omega)).2.2.1 e (by omega) (by omega) (by omega)
      have hqe : q / 16 = e / 16 := by omega
      exact b3 q (by omega) (by omega) (by rw [hqe]; omega) (by omega)
    · obtain ⟨k1, k2⟩ := Rl_rem I.1.1 I.2 ⟨a1, a2⟩ (by omega) ⟨b1, b2⟩ b3 (by omega)
      obtain ⟨f1, f2, f3⟩ := remE_f σ e
      refine ⟨?_, ?_⟩
      · rw [a5, b5, k1, (I.2.2.2.2 (q / 16) (by omega) (by omega)).2.1]
      · rw [a6, b6]
        exact INV_up ⟨⟨CB_rem I.1.1 f1 ⟨a1, a2⟩ (by omega), fun h => absurd f2 h, fun h => absurd f3 h⟩, k2⟩
theorem CI_add {σ : zSt} {N t e key w : Int} {fl : Nat} (c : CI σ N) (hfl : (t = 0 ∧ fl = 9) ∨ (t = 1 ∧ fl = 16)) (he : 16 * t ≤ e ∧ e < 16 * t + 16) (hf : σ 5 e < 0) (h0 : t = 0 → (0 ≤ key ∧ key ≤ 255) ∧ (0 ≤ w ∧ w ≤ 8)) (h1 : t = 1 → (0 ≤ key / 65536 ∧ key / 65536 ≤ 15) ∧ (0 ≤ w ∧ w ≤ 65535)) : CI (addE (sset σ fl 0 0) t e key w) (N + 1) := by
  have hfl2 : fl = 9 ∨ fl = 16 := by omega
  obtain ⟨U, f0, fr⟩ := addE_f σ t e key w hfl2
  generalize addE (sset σ fl 0 0) t e key w = u at *
  have hB := CB_add c.1 U (by omega) he hf h0 h1
  obtain ⟨u0, u1, u2, u3, u4, u5, u6, u7, u8⟩ := U
  rcases hfl with ⟨k1, k2⟩ | ⟨k1, k2⟩
  · subst k2
    refine ⟨hB, fun h => absurd f0 h, ?_⟩
    unfold GroupsOK
    rw [fr 16 (by decide) (by decide), fr 17 (by decide) (by decide), fr 18 (by decide) (by decide), fr 19 (by decide) (by decide), fr 20 (by decide) (by decide), fr 21 (by decide) (by decide)]
    intro h
    refine GO_cg (fun y y0 y1 => ?_) (c.2.2 h)
    rw [u5, u7, u8]
    exact ⟨up_n _ _ (by omega), up_n _ _ (by omega), up_n _ _ (by omega)⟩
  · subst k2
    refine ⟨hB, ?_, fun h => absurd f0 h⟩
    unfold TreeOK
    rw [fr 9 (by decide) (by decide), fr 10 (by decide) (by decide), fr 11 (by decide) (by decide), fr 12 (by decide) (by decide), fr 13 (by decide) (by decide)]
    intro h
    obtain ⟨lab, hT⟩ := c.2.1 h
    refine ⟨lab, TP_cg (fun y y0 y1 => ?_) hT⟩
    rw [u5, u7, u8]
    exact ⟨up_n _ _ (by omega), up_n _ _ (by omega), up_n _ _ (by omega)⟩
theorem op_addPrefix {σ μ u v : zSt} {N x n z y : Int} (I : INV σ μ N)
    (h0 : (16 ≤ σ 4 0 ∧ z = -2 ∧ u = σ) ∨ (σ 4 0 < 16 ∧ ¬ (0 ≤ x ∧ x ≤ 255 ∧ 0 ≤ n ∧ n ≤ 8) ∧ z = -1 ∧ u = σ) ∨ (σ 4 0 < 16 ∧ (0 ≤ x ∧ x ≤ 255 ∧ 0 ≤ n ∧ n ≤ 8) ∧ ∃ e, 0 ≤ e ∧ e < 16 ∧ σ 5 e < 0 ∧ z = σ 1 0 ∧ u = addE (sset σ 9 0 0) 0 e x n))
    (h1 : (μ 5 0 = 16 ∧ y = -2 ∧ v = μ) ∨ (μ 5 0 < 16 ∧ ¬ (0 ≤ x ∧ x ≤ 255 ∧ 0 ≤ n ∧ n ≤ 8) ∧ y = -1 ∧ v = μ) ∨ (μ 5 0 < 16 ∧ (0 ≤ x ∧ x ≤ 255 ∧ 0 ≤ n ∧ n ≤ 8) ∧ y = μ 4 0 ∧ v = addM μ 0 x n n)) : z = y ∧ INV u v (N + 1) := by
  have hn := (I.2.2.2.2 0 (by omega) (by omega)).2.1
  have h3 := I.2.2.2.1
  rcases h0 with ⟨a1, a2, a3⟩ | ⟨a1, a2, a3, a4⟩ | ⟨a1, a2, e, e0, e1, e2, e3, e4⟩
  · rcases h1 with ⟨b1, b2, b3⟩ | ⟨b1, b2, b3, b4⟩ | ⟨b1, b2, b3, b4⟩
    · rw [a3, b3]; exact ⟨by omega, INV_up I⟩
    · omega
    · omega
  · rcases h1 with ⟨b1, b2, b3⟩ | ⟨b1, b2, b3, b4⟩ | ⟨b1, b2, b3, b4⟩
    · omega
    · rw [a4, b4]; exact ⟨by omega, INV_up I⟩
    · exact absurd b2 a2
  · rcases h1 with ⟨b1, b2, b3⟩ | ⟨b1, b2, b3, b4⟩ | ⟨b1, b2, b3, b4⟩
    · omega
    · exact absurd a2 b2
    · refine ⟨by omega, ?_, ?_⟩
      · rw [e4]
        exact CI_add I.1 (Or.inl ⟨rfl, rfl⟩) ⟨by omega, by omega⟩ e2 (fun _ => ⟨⟨a2.1, a2.2.1⟩, a2.2.2⟩) (fun h => by omega)
      · rw [e4, b4]
        exact Rl_add I.1.1 I.2 ⟨by omega, by omega⟩ a1 (addE_f σ 0 e x n (Or.inl rfl)).1 (addM_f μ 0 x n n) ⟨by omega, by omega⟩ e2 ⟨fun _ => ⟨rfl, rfl, rfl⟩, fun h => by omega⟩
theorem op_addMasked {σ μ u v : zSt} {N a b p z y : Int} (I : INV σ μ N)
    (h0 : (16 ≤ σ 4 1 ∧ z = -2 ∧ u = σ) ∨ (σ 4 1 < 16 ∧ ¬ (0 ≤ a ∧ a ≤ 65535 ∧ 0 ≤ b ∧ b ≤ 65535 ∧ 0 ≤ p ∧ p ≤ 15) ∧ z = -1 ∧ u = σ) ∨ (σ 4 1 < 16 ∧ (0 ≤ a ∧ a ≤ 65535 ∧ 0 ≤ b ∧ b ≤ 65535 ∧ 0 ≤ p ∧ p ≤ 15) ∧ ∃ e, 16 ≤ e ∧ e < 32 ∧ σ 5 e < 0 ∧ z = σ 1 0 ∧ u = addE (sset σ 16 0 0) 1 e (lnd (a / 256 * 256 + b / 256) (a % 256 * 256 + b % 256) + p * 65536) (a % 256 * 256 + b % 256)))
    (h1 : (μ 5 1 = 16 ∧ y = -2 ∧ v = μ) ∨ (μ 5 1 < 16 ∧ ¬ (0 ≤ a ∧ a ≤ 65535 ∧ 0 ≤ b ∧ b ≤ 65535 ∧ 0 ≤ p ∧ p ≤ 15) ∧ y = -1 ∧ v = μ) ∨ (μ 5 1 < 16 ∧ (0 ≤ a ∧ a ≤ 65535 ∧ 0 ≤ b ∧ b ≤ 65535 ∧ 0 ≤ p ∧ p ≤ 15) ∧ y = μ 4 0 ∧ v = addM μ 1 a b p)) : z = y ∧ INV u v (N + 1) := by
  have hn := (I.2.2.2.2 1 (by omega) (by omega)).2.1
  have h3 := I.2.2.2.1
  rcases h0 with ⟨a1, a2, a3⟩ | ⟨a1, a2, a3, a4⟩ | ⟨a1, a2, e, e0, e1, e2, e3, e4⟩
  · rcases h1 with ⟨b1, b2, b3⟩ | ⟨b1, b2, b3, b4⟩ | ⟨b1, b2, b3, b4⟩
    · rw [a3, b3]; exact ⟨by omega, INV_up I⟩
    · omega
    · omega
  · rcases h1 with ⟨b1, b2, b3⟩ | ⟨b1, b2, b3, b4⟩ | ⟨b1, b2, b3, b4⟩
    · omega
    · rw [a4, b4]; exact ⟨by omega, INV_up I⟩
    · exact absurd b2 a2
  · rcases h1 with ⟨b1, b2, b3⟩ | ⟨b1, b2, b3, b4⟩ | ⟨b1, b2, b3, b4⟩
    · omega
    · exact absurd a2 b2
    · have l1 := lnd_nn (a / 256 * 256 + b / 256) (a % 256 * 256 + b % 256)
      have l2 := lnd_le (a := a / 256 * 256 + b / 256) (b := a % 256 * 256 + b % 256) (by omega)
      refine ⟨by omega, ?_, ?_⟩
      · rw [e4]
        exact CI_add I.1 (Or.inr ⟨rfl, rfl⟩) ⟨by omega, by omega⟩ e2 (fun h => by omega) (fun _ => by omega)
      · rw [e4, b4]
        exact Rl_add I.1.1 I.2 ⟨by omega, by omega⟩ a1 (addE_f σ 1 e _ _ (Or.inr rfl)).1 (addM_f μ 1 a b p) ⟨by omega, by omega⟩ e2 ⟨fun h => by omega, fun _ => ⟨a2, rfl, rfl⟩⟩
end
section
/-! making an object: the world while its arrays are made (ks: those that are there) -/
def zfP (d : zC) (g : zG) (σ : zSt) (ks : List Nat) (k : Nat) : Value := if d.isA k = true then (if k ∈ ks then .ref (g.ad k) else .null) else iv (σ k 0)
def zwP (d : zC) (g : zG) (σ : zSt) (ks : List Nat) : va_W := (g.h, .inr (d.ci, (List.range d.N).map (zfP d g σ ks))) :: ks.map (zcl d g σ)
def ztP (d : zC) (g : zG) (ks : List Nat) : List (ClassId × FieldType) := ks.map (fun k => (g.cA k, d.ety k))
abbrev zgu (g : zG) (k q : Nat) (cA : ClassId) : zG := (g.h, fun x => if x = k then q else g.ad x, fun x => if x = k then cA else g.cA x, g.D)
theorem zwP_mk {d : zC} {g : zG} {σ : zSt} {ks : List Nat} {k q : Nat} {cA : ClassId} (hk : k ∉ ks) (hN : k < d.N) (hA : d.isA k = true) : (zwP d g σ ks ++ ([(q, .inl (cA, d.ln k, .inl (fun j : Nat => Int32.ofInt (σ k (j : Int)))))] : va_W)).set 0 (g.h, .inr (d.ci, ((List.range d.N).map (zfP d g σ ks)).set k (.ref q))) = zwP d (zgu g k q cA) σ (ks ++ [k]) := by
  unfold zwP
  rw [List.cons_append, List.set_cons_zero]
  have h1 : ((List.range d.N).map (zfP d g σ ks)).set k (.ref q) = (List.range d.N).map (zfP d (zgu g k q cA) σ (ks ++ [k])) := by
    apply List.ext_getElem?
    intro j
    rw [List.getElem?_set]
    by_cases hj : k = j
    · subst hj
      rw [if_pos rfl, if_pos (by simpa using hN), List.getElem?_map, List.getElem?_range hN]
      simp [zfP, hA, zgu, zG.ad]
    · rw [if_neg hj]
      have hj2 : ¬ j = k := fun h => hj h.symm
      by_cases hjN : j < d.N
      · rw [List.getElem?_map, List.getElem?_map, List.getElem?_range hjN]
        simp [zfP, hj2, zgu, zG.ad]
      · simp [hjN]
  have h2 : ks.map (zcl d g σ) ++ ([(q, .inl (cA, d.ln k, .inl (fun j : Nat => Int32.ofInt (σ k (j : Int)))))] : va_W) = (ks ++ [k]).map (zcl d (zgu g k q cA) σ) := by
    rw [List.map_append]
    congr 1
    · apply List.map_congr_left
      intro a ha
      have : ¬ a = k := fun h => hk (h ▸ ha)
      simp [zcl, this, zgu, zG.ad, zG.cA]
    · simp [zcl, zgu, zG.ad, zG.cA]
  rw [h1, h2]
theorem zwP_put {d : zC} {g : zG} {σ : zSt} {ks : List Nat} {k : Nat} (hN : k < d.N) (hA : d.isA k = false) (hks : ∀ a ∈ ks, d.isA a = true) (v : Int) : (zwP d g σ ks).set 0 (g.h, .inr (d.ci, ((List.range d.N).map (zfP d g σ ks)).set k (iv v))) = zwP d g (sset σ k 0 v) ks := by
  unfold zwP
  rw [List.set_cons_zero]
  have h1 : ((List.range d.N).map (zfP d g σ ks)).set k (iv v) = (List.range d.N).map (zfP d g (sset σ k 0 v) ks) := by
    apply List.ext_getElem?
    intro j
    rw [List.getElem?_set]
    by_cases hj : k = j
    · subst hj
      rw [if_pos rfl, if_pos (by simpa using hN), List.getElem?_map, List.getElem?_range hN]
      simp [zfP, hA, sset]
    · rw [if_neg hj]
      have hj2 : ¬ j = k := fun h => hj h.symm
      by_cases hjN : j < d.N
      · rw [List.getElem?_map, List.getElem?_map, List.getElem?_range hjN]
        simp [zfP, sset, hj2]
      · simp [hjN]
  have h2 : ks.map (zcl d g σ) = ks.map (zcl d g (sset σ k 0 v)) := by
    apply List.map_congr_left
    intro a hm
    have h3 := hks a hm
    have h4 : ¬ a = k := fun h => by rw [h, hA] at h3; cases h3
    simp [zcl, sset, h4]
  rw [h1, h2]
theorem ztP_mk {d : zC} {g : zG} {ks : List Nat} {k q : Nat} {cA : ClassId} (hk : k ∉ ks) : ztP d g ks ++ [(cA, d.ety k)] = ztP d (zgu g k q cA) (ks ++ [k]) := by
  unfold ztP
  rw [List.map_append]
  congr 1
  · apply List.map_congr_left
    intro a ha
    have : ¬ a = k := fun h => hk (h ▸ ha)
    simp [this, zgu, zG.cA]
  · simp [zgu, zG.cA]
theorem zwP_all {d : zC} {g : zG} {σ : zSt} (h : ∀ k, k < d.N → d.isA k = true → k ∈ d.ks) : zwP d g σ d.ks = zw d g σ := by
  unfold zwP zw
  have h1 : (List.range d.N).map (zfP d g σ d.ks) = (List.range d.N).map (zfl d g σ) := by
    apply List.map_congr_left
    intro a ha
    have ha := List.mem_range.mp ha
    unfold zfP zfl
    by_cases q : d.isA a = true
    · rw [if_pos q, if_pos q, if_pos (h a ha q)]
    · rw [if_neg q, if_neg q]
  rw [h1]
/-- the judgement while the arrays are made -/
def WC (E : zE) (d : zC) (g : zG) (ks : List Nat) (σ : zSt) (cl sl pc : Nat) (L : List (Option Value)) (st : List Value) : Prop :=
  va_K g.D vwCl (ztP d g ks) E.s → ∀ (H : Heap) (locs : List Loc) (ls : Array Slot), va_P g.D vwCl (zwP d g σ ks) H → va_D E.A (zwP d g σ ks) → va_S E.A E.s.heap H locs → zR σ → zL ls L → W E.p E.l E.e E.R E.s E.m E.args E.below E.meth E.c H locs cl sl E.Q (F0 E.m pc ls st)
def zI (E : zE) (d : zC) (cc : ByteArray) (nL : Nat) : Prop := zwf d ∧ E.p.tables.exec = Jvm.exec ∧ E.c.code = cc ∧ E.c.maxLocals = nL ∧ E.s.vm.findClass d.nm = some E.m.cls ∧ (∀ w ∈ lw_all, w.before E.args E.s = true) ∧ E.meth.name = "<init>" ∧ ∀ q, E.s.heap.size ≤ q → E.A q
section ZI
variable {E : zE} {d : zC} {cc : ByteArray} {nL : Nat} {g : zG} {ks : List Nat} {σ : zSt} {cl sl pc : Nat} {L : List (Option Value)} {st : List Value}
theorem c_aload (h : zI E d cc nL) (hd : decode cc pc = .ok (.aload_n 0, 1)) (hl : L[0]? = some (some (.ref g.h))) (k : WC E d g ks σ cl sl (pc + 1) L (.ref g.h :: st)) : WC E d g ks σ cl sl pc L st :=
  fun hK H locs ls a1 a2 a3 a4 a5 => lv_aload_n h.2.1 h.2.2.1 hd rfl (a5.at hl) (k hK H locs ls a1 a2 a3 a4 a5)
theorem c_iconst (h : zI E d cc nL) {v : Int} (hd : decode cc pc = .ok (.iconst v, 1)) (k : WC E d g ks σ cl sl (pc + 1) L (iv v :: st)) : WC E d g ks σ cl sl pc L st :=
  fun hK H locs ls a1 a2 a3 a4 a5 => lv_iconst h.2.1 h.2.2.1 hd rfl (k hK H locs ls a1 a2 a3 a4 a5)
theorem c_bipush (h : zI E d cc nL) {v : Int} (hd : decode cc pc = .ok (.bipush v, 2)) (hv : -128 ≤ v ∧ v < 128) (k : WC E d g ks σ cl sl (pc + 2) L (iv v :: st)) : WC E d g ks σ cl sl pc L st :=
  fun hK H locs ls a1 a2 a3 a4 a5 => lv_bipush h.2.1 h.2.2.1 hd (z_b hv) (k hK H locs ls a1 a2 a3 a4 a5)
theorem c_sipush (h : zI E d cc nL) {v : Int} (hd : decode cc pc = .ok (.sipush v, 3)) (hv : -32768 ≤ v ∧ v < 32768) (k : WC E d g ks σ cl sl (pc + 3) L (iv v :: st)) : WC E d g ks σ cl sl pc L st :=
  fun hK H locs ls a1 a2 a3 a4 a5 => lv_sipush h.2.1 h.2.2.1 hd (z_s hv) (k hK H locs ls a1 a2 a3 a4 a5)
theorem c_puti (h : zI E d cc nL) (k : Nat) {idx : Nat} {v : Int} (hk : k < d.N) (ha : d.isA k = false) (hks : ∀ a ∈ ks, d.isA a = true) (hf : (d.T k).2.2.2 = false) {ty : FieldType} (hty : parseFieldDescriptor (d.T k).2.2.1 = some ty) (hw : Cond.fieldLink d.nm idx d.nm (d.T k).2.1 (d.T k).2.2.1 ∈ lw_all) (hv : -2147483648 ≤ v ∧ v < 2147483648) (hn : narrow ty (iv v) = iv v) (hfi : fits ty (iv v) = true) (hd : decode cc pc = .ok (.putfield idx, 3)) (kk : WC E d g ks (sset σ k 0 v) cl sl (pc + 3) L st) : WC E d g ks σ cl sl pc L (iv v :: .ref g.h :: st) := by
  intro hK H locs ls a1 a2 a3 a4 a5
  have hwf := h.1
  obtain ⟨ty0, hty0⟩ := hwf.2.2.1
  refine va_put (C := d.nm) (T := d.T) (N := d.N) (Ts := lw_all) (v := iv v) h.2.1 h.2.2.1 h.2.2.2.2.2.1 hwf.2.1 ty0 hty0 hwf.2.2.2.1 h.2.2.2.2.1 hK a1 a2 a3 0 (fs := (List.range d.N).map (zfP d g σ ks)) rfl hwf.1 k hk (h.2.2.2.2.2.1 _ hw) (fun x hx => by rw [← hwf.2.2.2.2.2.2.1 k hk]; exact hx) hf hty hn hfi (by simpa using hk) hd (fun H1 locs1 b1 b2 b3 => ?_)
  rw [zwP_put hk ha hks] at b1 b2
  exact kk hK H1 locs1 ls b1 b2 b3 (a4.set k 0 hv) a5
/-- an array is made and kept in the field k -/
theorem c_mk (h : zI E d cc nL) (k : Nat) {idx : Nat} {v : Int} {at_ : ArrayType} (hks : k ∉ ks) (hk : k < d.N) (ha : d.isA k = true) (hdn : decode cc pc = .ok (.newarray at_, 2)) (hat : newarray.typeOf at_ = d.ety k) (harr : Cond.arrayClass (newarray.typeOf at_) ∈ lw_all) (hdef : defaultValue (d.ety k) = .int 0) (hz : ∀ j, σ k j = 0) (hv : v = (d.ln k : Int)) (hby : d.ln k * componentBytes (d.ety k) ≤ 536870912) (hcl : cl + 1 ≤ E.R.cells) (hsl : sl + d.ln k ≤ E.R.slots) (hty : parseFieldDescriptor (d.T k).2.2.1 = some (.array (d.ety k))) (hw : Cond.fieldLink d.nm idx d.nm (d.T k).2.1 (d.T k).2.2.1 ∈ lw_all) (hd : decode cc (pc + 2) = .ok (.putfield idx, 3)) (kk : ∀ (q : Nat) (cA : ClassId), WC E d (zgu g k q cA) (ks ++ [k]) σ (cl + 1) (sl + d.ln k) (pc + 5) L st) : WC E d g ks σ cl sl pc L (iv v :: .ref g.h :: st) := by
  intro hK H locs ls a1 a2 a3 a4 a5
  have hwf := h.1
  obtain ⟨ty0, hty0⟩ := hwf.2.2.1
  have hln := hwf.2.2.2.2.2.2.2 k
  subst hv
  refine va_newa (a0 := (d.ln k, .inl (fun j : Nat => Int32.ofInt (σ k (j : Int))))) h.2.1 h.2.2.1 (h.2.2.2.2.2.1 _ harr) hat hK a1 a2 a3 h.2.2.2.2.2.2.2 (fun cA => ?_) (fun q => ?_) ?_ hby hcl hsl hdn (fun q cA H1 hK1 b1 b2 b3 => ?_)
  · rw [vp_cell_i, hdef]
    congr 1
    funext j
    rw [hz]
    rfl
  · have := (z_lt (a := (d.ln k : Int)) (b := 0) ⟨by omega, by omega⟩ z_r0).mp q
    omega
  · rw [z_cl (by omega) (by omega)]
    omega
  · cases hf : (d.T k).2.2.2 with
    | false =>
      refine va_put (C := d.nm) (T := d.T) (N := d.N) (Ts := lw_all) (v := .ref q) h.2.1 h.2.2.1 h.2.2.2.2.2.1 hwf.2.1 ty0 hty0 hwf.2.2.2.1 h.2.2.2.2.1 hK1 b1 b2 b3 0 (fs := (List.range d.N).map (zfP d g σ ks)) rfl hwf.1 k hk (h.2.2.2.2.2.1 _ hw) (fun x hx => by rw [← hwf.2.2.2.2.2.2.1 k hk]; exact hx) hf hty rfl rfl (by simpa using hk) hd (fun H2 locs2 e1 e2 e3 => ?_)
      rw [zwP_mk hks hk ha] at e1 e2
      rw [ztP_mk (q := q) hks] at hK1
      exact kk q cA hK1 H2 locs2 ls e1 e2 e3 a4 a5
    | true =>
      refine va_putF (C := d.nm) (T := d.T) (N := d.N) (Ts := lw_all) (v := .ref q) h.2.1 h.2.2.1 h.2.2.2.2.2.1 hwf.2.1 ty0 hty0 hwf.2.2.2.1 h.2.2.2.2.1 hK1 b1 b2 b3 0 (fs := (List.range d.N).map (zfP d g σ ks)) rfl hwf.1 k hk (h.2.2.2.2.2.1 _ hw) (fun x hx => by rw [← hwf.2.2.2.2.2.2.1 k hk]; exact hx) hf h.2.2.2.2.2.2.1 (hwf.2.2.2.2.2.2.1 k hk) hty rfl rfl (by simpa using hk) hd (fun H2 locs2 e1 e2 e3 => ?_)
      rw [zwP_mk hks hk ha] at e1 e2
      rw [ztP_mk (q := q) hks] at hK1
      exact kk q cA hK1 H2 locs2 ls e1 e2 e3 a4 a5
end ZI
/-- the same with all its arrays: over E with the place that it has now -/
abbrev zEg (E : zE) (g : zG) (cl sl : Nat) : zE := (E.p, E.l, E.e, E.R, E.s, E.m, E.args, E.below, E.meth, E.c, cl, sl, E.Q, E.A, g)
def zM (E : zE) (d : zC) (cc : ByteArray) (nL : Nat) : Prop := zwf d ∧ E.p.tables.exec = Jvm.exec ∧ E.c.code = cc ∧ E.c.maxLocals = nL ∧ E.s.vm.findClass d.nm = some E.m.cls ∧ (∀ w ∈ lw_all, w.before E.args E.s = true) ∧ va_K E.g.D vwCl (zty d E.g) E.s ∧ True
theorem c_done {E : zE} {d : zC} {cc : ByteArray} {nL : Nat} {g : zG} {σ : zSt} {cl sl pc : Nat} {L : List (Option Value)} {st : List Value} (h : zI E d cc nL) (ha : ∀ k, k < d.N → d.isA k = true → k ∈ d.ks) (k : zM (zEg E g cl sl) d cc nL → WX (zEg E g cl sl) d σ pc L st) : WC E d g d.ks σ cl sl pc L st := by
  intro hK H locs ls a1 a2 a3 a4 a5
  rw [zwP_all ha] at a1 a2
  exact k ⟨h.1, h.2.1, h.2.2.1, h.2.2.2.1, h.2.2.2.2.1, h.2.2.2.2.2.1, hK, trivial⟩ H locs ls a1 a2 a3 a4 a5
section ZM
variable {E : zE} {d : zC} {cc : ByteArray} {nL : Nat} {σ : zSt} {pc : Nat} {L : List (Option Value)} {st : List Value}
theorem zM.x (h : zM E d cc nL) : E.p.tables.exec = Jvm.exec := h.2.1
theorem zM.b (h : zM E d cc nL) : E.c.code = cc := h.2.2.1
theorem y_iconst (h : zM E d cc nL) {v : Int} (hd : decode cc pc = .ok (.iconst v, 1)) (k : WX E d σ (pc + 1) L (iv v :: st)) : WX E d σ pc L st :=
  fun H locs ls a1 a2 a3 a4 a5 => lv_iconst h.x h.b hd rfl (k H locs ls a1 a2 a3 a4 a5)
theorem y_bipush (h : zM E d cc nL) {v : Int} (hd : decode cc pc = .ok (.bipush v, 2)) (hv : -128 ≤ v ∧ v < 128) (k : WX E d σ (pc + 2) L (iv v :: st)) : WX E d σ pc L st :=
  fun H locs ls a1 a2 a3 a4 a5 => lv_bipush h.x h.b hd (z_b hv) (k H locs ls a1 a2 a3 a4 a5)
theorem y_iloadn (h : zM E d cc nL) {i : Fin 4} {v : Int} (hd : decode cc pc = .ok (.iload_n i, 1)) (hl : L[(i : Nat)]? = some (some (iv v))) (k : WX E d σ (pc + 1) L (iv v :: st)) : WX E d σ pc L st :=
  fun H locs ls a1 a2 a3 a4 a5 => lv_iload_n h.x h.b hd rfl (a5.at hl) (k H locs ls a1 a2 a3 a4 a5)
theorem y_aload (h : zM E d cc nL) (hd : decode cc pc = .ok (.aload_n 0, 1)) (hl : L[0]? = some (some (th E))) (k : WX E d σ (pc + 1) L (th E :: st)) : WX E d σ pc L st :=
  fun H locs ls a1 a2 a3 a4 a5 => lv_aload_n h.x h.b hd rfl (a5.at hl) (k H locs ls a1 a2 a3 a4 a5)
theorem y_istoren (h : zM E d cc nL) {i : Fin 4} {v : Int} (hd : decode cc pc = .ok (.istore_n i, 1)) (hl : (i : Nat) < L.length) (k : WX E d σ (pc + 1) (L.set i (some (iv v))) st) : WX E d σ pc L (iv v :: st) :=
  fun H locs ls a1 a2 a3 a4 ⟨lv, b1, b2⟩ => lv_istore_n h.x h.b hd rfl b1 hl rfl (fun ls' hs => k H locs ls' a1 a2 a3 a4 (zL.put b2 hl rfl hs))
theorem y_iinc (h : zM E d cc nL) {i : Nat} {v w : Int} (hd : decode cc pc = .ok (.iinc i w, 3)) (hg : L[i]? = some (some (iv v))) (hl : i < L.length) (k : WX E d σ (pc + 3) (L.set i (some (iv (v + w)))) st) : WX E d σ pc L st := by
  intro H locs ls a1 a2 a3 a4 ⟨lv, b1, b2⟩
  obtain ⟨q, hq⟩ := List.getElem?_of_mem (b2 i _ hg).1
  exact lv_iinc (v := Int32.ofInt (v + w)) h.x h.b hd b1 hq (Int32.ofInt_add v w).symm hl rfl (fun ls' hs => k H locs ls' a1 a2 a3 a4 (zL.put b2 hl rfl hs))
theorem y_goto (h : zM E d cc nL) {off : Int} (tgt : Nat) (hd : decode cc pc = .ok (.goto off, 3)) (ht : (pc : Int) + off = (tgt : Int)) (k : WX E d σ tgt L st) : WX E d σ pc L st :=
  fun H locs ls a1 a2 a3 a4 a5 => lv_goto h.x h.b hd ht (k H locs ls a1 a2 a3 a4 a5)
theorem y_cmpge (h : zM E d cc nL) {a b off : Int} (tgt : Nat) (hd : decode cc pc = .ok (.if_icmp .ge off, 3)) (ht : (pc : Int) + off = (tgt : Int)) (ha : -2147483648 ≤ a ∧ a < 2147483648) (hb : -2147483648 ≤ b ∧ b < 2147483648) (kt : b ≤ a → WX E d σ tgt L st) (kf : a < b → WX E d σ (pc + 3) L st) : WX E d σ pc L (iv b :: iv a :: st) :=
  fun H locs ls a1 a2 a3 a4 a5 => lv_icmp_ge h.x h.b hd ht (fun q => kt ((z_le hb ha).mp q) H locs ls a1 a2 a3 a4 a5) (fun q => kf (Int.not_le.mp (fun q2 => q ((z_le hb ha).mpr q2))) H locs ls a1 a2 a3 a4 a5)
theorem y_geta (h : zM E d cc nL) (k : Nat) {idx : Nat} (hk : k < d.N) (ha : d.isA k = true) (hw : Cond.fieldLink d.nm idx d.nm (d.T k).2.1 (d.T k).2.2.1 ∈ lw_all) (hd : decode cc pc = .ok (.getfield idx, 3)) (kk : WX E d σ (pc + 3) L (rf E k :: st)) : WX E d σ pc L (th E :: st) := by
  intro H locs ls a1 a2 a3 a4 a5
  have hwf := h.1
  exact va_get (C := d.nm) (T := d.T) (N := d.N) (Ts := lw_all) (v := rf E k) h.x h.b h.2.2.2.2.2.1 hwf.2.1 h.2.2.2.2.1 h.2.2.2.2.2.2.1 a1 0 (zw_0 d E.g σ) hwf.1 k hk (h.2.2.2.2.2.1 _ hw) (fun x hx => by rw [← hwf.2.2.2.2.2.2.1 k hk]; exact hx) (by rw [z_fld hk]; simp [zfl, ha, rf]) hd (kk H locs ls a1 a2 a3 a4 a5)
theorem y_puti (h : zM E d cc nL) (k : Nat) {idx : Nat} {v : Int} (hk : k < d.N) (ha : d.isA k = false) (hf : (d.T k).2.2.2 = false) {ty : FieldType} (hty : parseFieldDescriptor (d.T k).2.2.1 = some ty) (hw : Cond.fieldLink d.nm idx d.nm (d.T k).2.1 (d.T k).2.2.1 ∈ lw_all) (hv : -2147483648 ≤ v ∧ v < 2147483648) (hn : narrow ty (iv v) = iv v) (hfi : fits ty (iv v) = true) (hd : decode cc pc = .ok (.putfield idx, 3)) (kk : WX E d (sset σ k 0 v) (pc + 3) L st) : WX E d σ pc L (iv v :: th E :: st) := by
  intro H locs ls a1 a2 a3 a4 a5
  have hwf := h.1
  obtain ⟨ty0, hty0⟩ := hwf.2.2.1
  refine va_put (C := d.nm) (T := d.T) (N := d.N) (Ts := lw_all) (v := iv v) h.x h.b h.2.2.2.2.2.1 hwf.2.1 ty0 hty0 hwf.2.2.2.1 h.2.2.2.2.1 h.2.2.2.2.2.2.1 a1 a2 a3 0 (zw_0 d E.g σ) hwf.1 k hk (h.2.2.2.2.2.1 _ hw) (fun x hx => by rw [← hwf.2.2.2.2.2.2.1 k hk]; exact hx) hf hty hn hfi (by simpa using hk) hd (fun H1 locs1 b1 b2 b3 => ?_)
  rw [zw_put hwf hk ha] at b1 b2
  exact kk H1 locs1 ls b1 b2 b3 (a4.set k 0 hv) a5
theorem y_iast (h : zM E d cc nL) {k : Nat} (q : Nat) (hq : d.ks[q]? = some k) (hty : d.ety k = .int) (hd : decode cc pc = .ok (.iastore, 1)) {i v : Int} (h0 : 0 ≤ i) (h1 : i < d.ln k) (hv : -2147483648 ≤ v ∧ v < 2147483648) (kk : WX E d (sset σ k i v) (pc + 1) L st) : WX E d σ pc L (iv v :: iv i :: rf E k :: st) := by
  intro H locs ls a1 a2 a3 a4 a5
  have hln := h.1.2.2.2.2.2.2.2 k
  have hty2 := zty_k hq E.g
  rw [hty] at hty2
  refine va_iast h.x h.b h.2.2.2.2.2.2.1 a1 a2 a3 (q + 1) q (zw_k hq E.g σ) hty2 (z_in h0 h1 hln) hd (fun H1 locs1 b1 b2 b3 => ?_)
  rw [z_cl h0 (by omega), zw_wr h.1 hq E.g σ h0] at b1 b2
  exact kk H1 locs1 ls b1 b2 b3 (a4.set k i hv) a5
end ZM
/-- behind a call on the second of two worlds, or on the first -/
theorem z_left {D : va_G} {cl : List vw_C} {w1 w2 : va_W} {H : Heap} {A : Nat → Prop} (hP : va_P D cl (w1 ++ w2) H) (hD : va_D A (w1 ++ w2)) : va_P D cl w1 H ∧ va_D A w1 ∧ va_P D cl w2 H ∧ va_D A w2 ∧ ∀ (i j : Nat) (x y : Nat × va_E), w1[i]? = some x → w2[j]? = some y → x.1 ≠ y.1 := by
  have l1 : ∀ (i : Nat) (x : Nat × va_E), w1[i]? = some x → (w1 ++ w2)[i]? = some x := fun i x h => by
    rw [List.getElem?_append_left (List.getElem?_eq_some_iff.mp h).1]
    exact h
  have l2 : ∀ (i : Nat) (x : Nat × va_E), w2[i]? = some x → (w1 ++ w2)[w1.length + i]? = some x := fun i x h => by
    rw [List.getElem?_append_right (by omega), show w1.length + i - w1.length = i by omega]
    exact h
  refine ⟨fun k q h => hP k q (l1 k q h), ⟨fun i j p q hp hq e => hD.1 i j p q (l1 i p hp) (l1 j q hq) e, fun k q h => hD.2 k q (l1 k q h)⟩, fun k q h => hP _ q (l2 k q h), ⟨fun i j p q hp hq e => ?_, fun k q h => hD.2 _ q (l2 k q h)⟩, fun i j x y hx hy e => ?_⟩
  · have := hD.1 _ _ p q (l2 i p hp) (l2 j q hq) e
    omega
  · have h1 := hD.1 _ _ x y (l1 i x hx) (l2 j y hy) e
    have h2 := (List.getElem?_eq_some_iff.mp hx).1
    omega
theorem z_kept {D : va_G} {cl : List vw_C} {w wc : va_W} {H H1 : Heap} (hP : va_P D cl w H) (hx : ∀ (i j : Nat) (x y : Nat × va_E), w[i]? = some x → wc[j]? = some y → x.1 ≠ y.1) (hk : ∀ q : Nat, q < H.size → ¬ va_A wc H.size q → H1[q]? = H[q]?) : va_P D cl w H1 ∧ ∀ (i : Nat) (x : Nat × va_E), w[i]? = some x → ¬ va_A wc H.size x.1 := by
  have ap : ∀ (i : Nat) (x : Nat × va_E), w[i]? = some x → ¬ va_A wc H.size x.1 := by
    intro i x h q
    rcases q with ⟨k, e, q⟩ | q
    · exact hx i k x (x.1, e) h q rfl
    · have := (hP i x h).lt
      omega
  exact ⟨fun k q h => (hP k q h).kept (hk q.1 ((hP k q h).lt) (ap k q h)), ap⟩
theorem z_j2 {D : va_G} {cl : List vw_C} {w1 w2 w3 : va_W} {H H1 : Heap} {A : Nat → Prop} (hP : va_P D cl (w1 ++ w2) H) (hD : va_D A (w1 ++ w2)) (hk : ∀ q : Nat, q < H.size → ¬ va_A w2 H.size q → H1[q]? = H[q]?) (hF : ∀ q, va_A w2 H.size q → A q) (hP1 : va_P D cl w3 H1) (hD1 : va_D (va_A w2 H.size) w3) : va_P D cl (w1 ++ w3) H1 ∧ va_D A (w1 ++ w3) := by
  obtain ⟨p1, d1, p2, d2, ap⟩ := z_left hP hD
  obtain ⟨k1, k2⟩ := z_kept p1 ap hk
  exact ⟨k1.app hP1, d1.app (hD1.weaken (fun _ q _ h => hF q.1 h)) (fun i j x y hx hy e => k2 i x hx (by rw [e]; exact hD1.2 j y hy))⟩
theorem z_j1 {D : va_G} {cl : List vw_C} {w1 w2 w3 : va_W} {H H1 : Heap} {A : Nat → Prop} (hP : va_P D cl (w1 ++ w2) H) (hD : va_D A (w1 ++ w2)) (hk : ∀ q : Nat, q < H.size → ¬ va_A w1 H.size q → H1[q]? = H[q]?) (hF : ∀ q, va_A w1 H.size q → A q) (hP1 : va_P D cl w3 H1) (hD1 : va_D (va_A w1 H.size) w3) : va_P D cl (w3 ++ w2) H1 ∧ va_D A (w3 ++ w2) := by
  obtain ⟨p1, d1, p2, d2, ap⟩ := z_left hP hD
  obtain ⟨k1, k2⟩ := z_kept p2 (fun i j x y hx hy e => ap j i y x hy hx e.symm) hk
  exact ⟨hP1.app k1, (hD1.weaken (fun _ q _ h => hF q.1 h)).app d2 (fun i j x y hx hy e => k2 j y hy (by rw [← e]; exact hD1.2 i x hx))⟩
end
section
/-! the two constructors -/
abbrev rmI (cl sl : Nat) : Room := { frames := 1, cells := cl, slots := sl, locals := 32 }
def z0 : zSt := fun _ _ => 0
def Ci (d : zC) (y : MethodName) (cc : ByteArray) (nL cl sl : Nat) (post : zSt → Prop) : Prop := ∀ (l : Launch) (g : zG) (sz : Nat), Met l y (ws_ y cc nL none) (rmI cl sl) (va_Pc [.ref g.h] (fun U => U.heap.size = sz ∧ va_P g.D vwCl (zwP d g z0 []) U.heap ∧ va_K g.D vwCl [] U ∧ va_D (fun _ => True) (zwP d g z0 []))) (va_Qv (fun u : (Nat → Nat) × (Nat → ClassId) × zSt => post u.2.2) (fun u t => zB d (g.h, u.1, u.2.1, g.D) (va_A (zwP d g z0 []) sz) u.2.2 t) (va_A (zwP d g z0 []) sz)) cl sl (va_A (zwP d g z0 []) sz)
theorem Ci_of {d : zC} (hwf : zwf d) {y : MethodName} {cc : ByteArray} {nL cl sl : Nat} {post : zSt → Prop} (hy : plainName y.cls = true) (hyc : y.cls = d.nm) (hyn : y.name = "<init>") (hnL : 1 ≤ nL) (hq : Cond.methodLink d.nm 1 Lib.objectInit ∈ lw_all) (d0 : decode cc 0 = .ok (.aload_n 0, 1)) (d1 : decode cc 1 = .ok (.invokespecial 1, 3))
    (L0 : Value → List (Option Value)) (hL0 : ∀ t, L0 t = (t :: ([] : List Int).map iv).map some ++ List.replicate (nL - (([] : List Int).length + 1)) none)
    (body : ∀ (E : zE) (g : zG), zI E d cc nL → E.R = rmI cl sl → (∀ (ad : Nat → Nat) (cA : Nat → ClassId) (u : zSt) (pc : Nat) (L : List (Option Value)), zM (zEg E (g.h, ad, cA, g.D) cl sl) d cc nL → decode cc pc = .ok (.return_, 1) → post u → WX (zEg E (g.h, ad, cA, g.D) cl sl) d u pc L []) → WC E d g [] z0 0 0 4 (L0 (.ref g.h)) []) : Ci d y cc nL cl sl post := by
  intro l g sz
  refine Met.ofW (cc := cc) (maxL := nL) (ret := none) hy rfl ?_
  intro p e s m args below meth c s₁ B hml hv
  obtain ⟨rfl, hsz, hP, hK, hD0⟩ := hv
  have hx := B.exec
  have hb := B.bytes
  have hr := B.returns
  have hts := atoms_spec (ws := ws_ y cc nL none) B.pre
  have hts : ∀ w ∈ lw_all, w.before _ s = true := fun w h => hts w (List.mem_cons_of_mem _ h)
  have hown : s.vm.findClass d.nm = some m.cls := by rw [← hyc]; exact findClass_of_methodNamed B.named
  have hlocks := B.notSynchronized
  have hin : meth.name = "<init>" := (name_of_methodNamed B.named B.method).1.trans hyn
  subst hsz
  have hD := hD0.self (sz := s.heap.size)
  have hn := body (p, l, e, rmI cl sl, s, m, ([Value.ref g.h] : List Value).toArray, below, meth, c, 0, 0, MQ below (va_Qv (fun u : (Nat → Nat) × (Nat → ClassId) × zSt => post u.2.2) (fun u t => zB d (g.h, u.1, u.2.1, g.D) (va_A (zwP d g z0 []) s.heap.size) u.2.2 t) (va_A (zwP d g z0 []) s.heap.size)) ([Value.ref g.h] : List Value).toArray s cl sl (va_A (zwP d g z0 []) s.heap.size), va_A (zwP d g z0 []) s.heap.size, g) g
    ⟨hwf, hx, hb, hml, hown, hts, hin, fun q h => Or.inr h⟩ rfl
    (by
      intro ad cA u pc L hM hdg hp H locs ls a1 a2 a3 a4 a5
      exact W.vret hx hb hr (fun t ht hW => ⟨⟨(ad, cA, u), rfl, hp, by rw [ht]; exact a1, va_K.moved hW.alike hM.2.2.2.2.2.2.1, a2, a4⟩, a3.F ht⟩) a3.2.2 hdg hlocks)
  rw [lg_entry_eq]
  have hL1 := z_entry g.h [] nL hnL
  rw [← hL0] at hL1
  have hl0 : (L0 (.ref g.h))[0]? = some (some (.ref g.h)) := by rw [hL0]; rfl
  have hll : (L0 (.ref g.h)).length = nL := by rw [hL0]; simp; omega
  refine lv_aload_n hx hb d0 rfl (hL1.at hl0) ?_
  refine W.objInit hx hb hown (hts _ hq) (hts _ q36) (hts _ q37) rfl (by rw [hml]; exact hL1.size.trans hll) rfl d1 (Nat.le_of_ble_eq_true rfl) (Nat.le_of_ble_eq_true rfl) ?_
  refine W.eq (g2 := F0 m 4 _ []) rfl ?_
  exact hn hK s.heap [] _ hP hD va_S.rf (fun _ _ => z_r0) hL1
def Ini0 (u : zSt) : Prop := u 0 0 = 3 ∧ u 1 0 = 0 ∧ u 2 0 = 3 ∧ u 2 1 = 3 ∧ (∀ j, u 3 j = 0) ∧ (∀ j, u 4 j = 0) ∧ (∀ e, 0 ≤ e → e < 32 → u 5 e = -1) ∧ u 9 0 = 0 ∧ u 16 0 = 0
def Ini1 (u : zSt) : Prop := (∀ j, u 0 j = 0) ∧ u 1 0 = 3 ∧ u 2 0 = 0 ∧ u 3 0 = 0 ∧ u 4 0 = 0 ∧ (∀ j, u 5 j = 0) ∧ (u 10 32 = 3 ∧ u 11 32 = 0 ∧ u 12 32 = 0) ∧ (u 10 33 = 3 ∧ u 11 33 = 0 ∧ u 12 33 = 0)
/-- the class's loop over the handles, up to e -/
def Ini0e (u : zSt) (e : Int) : Prop := u 0 0 = 3 ∧ u 1 0 = 0 ∧ u 2 0 = 3 ∧ u 2 1 = 3 ∧ (∀ j, u 3 j = 0) ∧ (∀ j, u 4 j = 0) ∧ (∀ j, 0 ≤ j → j < e → u 5 j = -1) ∧ u 9 0 = 0 ∧ u 16 0 = 0
theorem Ini0e_s {u : zSt} {e : Int} (h : Ini0e u e) (he : 0 ≤ e) : Ini0e (sset u 5 e (-1)) (e + 1) := by
  obtain ⟨h0, h1, h2, h3, h4, h5, h6, h7, h8⟩ := h
  refine ⟨?_, ?_, ?_, ?_, fun j => ?_, fun j => ?_, fun j j0 j1 => ?_, ?_, ?_⟩
  · rw [ss_k _ _ _ (by decide)]; exact h0
  · rw [ss_k _ _ _ (by decide)]; exact h1
  · rw [ss_k _ _ _ (by decide)]; exact h2
  · rw [ss_k _ _ _ (by decide)]; exact h3
  · rw [ss_k _ _ _ (by decide)]; exact h4 j
  · rw [ss_k _ _ _ (by decide)]; exact h5 j
  · rw [ss_3]
    by_cases q : j = e
    · rw [if_pos q]
    · rw [if_neg q]; exact h6 j j0 (by omega)
  · rw [ss_k _ _ _ (by decide)]; exact h7
  · rw [ss_k _ _ _ (by decide)]; exact h8
set_option maxHeartbeats 4000000 in
theorem m0_init_loop {E : zE} (hM : zM E cd0 cX0_init 2) (hret : ∀ (u : zSt) (pc : Nat) (L : List (Option Value)), decode cX0_init pc = .ok (.return_, 1) → Ini0 u → WX E cd0 u pc L []) : ∀ (n : Nat) (e : Int) (τ : zSt), 0 ≤ e → e ≤ 32 → 32 < e + n → Ini0e τ e → WX E cd0 τ 154 [some (th E), some (iv e)] [] := by
  intro n
  induction n with
  | zero => intro e τ h1 h2 h3; exact absurd h3 (by omega)
  | succ n ih =>
    intro e τ he0 he1 hen hI0
    refine y_iloadn hM dX0_init_154 rfl ?_
    refine y_bipush hM dX0_init_155 (by decide) ?_
    refine y_cmpge hM 173 dX0_init_157 (by decide) (by omega) (by omega) (fun h => ?_) (fun h => ?_)
    · have e32 : e = 32 := by omega
      rw [e32] at hI0
      exact hret τ _ _ dX0_init_173 hI0
    · refine y_aload hM dX0_init_160 rfl ?_
      refine y_geta hM 5 (by decide) rfl q43 dX0_init_161 ?_
      refine y_iloadn hM dX0_init_164 rfl ?_
      refine y_iconst hM dX0_init_165 ?_
      refine y_iast hM 3 rfl rfl dX0_init_166 he0 (show e < 32 by omega) (by decide) ?_
      refine y_iinc hM dX0_init_167 rfl (Nat.le_of_ble_eq_true rfl) ?_
      refine y_goto hM 154 dX0_init_170 (by decide) ?_
      exact ih (e + 1) _ (by omega) (by omega) (by omega) (Ini0e_s hI0 he0)
set_option maxHeartbeats 4000000 in
theorem m0_init : Ci cd0 yX0_init cX0_init 2 16 884 Ini0 := by
  refine Ci_of wf0 (by decide +kernel) rfl rfl (by decide) q35 dX0_init_0 dX0_init_1 (fun t => [some t, none]) (fun _ => rfl) ?_
  intro E g hI hR hret
  refine c_aload hI dX0_init_4 rfl ?_
  refine c_iconst hI dX0_init_5 ?_
  refine c_mk hI 2 (by decide) (by decide) rfl dX0_init_6 rfl q105 rfl (fun _ => rfl) rfl (Nat.le_of_ble_eq_true rfl) (by rw [hR]; exact Nat.le_of_ble_eq_true rfl) (by rw [hR]; exact Nat.le_of_ble_eq_true rfl) (tyX0_ok 2 (by decide)) q40 dX0_init_8 (fun q2 c2 => ?_)
  change WC E cd0 _ [2] _ 1 2 11 _ _
  refine c_aload hI dX0_init_11 rfl ?_
  refine c_iconst hI dX0_init_12 ?_
  refine c_mk hI 3 (by decide) (by decide) rfl dX0_init_13 rfl q105 rfl (fun _ => rfl) rfl (Nat.le_of_ble_eq_true rfl) (by rw [hR]; exact Nat.le_of_ble_eq_true rfl) (by rw [hR]; exact Nat.le_of_ble_eq_true rfl) (tyX0_ok 3 (by decide)) q41 dX0_init_15 (fun q3 c3 => ?_)
  change WC E cd0 _ [2, 3] _ 2 6 18 _ _
  refine c_aload hI dX0_init_18 rfl ?_
  refine c_iconst hI dX0_init_19 ?_
  refine c_mk hI 4 (by decide) (by decide) rfl dX0_init_20 rfl q106 rfl (fun _ => rfl) rfl (Nat.le_of_ble_eq_true rfl) (by rw [hR]; exact Nat.le_of_ble_eq_true rfl) (by rw [hR]; exact Nat.le_of_ble_eq_true rfl) (tyX0_ok 4 (by decide)) q42 dX0_init_22 (fun q4 c4 => ?_)
  change WC E cd0 _ [2, 3, 4] _ 3 8 25 _ _
  refine c_aload hI dX0_init_25 rfl ?_
  refine c_bipush hI dX0_init_26 (by decide) ?_
  refine c_mk hI 5 (by decide) (by decide) rfl dX0_init_28 rfl q105 rfl (fun _ => rfl) rfl (Nat.le_of_ble_eq_true rfl) (by rw [hR]; exact Nat.le_of_ble_eq_true rfl) (by rw [hR]; exact Nat.le_of_ble_eq_true rfl) (tyX0_ok 5 (by decide)) q43 dX0_init_30 (fun q5 c5 => ?_)
  change WC E cd0 _ [2, 3, 4, 5] _ 4 40 33 _ _
  refine c_aload hI dX0_init_33 rfl ?_
  refine c_bipush hI dX0_init_34 (by decide) ?_
  refine c_mk hI 6 (by decide) (by decide) rfl dX0_init_36 rfl q105 rfl (fun _ => rfl) rfl (Nat.le_of_ble_eq_true rfl) (by rw [hR]; exact Nat.le_of_ble_eq_true rfl) (by rw [hR]; exact Nat.le_of_ble_eq_true rfl) (tyX0_ok 6 (by decide)) q44 dX0_init_38 (fun q6 c6 => ?_)
  change WC E cd0 _ [2, 3, 4, 5, 6] _ 5 72 41 _ _
  refine c_aload hI dX0_init_41 rfl ?_
  refine c_bipush hI dX0_init_42 (by decide) ?_
  refine c_mk hI 7 (by decide) (by decide) rfl dX0_init_44 rfl q105 rfl (fun _ => rfl) rfl (Nat.le_of_ble_eq_true rfl) (by rw [hR]; exact Nat.le_of_ble_eq_true rfl) (by rw [hR]; exact Nat.le_of_ble_eq_true rfl) (tyX0_ok 7 (by decide)) q45 dX0_init_46 (fun q7 c7 => ?_)
  change WC E cd0 _ [2, 3, 4, 5, 6, 7] _ 6 104 49 _ _
  refine c_aload hI dX0_init_49 rfl ?_
  refine c_bipush hI dX0_init_50 (by decide) ?_
  refine c_mk hI 8 (by decide) (by decide) rfl dX0_init_52 rfl q105 rfl (fun _ => rfl) rfl (Nat.le_of_ble_eq_true rfl) (by rw [hR]; exact Nat.le_of_ble_eq_true rfl) (by rw [hR]; exact Nat.le_of_ble_eq_true rfl) (tyX0_ok 8 (by decide)) q46 dX0_init_54 (fun q8 c8 => ?_)
  change WC E cd0 _ [2, 3, 4, 5, 6, 7, 8] _ 7 136 57 _ _
  refine c_aload hI dX0_init_57 rfl ?_
  refine c_sipush hI dX0_init_58 (by decide) ?_
  refine c_mk hI 11 (by decide) (by decide) rfl dX0_init_61 rfl q107 rfl (fun _ => rfl) rfl (Nat.le_of_ble_eq_true rfl) (by rw [hR]; exact Nat.le_of_ble_eq_true rfl) (by rw [hR]; exact Nat.le_of_ble_eq_true rfl) (tyX0_ok 11 (by decide)) q49 dX0_init_63 (fun q11 c11 => ?_)
  change WC E cd0 _ [2, 3, 4, 5, 6, 7, 8, 11] _ 8 394 66 _ _
  refine c_aload hI dX0_init_66 rfl ?_
  refine c_sipush hI dX0_init_67 (by decide) ?_
  refine c_mk hI 12 (by decide) (by decide) rfl dX0_init_70 rfl q106 rfl (fun _ => rfl) rfl (Nat.le_of_ble_eq_true rfl) (by rw [hR]; exact Nat.le_of_ble_eq_true rfl) (by rw [hR]; exact Nat.le_of_ble_eq_true rfl) (tyX0_ok 12 (by decide)) q50 dX0_init_72 (fun q12 c12 => ?_)
  change WC E cd0 _ [2, 3, 4, 5, 6, 7, 8, 11, 12] _ 9 523 75 _ _
  refine c_aload hI dX0_init_75 rfl ?_
  refine c_sipush hI dX0_init_76 (by decide) ?_
  refine c_mk hI 13 (by decide) (by decide) rfl dX0_init_79 rfl q106 rfl (fun _ => rfl) rfl (Nat.le_of_ble_eq_true rfl) (by rw [hR]; exact Nat.le_of_ble_eq_true rfl) (by rw [hR]; exact Nat.le_of_ble_eq_true rfl) (tyX0_ok 13 (by decide)) q51 dX0_init_81 (fun q13 c13 => ?_)
  change WC E cd0 _ [2, 3, 4, 5, 6, 7, 8, 11, 12, 13] _ 10 652 84 _ _
  refine c_aload hI dX0_init_84 rfl ?_
  refine c_bipush hI dX0_init_85 (by decide) ?_
  refine c_mk hI 14 (by decide) (by decide) rfl dX0_init_87 rfl q107 rfl (fun _ => rfl) rfl (Nat.le_of_ble_eq_true rfl) (by rw [hR]; exact Nat.le_of_ble_eq_true rfl) (by rw [hR]; exact Nat.le_of_ble_eq_true rfl) (tyX0_ok 14 (by decide)) q52 dX0_init_89 (fun q14 c14 => ?_)
  change WC E cd0 _ [2, 3, 4, 5, 6, 7, 8, 11, 12, 13, 14] _ 11 672 92 _ _
  refine c_aload hI dX0_init_92 rfl ?_
  refine c_bipush hI dX0_init_93 (by decide) ?_
  refine c_mk hI 15 (by decide) (by decide) rfl dX0_init_95 rfl q106 rfl (fun _ => rfl) rfl (Nat.le_of_ble_eq_true rfl) (by rw [hR]; exact Nat.le_of_ble_eq_true rfl) (by rw [hR]; exact Nat.le_of_ble_eq_true rfl) (tyX0_ok 15 (by decide)) q53 dX0_init_97 (fun q15 c15 => ?_)
  change WC E cd0 _ [2, 3, 4, 5, 6, 7, 8, 11, 12, 13, 14, 15] _ 12 692 100 _ _
  refine c_aload hI dX0_init_100 rfl ?_
  refine c_bipush hI dX0_init_101 (by decide) ?_
  refine c_mk hI 18 (by decide) (by decide) rfl dX0_init_103 rfl q105 rfl (fun _ => rfl) rfl (Nat.le_of_ble_eq_true rfl) (by rw [hR]; exact Nat.le_of_ble_eq_true rfl) (by rw [hR]; exact Nat.le_of_ble_eq_true rfl) (tyX0_ok 18 (by decide)) q56 dX0_init_105 (fun q18 c18 => ?_)
  change WC E cd0 _ [2, 3, 4, 5, 6, 7, 8, 11, 12, 13, 14, 15, 18] _ 13 708 108 _ _
  refine c_aload hI dX0_init_108 rfl ?_
  refine c_bipush hI dX0_init_109 (by decide) ?_
  refine c_mk hI 19 (by decide) (by decide) rfl dX0_init_111 rfl q106 rfl (fun _ => rfl) rfl (Nat.le_of_ble_eq_true rfl) (by rw [hR]; exact Nat.le_of_ble_eq_true rfl) (by rw [hR]; exact Nat.le_of_ble_eq_true rfl) (tyX0_ok 19 (by decide)) q57 dX0_init_113 (fun q19 c19 => ?_)
  change WC E cd0 _ [2, 3, 4, 5, 6, 7, 8, 11, 12, 13, 14, 15, 18, 19] _ 14 724 116 _ _
  refine c_aload hI dX0_init_116 rfl ?_
  refine c_sipush hI dX0_init_117 (by decide) ?_
  refine c_mk hI 20 (by decide) (by decide) rfl dX0_init_120 rfl q106 rfl (fun _ => rfl) rfl (Nat.le_of_ble_eq_true rfl) (by rw [hR]; exact Nat.le_of_ble_eq_true rfl) (by rw [hR]; exact Nat.le_of_ble_eq_true rfl) (tyX0_ok 20 (by decide)) q58 dX0_init_122 (fun q20 c20 => ?_)
  change WC E cd0 _ [2, 3, 4, 5, 6, 7, 8, 11, 12, 13, 14, 15, 18, 19, 20] _ 15 852 125 _ _
  refine c_aload hI dX0_init_125 rfl ?_
  refine c_bipush hI dX0_init_126 (by decide) ?_
  refine c_mk hI 21 (by decide) (by decide) rfl dX0_init_128 rfl q106 rfl (fun _ => rfl) rfl (Nat.le_of_ble_eq_true rfl) (by rw [hR]; exact Nat.le_of_ble_eq_true rfl) (by rw [hR]; exact Nat.le_of_ble_eq_true rfl) (tyX0_ok 21 (by decide)) q59 dX0_init_130 (fun q21 c21 => ?_)
  change WC E cd0 _ [2, 3, 4, 5, 6, 7, 8, 11, 12, 13, 14, 15, 18, 19, 20, 21] _ 16 884 133 _ _
  refine c_done hI (by decide) (fun hM => ?_)
  refine y_aload hM dX0_init_133 rfl ?_
  refine y_iconst hM dX0_init_134 ?_
  refine y_puti (ty := .int) hM 0 (by decide) rfl rfl (by decide +kernel) q38 (by decide) rfl rfl dX0_init_135 ?_
  refine y_aload hM dX0_init_138 rfl ?_
  refine y_geta hM 2 (by decide) rfl q40 dX0_init_139 ?_
  refine y_iconst hM dX0_init_142 ?_
  refine y_iconst hM dX0_init_143 ?_
  refine y_iast hM 0 rfl rfl dX0_init_144 (by decide) (by decide) (by decide) ?_
  refine y_aload hM dX0_init_145 rfl ?_
  refine y_geta hM 2 (by decide) rfl q40 dX0_init_146 ?_
  refine y_iconst hM dX0_init_149 ?_
  refine y_iconst hM dX0_init_150 ?_
  refine y_iast hM 0 rfl rfl dX0_init_151 (by decide) (by decide) (by decide) ?_
  refine y_iconst hM dX0_init_152 ?_
  refine y_istoren hM dX0_init_153 (Nat.le_of_ble_eq_true rfl) ?_
  exact m0_init_loop hM (fun u pc L hd hp => hret _ _ u pc L hM hd hp) 33 0 _ (by omega) (by omega) (by omega) ⟨rfl, rfl, rfl, rfl, fun _ => rfl, fun _ => rfl, fun j j0 j1 => by omega, rfl, rfl⟩
set_option maxHeartbeats 4000000 in
theorem m1_init : Ci cd1 yX1_init cX1_init 1 9 236 Ini1 := by
  refine Ci_of wf1 (by decide +kernel) rfl rfl (by decide) q231 dX1_init_0 dX1_init_1 (fun t => [some t]) (fun _ => rfl) ?_
  intro E g hI hR hret
  refine c_aload hI dX1_init_4 rfl ?_
  refine c_iconst hI dX1_init_5 ?_
  refine c_mk hI 0 (by decide) (by decide) rfl dX1_init_6 rfl q105 rfl (fun _ => rfl) rfl (Nat.le_of_ble_eq_true rfl) (by rw [hR]; exact Nat.le_of_ble_eq_true rfl) (by rw [hR]; exact Nat.le_of_ble_eq_true rfl) (tyX1_ok 0 (by decide)) q232 dX1_init_8 (fun q0 c0 => ?_)
  change WC E cd1 _ [0] _ 1 4 11 _ _
  refine c_aload hI dX1_init_11 rfl ?_
  refine c_iconst hI dX1_init_12 ?_
  refine c_puti (ty := .int) hI 1 (by decide) rfl (by decide) rfl (by decide +kernel) q233 (by decide) rfl rfl dX1_init_13 ?_
  refine c_aload hI dX1_init_16 rfl ?_
  refine c_iconst hI dX1_init_17 ?_
  refine c_puti (ty := .int) hI 2 (by decide) rfl (by decide) rfl (by decide +kernel) q234 (by decide) rfl rfl dX1_init_18 ?_
  refine c_aload hI dX1_init_21 rfl ?_
  refine c_iconst hI dX1_init_22 ?_
  refine c_puti (ty := .int) hI 3 (by decide) rfl (by decide) rfl (by decide +kernel) q235 (by decide) rfl rfl dX1_init_23 ?_
  refine c_aload hI dX1_init_26 rfl ?_
  refine c_iconst hI dX1_init_27 ?_
  refine c_puti (ty := .int) hI 4 (by decide) rfl (by decide) rfl (by decide +kernel) q236 (by decide) rfl rfl dX1_init_28 ?_
  refine c_aload hI dX1_init_31 rfl ?_
  refine c_iconst hI dX1_init_32 ?_
  refine c_mk hI 5 (by decide) (by decide) rfl dX1_init_33 rfl q105 rfl (fun j => by simp [sset, z0]) rfl (Nat.le_of_ble_eq_true rfl) (by rw [hR]; exact Nat.le_of_ble_eq_true rfl) (by rw [hR]; exact Nat.le_of_ble_eq_true rfl) (tyX1_ok 5 (by decide)) q237 dX1_init_35 (fun q5 c5 => ?_)
  change WC E cd1 _ [0, 5] _ 2 6 38 _ _
  refine c_aload hI dX1_init_38 rfl ?_
  refine c_bipush hI dX1_init_39 (by decide) ?_
  refine c_mk hI 6 (by decide) (by decide) rfl dX1_init_41 rfl q105 rfl (fun j => by simp [sset, z0]) rfl (Nat.le_of_ble_eq_true rfl) (by rw [hR]; exact Nat.le_of_ble_eq_true rfl) (by rw [hR]; exact Nat.le_of_ble_eq_true rfl) (tyX1_ok 6 (by decide)) q238 dX1_init_43 (fun q6 c6 => ?_)
  change WC E cd1 _ [0, 5, 6] _ 3 38 46 _ _
  refine c_aload hI dX1_init_46 rfl ?_
  refine c_bipush hI dX1_init_47 (by decide) ?_
  refine c_mk hI 7 (by decide) (by decide) rfl dX1_init_49 rfl q105 rfl (fun j => by simp [sset, z0]) rfl (Nat.le_of_ble_eq_true rfl) (by rw [hR]; exact Nat.le_of_ble_eq_true rfl) (by rw [hR]; exact Nat.le_of_ble_eq_true rfl) (tyX1_ok 7 (by decide)) q239 dX1_init_51 (fun q7 c7 => ?_)
  change WC E cd1 _ [0, 5, 6, 7] _ 4 70 54 _ _
  refine c_aload hI dX1_init_54 rfl ?_
  refine c_bipush hI dX1_init_55 (by decide) ?_
  refine c_mk hI 8 (by decide) (by decide) rfl dX1_init_57 rfl q105 rfl (fun j => by simp [sset, z0]) rfl (Nat.le_of_ble_eq_true rfl) (by rw [hR]; exact Nat.le_of_ble_eq_true rfl) (by rw [hR]; exact Nat.le_of_ble_eq_true rfl) (tyX1_ok 8 (by decide)) q240 dX1_init_59 (fun q8 c8 => ?_)
  change WC E cd1 _ [0, 5, 6, 7, 8] _ 5 102 62 _ _
  refine c_aload hI dX1_init_62 rfl ?_
  refine c_bipush hI dX1_init_63 (by decide) ?_
  refine c_mk hI 9 (by decide) (by decide) rfl dX1_init_65 rfl q105 rfl (fun j => by simp [sset, z0]) rfl (Nat.le_of_ble_eq_true rfl) (by rw [hR]; exact Nat.le_of_ble_eq_true rfl) (by rw [hR]; exact Nat.le_of_ble_eq_true rfl) (tyX1_ok 9 (by decide)) q241 dX1_init_67 (fun q9 c9 => ?_)
  change WC E cd1 _ [0, 5, 6, 7, 8, 9] _ 6 134 70 _ _
  refine c_aload hI dX1_init_70 rfl ?_
  refine c_bipush hI dX1_init_71 (by decide) ?_
  refine c_mk hI 10 (by decide) (by decide) rfl dX1_init_73 rfl q105 rfl (fun j => by simp [sset, z0]) rfl (Nat.le_of_ble_eq_true rfl) (by rw [hR]; exact Nat.le_of_ble_eq_true rfl) (by rw [hR]; exact Nat.le_of_ble_eq_true rfl) (tyX1_ok 10 (by decide)) q242 dX1_init_75 (fun q10 c10 => ?_)
  change WC E cd1 _ [0, 5, 6, 7, 8, 9, 10] _ 7 168 78 _ _
  refine c_aload hI dX1_init_78 rfl ?_
  refine c_bipush hI dX1_init_79 (by decide) ?_
  refine c_mk hI 11 (by decide) (by decide) rfl dX1_init_81 rfl q105 rfl (fun j => by simp [sset, z0]) rfl (Nat.le_of_ble_eq_true rfl) (by rw [hR]; exact Nat.le_of_ble_eq_true rfl) (by rw [hR]; exact Nat.le_of_ble_eq_true rfl) (tyX1_ok 11 (by decide)) q243 dX1_init_83 (fun q11 c11 => ?_)
  change WC E cd1 _ [0, 5, 6, 7, 8, 9, 10, 11] _ 8 202 86 _ _
  refine c_aload hI dX1_init_86 rfl ?_
  refine c_bipush hI dX1_init_87 (by decide) ?_
  refine c_mk hI 12 (by decide) (by decide) rfl dX1_init_89 rfl q105 rfl (fun j => by simp [sset, z0]) rfl (Nat.le_of_ble_eq_true rfl) (by rw [hR]; exact Nat.le_of_ble_eq_true rfl) (by rw [hR]; exact Nat.le_of_ble_eq_true rfl) (tyX1_ok 12 (by decide)) q244 dX1_init_91 (fun q12 c12 => ?_)
  change WC E cd1 _ [0, 5, 6, 7, 8, 9, 10, 11, 12] _ 9 236 94 _ _
  refine c_done hI (by decide) (fun hM => ?_)
  refine y_aload hM dX1_init_94 rfl ?_
  refine y_geta hM 10 (by decide) rfl q242 dX1_init_95 ?_
  refine y_bipush hM dX1_init_98 (by decide) ?_
  refine y_iconst hM dX1_init_100 ?_
  refine y_iast hM 6 rfl rfl dX1_init_101 (by decide) (by decide) (by decide) ?_
  refine y_aload hM dX1_init_102 rfl ?_
  refine y_geta hM 10 (by decide) rfl q242 dX1_init_103 ?_
  refine y_bipush hM dX1_init_106 (by decide) ?_
  refine y_iconst hM dX1_init_108 ?_
  refine y_iast hM 6 rfl rfl dX1_init_109 (by decide) (by decide) (by decide) ?_
  exact hret _ _ _ _ _ hM dX1_init_110 ⟨fun _ => rfl, rfl, rfl, rfl, rfl, fun _ => rfl, ⟨rfl, rfl, rfl⟩, ⟨rfl, rfl, rfl⟩⟩
/-- both are alike at the start -/
theorem INV_0 {σ μ : zSt} (h0 : Ini0 σ) (h1 : Ini1 μ) : INV σ μ 0 := by
  obtain ⟨a0, a1, a2, a3, a4, a5, a6, a7, a8⟩ := h0
  obtain ⟨b0, b1, b2, b3, b4, b5, b6, b7⟩ := h1
  have hn : ∀ e, 0 ≤ e → e < 32 → ¬ 0 ≤ σ 5 e := fun e e0 e1 => by rw [a6 e e0 e1]; decide
  refine ⟨⟨⟨by omega, ?_, fun j _ _ => by rw [a4]; omega, fun t t0 t1 => ?_, fun e e0 e1 => ?_, fun x y x0 x1 _ _ x2 => absurd x2 (hn x x0 x1), fun e e0 e1 e2 => absurd e2 (hn e e0 e1), fun e e0 e1 e2 => absurd e2 (hn e e0 (by omega)), fun e e0 e1 e2 => absurd e2 (hn e (by omega) e1)⟩, fun h => absurd a7 h, fun h => absurd a8 h⟩, fun j _ _ => by rw [a4, b0], by rw [a0, b1, b2, b3]; decide, by omega, fun t t0 t1 => ⟨?_, ?_, fun e e0 e1 e2 => absurd e2 (hn e (by omega) (by omega)), fun q q0 q1 => ?_, fun q q' q0 qq q1 => ?_⟩⟩
  · rw [a0, a2, a3]
    unfold AOK
    decide
  · rw [a5, cn_no]
    intro j hj
    exact hn _ (by omega) (by omega)
  · rw [a6 e e0 e1, a1]; omega
  · have : t = 0 ∨ t = 1 := by omega
    rcases this with k | k
    · rw [k, a2]
      show μ 10 32 = 3 % 8 ∧ μ 11 32 = 3 / 8 % 4 ∧ μ 12 32 = 3 / 32
      rw [b6.1, b6.2.1, b6.2.2]
      decide
    · rw [k, a3]
      show μ 10 33 = 3 % 8 ∧ μ 11 33 = 3 / 8 % 4 ∧ μ 12 33 = 3 / 32
      rw [b7.1, b7.2.1, b7.2.2]
      decide
  · rw [a5, b5]
  · rw [b5] at q1; omega
  · rw [b5] at q1; omega
end
section
/-! a call on the class, then the same on the reference: the same answer, and the relation goes on -/
def Pr (y0 : MethodName) (c0 : ByteArray) (L0 n0 : Nat) (y1 : MethodName) (c1 : ByteArray) (L1 n1 : Nat) (rt : FieldType) (xs : List Int) : Prop := ∀ (σ μ : zSt) (N : Int), INV σ μ N → N ≤ 900 → ∃ (p0 p1 : Int → zSt → Prop), Cx cd0 y0 c0 L0 rt n0 σ xs p0 ∧ Cx cd1 y1 c1 L1 rt n1 μ xs p1 ∧ ∀ z u w v, p0 z u → p1 w v → z = w ∧ INV u v (N + 1)
theorem INV_h0 {σ μ : zSt} {N : Int} (I : INV σ μ N) (hN : N ≤ 900) : 0 ≤ σ 1 0 ∧ σ 1 0 < 1000 := by
  have := I.1.1.1
  omega
theorem INV_h1 {σ μ : zSt} {N : Int} (I : INV σ μ N) (hN : N ≤ 900) : 0 ≤ μ 4 0 ∧ μ 4 0 < 1000 := by
  rw [← I.2.2.2.1]
  exact INV_h0 I hN
theorem pr_action (a : Int) (ha : -2147483648 ≤ a ∧ a < 2147483648) (b : Int) (hb : -2147483648 ≤ b ∧ b < 2147483648) (c : Int) (hc : -2147483648 ≤ c ∧ c < 2147483648) : Pr yX0_action cX0_action 4 0 yX1_action cX1_action 4 1 .boolean [a, b, c] := fun σ μ N I hN => ⟨_, _, m0_action σ a b c ha hb hc, m1_action μ a b c ha hb hc, fun z u w v h0 h1 => op_action I h0 h1⟩
theorem pr_addPrefix (a : Int) (ha : -2147483648 ≤ a ∧ a < 2147483648) (b : Int) (hb : -2147483648 ≤ b ∧ b < 2147483648) : Pr yX0_addPrefix cX0_addPrefix 3 1 yX1_addPrefix cX1_addPrefix 3 2 .int [a, b] := fun σ μ N I hN => ⟨_, _, m0_addPrefix σ a b ha hb (INV_h0 I hN) (CB_ct I.1.1) (fun h => by obtain ⟨e, e0, e1, e2⟩ := CB_free I.1.1 (t := 0) (by omega) (by omega) h; exact ⟨e, by omega, by omega, e2⟩), m1_addPrefix μ a b ha hb (INV_h1 I hN) (INV_ct I.1.1 I.2 0 (by omega) (by omega)), fun z u w v h0 h1 => op_addPrefix I h0 h1⟩
theorem pr_addMasked (a : Int) (ha : -2147483648 ≤ a ∧ a < 2147483648) (b : Int) (hb : -2147483648 ≤ b ∧ b < 2147483648) (c : Int) (hc : -2147483648 ≤ c ∧ c < 2147483648) : Pr yX0_addMasked cX0_addMasked 6 1 yX1_addMasked cX1_addMasked 4 2 .int [a, b, c] := fun σ μ N I hN => ⟨_, _, m0_addMasked σ a b c ha hb hc (INV_h0 I hN) (CB_ct I.1.1) (fun h => by obtain ⟨e, e0, e1, e2⟩ := CB_free I.1.1 (t := 1) (by omega) (by omega) h; exact ⟨e, by omega, by omega, e2⟩), m1_addMasked μ a b c ha hb hc (INV_h1 I hN) (INV_ct I.1.1 I.2 1 (by omega) (by omega)), fun z u w v h0 h1 => op_addMasked I h0 h1⟩
theorem pr_remove (a : Int) (ha : -2147483648 ≤ a ∧ a < 2147483648) : Pr yX0_remove cX0_remove 4 1 yX1_remove cX1_remove 5 1 .int [a] := fun σ μ N I hN => ⟨_, _, m0_remove σ a ha (CB_ct I.1.1), m1_remove μ a ha (INV_ct I.1.1 I.2), fun z u w v h0 h1 => op_remove I h0 h1⟩
theorem pr_setDefault (a : Int) (ha : -2147483648 ≤ a ∧ a < 2147483648) : Pr yX0_setDefault cX0_setDefault 2 0 yX1_setDefault cX1_setDefault 2 1 .boolean [a] := fun σ μ N I hN => ⟨_, _, m0_setDefault σ a ha, m1_setDefault μ a ha, fun z u w v h0 h1 => op_setDefault I h0 h1⟩
theorem pr_field (a : Int) (ha : -2147483648 ≤ a ∧ a < 2147483648) (b : Int) (hb : -2147483648 ≤ b ∧ b < 2147483648) : Pr yX0_field cX0_field 3 0 yX1_field cX1_field 3 1 .boolean [a, b] := fun σ μ N I hN => ⟨_, _, m0_field σ a b ha hb, m1_field μ a b ha hb, fun z u w v h0 h1 => op_field I h0 h1⟩
theorem pr_get (a : Int) (ha : -2147483648 ≤ a ∧ a < 2147483648) : Pr yX0_get cX0_get 2 0 yX1_get cX1_get 2 0 .int [a] := fun σ μ N I hN => ⟨_, _, m0_get σ a ha, m1_get μ a ha, fun z u w v h0 h1 => op_get I h0 h1⟩
theorem pr_lookup (a : Int) (ha : -2147483648 ≤ a ∧ a < 2147483648) : Pr yX0_lookup cX0_lookup 3 5 yX1_lookup cX1_lookup 3 2 .int [a] := fun σ μ N I hN => ⟨_, _, m0_lookup σ a N ha (by omega) I.1, m1_lookup μ a ha (MI_of I.1.1 I.2), fun z u w v h0 h1 => op_lookup I h0 h1⟩
theorem pr_process : Pr yX0_process cX0_process 4 5 yX1_process cX1_process 3 2 .int [] := fun σ μ N I hN => ⟨_, _, m0_process σ N (by omega) I.1, m1_process μ (MI_of I.1.1 I.2), fun z u w v h0 h1 => op_process I h0 h1⟩
theorem pr_matching (a : Int) (ha : -2147483648 ≤ a ∧ a < 2147483648) : Pr yX0_matching cX0_matching 2 5 yX1_matching cX1_matching 4 1 .int [a] := fun σ μ N I hN => ⟨_, _, m0_matching σ a N ha (by omega) I.1, m1_matching μ a ha (MI_of I.1.1 I.2), fun z u w v h0 h1 => op_matching I h0 h1⟩
theorem pr_owned (a : Int) (ha : -2147483648 ≤ a ∧ a < 2147483648) : Pr yX0_owned cX0_owned 8 3 yX1_owned cX1_owned 5 2 .int [a] := fun σ μ N I hN => ⟨_, _, m0_owned σ a ha (CI_WK I.1) I.1.2.1 (fun x y x0 x1 y0 y1 h0 h1 => I.1.1.2.2.2.2.2.1 x y x0 (by omega) y0 (by omega) h0 h1), m1_owned μ a ha (MI_of I.1.1 I.2), fun z u w v h0 h1 => op_owned I h0 h1⟩
theorem hwL0_action : GoodIn lw_all (wsV "MatchActionLaw" 13 cd0.nm yX0_action (ws_ yX0_action cX0_action 4 (some .boolean))) := lw_V q108 q109 q110 q28 q111
theorem hyL0_action : yX0_action.cls = cd0.nm ∧ yX0_action.cls ≠ "java/lang/invoke/MethodHandle" ∧ yX0_action.cls ≠ "java/lang/invoke/VarHandle" ∧ (parseMethodDescriptor yX0_action.desc).map (fun d => d.parameters.length) = some 3 := by decide +kernel
theorem hwL1_action : GoodIn lw_all (wsV "MatchActionLaw" 17 cd1.nm yX1_action (ws_ yX1_action cX1_action 4 (some .boolean))) := lw_V q272 q273 q274 q29 q275
theorem hyL1_action : yX1_action.cls = cd1.nm ∧ yX1_action.cls ≠ "java/lang/invoke/MethodHandle" ∧ yX1_action.cls ≠ "java/lang/invoke/VarHandle" ∧ (parseMethodDescriptor yX1_action.desc).map (fun d => d.parameters.length) = some 3 := by decide +kernel
theorem hwL0_addPrefix : GoodIn lw_all (wsV "MatchActionLaw" 18 cd0.nm yX0_addPrefix (ws_ yX0_addPrefix cX0_addPrefix 3 (some .int))) := lw_V q112 q113 q114 q28 q115
theorem hyL0_addPrefix : yX0_addPrefix.cls = cd0.nm ∧ yX0_addPrefix.cls ≠ "java/lang/invoke/MethodHandle" ∧ yX0_addPrefix.cls ≠ "java/lang/invoke/VarHandle" ∧ (parseMethodDescriptor yX0_addPrefix.desc).map (fun d => d.parameters.length) = some 2 := by decide +kernel
theorem hwL1_addPrefix : GoodIn lw_all (wsV "MatchActionLaw" 22 cd1.nm yX1_addPrefix (ws_ yX1_addPrefix cX1_addPrefix 3 (some .int))) := lw_V q280 q281 q282 q29 q283
theorem hyL1_addPrefix : yX1_addPrefix.cls = cd1.nm ∧ yX1_addPrefix.cls ≠ "java/lang/invoke/MethodHandle" ∧ yX1_addPrefix.cls ≠ "java/lang/invoke/VarHandle" ∧ (parseMethodDescriptor yX1_addPrefix.desc).map (fun d => d.parameters.length) = some 2 := by decide +kernel
theorem hwL0_addMasked : GoodIn lw_all (wsV "MatchActionLaw" 23 cd0.nm yX0_addMasked (ws_ yX0_addMasked cX0_addMasked 6 (some .int))) := lw_V q120 q121 q122 q28 q123
theorem hyL0_addMasked : yX0_addMasked.cls = cd0.nm ∧ yX0_addMasked.cls ≠ "java/lang/invoke/MethodHandle" ∧ yX0_addMasked.cls ≠ "java/lang/invoke/VarHandle" ∧ (parseMethodDescriptor yX0_addMasked.desc).map (fun d => d.parameters.length) = some 3 := by decide +kernel
theorem hwL1_addMasked : GoodIn lw_all (wsV "MatchActionLaw" 27 cd1.nm yX1_addMasked (ws_ yX1_addMasked cX1_addMasked 4 (some .int))) := lw_V q292 q293 q294 q29 q295
theorem hyL1_addMasked : yX1_addMasked.cls = cd1.nm ∧ yX1_addMasked.cls ≠ "java/lang/invoke/MethodHandle" ∧ yX1_addMasked.cls ≠ "java/lang/invoke/VarHandle" ∧ (parseMethodDescriptor yX1_addMasked.desc).map (fun d => d.parameters.length) = some 3 := by decide +kernel
theorem hwL0_remove : GoodIn lw_all (wsV "MatchActionLaw" 28 cd0.nm yX0_remove (ws_ yX0_remove cX0_remove 4 (some .int))) := lw_V q126 q127 q128 q28 q129
theorem hyL0_remove : yX0_remove.cls = cd0.nm ∧ yX0_remove.cls ≠ "java/lang/invoke/MethodHandle" ∧ yX0_remove.cls ≠ "java/lang/invoke/VarHandle" ∧ (parseMethodDescriptor yX0_remove.desc).map (fun d => d.parameters.length) = some 1 := by decide +kernel
theorem hwL1_remove : GoodIn lw_all (wsV "MatchActionLaw" 32 cd1.nm yX1_remove (ws_ yX1_remove cX1_remove 5 (some .int))) := lw_V q297 q298 q299 q29 q300
theorem hyL1_remove : yX1_remove.cls = cd1.nm ∧ yX1_remove.cls ≠ "java/lang/invoke/MethodHandle" ∧ yX1_remove.cls ≠ "java/lang/invoke/VarHandle" ∧ (parseMethodDescriptor yX1_remove.desc).map (fun d => d.parameters.length) = some 1 := by decide +kernel
theorem hwL0_setDefault : GoodIn lw_all (wsV "MatchActionLaw" 33 cd0.nm yX0_setDefault (ws_ yX0_setDefault cX0_setDefault 2 (some .boolean))) := lw_V q134 q135 q136 q28 q137
theorem hyL0_setDefault : yX0_setDefault.cls = cd0.nm ∧ yX0_setDefault.cls ≠ "java/lang/invoke/MethodHandle" ∧ yX0_setDefault.cls ≠ "java/lang/invoke/VarHandle" ∧ (parseMethodDescriptor yX0_setDefault.desc).map (fun d => d.parameters.length) = some 1 := by decide +kernel
theorem hwL1_setDefault : GoodIn lw_all (wsV "MatchActionLaw" 37 cd1.nm yX1_setDefault (ws_ yX1_setDefault cX1_setDefault 2 (some .boolean))) := lw_V q309 q310 q311 q29 q312
theorem hyL1_setDefault : yX1_setDefault.cls = cd1.nm ∧ yX1_setDefault.cls ≠ "java/lang/invoke/MethodHandle" ∧ yX1_setDefault.cls ≠ "java/lang/invoke/VarHandle" ∧ (parseMethodDescriptor yX1_setDefault.desc).map (fun d => d.parameters.length) = some 1 := by decide +kernel
theorem hwL0_field : GoodIn lw_all (wsV "MatchActionLaw" 38 cd0.nm yX0_field (ws_ yX0_field cX0_field 3 (some .boolean))) := lw_V q138 q139 q140 q28 q141
theorem hyL0_field : yX0_field.cls = cd0.nm ∧ yX0_field.cls ≠ "java/lang/invoke/MethodHandle" ∧ yX0_field.cls ≠ "java/lang/invoke/VarHandle" ∧ (parseMethodDescriptor yX0_field.desc).map (fun d => d.parameters.length) = some 2 := by decide +kernel
theorem hwL1_field : GoodIn lw_all (wsV "MatchActionLaw" 42 cd1.nm yX1_field (ws_ yX1_field cX1_field 3 (some .boolean))) := lw_V q317 q318 q319 q29 q320
theorem hyL1_field : yX1_field.cls = cd1.nm ∧ yX1_field.cls ≠ "java/lang/invoke/MethodHandle" ∧ yX1_field.cls ≠ "java/lang/invoke/VarHandle" ∧ (parseMethodDescriptor yX1_field.desc).map (fun d => d.parameters.length) = some 2 := by decide +kernel
theorem hwL0_get : GoodIn lw_all (wsV "MatchActionLaw" 43 cd0.nm yX0_get (ws_ yX0_get cX0_get 2 (some .int))) := lw_V q142 q143 q144 q28 q145
theorem hyL0_get : yX0_get.cls = cd0.nm ∧ yX0_get.cls ≠ "java/lang/invoke/MethodHandle" ∧ yX0_get.cls ≠ "java/lang/invoke/VarHandle" ∧ (parseMethodDescriptor yX0_get.desc).map (fun d => d.parameters.length) = some 1 := by decide +kernel
theorem hwL1_get : GoodIn lw_all (wsV "MatchActionLaw" 46 cd1.nm yX1_get (ws_ yX1_get cX1_get 2 (some .int))) := lw_V q321 q322 q323 q29 q324
theorem hyL1_get : yX1_get.cls = cd1.nm ∧ yX1_get.cls ≠ "java/lang/invoke/MethodHandle" ∧ yX1_get.cls ≠ "java/lang/invoke/VarHandle" ∧ (parseMethodDescriptor yX1_get.desc).map (fun d => d.parameters.length) = some 1 := by decide +kernel
theorem hwL0_lookup : GoodIn lw_all (wsV "MatchActionLaw" 47 cd0.nm yX0_lookup (ws_ yX0_lookup cX0_lookup 3 (some .int))) := lw_V q146 q147 q148 q28 q149
theorem hyL0_lookup : yX0_lookup.cls = cd0.nm ∧ yX0_lookup.cls ≠ "java/lang/invoke/MethodHandle" ∧ yX0_lookup.cls ≠ "java/lang/invoke/VarHandle" ∧ (parseMethodDescriptor yX0_lookup.desc).map (fun d => d.parameters.length) = some 1 := by decide +kernel
theorem hwL1_lookup : GoodIn lw_all (wsV "MatchActionLaw" 50 cd1.nm yX1_lookup (ws_ yX1_lookup cX1_lookup 3 (some .int))) := lw_V q325 q326 q327 q29 q328
theorem hyL1_lookup : yX1_lookup.cls = cd1.nm ∧ yX1_lookup.cls ≠ "java/lang/invoke/MethodHandle" ∧ yX1_lookup.cls ≠ "java/lang/invoke/VarHandle" ∧ (parseMethodDescriptor yX1_lookup.desc).map (fun d => d.parameters.length) = some 1 := by decide +kernel
theorem hwL0_process : GoodIn lw_all (wsV "MatchActionLaw" 51 cd0.nm yX0_process (ws_ yX0_process cX0_process 4 (some .int))) := lw_V q202 q203 q204 q28 q205
theorem hyL0_process : yX0_process.cls = cd0.nm ∧ yX0_process.cls ≠ "java/lang/invoke/MethodHandle" ∧ yX0_process.cls ≠ "java/lang/invoke/VarHandle" ∧ (parseMethodDescriptor yX0_process.desc).map (fun d => d.parameters.length) = some 0 := by decide +kernel
theorem hwL1_process : GoodIn lw_all (wsV "MatchActionLaw" 55 cd1.nm yX1_process (ws_ yX1_process cX1_process 3 (some .int))) := lw_V q337 q338 q339 q29 q340
theorem hyL1_process : yX1_process.cls = cd1.nm ∧ yX1_process.cls ≠ "java/lang/invoke/MethodHandle" ∧ yX1_process.cls ≠ "java/lang/invoke/VarHandle" ∧ (parseMethodDescriptor yX1_process.desc).map (fun d => d.parameters.length) = some 0 := by decide +kernel
theorem hwL0_matching : GoodIn lw_all (wsV "MatchActionLaw" 56 cd0.nm yX0_matching (ws_ yX0_matching cX0_matching 2 (some .int))) := lw_V q210 q211 q212 q28 q213
theorem hyL0_matching : yX0_matching.cls = cd0.nm ∧ yX0_matching.cls ≠ "java/lang/invoke/MethodHandle" ∧ yX0_matching.cls ≠ "java/lang/invoke/VarHandle" ∧ (parseMethodDescriptor yX0_matching.desc).map (fun d => d.parameters.length) = some 1 := by decide +kernel
theorem hwL1_matching : GoodIn lw_all (wsV "MatchActionLaw" 59 cd1.nm yX1_matching (ws_ yX1_matching cX1_matching 4 (some .int))) := lw_V q345 q346 q347 q29 q348
theorem hyL1_matching : yX1_matching.cls = cd1.nm ∧ yX1_matching.cls ≠ "java/lang/invoke/MethodHandle" ∧ yX1_matching.cls ≠ "java/lang/invoke/VarHandle" ∧ (parseMethodDescriptor yX1_matching.desc).map (fun d => d.parameters.length) = some 1 := by decide +kernel
theorem hwL0_owned : GoodIn lw_all (wsV "MatchActionLaw" 60 cd0.nm yX0_owned (ws_ yX0_owned cX0_owned 8 (some .int))) := lw_V q222 q223 q224 q28 q225
theorem hyL0_owned : yX0_owned.cls = cd0.nm ∧ yX0_owned.cls ≠ "java/lang/invoke/MethodHandle" ∧ yX0_owned.cls ≠ "java/lang/invoke/VarHandle" ∧ (parseMethodDescriptor yX0_owned.desc).map (fun d => d.parameters.length) = some 1 := by decide +kernel
theorem hwL1_owned : GoodIn lw_all (wsV "MatchActionLaw" 63 cd1.nm yX1_owned (ws_ yX1_owned cX1_owned 5 (some .int))) := lw_V q349 q350 q351 q29 q352
theorem hyL1_owned : yX1_owned.cls = cd1.nm ∧ yX1_owned.cls ≠ "java/lang/invoke/MethodHandle" ∧ yX1_owned.cls ≠ "java/lang/invoke/VarHandle" ∧ (parseMethodDescriptor yX1_owned.desc).map (fun d => d.parameters.length) = some 1 := by decide +kernel
end
section
/-! THE CLAIM OUT OF ONE WALK OF THE LAW'S BODY. Your part is whole_start (and what it stands on); all else here is the same for every law, but numbers. -/
def R_law : String := "MatchActionLaw"
def lw_P (b : Addr) (xs : List Int32) (args : Array Value) (s : State) : Prop := args = #[.ref b] ∧ s.IntsAt b xs ∧ xs.length ≤ 256 ∧ (Jvm.Cond.and given_1 narrow_1).before args s = true
def lw_Q (_ : Array Value) (s : State) (o : Outcome) (t : State) : Prop := o = .returned (some (.int 1)) ∧ Framed s o t [] 600000 7290000
def lw_Z (below : List Frame) (a : Array Value) (s : State) : State → Prop := fun t => ∃ o, t.status = .running ∧ Ended t below o ∧ lw_Q a s o t
/-- the law's own end, with 1 on the stack, nothing written that was there before, its room as the claim has it -/
theorem lw_ret {p : Program} {l : Launch} {e : Env} {s : State} {m : MethodId} {below : List Frame} {meth : Method} {c : Code} {b : Nat} (hx : p.tables.exec = Jvm.exec) (hb : c.code = code) (hr : meth.sig.returnType = ret) (hlocks : meth.locks = false) {pc : Nat} {H : Heap} {ls : Array Slot} (hdg : decode code pc = .ok (.ireturn, 1)) : W p l e room_1 s m #[Value.ref b] below meth c H [] 600000 7290000 (lw_Z below #[Value.ref b] s) (F0 m pc ls [.int 1]) := by
  intro T hT X
  obtain ⟨fs, hret, hrun, hended, hW, hframe⟩ := X.leave (v := some (.int 1)) (hlocks := hlocks) (fun h => by rw [hr] at h; cases h)
  have hmeth' : T.vm.method? m = some meth := X.method'
  refine ⟨T.setFrames fs, ?_, .returned (some (.int 1)), hrun, hended, rfl, ⟨_, rfl⟩, hW, hframe⟩
  jvm_step X.here [X.here.top, hx, hb, hdg, hmeth', hr, ret, narrow_b1]
  (try refine ⟨rfl, ?_⟩); (try refine ⟨rfl, ?_⟩)
  first | (intro acts; rw [hret _ acts rfl rfl rfl]) | rw [hret _ _ rfl rfl rfl]
  exact Steps.refl _
/-- what holds at the law's entry: the machine, the code, the tables' words (any of lw_tbl by 'hts w (by decide +kernel)'), the script of L ints xs at the cell b, what the Statement gives of the start (any of its parts by flat_of_before) -/
def lw_At (p : Program) (s : State) (m : MethodId) (meth : Method) (c : Code) (b L : Nat) (xs : Nat → Int32) : Prop :=
  p.tables.exec = Jvm.exec ∧ c.code = code ∧ meth.sig.returnType = ret ∧ c.maxLocals = 4 ∧ s.vm.findClass R_law = some m.cls ∧ (∀ w ∈ lw_tbl, w.before #[Value.ref b] s = true) ∧ va_X b L xs s s.heap ∧ b < s.heap.size ∧ meth.locks = false ∧ (Jvm.Cond.and given_1 narrow_1).before #[Value.ref b] s = true
/-! the law's own judgement: both objects, the script's place i -/
abbrev LE : Type := Program × Launch × Env × State × MethodId × List Frame × Method × Code × Nat × Nat × (Nat → Int32) × zG × Nat × (Nat → Nat) × (Nat → ClassId)
abbrev LE.p (F : LE) : Program := F.1
abbrev LE.l (F : LE) : Launch := F.2.1
abbrev LE.e (F : LE) : Env := F.2.2.1
abbrev LE.s (F : LE) : State := F.2.2.2.1
abbrev LE.m (F : LE) : MethodId := F.2.2.2.2.1
abbrev LE.below (F : LE) : List Frame := F.2.2.2.2.2.1
abbrev LE.meth (F : LE) : Method := F.2.2.2.2.2.2.1
abbrev LE.c (F : LE) : Code := F.2.2.2.2.2.2.2.1
abbrev LE.b (F : LE) : Nat := F.2.2.2.2.2.2.2.2.1
abbrev LE.n (F : LE) : Nat := F.2.2.2.2.2.2.2.2.2.1
abbrev LE.xs (F : LE) : Nat → Int32 := F.2.2.2.2.2.2.2.2.2.2.1
abbrev LE.g0 (F : LE) : zG := F.2.2.2.2.2.2.2.2.2.2.2.1
abbrev LE.g1 (F : LE) : zG := (F.2.2.2.2.2.2.2.2.2.2.2.2.1, F.2.2.2.2.2.2.2.2.2.2.2.2.2.1, F.2.2.2.2.2.2.2.2.2.2.2.2.2.2, F.2.2.2.2.2.2.2.2.2.2.2.1.2.2.2)
abbrev LE.A (F : LE) : Nat → Prop := fun q => F.s.heap.size ≤ q
def WL (F : LE) (σ μ : zSt) (pc : Nat) (i : Int) (st : List Value) : Prop := ∀ (H : Heap) (locs : List Loc) (ls : Array Slot), va_P F.g0.D vwCl (zw cd0 F.g0 σ ++ zw cd1 F.g1 μ) H → va_D F.A (zw cd0 F.g0 σ ++ zw cd1 F.g1 μ) → va_S F.A F.s.heap H locs → zR σ → zR μ → zL ls [some (.ref F.b), some (.ref F.g0.h), some (.ref F.g1.h), some (iv i)] → W F.p F.l F.e room_1 F.s F.m #[Value.ref F.b] F.below F.meth F.c H locs 27 1155 (lw_Z F.below #[Value.ref F.b] F.s) (F0 F.m pc ls st)
def LN (F : LE) : Prop := F.p.tables.exec = Jvm.exec ∧ F.c.code = code ∧ F.meth.sig.returnType = ret ∧ F.c.maxLocals = 4 ∧ F.s.vm.findClass "MatchActionLaw" = some F.m.cls ∧ (∀ w ∈ lw_all, w.before #[Value.ref F.b] F.s = true) ∧ va_X F.b F.n F.xs F.s F.s.heap ∧ F.b < F.s.heap.size ∧ F.meth.locks = false ∧ va_K F.g0.D vwCl (zty cd0 F.g0) F.s ∧ va_K F.g0.D vwCl (zty cd1 F.g1) F.s ∧ F.n ≤ 256
def Sx (F : LE) (k : Int) : Int := (F.xs k.toNat).toInt
theorem Sx_r (F : LE) (k : Int) : -2147483648 ≤ Sx F k ∧ Sx F k < 2147483648 := z_rx _
section LAW
variable {F : LE} {σ μ : zSt} {pc : Nat} {i : Int} {st st0 : List Value}
theorem l_ald (h : LN F) {k : Fin 4} {a : Nat} (hd : decode code pc = .ok (.aload_n k, 1)) (hl : ([some (.ref F.b), some (.ref F.g0.h), some (.ref F.g1.h), some (iv i)] : List (Option Value))[(k : Nat)]? = some (some (.ref a))) (kk : WL F σ μ (pc + 1) i (.ref a :: st)) : WL F σ μ pc i st :=
  fun H locs ls a1 a2 a3 a4 a5 a6 => lv_aload_n h.1 h.2.1 hd rfl (a6.at hl) (kk H locs ls a1 a2 a3 a4 a5 a6)
theorem l_sld (h : LN F) {j : Int} (hj : 0 ≤ j ∧ j < F.n) (hd : decode code pc = .ok (.iaload, 1)) (kk : WL F σ μ (pc + 1) i (iv (Sx F j) :: st)) : WL F σ μ pc i (iv j :: .ref F.b :: st) := by
  intro H locs ls a1 a2 a3 a4 a5 a6
  have hn := h.2.2.2.2.2.2.2.2.2.2.2
  refine va_sld h.1 h.2.1 h.2.2.2.2.2.2.1 h.2.2.2.2.2.2.2.1 (Nat.not_le.mpr h.2.2.2.2.2.2.2.1) a3 (z_in hj.1 hj.2 (by omega)) hd ?_
  rw [z_cl hj.1 (by omega)]
  have e : F.xs j.toNat = Int32.ofInt (Sx F j) := (z_xx _).symm
  rw [e]
  exact kk H locs ls a1 a2 a3 a4 a5 a6
theorem l_ild (h : LN F) (hd : decode code pc = .ok (.iload_n 3, 1)) (kk : WL F σ μ (pc + 1) i (iv i :: st)) : WL F σ μ pc i st :=
  fun H locs ls a1 a2 a3 a4 a5 a6 => lv_iload_n h.1 h.2.1 hd rfl (a6.at (i := 3) rfl) (kk H locs ls a1 a2 a3 a4 a5 a6)
theorem l_iconst (h : LN F) {v : Int} (hd : decode code pc = .ok (.iconst v, 1)) (kk : WL F σ μ (pc + 1) i (iv v :: st)) : WL F σ μ pc i st :=
  fun H locs ls a1 a2 a3 a4 a5 a6 => lv_iconst h.1 h.2.1 hd rfl (kk H locs ls a1 a2 a3 a4 a5 a6)
theorem l_iadd (h : LN F) {x y : Int} (hd : decode code pc = .ok (.iadd, 1)) (kk : WL F σ μ (pc + 1) i (iv (x + y) :: st)) : WL F σ μ pc i (iv y :: iv x :: st) :=
  fun H locs ls a1 a2 a3 a4 a5 a6 => lv_iadd h.1 h.2.1 hd (by rw [← Int32.ofInt_add]; exact kk H locs ls a1 a2 a3 a4 a5 a6)
/-- an int of the script is pushed -/
theorem l_arg (h : LN F) {j : Int} (hj : 0 ≤ i + j ∧ i + j < F.n) (d0 : decode code pc = .ok (.aload_n 0, 1)) (d1 : decode code (pc + 1) = .ok (.iload_n 3, 1)) (d2 : decode code (pc + 2) = .ok (.iconst j, 1)) (d3 : decode code (pc + 3) = .ok (.iadd, 1)) (d4 : decode code (pc + 4) = .ok (.iaload, 1)) (kk : WL F σ μ (pc + 5) i (iv (Sx F (i + j)) :: st)) : WL F σ μ pc i st :=
  l_ald h d0 rfl (l_ild h d1 (l_iconst h d2 (l_iadd h d3 (l_sld h hj d4 kk))))
theorem l_call0 (h : LN F) {y : MethodName} {ccy : ByteArray} {nLy n' : Nat} {rt : FieldType} {xs : List Int} {post : Int → zSt → Prop} (hM : Cx cd0 y ccy nLy rt n' σ xs post) {idx : Nat} (hw : GoodIn lw_all (wsV "MatchActionLaw" idx cd0.nm y (ws_ y ccy nLy (some rt))))
    (hy : y.cls = cd0.nm ∧ y.cls ≠ "java/lang/invoke/MethodHandle" ∧ y.cls ≠ "java/lang/invoke/VarHandle" ∧ (parseMethodDescriptor y.desc).map (fun d => d.parameters.length) = some xs.length) (hn : n' ≤ 5 ∧ nLy ≤ 13) (hst : st0 = (xs.map iv).reverse ++ .ref F.g0.h :: st) (hsr : (st.map fun v => v.category).sum ≤ 8) (hdg : decode code pc = .ok (.invokevirtual idx, 3))
    (kk : ∀ (z : Int) (u : zSt), (-2147483648 ≤ z ∧ z < 2147483648) → post z u → WL F u μ (pc + 3) i (iv z :: st)) : WL F σ μ pc i st0 := by
  intro H locs ls a1 a2 a3 a4 a5 a6
  obtain ⟨hx, hb, hr, hml, hown, hts, hX, hbl, hlk, hK0, hK1, hLn⟩ := h
  obtain ⟨p1, d1, p2, d2, ap⟩ := z_left a1 a2
  have hF := z_free d1 a3 (fun q h => h)
  refine va_calli (va_runV (As := xs.map iv) (rest := st) ⟨hx, hb, hml, hown, hts⟩ (hM F.l F.g0 H.size) (cwV xs.length hts hw rfl rfl rfl hy (by dsimp only [zrm, room_1]; omega)) ⟨zPc.blind, va_recv hK0 p1 (ci := 0) (q0 := 0) rfl (zw_0 cd0 F.g0 σ), fun U hU hW => ⟨rfl, by rw [hU], by rw [hU]; exact p1, va_K.moved hW.alike hK0, d1.weaken (fun _ _ _ _ => trivial), a4⟩⟩ rfl (by simp) (a6.size.trans rfl) hst (lv_room hsr) hdg ⟨Nat.le_of_ble_eq_true rfl, Nat.le_of_ble_eq_true rfl⟩) a3 (fun q _ h => hF q h) hF (fun r u t H1 locs1 ht hvm hp hB hz1 hk1 hS => ?_)
  obtain ⟨z, rfl, hz, hp⟩ := hp
  obtain ⟨b1, b2, b3, b4⟩ := hB
  rw [ht] at b1
  obtain ⟨e1, e2⟩ := z_j1 a1 a2 hk1 hF b1 b3
  exact kk z u hz hp H1 locs1 ls e1 e2 hS b4 a5 a6
theorem l_call1 (h : LN F) {y : MethodName} {ccy : ByteArray} {nLy n' : Nat} {rt : FieldType} {xs : List Int} {post : Int → zSt → Prop} (hM : Cx cd1 y ccy nLy rt n' μ xs post) {idx : Nat} (hw : GoodIn lw_all (wsV "MatchActionLaw" idx cd1.nm y (ws_ y ccy nLy (some rt))))
    (hy : y.cls = cd1.nm ∧ y.cls ≠ "java/lang/invoke/MethodHandle" ∧ y.cls ≠ "java/lang/invoke/VarHandle" ∧ (parseMethodDescriptor y.desc).map (fun d => d.parameters.length) = some xs.length) (hn : n' ≤ 5 ∧ nLy ≤ 13) (hst : st0 = (xs.map iv).reverse ++ .ref F.g1.h :: st) (hsr : (st.map fun v => v.category).sum ≤ 8) (hdg : decode code pc = .ok (.invokevirtual idx, 3))
    (kk : ∀ (z : Int) (u : zSt), (-2147483648 ≤ z ∧ z < 2147483648) → post z u → WL F σ u (pc + 3) i (iv z :: st)) : WL F σ μ pc i st0 := by
  intro H locs ls a1 a2 a3 a4 a5 a6
  obtain ⟨hx, hb, hr, hml, hown, hts, hX, hbl, hlk, hK0, hK1, hLn⟩ := h
  obtain ⟨p1, d1, p2, d2, ap⟩ := z_left a1 a2
  have hF := z_free d2 a3 (fun q h => h)
  refine va_calli (va_runV (As := xs.map iv) (rest := st) ⟨hx, hb, hml, hown, hts⟩ (hM F.l F.g1 H.size) (cwV xs.length hts hw rfl rfl rfl hy (by dsimp only [zrm, room_1]; omega)) ⟨zPc.blind, va_recv hK1 p2 (ci := 1) (q0 := 0) rfl (zw_0 cd1 F.g1 μ), fun U hU hW => ⟨rfl, by rw [hU], by rw [hU]; exact p2, va_K.moved hW.alike hK1, d2.weaken (fun _ _ _ _ => trivial), a5⟩⟩ rfl (by simp) (a6.size.trans rfl) hst (lv_room hsr) hdg ⟨Nat.le_of_ble_eq_true rfl, Nat.le_of_ble_eq_true rfl⟩) a3 (fun q _ h => hF q h) hF (fun r u t H1 locs1 ht hvm hp hB hz1 hk1 hS => ?_)
  obtain ⟨z, rfl, hz, hp⟩ := hp
  obtain ⟨b1, b2, b3, b4⟩ := hB
  rw [ht] at b1
  obtain ⟨e1, e2⟩ := z_j2 a1 a2 hk1 hF b1 b3
  exact kk z u hz hp H1 locs1 ls e1 e2 hS a4 b4 a6
theorem l_cmp (h : LN F) {z w off : Int} (e : z = w) (tgt : Nat) (hd : decode code pc = .ok (.if_icmp .eq off, 3)) (ht : (pc : Int) + off = (tgt : Int)) (kk : WL F σ μ tgt i st) : WL F σ μ pc i (iv w :: iv z :: st) :=
  fun H locs ls a1 a2 a3 a4 a5 a6 => lv_icmp_eq h.1 h.2.1 hd ht (fun _ => kk H locs ls a1 a2 a3 a4 a5 a6) (fun q => absurd (by rw [e]) q)
theorem l_next (h : LN F) (kk : WL F σ μ 18 (i + 4) []) : WL F σ μ 395 i [] := by
  intro H locs ls a1 a2 a3 a4 a5 ⟨lv, b1, b2⟩
  obtain ⟨q, hq⟩ := List.getElem?_of_mem (b2 3 (iv i) rfl).1
  exact lv_iinc (v := Int32.ofInt (i + 4)) h.1 h.2.1 dL_law_395 b1 hq (Int32.ofInt_add i 4).symm (Nat.le_of_ble_eq_true rfl) rfl (fun ls' hs => lv_goto (tgt := 18) h.1 h.2.1 dL_law_398 (by decide) (kk H locs ls' a1 a2 a3 a4 a5 (zL.put b2 (Nat.le_of_ble_eq_true rfl) rfl hs)))
theorem l_swIn (h : LN F) (k : Nat) {off : Int} (tgt : Nat) (hk : k ≤ 10) (ho : (#[60, 103, 136, 179, 202, 225, 258, 281, 304, 317, 340] : Array Int)[k]? = some off) (ht : ((32 : Nat) : Int) + off = (tgt : Int)) (kk : WL F σ μ tgt i st) : WL F σ μ 32 i (iv (k : Int) :: st) := by
  intro H locs ls a1 a2 a3 a4 a5 a6
  have e : (Int32.ofInt (k : Int)).toInt = (k : Int) := z_t ⟨by omega, by omega⟩
  exact lv_tableIn h.1 h.2.1 dL_law_32 (by rw [e]; omega) (by rw [e]; omega) (by rw [e, show ((k : Int) - 0).toNat = k by omega]; exact ho) ht (kk H locs ls a1 a2 a3 a4 a5 a6)
theorem l_swOut (h : LN F) {v : Int} (hv : 10 < v ∧ v < 16) (kk : WL F σ μ 395 i st) : WL F σ μ 32 i (iv v :: st) := by
  intro H locs ls a1 a2 a3 a4 a5 a6
  have e : (Int32.ofInt v).toInt = v := z_t ⟨by omega, by omega⟩
  exact lv_tableOut h.1 h.2.1 dL_law_32 (by rw [e]; omega) (by decide) (kk H locs ls a1 a2 a3 a4 a5 a6)
theorem l_end (h : LN F) : WL F σ μ 401 i [] := by
  intro H locs ls a1 a2 a3 a4 a5 a6
  obtain ⟨hx, hb, hr, hml, hown, hts, hX, hbl, hlk, -⟩ := h
  refine lv_iconst (v := 1) hx hb dL_law_401 (by decide) ?_
  refine W.widen (k := 600000) (n := 7290000) (by decide) (by decide) ?_
  exact va_forget (fun q hq => a3.2.2 q hq) (lw_ret hx hb hr hlk dL_law_402)
/-- the head: to the end, or on with the next four ints -/
theorem l_head (h : LN F) (hi : 0 ≤ i ∧ i ≤ 260) (kk : i + 3 < F.n → WL F σ μ 32 i [iv (Sx F i % 16)]) : WL F σ μ 18 i [] := by
  refine l_ild h dL_law_18 (l_ald h dL_law_19 rfl ?_)
  intro H locs ls a1 a2 a3 a4 a5 a6
  have hn := h.2.2.2.2.2.2.2.2.2.2.2
  refine va_slen h.1 h.2.1 h.2.2.2.2.2.2.1 h.2.2.2.2.2.2.2.1 (Nat.not_le.mpr h.2.2.2.2.2.2.2.1) a3 dL_law_20 ?_
  refine lv_iconst (v := Int32.ofInt 4) h.1 h.2.1 dL_law_21 rfl ?_
  refine lv_isub h.1 h.2.1 dL_law_22 ?_
  have e : Int32.ofNat F.n - Int32.ofInt 4 = Int32.ofInt ((F.n : Int) - 4) := by
    rw [Int32.ofInt_sub, Int32.ofInt_eq_ofNat]
  rw [e]
  refine lv_icmp_gt (tgt := 401) h.1 h.2.1 dL_law_23 (by decide) (fun _ => l_end h H locs ls a1 a2 a3 a4 a5 a6) (fun q => ?_)
  have q2 : ¬ ((F.n : Int) - 4 < i) := fun q3 => q ((z_lt ⟨by omega, by omega⟩ ⟨by omega, by omega⟩).mpr q3)
  refine (l_ald h dL_law_26 rfl (l_ild h dL_law_27 (l_sld h ⟨hi.1, by omega⟩ dL_law_28 ?_)) : WL F σ μ 26 i []) H locs ls a1 a2 a3 a4 a5 a6
  intro H locs ls a1 a2 a3 a4 a5 a6
  refine lv_bipush (v := Int32.ofInt 15) h.1 h.2.1 dL_law_29 (by decide) ?_
  refine lv_iand h.1 h.2.1 dL_law_31 ?_
  rw [z_andm (Sx F i) (mk := 15) (m := 16) 4 (by decide) (by decide) (by decide)]
  exact kk (by omega) H locs ls a1 a2 a3 a4 a5 a6
end LAW
end
section
set_option maxHeartbeats 4000000 in
/-- the law's loop: at the place i, after at most i calls -/
theorem law_loop {F : LE} (h : LN F) : ∀ (n : Nat) (i : Int) (σ μ : zSt) (N : Int), 0 ≤ i → i ≤ 260 → 260 < i + n → N ≤ i → INV σ μ N → WL F σ μ 18 i [] := by
  intro n
  induction n with
  | zero => intro i σ μ N h1 h2 h3; exact absurd h3 (by omega)
  | succ n ih =>
    intro i σ μ N hi0 hi1 hin hNi hI
    have hFn := h.2.2.2.2.2.2.2.2.2.2.2
    refine l_head h ⟨hi0, hi1⟩ (fun h3 => ?_)
    have go : ∀ (u v : zSt), INV u v (N + 1) → WL F u v 395 i [] := fun u v hJ => l_next h (ih (i + 4) u v (N + 1) (by omega) (by omega) (by omega) (by omega) hJ)
    have hr : 0 ≤ Sx F i % 16 ∧ Sx F i % 16 < 16 := by omega
    have hcase : Sx F i % 16 = 0 ∨ Sx F i % 16 = 1 ∨ Sx F i % 16 = 2 ∨ Sx F i % 16 = 3 ∨ Sx F i % 16 = 4 ∨ Sx F i % 16 = 5 ∨ Sx F i % 16 = 6 ∨ Sx F i % 16 = 7 ∨ Sx F i % 16 = 8 ∨ Sx F i % 16 = 9 ∨ Sx F i % 16 = 10 ∨ 10 < Sx F i % 16 := by omega
    rcases hcase with hk | hk | hk | hk | hk | hk | hk | hk | hk | hk | hk | hk
    · rw [show Sx F i % 16 = ((0 : Nat) : Int) from hk]
      refine l_swIn h 0 92 (by decide) rfl (by decide) ?_
      obtain ⟨p0, p1, hm0, hm1, hpr⟩ := pr_action (Sx F (i + 1)) (Sx_r F _) (Sx F (i + 2)) (Sx_r F _) (Sx F (i + 3)) (Sx_r F _) σ μ N hI (by omega)
      refine l_ald h dL_law_92 rfl ?_
      refine l_arg h (j := 1) ⟨by omega, by omega⟩ dL_law_93 dL_law_94 dL_law_95 dL_law_96 dL_law_97 ?_
      refine l_arg h (j := 2) ⟨by omega, by omega⟩ dL_law_98 dL_law_99 dL_law_100 dL_law_101 dL_law_102 ?_
      refine l_arg h (j := 3) ⟨by omega, by omega⟩ dL_law_103 dL_law_104 dL_law_105 dL_law_106 dL_law_107 ?_
      refine l_call0 h hm0 hwL0_action hyL0_action (by decide) rfl (Nat.le_of_ble_eq_true rfl) dL_law_108 (fun z u hz hp0 => ?_)
      refine l_ald h dL_law_111 rfl ?_
      refine l_arg h (j := 1) ⟨by omega, by omega⟩ dL_law_112 dL_law_113 dL_law_114 dL_law_115 dL_law_116 ?_
      refine l_arg h (j := 2) ⟨by omega, by omega⟩ dL_law_117 dL_law_118 dL_law_119 dL_law_120 dL_law_121 ?_
      refine l_arg h (j := 3) ⟨by omega, by omega⟩ dL_law_122 dL_law_123 dL_law_124 dL_law_125 dL_law_126 ?_
      refine l_call1 h hm1 hwL1_action hyL1_action (by decide) rfl (Nat.le_of_ble_eq_true rfl) dL_law_127 (fun w v hw hp1 => ?_)
      obtain ⟨hzw, hJ⟩ := hpr z u w v hp0 hp1
      exact l_cmp h hzw 395 dL_law_130 (by decide) (go u v hJ)
    · rw [show Sx F i % 16 = ((1 : Nat) : Int) from hk]
      refine l_swIn h 1 135 (by decide) rfl (by decide) ?_
      obtain ⟨p0, p1, hm0, hm1, hpr⟩ := pr_addPrefix (Sx F (i + 1)) (Sx_r F _) (Sx F (i + 2)) (Sx_r F _) σ μ N hI (by omega)
      refine l_ald h dL_law_135 rfl ?_
      refine l_arg h (j := 1) ⟨by omega, by omega⟩ dL_law_136 dL_law_137 dL_law_138 dL_law_139 dL_law_140 ?_
      refine l_arg h (j := 2) ⟨by omega, by omega⟩ dL_law_141 dL_law_142 dL_law_143 dL_law_144 dL_law_145 ?_
      refine l_call0 h hm0 hwL0_addPrefix hyL0_addPrefix (by decide) rfl (Nat.le_of_ble_eq_true rfl) dL_law_146 (fun z u hz hp0 => ?_)
      refine l_ald h dL_law_149 rfl ?_
      refine l_arg h (j := 1) ⟨by omega, by omega⟩ dL_law_150 dL_law_151 dL_law_152 dL_law_153 dL_law_154 ?_
      refine l_arg h (j := 2) ⟨by omega, by omega⟩ dL_law_155 dL_law_156 dL_law_157 dL_law_158 dL_law_159 ?_
      refine l_call1 h hm1 hwL1_addPrefix hyL1_addPrefix (by decide) rfl (Nat.le_of_ble_eq_true rfl) dL_law_160 (fun w v hw hp1 => ?_)
      obtain ⟨hzw, hJ⟩ := hpr z u w v hp0 hp1
      exact l_cmp h hzw 395 dL_law_163 (by decide) (go u v hJ)
    · rw [show Sx F i % 16 = ((2 : Nat) : Int) from hk]
      refine l_swIn h 2 168 (by decide) rfl (by decide) ?_
      obtain ⟨p0, p1, hm0, hm1, hpr⟩ := pr_addMasked (Sx F (i + 1)) (Sx_r F _) (Sx F (i + 2)) (Sx_r F _) (Sx F (i + 3)) (Sx_r F _) σ μ N hI (by omega)
      refine l_ald h dL_law_168 rfl ?_
      refine l_arg h (j := 1) ⟨by omega, by omega⟩ dL_law_169 dL_law_170 dL_law_171 dL_law_172 dL_law_173 ?_
      refine l_arg h (j := 2) ⟨by omega, by omega⟩ dL_law_174 dL_law_175 dL_law_176 dL_law_177 dL_law_178 ?_
      refine l_arg h (j := 3) ⟨by omega, by omega⟩ dL_law_179 dL_law_180 dL_law_181 dL_law_182 dL_law_183 ?_
      refine l_call0 h hm0 hwL0_addMasked hyL0_addMasked (by decide) rfl (Nat.le_of_ble_eq_true rfl) dL_law_184 (fun z u hz hp0 => ?_)
      refine l_ald h dL_law_187 rfl ?_
      refine l_arg h (j := 1) ⟨by omega, by omega⟩ dL_law_188 dL_law_189 dL_law_190 dL_law_191 dL_law_192 ?_
      refine l_arg h (j := 2) ⟨by omega, by omega⟩ dL_law_193 dL_law_194 dL_law_195 dL_law_196 dL_law_197 ?_
      refine l_arg h (j := 3) ⟨by omega, by omega⟩ dL_law_198 dL_law_199 dL_law_200 dL_law_201 dL_law_202 ?_
      refine l_call1 h hm1 hwL1_addMasked hyL1_addMasked (by decide) rfl (Nat.le_of_ble_eq_true rfl) dL_law_203 (fun w v hw hp1 => ?_)
      obtain ⟨hzw, hJ⟩ := hpr z u w v hp0 hp1
      exact l_cmp h hzw 395 dL_law_206 (by decide) (go u v hJ)
    · rw [show Sx F i % 16 = ((3 : Nat) : Int) from hk]
      refine l_swIn h 3 211 (by decide) rfl (by decide) ?_
      obtain ⟨p0, p1, hm0, hm1, hpr⟩ := pr_remove (Sx F (i + 1)) (Sx_r F _) σ μ N hI (by omega)
      refine l_ald h dL_law_211 rfl ?_
      refine l_arg h (j := 1) ⟨by omega, by omega⟩ dL_law_212 dL_law_213 dL_law_214 dL_law_215 dL_law_216 ?_
      refine l_call0 h hm0 hwL0_remove hyL0_remove (by decide) rfl (Nat.le_of_ble_eq_true rfl) dL_law_217 (fun z u hz hp0 => ?_)
      refine l_ald h dL_law_220 rfl ?_
      refine l_arg h (j := 1) ⟨by omega, by omega⟩ dL_law_221 dL_law_222 dL_law_223 dL_law_224 dL_law_225 ?_
      refine l_call1 h hm1 hwL1_remove hyL1_remove (by decide) rfl (Nat.le_of_ble_eq_true rfl) dL_law_226 (fun w v hw hp1 => ?_)
      obtain ⟨hzw, hJ⟩ := hpr z u w v hp0 hp1
      exact l_cmp h hzw 395 dL_law_229 (by decide) (go u v hJ)
    · rw [show Sx F i % 16 = ((4 : Nat) : Int) from hk]
      refine l_swIn h 4 234 (by decide) rfl (by decide) ?_
      obtain ⟨p0, p1, hm0, hm1, hpr⟩ := pr_setDefault (Sx F (i + 1)) (Sx_r F _) σ μ N hI (by omega)
      refine l_ald h dL_law_234 rfl ?_
      refine l_arg h (j := 1) ⟨by omega, by omega⟩ dL_law_235 dL_law_236 dL_law_237 dL_law_238 dL_law_239 ?_
      refine l_call0 h hm0 hwL0_setDefault hyL0_setDefault (by decide) rfl (Nat.le_of_ble_eq_true rfl) dL_law_240 (fun z u hz hp0 => ?_)
      refine l_ald h dL_law_243 rfl ?_
      refine l_arg h (j := 1) ⟨by omega, by omega⟩ dL_law_244 dL_law_245 dL_law_246 dL_law_247 dL_law_248 ?_
      refine l_call1 h hm1 hwL1_setDefault hyL1_setDefault (by decide) rfl (Nat.le_of_ble_eq_true rfl) dL_law_249 (fun w v hw hp1 => ?_)
      obtain ⟨hzw, hJ⟩ := hpr z u w v hp0 hp1
      exact l_cmp h hzw 395 dL_law_252 (by decide) (go u v hJ)
    · rw [show Sx F i % 16 = ((5 : Nat) : Int) from hk]
      refine l_swIn h 5 257 (by decide) rfl (by decide) ?_
      obtain ⟨p0, p1, hm0, hm1, hpr⟩ := pr_field (Sx F (i + 1)) (Sx_r F _) (Sx F (i + 2)) (Sx_r F _) σ μ N hI (by omega)
      refine l_ald h dL_law_257 rfl ?_
      refine l_arg h (j := 1) ⟨by omega, by omega⟩ dL_law_258 dL_law_259 dL_law_260 dL_law_261 dL_law_262 ?_
      refine l_arg h (j := 2) ⟨by omega, by omega⟩ dL_law_263 dL_law_264 dL_law_265 dL_law_266 dL_law_267 ?_
      refine l_call0 h hm0 hwL0_field hyL0_field (by decide) rfl (Nat.le_of_ble_eq_true rfl) dL_law_268 (fun z u hz hp0 => ?_)
      refine l_ald h dL_law_271 rfl ?_
      refine l_arg h (j := 1) ⟨by omega, by omega⟩ dL_law_272 dL_law_273 dL_law_274 dL_law_275 dL_law_276 ?_
      refine l_arg h (j := 2) ⟨by omega, by omega⟩ dL_law_277 dL_law_278 dL_law_279 dL_law_280 dL_law_281 ?_
      refine l_call1 h hm1 hwL1_field hyL1_field (by decide) rfl (Nat.le_of_ble_eq_true rfl) dL_law_282 (fun w v hw hp1 => ?_)
      obtain ⟨hzw, hJ⟩ := hpr z u w v hp0 hp1
      exact l_cmp h hzw 395 dL_law_285 (by decide) (go u v hJ)
    · rw [show Sx F i % 16 = ((6 : Nat) : Int) from hk]
      refine l_swIn h 6 290 (by decide) rfl (by decide) ?_
      obtain ⟨p0, p1, hm0, hm1, hpr⟩ := pr_get (Sx F (i + 1)) (Sx_r F _) σ μ N hI (by omega)
      refine l_ald h dL_law_290 rfl ?_
      refine l_arg h (j := 1) ⟨by omega, by omega⟩ dL_law_291 dL_law_292 dL_law_293 dL_law_294 dL_law_295 ?_
      refine l_call0 h hm0 hwL0_get hyL0_get (by decide) rfl (Nat.le_of_ble_eq_true rfl) dL_law_296 (fun z u hz hp0 => ?_)
      refine l_ald h dL_law_299 rfl ?_
      refine l_arg h (j := 1) ⟨by omega, by omega⟩ dL_law_300 dL_law_301 dL_law_302 dL_law_303 dL_law_304 ?_
      refine l_call1 h hm1 hwL1_get hyL1_get (by decide) rfl (Nat.le_of_ble_eq_true rfl) dL_law_305 (fun w v hw hp1 => ?_)
      obtain ⟨hzw, hJ⟩ := hpr z u w v hp0 hp1
      exact l_cmp h hzw 395 dL_law_308 (by decide) (go u v hJ)
    · rw [show Sx F i % 16 = ((7 : Nat) : Int) from hk]
      refine l_swIn h 7 313 (by decide) rfl (by decide) ?_
      obtain ⟨p0, p1, hm0, hm1, hpr⟩ := pr_lookup (Sx F (i + 1)) (Sx_r F _) σ μ N hI (by omega)
      refine l_ald h dL_law_313 rfl ?_
      refine l_arg h (j := 1) ⟨by omega, by omega⟩ dL_law_314 dL_law_315 dL_law_316 dL_law_317 dL_law_318 ?_
      refine l_call0 h hm0 hwL0_lookup hyL0_lookup (by decide) rfl (Nat.le_of_ble_eq_true rfl) dL_law_319 (fun z u hz hp0 => ?_)
      refine l_ald h dL_law_322 rfl ?_
      refine l_arg h (j := 1) ⟨by omega, by omega⟩ dL_law_323 dL_law_324 dL_law_325 dL_law_326 dL_law_327 ?_
      refine l_call1 h hm1 hwL1_lookup hyL1_lookup (by decide) rfl (Nat.le_of_ble_eq_true rfl) dL_law_328 (fun w v hw hp1 => ?_)
      obtain ⟨hzw, hJ⟩ := hpr z u w v hp0 hp1
      exact l_cmp h hzw 395 dL_law_331 (by decide) (go u v hJ)
    · rw [show Sx F i % 16 = ((8 : Nat) : Int) from hk]
      refine l_swIn h 8 336 (by decide) rfl (by decide) ?_
      obtain ⟨p0, p1, hm0, hm1, hpr⟩ := pr_process  σ μ N hI (by omega)
      refine l_ald h dL_law_336 rfl ?_
      refine l_call0 h hm0 hwL0_process hyL0_process (by decide) rfl (Nat.le_of_ble_eq_true rfl) dL_law_337 (fun z u hz hp0 => ?_)
      refine l_ald h dL_law_340 rfl ?_
      refine l_call1 h hm1 hwL1_process hyL1_process (by decide) rfl (Nat.le_of_ble_eq_true rfl) dL_law_341 (fun w v hw hp1 => ?_)
      obtain ⟨hzw, hJ⟩ := hpr z u w v hp0 hp1
      exact l_cmp h hzw 395 dL_law_344 (by decide) (go u v hJ)
    · rw [show Sx F i % 16 = ((9 : Nat) : Int) from hk]
      refine l_swIn h 9 349 (by decide) rfl (by decide) ?_
      obtain ⟨p0, p1, hm0, hm1, hpr⟩ := pr_matching (Sx F (i + 1)) (Sx_r F _) σ μ N hI (by omega)
      refine l_ald h dL_law_349 rfl ?_
      refine l_arg h (j := 1) ⟨by omega, by omega⟩ dL_law_350 dL_law_351 dL_law_352 dL_law_353 dL_law_354 ?_
      refine l_call0 h hm0 hwL0_matching hyL0_matching (by decide) rfl (Nat.le_of_ble_eq_true rfl) dL_law_355 (fun z u hz hp0 => ?_)
      refine l_ald h dL_law_358 rfl ?_
      refine l_arg h (j := 1) ⟨by omega, by omega⟩ dL_law_359 dL_law_360 dL_law_361 dL_law_362 dL_law_363 ?_
      refine l_call1 h hm1 hwL1_matching hyL1_matching (by decide) rfl (Nat.le_of_ble_eq_true rfl) dL_law_364 (fun w v hw hp1 => ?_)
      obtain ⟨hzw, hJ⟩ := hpr z u w v hp0 hp1
      exact l_cmp h hzw 395 dL_law_367 (by decide) (go u v hJ)
    · rw [show Sx F i % 16 = ((10 : Nat) : Int) from hk]
      refine l_swIn h 10 372 (by decide) rfl (by decide) ?_
      obtain ⟨p0, p1, hm0, hm1, hpr⟩ := pr_owned (Sx F (i + 1)) (Sx_r F _) σ μ N hI (by omega)
      refine l_ald h dL_law_372 rfl ?_
      refine l_arg h (j := 1) ⟨by omega, by omega⟩ dL_law_373 dL_law_374 dL_law_375 dL_law_376 dL_law_377 ?_
      refine l_call0 h hm0 hwL0_owned hyL0_owned (by decide) rfl (Nat.le_of_ble_eq_true rfl) dL_law_378 (fun z u hz hp0 => ?_)
      refine l_ald h dL_law_381 rfl ?_
      refine l_arg h (j := 1) ⟨by omega, by omega⟩ dL_law_382 dL_law_383 dL_law_384 dL_law_385 dL_law_386 ?_
      refine l_call1 h hm1 hwL1_owned hyL1_owned (by decide) rfl (Nat.le_of_ble_eq_true rfl) dL_law_387 (fun w v hw hp1 => ?_)
      obtain ⟨hzw, hJ⟩ := hpr z u w v hp0 hp1
      exact l_cmp h hzw 395 dL_law_390 (by decide) (go u v hJ)
    · refine l_swOut h ⟨hk, hr.2⟩ ?_
      exact go σ μ (INV_up hI)
theorem dv0 : ∀ j, j < 22 → defaultValue (tyX0 j) = vp_V ((List.range cd0.N).map (zfP cd0 (0, fun _ => 0, fun _ => default, (fun _ => default, fun _ _ => 0)) z0 [])) j := by
  intro j hj
  have : j = 0 ∨ j = 1 ∨ j = 2 ∨ j = 3 ∨ j = 4 ∨ j = 5 ∨ j = 6 ∨ j = 7 ∨ j = 8 ∨ j = 9 ∨ j = 10 ∨ j = 11 ∨ j = 12 ∨ j = 13 ∨ j = 14 ∨ j = 15 ∨ j = 16 ∨ j = 17 ∨ j = 18 ∨ j = 19 ∨ j = 20 ∨ j = 21 := by omega
  rcases this with q | q | q | q | q | q | q | q | q | q | q | q | q | q | q | q | q | q | q | q | q | q <;> subst q <;> rfl
theorem dv1 : ∀ j, j < 13 → defaultValue (tyX1 j) = vp_V ((List.range cd1.N).map (zfP cd1 (0, fun _ => 0, fun _ => default, (fun _ => default, fun _ _ => 0)) z0 [])) j := by
  intro j hj
  have : j = 0 ∨ j = 1 ∨ j = 2 ∨ j = 3 ∨ j = 4 ∨ j = 5 ∨ j = 6 ∨ j = 7 ∨ j = 8 ∨ j = 9 ∨ j = 10 ∨ j = 11 ∨ j = 12 := by omega
  rcases this with q | q | q | q | q | q | q | q | q | q | q | q | q <;> subst q <;> rfl
theorem zfP_nil (d : zC) (g g' : zG) : (List.range d.N).map (zfP d g z0 []) = (List.range d.N).map (zfP d g' z0 []) := by
  apply List.map_congr_left
  intro a _
  simp [zfP]
set_option maxHeartbeats 4000000 in
set_option maxRecDepth 100000 in
theorem whole_start {p : Program} {e : Env} {s : State} {m : MethodId} {below : List Frame} {meth : Method} {c : Code} (l : Launch) {b L : Nat} {xs : Nat → Int32} (hL : L ≤ 256) (C0 : lw_At p s m meth c b L xs) : W p l e room_1 s m #[Value.ref b] below meth c s.heap [] 0 0 (lw_Z below #[Value.ref b] s) (entryFrame m ([Value.ref b] : List Value).toArray 4) := by
  obtain ⟨hx, hb, hr, hml, hown, hts0, hX, hbl, hlocks, hgv⟩ := id C0
  have hts : ∀ w ∈ lw_all, w.before #[Value.ref b] s = true := fun w h => hts0 w (lw_all_tbl h)
  have hA : ∀ q : Nat, s.heap.size ≤ q → (fun q : Nat => s.heap.size ≤ q) q := fun _ h => h
  obtain ⟨c0_, iS0, hKn0⟩ := u_known (C := RX0) (T := TX0) (N := 22) (n := 22) hts in_X0 (hts _ q31)
  obtain ⟨c1_, iS1, hKn1⟩ := u_known (C := RX1) (T := TX1) (N := 13) (n := 13) hts in_X1 (hts _ q227)
  obtain ⟨dC, dI, hKc⟩ : ∃ (dC : Nat → ClassId) (dI : Nat → Nat → Nat), ∀ (k : Nat) (q : vw_C), vwCl[k]? = some q → u_Kn s q.1 q.2.1 q.2.2 (dC k) (dI k) := by
    refine ⟨fun k => if k = 0 then c0_ else c1_, fun k => if k = 0 then iS0 else iS1, ?_⟩
    intro k q hq
    match k, hq with
    | 0, hq => cases hq; exact hKn0
    | 1, hq => cases hq; exact hKn1
    | k + 2, hq => simp [vwCl] at hq
  have hS : va_S (fun q : Nat => s.heap.size ≤ q) s.heap s.heap [] := va_S.rf
  have hK : va_K (dC, dI) vwCl [] s := ⟨hKc, fun k q h => by simp at h⟩
  have hP : va_P (dC, dI) vwCl [] s.heap := fun k q h => by simp at h
  have hD : va_D (fun q : Nat => s.heap.size ≤ q) [] := ⟨fun i j p q h => by simp at h, fun k q h => by simp at h⟩
  have hl := lv_entry ([.ref b]) (n := 4) (Nat.le_of_ble_eq_true rfl)
  rw [lg_entry_eq]
  generalize (lg_sl ([.ref b]) ++ List.replicate (4 - (lg_sl ([.ref b])).length) Slot.unset).toArray = ls at hl ⊢
  have hl : lv_has ls 4 [(0, .ref b)] := hl
  -- the class's object
  refine va_new (ci := 0) (fs := (List.range cd0.N).map (zfP cd0 (0, fun _ => 0, fun _ => default, (fun _ => default, fun _ _ => 0)) z0 [])) (C := RX0) (T := TX0) (N := 22) hx hb hts in_X0 tyX0 tyX0_ok hown (hts _ q30) (hts _ q31) (hts _ q28) hK hP hD hS hA rfl dv0 (Nat.le_of_ble_eq_true rfl) (Nat.le_of_ble_eq_true rfl) dL_law_0 (fun h0 H hP hD hS => ?_)
  rw [zfP_nil cd0 _ (h0, fun _ => 0, fun _ => default, (dC, dI))] at hP hD
  have hP : va_P (dC, dI) vwCl (zwP cd0 (h0, fun _ => 0, fun _ => default, (dC, dI)) z0 []) H := hP
  have hD : va_D (fun q : Nat => s.heap.size ≤ q) (zwP cd0 (h0, fun _ => 0, fun _ => default, (dC, dI)) z0 []) := hD
  refine W.widen (k := 1) (n := 22) (Nat.le_of_ble_eq_true rfl) (Nat.le_of_ble_eq_true rfl) ?_
  refine lv_dup hx hb dL_law_3 rfl ?_
  have hFc := z_free hD hS hA
  refine va_callv (va_runI (As := []) (rest := [.ref h0]) ⟨hx, hb, hml, hown, hts⟩ (m0_init l (h0, fun _ => 0, fun _ => default, (dC, dI)) H.size) (cwI 0 hts (lw_meth q34) rfl rfl rfl (hts _ q28) (hts _ q32) (hts _ q33) rfl (by decide +kernel) ⟨Nat.le_of_ble_eq_true rfl, Nat.le_of_ble_eq_true rfl⟩) ⟨fun a U g mk q => by obtain ⟨q0, q1, qP, qK, qD⟩ := q; exact ⟨q0, q1, qP, va_K.moved (u := U) (U := U.calling g mk a) (Vm.Alike.refl U.vm) qK, qD⟩, fun U hU hW => ⟨rfl, by rw [hU], by rw [hU]; exact hP, va_K.moved hW.alike hK, hD.weaken (fun _ _ _ _ => trivial)⟩⟩ rfl rfl hl.1 rfl (lv_room (Nat.le_of_ble_eq_true rfl)) dL_law_4 ⟨Nat.le_of_ble_eq_true rfl, Nat.le_of_ble_eq_true rfl⟩) hS (fun q _ h => hFc q h) hFc (fun u t H1 locs1 ht hvm hp0 hB hz1 hk1 hS => ?_)
  obtain ⟨ad0, cA0, σ⟩ := u
  have hp0 : Ini0 σ := hp0
  obtain ⟨hP1, hK1, hD1, hR0⟩ := hB
  rw [ht] at hP1
  have hK0 : va_K (dC, dI) vwCl (zty cd0 (h0, ad0, cA0, (dC, dI))) s := va_K.moved hvm.symm hK1
  have hP : va_P (dC, dI) vwCl (zw cd0 (h0, ad0, cA0, (dC, dI)) σ) H1 := hP1
  have hD : va_D (fun q : Nat => s.heap.size ≤ q) (zw cd0 (h0, ad0, cA0, (dC, dI)) σ) := hD1.weaken (fun _ q _ h => hFc q.1 h)
  refine W.widen (k := 17) (n := 906) (Nat.le_of_ble_eq_true rfl) (Nat.le_of_ble_eq_true rfl) ?_
  refine lv_astore_n (lv' := [(1, .ref h0), (0, .ref b)]) hx hb dL_law_7 rfl hl (by decide) rfl (fun ls hl => ?_)
  -- the reference's object
  refine va_new (ci := 1) (fs := (List.range cd1.N).map (zfP cd1 (0, fun _ => 0, fun _ => default, (fun _ => default, fun _ _ => 0)) z0 [])) (C := RX1) (T := TX1) (N := 13) hx hb hts in_X1 tyX1 tyX1_ok hown (hts _ q226) (hts _ q227) (hts _ q29) hK hP hD hS hA rfl dv1 (Nat.le_of_ble_eq_true rfl) (Nat.le_of_ble_eq_true rfl) dL_law_8 (fun h1 H hP hD hS => ?_)
  rw [zfP_nil cd1 _ (h1, fun _ => 0, fun _ => default, (dC, dI))] at hP hD
  have hP : va_P (dC, dI) vwCl (zw cd0 (h0, ad0, cA0, (dC, dI)) σ ++ zwP cd1 (h1, fun _ => 0, fun _ => default, (dC, dI)) z0 []) H := hP
  have hD : va_D (fun q : Nat => s.heap.size ≤ q) (zw cd0 (h0, ad0, cA0, (dC, dI)) σ ++ zwP cd1 (h1, fun _ => 0, fun _ => default, (dC, dI)) z0 []) := hD
  refine W.widen (k := 18) (n := 919) (Nat.le_of_ble_eq_true rfl) (Nat.le_of_ble_eq_true rfl) ?_
  refine lv_dup hx hb dL_law_11 rfl ?_
  obtain ⟨pA, dA, pB, dB, ap⟩ := z_left hP hD
  have hFc := z_free dB hS hA
  refine va_callv (va_runI (As := []) (rest := [.ref h1]) ⟨hx, hb, hml, hown, hts⟩ (m1_init l (h1, fun _ => 0, fun _ => default, (dC, dI)) H.size) (cwI 0 hts (lw_meth q230) rfl rfl rfl (hts _ q29) (hts _ q228) (hts _ q229) rfl (by decide +kernel) ⟨Nat.le_of_ble_eq_true rfl, Nat.le_of_ble_eq_true rfl⟩) ⟨fun a U g mk q => by obtain ⟨q0, q1, qP, qK, qD⟩ := q; exact ⟨q0, q1, qP, va_K.moved (u := U) (U := U.calling g mk a) (Vm.Alike.refl U.vm) qK, qD⟩, fun U hU hW => ⟨rfl, by rw [hU], by rw [hU]; exact pB, va_K.moved hW.alike hK, dB.weaken (fun _ _ _ _ => trivial)⟩⟩ rfl rfl hl.1 rfl (lv_room (Nat.le_of_ble_eq_true rfl)) dL_law_12 ⟨Nat.le_of_ble_eq_true rfl, Nat.le_of_ble_eq_true rfl⟩) hS (fun q _ h => hFc q h) hFc (fun u t H1 locs1 ht hvm hp1 hB hz1 hk1 hS => ?_)
  obtain ⟨ad1, cA1, μ⟩ := u
  have hp1 : Ini1 μ := hp1
  obtain ⟨hP1, hK1, hD1, hR1⟩ := hB
  rw [ht] at hP1
  have hK2 : va_K (dC, dI) vwCl (zty cd1 (h1, ad1, cA1, (dC, dI))) s := va_K.moved hvm.symm hK1
  obtain ⟨hP, hD⟩ := z_j2 hP hD hk1 hFc hP1 hD1
  refine W.widen (k := 27) (n := 1155) (Nat.le_of_ble_eq_true rfl) (Nat.le_of_ble_eq_true rfl) ?_
  refine lv_astore_n (lv' := [(2, .ref h1), (1, .ref h0), (0, .ref b)]) hx hb dL_law_15 rfl hl (by decide) rfl (fun ls hl => ?_)
  refine lv_iconst (v := Int32.ofInt 0) hx hb dL_law_16 rfl ?_
  refine lv_istore_n (lv' := [(3, iv 0), (2, .ref h1), (1, .ref h0), (0, .ref b)]) hx hb dL_law_17 rfl hl (by decide) rfl (fun ls hl => ?_)
  refine law_loop (F := (p, l, e, s, m, below, meth, c, b, L, xs, (h0, ad0, cA0, (dC, dI)), h1, ad1, cA1)) ⟨hx, hb, hr, hml, hown, hts, hX, hbl, hlocks, hK0, hK2, hL⟩ 261 0 σ μ 0 (by omega) (by omega) (by omega) (by omega) (INV_0 hp0 hp1) H1 locs1 ls hP hD hS hR0 hR1 ⟨_, hl, fun i v hi => ?_⟩
  match i, hi with
  | 0, hi => cases hi; exact ⟨by simp, rfl⟩
  | 1, hi => cases hi; exact ⟨by simp, rfl⟩
  | 2, hi => cases hi; exact ⟨by simp, rfl⟩
  | 3, hi => cases hi; exact ⟨by simp, rfl⟩
  | k + 4, hi => simp at hi
-- ===== the claim, as the skeleton has it =====
set_option maxHeartbeats 4000000 in
theorem lw_walk (l : Launch) (b : Addr) (xs : List Int32) : MetFree l x (headSpec (Jvm.Cond.code x code maxLocals ret :: tables_1) room_1) (lw_P b xs) (fun _ _ _ _ _ => True) lw_Q := by
  refine MetFree.of_bodyS (code := code) (maxLocals := maxLocals) (ret := ret) (by decide) ?_ ?_
  · intro args s m h hn
    obtain ⟨meth, c, h1, h2, h3, h4, h5, h6, -, -⟩ := Cond.code_spec hn (atoms_spec (ws := Jvm.Cond.code x code maxLocals ret :: tables_1) h _ List.mem_cons_self)
    exact ⟨meth, c, h1, h2, h3, h4, h5, h6⟩
  · intro p e s m args below meth c s₁ B hml0 hP _
    obtain ⟨rfl, hx, hbd, hgv⟩ := hP
    obtain ⟨scr, harrAt, hlist, hof, hsmall⟩ := hx
    obtain ⟨hcb, hkn, -, -⟩ := State.arrayAt?_spec harrAt
    have hown : s.vm.findClass R_law = some m.cls := findClass_of_methodNamed B.named
    have hts0 : ∀ c ∈ (Jvm.Cond.code x code maxLocals ret :: tables_1), c.before #[Value.ref b] s = true := atoms_spec (ws := Jvm.Cond.code x code maxLocals ret :: tables_1) B.pre
    have hts : ∀ w ∈ lw_tbl, w.before #[Value.ref b] s = true := k2_hts_sels lw_privs (fun w hw => hts0 w (List.mem_cons_of_mem _ hw)) lw_privs_ok
    have hml : c.maxLocals = 4 := B.maxLocals_eq (hts0 _ List.mem_cons_self)
    have X₀ : Stand p l e room_1 s m #[Value.ref b] below meth c s₁ [] 0 0 := Stand.of_body B
    have hh0 : s₁.heap = s.heap := by rw [B.state]; rfl
    have hsz : scr.slots.size = xs.length := by rw [← Array.length_toList, hlist, List.length_map]
    have hval : ∀ j : Nat, j < xs.length → scr.slots[j]? = some (.int (xs.getD j 0)) := fun j hj => by
      rw [← Array.getElem?_toList, hlist]
      simp [hj]
    have hbl : b < s.heap.size := (Array.getElem?_eq_some_iff.mp hcb).1
    have hX : va_X b xs.length (fun j => xs.getD j 0) s s.heap := ⟨scr, hcb, hof, hkn, hsz, hval⟩
    have K : W p l e room_1 s m #[Value.ref b] below meth c s₁.heap [] 0 0 (lw_Z below #[Value.ref b] s) (entryFrame m ([Value.ref b] : List Value).toArray 4) := by
      rw [hh0]
      exact whole_start l hbd ⟨B.exec, B.bytes, B.returns, hml, hown, hts, hX, hbl, B.notSynchronized, hgv⟩
    obtain ⟨t, a1, o, b1, b2, b3⟩ := K s₁ rfl X₀
    exact ⟨t, o, a1, b1, b2, b3⟩
theorem lw_pre_spec {args : Array Value} {s : State} (h : (Jvm.Cond.and given_1 narrow_1).before args s = true) (hr : rest_1_c.before args s = true) : ∃ (b : Addr) (xs : List Int32), lw_P b xs args s := by
  have hs := flat_of_before _ h
  have hq := flat_of_before _ hr
  have hc : (Cond.count 1).before args s = true := hs _ (by decide +kernel)
  have harr : (Cond.arrayOf (.arg 0) .int).before args s = true := hs _ (by decide +kernel)
  have hle : (Cond.le (.length (.arg 0)) (.int 256)).before args s = true := hs _ (by decide +kernel)
  have hlen : (Cond.isInt (.length (.arg 0))).before args s = true := hq _ (by decide +kernel)
  have hall : (Cond.all (.arg 0) (.isInt (.elem (.arg 0) (.index 0)))).before args s = true := hq _ (by decide +kernel)
  obtain ⟨b, xs, hb, hx⟩ := State.ints_of_pre rfl harr hlen hall
  have hsm : xs.length < 2 ^ 31 := hx.choose_spec.2.2.2
  have hev : (Term.length (.arg 0)).eval args s none [] s = some (.int xs.length.toInt32) := hx.length_eval hb
  have hv := Cond.le_ints hev (show (Term.int 256).eval args s none [] s = some (.int 256) from rfl)
  have hd : xs.length.toInt32 ≤ 256 := by
    simpa [Cond.before, Cond.holds, hv] using hle
  have hN : xs.length ≤ 256 := (Int32.ofNat_le_ofNat hsm (by decide)).mp (show Int32.ofNat xs.length ≤ Int32.ofNat 256 from hd)
  exact ⟨b, xs, Cond.one_arg hc (show args[0]? = some (.ref b) from hb), hx, hN, h⟩
theorem lw_comes (l : Launch) : Comes l x (Jvm.Cond.code x code maxLocals ret :: tables_1) room_1 (fun tb e args s => Calls_1 tb e args s ∧ rest_1 tb e args s ∧ Pre_1 tb e args s)
    (fun _ _ args s o t => lw_Q args s o t) := by
  intro p e ha hc hk s m args below hf hfit hheap happ hpre
  obtain ⟨b, xs, hP⟩ := lw_pre_spec hpre.2.2 hpre.2.1
  obtain ⟨k, o, h1, h2, h3, hQ⟩ := lw_walk l b xs p e ha hc hk s m args below hf ((Spec.applies_iff_loose hf).mp happ).1 hP trivial
  exact ⟨k, o, h1, h2, h3, hQ⟩
theorem lw_frame {s t : State} {o : Outcome} {args : Array Value} (h : Framed s o t [] 600000 7290000) :
    Framed s o t (fieldLocs frame_1_writes args s ++ arrayLocs frame_1_arrays args s ++ staticLocs frame_1_statics s) 600000 7290000 := h
theorem lw_limb (L : Cond) (hL : ∀ (args : Array Value) (s t : State), L.after args s (.returned (some (.int 1))) t = true) :
    ArmFor flags0 classFile x code maxLocals ret World_1 tables_1 room_1 Calls_1 rest_1 Pre_1
      (fun tb e a s o t => postC L tb e a s o t ∧ Framed s o t (fieldLocs frame_1_writes a s ++ arrayLocs frame_1_arrays a s ++ staticLocs frame_1_statics s) 600000 7290000) := by
  intro l _ _ _ p e ha hc hk s m args below hf hfit hheap happ hpre
  obtain ⟨k, o, h1, h2, h3, rfl, hF⟩ := lw_comes l p e ha hc hk s m args below hf hfit hheap happ hpre
  exact ⟨k, _, h1, h2, h3, hL args s _, lw_frame hF⟩
theorem i_vc : Claimed_1_1 ∧ Claimed_1_2 := ⟨lw_limb limb_1_1 (fun args s t => by simp [limb_1_1, Cond.after, Cond.holds, Cond.value]), lw_limb limb_1_2 (fun args s t => Cond.after_iff.mpr (by
  first | (rw [show limb_1_2 = Cond.eq .result (.int 1) from rfl, Cond.eq_ints (x := 1) (y := 1) rfl rfl]; simp; done) | (simp [limb_1_2, Cond.value, Term.eval]; done)))⟩
end
