section
-- ===== PART A: goes FIRST, ahead of the names: the tables' words, and 'selects' of the private methods out of them =====
/-- a private method of a class that the tables say can be made, by its rows of tables_1 -/
def lw_okq (q : MethodName × Nat) : Prop := (q.1.cls ≠ "java/lang/invoke/MethodHandle" ∧ q.1.cls ≠ "java/lang/invoke/VarHandle") ∧ Cond.instantiable q.1.cls q.2 ∈ tables_1 ∧ Cond.privateMethod q.1 ∈ tables_1 ∧ Cond.instanceMethod q.1 ∈ tables_1
set_option maxRecDepth 100000
theorem lw_t1 {w : Cond} (h : w ∈ tables_1_1) : w ∈ tables_1 := List.mem_append_left _ h
theorem lw_t2 {w : Cond} (h : w ∈ tables_1_2) : w ∈ tables_1 := List.mem_append_right _ h
theorem lw_p0 : lw_okq (⟨"ResponseDesk", "has", "(I)Z"⟩, 8) := ⟨⟨by decide +kernel, by decide +kernel⟩, lw_t1 (List.mem_of_getElem? (i := 4) rfl), lw_t1 (List.mem_of_getElem? (i := 46) rfl), lw_t1 (List.mem_of_getElem? (i := 47) rfl)⟩
theorem lw_p1 : lw_okq (⟨"ResponseDesk", "placeOf", "(I)I"⟩, 8) := ⟨⟨by decide +kernel, by decide +kernel⟩, lw_t1 (List.mem_of_getElem? (i := 4) rfl), lw_t1 (List.mem_of_getElem? (i := 54) rfl), lw_t1 (List.mem_of_getElem? (i := 55) rfl)⟩
theorem lw_p2 : lw_okq (⟨"ResponseDesk", "moreUrgent", "(I)I"⟩, 8) := ⟨⟨by decide +kernel, by decide +kernel⟩, lw_t1 (List.mem_of_getElem? (i := 4) rfl), lw_t1 (List.mem_of_getElem? (i := 74) rfl), lw_t1 (List.mem_of_getElem? (i := 75) rfl)⟩
theorem lw_p3 : lw_okq (⟨"ResponseDesk", "responseUnder", "(II)I"⟩, 8) := ⟨⟨by decide +kernel, by decide +kernel⟩, lw_t1 (List.mem_of_getElem? (i := 4) rfl), lw_t1 (List.mem_of_getElem? (i := 78) rfl), lw_t1 (List.mem_of_getElem? (i := 79) rfl)⟩
theorem lw_p4 : lw_okq (⟨"ResponseDesk", "workIn", "(II)I"⟩, 8) := ⟨⟨by decide +kernel, by decide +kernel⟩, lw_t1 (List.mem_of_getElem? (i := 4) rfl), lw_t1 (List.mem_of_getElem? (i := 82) rfl), lw_t1 (List.mem_of_getElem? (i := 83) rfl)⟩
theorem lw_p5 : lw_okq (⟨"ResponseDesk", "inTimeUnder", "(II)Z"⟩, 8) := ⟨⟨by decide +kernel, by decide +kernel⟩, lw_t1 (List.mem_of_getElem? (i := 4) rfl), lw_t1 (List.mem_of_getElem? (i := 97) rfl), lw_t1 (List.mem_of_getElem? (i := 98) rfl)⟩
theorem lw_p6 : lw_okq (⟨"ResponseDesk", "fill", "()V"⟩, 8) := ⟨⟨by decide +kernel, by decide +kernel⟩, lw_t1 (List.mem_of_getElem? (i := 4) rfl), lw_t1 (List.mem_of_getElem? (i := 106) rfl), lw_t1 (List.mem_of_getElem? (i := 107) rfl)⟩
theorem lw_p7 : lw_okq (⟨"ResponseDesk", "canFollow", "(II)Z"⟩, 8) := ⟨⟨by decide +kernel, by decide +kernel⟩, lw_t1 (List.mem_of_getElem? (i := 4) rfl), lw_t1 (List.mem_of_getElem? (i := 114) rfl), lw_t1 (List.mem_of_getElem? (i := 115) rfl)⟩
theorem lw_p8 : lw_okq (⟨"ResponseDeskModel", "fine", "(III)Z"⟩, 9) := ⟨⟨by decide +kernel, by decide +kernel⟩, lw_t1 (List.mem_of_getElem? (i := 142) rfl), lw_t1 (List.mem_of_getElem? (i := 181) rfl), lw_t1 (List.mem_of_getElem? (i := 182) rfl)⟩
theorem lw_p9 : lw_okq (⟨"ResponseDeskModel", "is", "(I)Z"⟩, 9) := ⟨⟨by decide +kernel, by decide +kernel⟩, lw_t1 (List.mem_of_getElem? (i := 142) rfl), lw_t1 (List.mem_of_getElem? (i := 189) rfl), lw_t1 (List.mem_of_getElem? (i := 190) rfl)⟩
theorem lw_p10 : lw_okq (⟨"ResponseDeskModel", "find", "(I)I"⟩, 9) := ⟨⟨by decide +kernel, by decide +kernel⟩, lw_t1 (List.mem_of_getElem? (i := 142) rfl), lw_t1 (List.mem_of_getElem? (i := 193) rfl), lw_t1 (List.mem_of_getElem? (i := 194) rfl)⟩
theorem lw_p11 : lw_okq (⟨"ResponseDeskModel", "takeOut", "(I)V"⟩, 9) := ⟨⟨by decide +kernel, by decide +kernel⟩, lw_t1 (List.mem_of_getElem? (i := 142) rfl), lw_t1 (List.mem_of_getElem? (i := 197) rfl), lw_t1 (List.mem_of_getElem? (i := 198) rfl)⟩
theorem lw_p12 : lw_okq (⟨"ResponseDeskModel", "useOrder", "()V"⟩, 9) := ⟨⟨by decide +kernel, by decide +kernel⟩, lw_t1 (List.mem_of_getElem? (i := 142) rfl), lw_t1 (List.mem_of_getElem? (i := 217) rfl), lw_t1 (List.mem_of_getElem? (i := 218) rfl)⟩
theorem lw_p13 : lw_okq (⟨"ResponseDeskModel", "responseOf", "(I)I"⟩, 9) := ⟨⟨by decide +kernel, by decide +kernel⟩, lw_t1 (List.mem_of_getElem? (i := 142) rfl), lw_t1 (List.mem_of_getElem? (i := 221) rfl), lw_t1 (List.mem_of_getElem? (i := 222) rfl)⟩
theorem lw_p14 : lw_okq (⟨"ResponseDeskModel", "start", "()V"⟩, 9) := ⟨⟨by decide +kernel, by decide +kernel⟩, lw_t1 (List.mem_of_getElem? (i := 142) rfl), lw_t1 (List.mem_of_getElem? (i := 225) rfl), lw_t1 (List.mem_of_getElem? (i := 226) rfl)⟩
theorem lw_p15 : lw_okq (⟨"ResponseDeskModel", "unit", "(I)I"⟩, 9) := ⟨⟨by decide +kernel, by decide +kernel⟩, lw_t1 (List.mem_of_getElem? (i := 142) rfl), lw_t1 (List.mem_of_getElem? (i := 229) rfl), lw_t1 (List.mem_of_getElem? (i := 230) rfl)⟩
def lw_privs_1 : List (MethodName × Nat) := [(⟨"ResponseDesk", "has", "(I)Z"⟩, 8), (⟨"ResponseDesk", "placeOf", "(I)I"⟩, 8), (⟨"ResponseDesk", "moreUrgent", "(I)I"⟩, 8), (⟨"ResponseDesk", "responseUnder", "(II)I"⟩, 8), (⟨"ResponseDesk", "workIn", "(II)I"⟩, 8), (⟨"ResponseDesk", "inTimeUnder", "(II)Z"⟩, 8), (⟨"ResponseDesk", "fill", "()V"⟩, 8), (⟨"ResponseDesk", "canFollow", "(II)Z"⟩, 8), (⟨"ResponseDeskModel", "fine", "(III)Z"⟩, 9), (⟨"ResponseDeskModel", "is", "(I)Z"⟩, 9), (⟨"ResponseDeskModel", "find", "(I)I"⟩, 9), (⟨"ResponseDeskModel", "takeOut", "(I)V"⟩, 9), (⟨"ResponseDeskModel", "useOrder", "()V"⟩, 9), (⟨"ResponseDeskModel", "responseOf", "(I)I"⟩, 9), (⟨"ResponseDeskModel", "start", "()V"⟩, 9), (⟨"ResponseDeskModel", "unit", "(I)I"⟩, 9)]
theorem lw_r1 : ∀ q ∈ lw_privs_1, lw_okq q := List.forall_mem_cons.mpr ⟨lw_p0, List.forall_mem_cons.mpr ⟨lw_p1, List.forall_mem_cons.mpr ⟨lw_p2, List.forall_mem_cons.mpr ⟨lw_p3, List.forall_mem_cons.mpr ⟨lw_p4, List.forall_mem_cons.mpr ⟨lw_p5, List.forall_mem_cons.mpr ⟨lw_p6, List.forall_mem_cons.mpr ⟨lw_p7, List.forall_mem_cons.mpr ⟨lw_p8, List.forall_mem_cons.mpr ⟨lw_p9, List.forall_mem_cons.mpr ⟨lw_p10, List.forall_mem_cons.mpr ⟨lw_p11, List.forall_mem_cons.mpr ⟨lw_p12, List.forall_mem_cons.mpr ⟨lw_p13, List.forall_mem_cons.mpr ⟨lw_p14, List.forall_mem_cons.mpr ⟨lw_p15, fun _ h => absurd h List.not_mem_nil⟩⟩⟩⟩⟩⟩⟩⟩⟩⟩⟩⟩⟩⟩⟩⟩
theorem lw_p16 : lw_okq (⟨"ResponseDeskModel", "allPunctual", "()Z"⟩, 9) := ⟨⟨by decide +kernel, by decide +kernel⟩, lw_t1 (List.mem_of_getElem? (i := 142) rfl), lw_t1 (List.mem_of_getElem? (i := 237) rfl), lw_t1 (List.mem_of_getElem? (i := 238) rfl)⟩
theorem lw_p17 : lw_okq (⟨"ResponseDeskModel", "punctual", "(I)Z"⟩, 9) := ⟨⟨by decide +kernel, by decide +kernel⟩, lw_t1 (List.mem_of_getElem? (i := 142) rfl), lw_t2 (List.mem_of_getElem? (i := 1) rfl), lw_t2 (List.mem_of_getElem? (i := 2) rfl)⟩
theorem lw_p18 : lw_okq (⟨"ResponseDeskModel", "orders", "()I"⟩, 9) := ⟨⟨by decide +kernel, by decide +kernel⟩, lw_t1 (List.mem_of_getElem? (i := 142) rfl), lw_t2 (List.mem_of_getElem? (i := 13) rfl), lw_t2 (List.mem_of_getElem? (i := 14) rfl)⟩
theorem lw_p19 : lw_okq (⟨"ResponseDeskModel", "spell", "(I)V"⟩, 9) := ⟨⟨by decide +kernel, by decide +kernel⟩, lw_t1 (List.mem_of_getElem? (i := 142) rfl), lw_t2 (List.mem_of_getElem? (i := 17) rfl), lw_t2 (List.mem_of_getElem? (i := 18) rfl)⟩
theorem lw_p20 : lw_okq (⟨"ResponseDeskModel", "unused", "(II)I"⟩, 9) := ⟨⟨by decide +kernel, by decide +kernel⟩, lw_t1 (List.mem_of_getElem? (i := 142) rfl), lw_t2 (List.mem_of_getElem? (i := 21) rfl), lw_t2 (List.mem_of_getElem? (i := 22) rfl)⟩
def lw_privs_2 : List (MethodName × Nat) := [(⟨"ResponseDeskModel", "allPunctual", "()Z"⟩, 9), (⟨"ResponseDeskModel", "punctual", "(I)Z"⟩, 9), (⟨"ResponseDeskModel", "orders", "()I"⟩, 9), (⟨"ResponseDeskModel", "spell", "(I)V"⟩, 9), (⟨"ResponseDeskModel", "unused", "(II)I"⟩, 9)]
theorem lw_r2 : ∀ q ∈ lw_privs_2, lw_okq q := List.forall_mem_cons.mpr ⟨lw_p16, List.forall_mem_cons.mpr ⟨lw_p17, List.forall_mem_cons.mpr ⟨lw_p18, List.forall_mem_cons.mpr ⟨lw_p19, List.forall_mem_cons.mpr ⟨lw_p20, fun _ h => absurd h List.not_mem_nil⟩⟩⟩⟩⟩
def lw_privs : List (MethodName × Nat) := lw_privs_1 ++ (lw_privs_2)
def lw_tbl : List Cond := k2_sels lw_privs ++ tables_1
theorem lw_privs_ok : ∀ q ∈ lw_privs, lw_okq q := by
  show ∀ q ∈ lw_privs_1 ++ (lw_privs_2), lw_okq q
  exact List.forall_mem_append.mpr ⟨lw_r1, lw_r2⟩
-- ===== ONE list of words for every method: the tables' words that hold all through a run =====
def lw_all : List Cond := lw_tbl.filter goodWord
/-- a word of the tables by its place: claim/WORDS.tsv -/
theorem lw_w {w : Cond} (i : Nat) (h : lw_tbl[i]? = some w) (g : goodWord w = true) : w ∈ lw_all := List.mem_filter.mpr ⟨List.mem_of_getElem? h, g⟩
theorem lw_all_tbl {w : Cond} (h : w ∈ lw_all) : w ∈ lw_tbl := (List.mem_filter.mp h).1
theorem lw_self : GoodIn lw_all lw_all := fun w h => ⟨h, good_of_word (List.mem_filter.mp h).2⟩
/-- a class's field words, by their places -/
theorem lw_in (ws : List Cond) (ps : List Nat) (hp : ws = ps.filterMap (fun i => lw_tbl[i]?)) (hg : ws.all goodWord = true) : ∀ w ∈ ws, w ∈ lw_all := by
  intro w h
  have h1 := List.all_eq_true.mp hg w h
  rw [hp] at h
  obtain ⟨i, -, hi⟩ := List.mem_filterMap.mp h
  exact lw_w i hi h1
/-- the words of a contract for the method y with code b, L locals, answer r -/
abbrev ws_ (y : MethodName) (b : ByteArray) (L : Nat) (r : Option FieldType) : List Cond := Cond.code y b L r :: lw_all
theorem lw_meth {y : MethodName} {b : ByteArray} {L : Nat} {r : Option FieldType} (h : Cond.code y b L r ∈ lw_all) : GoodIn lw_all (ws_ y b L r) := by
  intro w hw
  rcases List.mem_cons.mp hw with e | e
  · rw [e]
    exact lw_self _ h
  · exact lw_self _ e
theorem lw_app {a c : List Cond} (ha : ∀ w ∈ a, w ∈ lw_all) (hc : GoodIn lw_all c) : GoodIn lw_all (a ++ c) := by
  intro w hw
  rcases List.mem_append.mp hw with e | e
  · exact lw_self w (ha w e)
  · exact hc w e
/-- what a call through an object asks: cwV n hts (lw_V ..) -/
theorem lw_V {own : String} {idx : Nat} {C : String} {y : MethodName} {b : ByteArray} {L : Nat} {r : Option FieldType} (h1 : Cond.methodLink own idx y ∈ lw_all) (h2 : Cond.instanceMethod y ∈ lw_all) (h3 : Cond.selects C y y ∈ lw_all) (h4 : Cond.initialized C ∈ lw_all) (h5 : Cond.code y b L r ∈ lw_all) : GoodIn lw_all (wsV own idx C y (ws_ y b L r)) := by
  refine lw_app ?_ (lw_meth h5)
  intro w hw
  simp only [List.mem_cons, List.not_mem_nil, or_false] at hw
  rcases hw with e | e | e | e
  · rw [e]; exact h1
  · rw [e]; exact h2
  · rw [e]; exact h3
  · rw [e]; exact h4
/-- what a static call asks: va_cwS n hts (lw_S ..) -/
theorem lw_S {own : String} {idx : Nat} {y : MethodName} {b : ByteArray} {L : Nat} {r : Option FieldType} (h1 : Cond.methodLink own idx y ∈ lw_all) (h2 : Cond.static y ∈ lw_all) (h3 : Cond.initialized y.cls ∈ lw_all) (h4 : Cond.code y b L r ∈ lw_all) : GoodIn lw_all (va_wsS own idx y (ws_ y b L r)) := by
  refine lw_app ?_ (lw_meth h4)
  intro w hw
  simp only [List.mem_cons, List.not_mem_nil, or_false] at hw
  rcases hw with e | e | e
  · rw [e]; exact h1
  · rw [e]; exact h2
  · rw [e]; exact h3
/-- the words of a contract for a method WITH HANDLERS (hh: its table) -/
abbrev wsW_ (y : MethodName) (b : ByteArray) (L : Nat) (r : Option FieldType) (hh : List (Nat × Nat × Nat × Nat)) : List Cond := Cond.codeWith y b L r hh :: lw_all
theorem lw_methW {y : MethodName} {b : ByteArray} {L : Nat} {r : Option FieldType} {hh : List (Nat × Nat × Nat × Nat)} (h : Cond.codeWith y b L r hh ∈ lw_all) : GoodIn lw_all (wsW_ y b L r hh) := by
  intro w hw
  rcases List.mem_cons.mp hw with e | e
  · rw [e]
    exact lw_self _ h
  · exact lw_self _ e
/-- any list of words by their places (lw_in), good -/
theorem lw_good {ws : List Cond} (h : ∀ w ∈ ws, w ∈ lw_all) : GoodIn lw_all ws := fun w hw => lw_self w (h w hw)
/-- what a call of a method with handlers asks: vx_cwVW n hts (lw_VW ..), vx_cwSW n hts (lw_SW ..) -/
theorem lw_VW {own : String} {idx : Nat} {C : String} {y : MethodName} {b : ByteArray} {L : Nat} {r : Option FieldType} {hh : List (Nat × Nat × Nat × Nat)} (h1 : Cond.methodLink own idx y ∈ lw_all) (h2 : Cond.instanceMethod y ∈ lw_all) (h3 : Cond.selects C y y ∈ lw_all) (h4 : Cond.initialized C ∈ lw_all) (h5 : Cond.codeWith y b L r hh ∈ lw_all) : GoodIn lw_all (wsV own idx C y (wsW_ y b L r hh)) := by
  refine lw_app ?_ (lw_methW h5)
  intro w hw
  simp only [List.mem_cons, List.not_mem_nil, or_false] at hw
  rcases hw with e | e | e | e
  · rw [e]; exact h1
  · rw [e]; exact h2
  · rw [e]; exact h3
  · rw [e]; exact h4
theorem lw_SW {own : String} {idx : Nat} {y : MethodName} {b : ByteArray} {L : Nat} {r : Option FieldType} {hh : List (Nat × Nat × Nat × Nat)} (h1 : Cond.methodLink own idx y ∈ lw_all) (h2 : Cond.static y ∈ lw_all) (h3 : Cond.initialized y.cls ∈ lw_all) (h4 : Cond.codeWith y b L r hh ∈ lw_all) : GoodIn lw_all (va_wsS own idx y (wsW_ y b L r hh)) := by
  refine lw_app ?_ (lw_methW h4)
  intro w hw
  simp only [List.mem_cons, List.not_mem_nil, or_false] at hw
  rcases hw with e | e | e
  · rw [e]; exact h1
  · rw [e]; exact h2
  · rw [e]; exact h3
/-- a word by its place in its run of the tables -/
theorem lw_at {r : List Cond} (hr : ∀ w ∈ r, w ∈ lw_tbl) {w : Cond} (i : Nat) (h : r[i]? = some w) : w ∈ lw_tbl := hr w (List.mem_of_getElem? h)
theorem lw_g {w : Cond} (h : w ∈ lw_tbl) (g : goodWord w = true) : w ∈ lw_all := List.mem_filter.mpr ⟨h, g⟩
theorem lw_ms : ∀ w ∈ k2_sels lw_privs, w ∈ lw_tbl := fun w h => show w ∈ k2_sels lw_privs ++ tables_1 from List.mem_append_left _ h
theorem lw_m1 : ∀ w ∈ tables_1_1, w ∈ lw_tbl := fun w h => show w ∈ k2_sels lw_privs ++ tables_1 from List.mem_append_right (k2_sels lw_privs) (show w ∈ tables_1 from List.mem_append_left _ h)
theorem lw_m2 : ∀ w ∈ tables_1_2, w ∈ lw_tbl := fun w h => show w ∈ k2_sels lw_privs ++ tables_1 from List.mem_append_right (k2_sels lw_privs) (show w ∈ tables_1 from List.mem_append_right _ h)
theorem qs0 : (Cond.selects "ResponseDesk" ⟨"ResponseDesk", "has", "(I)Z"⟩ ⟨"ResponseDesk", "has", "(I)Z"⟩) ∈ lw_all := lw_g (lw_at lw_ms 0 rfl) rfl
theorem qs1 : (Cond.selects "ResponseDesk" ⟨"ResponseDesk", "placeOf", "(I)I"⟩ ⟨"ResponseDesk", "placeOf", "(I)I"⟩) ∈ lw_all := lw_g (lw_at lw_ms 1 rfl) rfl
theorem qs2 : (Cond.selects "ResponseDesk" ⟨"ResponseDesk", "moreUrgent", "(I)I"⟩ ⟨"ResponseDesk", "moreUrgent", "(I)I"⟩) ∈ lw_all := lw_g (lw_at lw_ms 2 rfl) rfl
theorem qs3 : (Cond.selects "ResponseDesk" ⟨"ResponseDesk", "responseUnder", "(II)I"⟩ ⟨"ResponseDesk", "responseUnder", "(II)I"⟩) ∈ lw_all := lw_g (lw_at lw_ms 3 rfl) rfl
theorem qs4 : (Cond.selects "ResponseDesk" ⟨"ResponseDesk", "workIn", "(II)I"⟩ ⟨"ResponseDesk", "workIn", "(II)I"⟩) ∈ lw_all := lw_g (lw_at lw_ms 4 rfl) rfl
theorem qs5 : (Cond.selects "ResponseDesk" ⟨"ResponseDesk", "inTimeUnder", "(II)Z"⟩ ⟨"ResponseDesk", "inTimeUnder", "(II)Z"⟩) ∈ lw_all := lw_g (lw_at lw_ms 5 rfl) rfl
theorem qs6 : (Cond.selects "ResponseDesk" ⟨"ResponseDesk", "fill", "()V"⟩ ⟨"ResponseDesk", "fill", "()V"⟩) ∈ lw_all := lw_g (lw_at lw_ms 6 rfl) rfl
theorem qs7 : (Cond.selects "ResponseDesk" ⟨"ResponseDesk", "canFollow", "(II)Z"⟩ ⟨"ResponseDesk", "canFollow", "(II)Z"⟩) ∈ lw_all := lw_g (lw_at lw_ms 7 rfl) rfl
theorem qs8 : (Cond.selects "ResponseDeskModel" ⟨"ResponseDeskModel", "fine", "(III)Z"⟩ ⟨"ResponseDeskModel", "fine", "(III)Z"⟩) ∈ lw_all := lw_g (lw_at lw_ms 8 rfl) rfl
theorem qs9 : (Cond.selects "ResponseDeskModel" ⟨"ResponseDeskModel", "is", "(I)Z"⟩ ⟨"ResponseDeskModel", "is", "(I)Z"⟩) ∈ lw_all := lw_g (lw_at lw_ms 9 rfl) rfl
theorem qs10 : (Cond.selects "ResponseDeskModel" ⟨"ResponseDeskModel", "find", "(I)I"⟩ ⟨"ResponseDeskModel", "find", "(I)I"⟩) ∈ lw_all := lw_g (lw_at lw_ms 10 rfl) rfl
theorem qs11 : (Cond.selects "ResponseDeskModel" ⟨"ResponseDeskModel", "takeOut", "(I)V"⟩ ⟨"ResponseDeskModel", "takeOut", "(I)V"⟩) ∈ lw_all := lw_g (lw_at lw_ms 11 rfl) rfl
theorem qs12 : (Cond.selects "ResponseDeskModel" ⟨"ResponseDeskModel", "useOrder", "()V"⟩ ⟨"ResponseDeskModel", "useOrder", "()V"⟩) ∈ lw_all := lw_g (lw_at lw_ms 12 rfl) rfl
theorem qs13 : (Cond.selects "ResponseDeskModel" ⟨"ResponseDeskModel", "responseOf", "(I)I"⟩ ⟨"ResponseDeskModel", "responseOf", "(I)I"⟩) ∈ lw_all := lw_g (lw_at lw_ms 13 rfl) rfl
theorem qs14 : (Cond.selects "ResponseDeskModel" ⟨"ResponseDeskModel", "start", "()V"⟩ ⟨"ResponseDeskModel", "start", "()V"⟩) ∈ lw_all := lw_g (lw_at lw_ms 14 rfl) rfl
theorem qs15 : (Cond.selects "ResponseDeskModel" ⟨"ResponseDeskModel", "unit", "(I)I"⟩ ⟨"ResponseDeskModel", "unit", "(I)I"⟩) ∈ lw_all := lw_g (lw_at lw_ms 15 rfl) rfl
theorem qs16 : (Cond.selects "ResponseDeskModel" ⟨"ResponseDeskModel", "allPunctual", "()Z"⟩ ⟨"ResponseDeskModel", "allPunctual", "()Z"⟩) ∈ lw_all := lw_g (lw_at lw_ms 16 rfl) rfl
theorem qs17 : (Cond.selects "ResponseDeskModel" ⟨"ResponseDeskModel", "punctual", "(I)Z"⟩ ⟨"ResponseDeskModel", "punctual", "(I)Z"⟩) ∈ lw_all := lw_g (lw_at lw_ms 17 rfl) rfl
theorem qs18 : (Cond.selects "ResponseDeskModel" ⟨"ResponseDeskModel", "orders", "()I"⟩ ⟨"ResponseDeskModel", "orders", "()I"⟩) ∈ lw_all := lw_g (lw_at lw_ms 18 rfl) rfl
theorem qs19 : (Cond.selects "ResponseDeskModel" ⟨"ResponseDeskModel", "spell", "(I)V"⟩ ⟨"ResponseDeskModel", "spell", "(I)V"⟩) ∈ lw_all := lw_g (lw_at lw_ms 19 rfl) rfl
theorem qs20 : (Cond.selects "ResponseDeskModel" ⟨"ResponseDeskModel", "unused", "(II)I"⟩ ⟨"ResponseDeskModel", "unused", "(II)I"⟩) ∈ lw_all := lw_g (lw_at lw_ms 20 rfl) rfl
end
section
/-! java/lang/Object -/
set_option maxRecDepth 100000
def RJ0 : String := "java/lang/Object"
abbrev cJ0_init : ByteArray := object_method_1_code
def yJ0_init : MethodName := ⟨RJ0, "<init>", "()V"⟩
theorem dJ0_init_0 : decode cJ0_init 0 = .ok (.return_, 1) := by decide +kernel
theorem q30 : (Jvm.Cond.instanceMethod ({ cls := "java/lang/Object", name := "<init>", desc := "()V" } : Jvm.MethodName)) ∈ lw_all := lw_g (lw_at lw_m1 9 rfl) rfl
theorem q31 : (Jvm.Cond.code ({ cls := "java/lang/Object", name := "<init>", desc := "()V" } : Jvm.MethodName) object_method_1_code (1 : Nat) (Option.none : Option Jvm.ClassFile.FieldType)) ∈ lw_all := lw_g (lw_at lw_m1 10 rfl) rfl
theorem q57 : (Jvm.Cond.arrayClass Jvm.ClassFile.FieldType.byte) ∈ lw_all := lw_g (lw_at lw_m1 36 rfl) rfl
set_option maxRecDepth 100000
theorem q58 : (Jvm.Cond.arrayClass Jvm.ClassFile.FieldType.int) ∈ lw_all := lw_g (lw_at lw_m1 37 rfl) rfl
theorem q196 : (Jvm.Cond.arrayClass Jvm.ClassFile.FieldType.boolean) ∈ lw_all := lw_g (lw_at lw_m1 175 rfl) rfl
theorem q21 : (Jvm.Cond.initialized "ResponseDeskLaw") ∈ lw_all := lw_g (lw_at lw_m1 0 rfl) rfl
set_option maxRecDepth 100000
theorem q24 : (Jvm.Cond.classLink "ResponseDeskLaw" (7 : Nat) "ResponseDesk") ∈ lw_all := lw_g (lw_at lw_m1 3 rfl) rfl
theorem q26 : (Jvm.Cond.methodLink "ResponseDeskLaw" (9 : Nat) ({ cls := "ResponseDesk", name := "<init>", desc := "()V" } : Jvm.MethodName)) ∈ lw_all := lw_g (lw_at lw_m1 5 rfl) rfl
theorem q59 : (Jvm.Cond.methodLink "ResponseDeskLaw" (13 : Nat) ({ cls := "ResponseDesk", name := "add", desc := "(III)I" } : Jvm.MethodName)) ∈ lw_all := lw_g (lw_at lw_m1 38 rfl) rfl
theorem q70 : (Jvm.Cond.methodLink "ResponseDeskLaw" (18 : Nat) ({ cls := "ResponseDesk", name := "remove", desc := "(I)Z" } : Jvm.MethodName)) ∈ lw_all := lw_g (lw_at lw_m1 49 rfl) rfl
theorem q78 : (Jvm.Cond.methodLink "ResponseDeskLaw" (23 : Nat) ({ cls := "ResponseDesk", name := "place", desc := "(II)Z" } : Jvm.MethodName)) ∈ lw_all := lw_g (lw_at lw_m1 57 rfl) rfl
theorem q82 : (Jvm.Cond.methodLink "ResponseDeskLaw" (28 : Nat) ({ cls := "ResponseDesk", name := "tasks", desc := "()I" } : Jvm.MethodName)) ∈ lw_all := lw_g (lw_at lw_m1 61 rfl) rfl
theorem q86 : (Jvm.Cond.methodLink "ResponseDeskLaw" (33 : Nat) ({ cls := "ResponseDesk", name := "at", desc := "(I)I" } : Jvm.MethodName)) ∈ lw_all := lw_g (lw_at lw_m1 65 rfl) rfl
theorem q90 : (Jvm.Cond.methodLink "ResponseDeskLaw" (38 : Nat) ({ cls := "ResponseDesk", name := "response", desc := "(I)I" } : Jvm.MethodName)) ∈ lw_all := lw_g (lw_at lw_m1 69 rfl) rfl
theorem q109 : (Jvm.Cond.methodLink "ResponseDeskLaw" (42 : Nat) ({ cls := "ResponseDesk", name := "good", desc := "()Z" } : Jvm.MethodName)) ∈ lw_all := lw_g (lw_at lw_m1 88 rfl) rfl
theorem q121 : (Jvm.Cond.methodLink "ResponseDeskLaw" (47 : Nat) ({ cls := "ResponseDesk", name := "inTime", desc := "()I" } : Jvm.MethodName)) ∈ lw_all := lw_g (lw_at lw_m1 100 rfl) rfl
theorem q122 : (Jvm.Cond.methodLink "ResponseDeskLaw" (51 : Nat) ({ cls := "ResponseDesk", name := "goodOrders", desc := "()I" } : Jvm.MethodName)) ∈ lw_all := lw_g (lw_at lw_m1 101 rfl) rfl
theorem q130 : (Jvm.Cond.methodLink "ResponseDeskLaw" (55 : Nat) ({ cls := "ResponseDesk", name := "arrange", desc := "()Z" } : Jvm.MethodName)) ∈ lw_all := lw_g (lw_at lw_m1 109 rfl) rfl
theorem q138 : (Jvm.Cond.methodLink "ResponseDeskLaw" (59 : Nat) ({ cls := "ResponseDesk", name := "canBeLast", desc := "()I" } : Jvm.MethodName)) ∈ lw_all := lw_g (lw_at lw_m1 117 rfl) rfl
theorem q142 : (Jvm.Cond.methodLink "ResponseDeskLaw" (63 : Nat) ({ cls := "ResponseDesk", name := "greatestCost", desc := "(I)I" } : Jvm.MethodName)) ∈ lw_all := lw_g (lw_at lw_m1 121 rfl) rfl
theorem q147 : (Jvm.Cond.methodLink "ResponseDeskLaw" (67 : Nat) ({ cls := "ResponseDesk", name := "leastPeriod", desc := "(I)I" } : Jvm.MethodName)) ∈ lw_all := lw_g (lw_at lw_m1 126 rfl) rfl
theorem q151 : (Jvm.Cond.methodLink "ResponseDeskLaw" (71 : Nat) ({ cls := "ResponseDesk", name := "idle", desc := "(I)I" } : Jvm.MethodName)) ∈ lw_all := lw_g (lw_at lw_m1 130 rfl) rfl
theorem q155 : (Jvm.Cond.methodLink "ResponseDeskLaw" (75 : Nat) ({ cls := "ResponseDesk", name := "fits", desc := "(III)Z" } : Jvm.MethodName)) ∈ lw_all := lw_g (lw_at lw_m1 134 rfl) rfl
theorem q162 : (Jvm.Cond.classLink "ResponseDeskLaw" (10 : Nat) "ResponseDeskModel") ∈ lw_all := lw_g (lw_at lw_m1 141 rfl) rfl
theorem q164 : (Jvm.Cond.methodLink "ResponseDeskLaw" (12 : Nat) ({ cls := "ResponseDeskModel", name := "<init>", desc := "()V" } : Jvm.MethodName)) ∈ lw_all := lw_g (lw_at lw_m1 143 rfl) rfl
theorem q197 : (Jvm.Cond.methodLink "ResponseDeskLaw" (17 : Nat) ({ cls := "ResponseDeskModel", name := "add", desc := "(III)I" } : Jvm.MethodName)) ∈ lw_all := lw_g (lw_at lw_m1 176 rfl) rfl
theorem q205 : (Jvm.Cond.methodLink "ResponseDeskLaw" (22 : Nat) ({ cls := "ResponseDeskModel", name := "remove", desc := "(I)Z" } : Jvm.MethodName)) ∈ lw_all := lw_g (lw_at lw_m1 184 rfl) rfl
theorem q221 : (Jvm.Cond.methodLink "ResponseDeskLaw" (27 : Nat) ({ cls := "ResponseDeskModel", name := "place", desc := "(II)Z" } : Jvm.MethodName)) ∈ lw_all := lw_g (lw_at lw_m1 200 rfl) rfl
theorem q225 : (Jvm.Cond.methodLink "ResponseDeskLaw" (32 : Nat) ({ cls := "ResponseDeskModel", name := "tasks", desc := "()I" } : Jvm.MethodName)) ∈ lw_all := lw_g (lw_at lw_m1 204 rfl) rfl
theorem q229 : (Jvm.Cond.methodLink "ResponseDeskLaw" (37 : Nat) ({ cls := "ResponseDeskModel", name := "at", desc := "(I)I" } : Jvm.MethodName)) ∈ lw_all := lw_g (lw_at lw_m1 208 rfl) rfl
theorem q233 : (Jvm.Cond.methodLink "ResponseDeskLaw" (41 : Nat) ({ cls := "ResponseDeskModel", name := "response", desc := "(I)I" } : Jvm.MethodName)) ∈ lw_all := lw_g (lw_at lw_m1 212 rfl) rfl
theorem q253 : (Jvm.Cond.methodLink "ResponseDeskLaw" (46 : Nat) ({ cls := "ResponseDeskModel", name := "good", desc := "()Z" } : Jvm.MethodName)) ∈ lw_all := lw_g (lw_at lw_m1 232 rfl) rfl
theorem q265 : (Jvm.Cond.methodLink "ResponseDeskLaw" (50 : Nat) ({ cls := "ResponseDeskModel", name := "inTime", desc := "()I" } : Jvm.MethodName)) ∈ lw_all := lw_g (lw_at lw_m2 4 rfl) rfl
theorem q269 : (Jvm.Cond.methodLink "ResponseDeskLaw" (54 : Nat) ({ cls := "ResponseDeskModel", name := "goodOrders", desc := "()I" } : Jvm.MethodName)) ∈ lw_all := lw_g (lw_at lw_m2 8 rfl) rfl
theorem q285 : (Jvm.Cond.methodLink "ResponseDeskLaw" (58 : Nat) ({ cls := "ResponseDeskModel", name := "arrange", desc := "()Z" } : Jvm.MethodName)) ∈ lw_all := lw_g (lw_at lw_m2 24 rfl) rfl
theorem q289 : (Jvm.Cond.methodLink "ResponseDeskLaw" (62 : Nat) ({ cls := "ResponseDeskModel", name := "canBeLast", desc := "()I" } : Jvm.MethodName)) ∈ lw_all := lw_g (lw_at lw_m2 28 rfl) rfl
theorem q293 : (Jvm.Cond.methodLink "ResponseDeskLaw" (66 : Nat) ({ cls := "ResponseDeskModel", name := "greatestCost", desc := "(I)I" } : Jvm.MethodName)) ∈ lw_all := lw_g (lw_at lw_m2 32 rfl) rfl
theorem q297 : (Jvm.Cond.methodLink "ResponseDeskLaw" (70 : Nat) ({ cls := "ResponseDeskModel", name := "leastPeriod", desc := "(I)I" } : Jvm.MethodName)) ∈ lw_all := lw_g (lw_at lw_m2 36 rfl) rfl
theorem q301 : (Jvm.Cond.methodLink "ResponseDeskLaw" (74 : Nat) ({ cls := "ResponseDeskModel", name := "idle", desc := "(I)I" } : Jvm.MethodName)) ∈ lw_all := lw_g (lw_at lw_m2 40 rfl) rfl
theorem q305 : (Jvm.Cond.methodLink "ResponseDeskLaw" (79 : Nat) ({ cls := "ResponseDeskModel", name := "fits", desc := "(III)Z" } : Jvm.MethodName)) ∈ lw_all := lw_g (lw_at lw_m2 44 rfl) rfl
/-! ResponseDesk -/
set_option maxRecDepth 100000
def RX0 : String := "ResponseDesk"
def TX0 : u_T := fun k => match k with
  | 0 => ("ResponseDesk", "present", "I", false)
  | 1 => ("ResponseDesk", "costs", "[B", true)
  | 2 => ("ResponseDesk", "limits", "[B", true)
  | 3 => ("ResponseDesk", "periods", "[B", true)
  | 4 => ("ResponseDesk", "order", "[B", true)
  | 5 => ("ResponseDesk", "count", "I", false)
  | 6 => ("ResponseDesk", "below", "[I", true)
  | _ => ("ResponseDesk", "among", "[I", true)
def tyX0 : Nat → FieldType := fun k => match k with
  | 0 => .int
  | 1 => .array .byte
  | 2 => .array .byte
  | 3 => .array .byte
  | 4 => .array .byte
  | 5 => .int
  | 6 => .array .int
  | _ => .array .int
abbrev wsX00 : List Cond := u_ws RX0 TX0 8
theorem nmX0 : ∀ a, a < 8 → ∀ b, b < 8 → a ≠ b → (TX0 a).2.1 ≠ (TX0 b).2.1 := by decide +kernel
theorem tyX0_ok : ∀ k, k < 8 → parseFieldDescriptor (TX0 k).2.2.1 = some (tyX0 k) := by decide +kernel
abbrev cX0_init : ByteArray := prog_1_method_1_code
def yX0_init : MethodName := ⟨RX0, "<init>", "()V"⟩
theorem dX0_init_0 : decode cX0_init 0 = .ok (.aload_n 0, 1) := by decide +kernel
theorem dX0_init_1 : decode cX0_init 1 = .ok (.invokespecial 1, 3) := by decide +kernel
theorem dX0_init_4 : decode cX0_init 4 = .ok (.aload_n 0, 1) := by decide +kernel
theorem dX0_init_5 : decode cX0_init 5 = .ok (.iconst 5, 1) := by decide +kernel
theorem dX0_init_6 : decode cX0_init 6 = .ok (.newarray .byte, 2) := by decide +kernel
theorem dX0_init_8 : decode cX0_init 8 = .ok (.putfield 7, 3) := by decide +kernel
theorem dX0_init_11 : decode cX0_init 11 = .ok (.aload_n 0, 1) := by decide +kernel
theorem dX0_init_12 : decode cX0_init 12 = .ok (.iconst 5, 1) := by decide +kernel
theorem dX0_init_13 : decode cX0_init 13 = .ok (.newarray .byte, 2) := by decide +kernel
theorem dX0_init_15 : decode cX0_init 15 = .ok (.putfield 13, 3) := by decide +kernel
theorem dX0_init_18 : decode cX0_init 18 = .ok (.aload_n 0, 1) := by decide +kernel
theorem dX0_init_19 : decode cX0_init 19 = .ok (.iconst 5, 1) := by decide +kernel
theorem dX0_init_20 : decode cX0_init 20 = .ok (.newarray .byte, 2) := by decide +kernel
theorem dX0_init_22 : decode cX0_init 22 = .ok (.putfield 16, 3) := by decide +kernel
theorem dX0_init_25 : decode cX0_init 25 = .ok (.aload_n 0, 1) := by decide +kernel
theorem dX0_init_26 : decode cX0_init 26 = .ok (.iconst 5, 1) := by decide +kernel
theorem dX0_init_27 : decode cX0_init 27 = .ok (.newarray .byte, 2) := by decide +kernel
theorem dX0_init_29 : decode cX0_init 29 = .ok (.putfield 19, 3) := by decide +kernel
theorem dX0_init_32 : decode cX0_init 32 = .ok (.aload_n 0, 1) := by decide +kernel
theorem dX0_init_33 : decode cX0_init 33 = .ok (.bipush 32, 2) := by decide +kernel
theorem dX0_init_35 : decode cX0_init 35 = .ok (.newarray .int, 2) := by decide +kernel
theorem dX0_init_37 : decode cX0_init 37 = .ok (.putfield 22, 3) := by decide +kernel
theorem dX0_init_40 : decode cX0_init 40 = .ok (.aload_n 0, 1) := by decide +kernel
theorem dX0_init_41 : decode cX0_init 41 = .ok (.bipush 32, 2) := by decide +kernel
theorem dX0_init_43 : decode cX0_init 43 = .ok (.newarray .int, 2) := by decide +kernel
theorem dX0_init_45 : decode cX0_init 45 = .ok (.putfield 26, 3) := by decide +kernel
theorem dX0_init_48 : decode cX0_init 48 = .ok (.return_, 1) := by decide +kernel
abbrev cX0_add : ByteArray := prog_1_method_5_code
def yX0_add : MethodName := ⟨RX0, "add", "(III)I"⟩
theorem dX0_add_0 : decode cX0_add 0 = .ok (.iload_n 1, 1) := by decide +kernel
theorem dX0_add_1 : decode cX0_add 1 = .ok (.iload_n 2, 1) := by decide +kernel
theorem dX0_add_2 : decode cX0_add 2 = .ok (.iload_n 3, 1) := by decide +kernel
theorem dX0_add_3 : decode cX0_add 3 = .ok (.invokestatic 33, 3) := by decide +kernel
theorem dX0_add_6 : decode cX0_add 6 = .ok (.ifCond .ne 5, 3) := by decide +kernel
theorem dX0_add_9 : decode cX0_add 9 = .ok (.iconst (-1), 1) := by decide +kernel
theorem dX0_add_10 : decode cX0_add 10 = .ok (.ireturn, 1) := by decide +kernel
theorem dX0_add_11 : decode cX0_add 11 = .ok (.iconst 0, 1) := by decide +kernel
theorem dX0_add_12 : decode cX0_add 12 = .ok (.istore 4, 2) := by decide +kernel
theorem dX0_add_14 : decode cX0_add 14 = .ok (.iload 4, 2) := by decide +kernel
theorem dX0_add_16 : decode cX0_add 16 = .ok (.iconst 5, 1) := by decide +kernel
theorem dX0_add_17 : decode cX0_add 17 = .ok (.if_icmp .ge 83, 3) := by decide +kernel
theorem dX0_add_20 : decode cX0_add 20 = .ok (.aload_n 0, 1) := by decide +kernel
theorem dX0_add_21 : decode cX0_add 21 = .ok (.iload 4, 2) := by decide +kernel
theorem dX0_add_23 : decode cX0_add 23 = .ok (.invokevirtual 37, 3) := by decide +kernel
theorem dX0_add_26 : decode cX0_add 26 = .ok (.ifCond .ne 68, 3) := by decide +kernel
theorem dX0_add_29 : decode cX0_add 29 = .ok (.aload_n 0, 1) := by decide +kernel
theorem dX0_add_30 : decode cX0_add 30 = .ok (.dup, 1) := by decide +kernel
theorem dX0_add_31 : decode cX0_add 31 = .ok (.getfield 29, 3) := by decide +kernel
theorem dX0_add_34 : decode cX0_add 34 = .ok (.iconst 1, 1) := by decide +kernel
theorem dX0_add_35 : decode cX0_add 35 = .ok (.iload 4, 2) := by decide +kernel
theorem dX0_add_37 : decode cX0_add 37 = .ok (.ishl, 1) := by decide +kernel
theorem dX0_add_38 : decode cX0_add 38 = .ok (.ior, 1) := by decide +kernel
theorem dX0_add_39 : decode cX0_add 39 = .ok (.putfield 29, 3) := by decide +kernel
theorem dX0_add_42 : decode cX0_add 42 = .ok (.aload_n 0, 1) := by decide +kernel
theorem dX0_add_43 : decode cX0_add 43 = .ok (.getfield 7, 3) := by decide +kernel
theorem dX0_add_46 : decode cX0_add 46 = .ok (.iload 4, 2) := by decide +kernel
theorem dX0_add_48 : decode cX0_add 48 = .ok (.iload_n 1, 1) := by decide +kernel
theorem dX0_add_49 : decode cX0_add 49 = .ok (.i2b, 1) := by decide +kernel
theorem dX0_add_50 : decode cX0_add 50 = .ok (.bastore, 1) := by decide +kernel
theorem dX0_add_51 : decode cX0_add 51 = .ok (.aload_n 0, 1) := by decide +kernel
theorem dX0_add_52 : decode cX0_add 52 = .ok (.getfield 13, 3) := by decide +kernel
theorem dX0_add_55 : decode cX0_add 55 = .ok (.iload 4, 2) := by decide +kernel
theorem dX0_add_57 : decode cX0_add 57 = .ok (.iload_n 2, 1) := by decide +kernel
theorem dX0_add_58 : decode cX0_add 58 = .ok (.i2b, 1) := by decide +kernel
theorem dX0_add_59 : decode cX0_add 59 = .ok (.bastore, 1) := by decide +kernel
theorem dX0_add_60 : decode cX0_add 60 = .ok (.aload_n 0, 1) := by decide +kernel
theorem dX0_add_61 : decode cX0_add 61 = .ok (.getfield 16, 3) := by decide +kernel
theorem dX0_add_64 : decode cX0_add 64 = .ok (.iload 4, 2) := by decide +kernel
theorem dX0_add_66 : decode cX0_add 66 = .ok (.iload_n 3, 1) := by decide +kernel
theorem dX0_add_67 : decode cX0_add 67 = .ok (.i2b, 1) := by decide +kernel
theorem dX0_add_68 : decode cX0_add 68 = .ok (.bastore, 1) := by decide +kernel
theorem dX0_add_69 : decode cX0_add 69 = .ok (.aload_n 0, 1) := by decide +kernel
theorem dX0_add_70 : decode cX0_add 70 = .ok (.getfield 19, 3) := by decide +kernel
theorem dX0_add_73 : decode cX0_add 73 = .ok (.aload_n 0, 1) := by decide +kernel
theorem dX0_add_74 : decode cX0_add 74 = .ok (.getfield 41, 3) := by decide +kernel
theorem dX0_add_77 : decode cX0_add 77 = .ok (.iload 4, 2) := by decide +kernel
theorem dX0_add_79 : decode cX0_add 79 = .ok (.i2b, 1) := by decide +kernel
theorem dX0_add_80 : decode cX0_add 80 = .ok (.bastore, 1) := by decide +kernel
theorem dX0_add_81 : decode cX0_add 81 = .ok (.aload_n 0, 1) := by decide +kernel
theorem dX0_add_82 : decode cX0_add 82 = .ok (.dup, 1) := by decide +kernel
theorem dX0_add_83 : decode cX0_add 83 = .ok (.getfield 41, 3) := by decide +kernel
theorem dX0_add_86 : decode cX0_add 86 = .ok (.iconst 1, 1) := by decide +kernel
theorem dX0_add_87 : decode cX0_add 87 = .ok (.iadd, 1) := by decide +kernel
theorem dX0_add_88 : decode cX0_add 88 = .ok (.putfield 41, 3) := by decide +kernel
theorem dX0_add_91 : decode cX0_add 91 = .ok (.iload 4, 2) := by decide +kernel
theorem dX0_add_93 : decode cX0_add 93 = .ok (.ireturn, 1) := by decide +kernel
theorem dX0_add_94 : decode cX0_add 94 = .ok (.iinc 4 1, 3) := by decide +kernel
theorem dX0_add_97 : decode cX0_add 97 = .ok (.goto (-83), 3) := by decide +kernel
theorem dX0_add_100 : decode cX0_add 100 = .ok (.bipush (-2), 2) := by decide +kernel
theorem dX0_add_102 : decode cX0_add 102 = .ok (.ireturn, 1) := by decide +kernel
abbrev cX0_numbersOk : ByteArray := prog_1_method_4_code
def yX0_numbersOk : MethodName := ⟨RX0, "numbersOk", "(III)Z"⟩
theorem dX0_numbersOk_0 : decode cX0_numbersOk 0 = .ok (.iload_n 0, 1) := by decide +kernel
theorem dX0_numbersOk_1 : decode cX0_numbersOk 1 = .ok (.iconst 1, 1) := by decide +kernel
theorem dX0_numbersOk_2 : decode cX0_numbersOk 2 = .ok (.if_icmp .lt 23, 3) := by decide +kernel
theorem dX0_numbersOk_5 : decode cX0_numbersOk 5 = .ok (.iload_n 0, 1) := by decide +kernel
theorem dX0_numbersOk_6 : decode cX0_numbersOk 6 = .ok (.iload_n 1, 1) := by decide +kernel
theorem dX0_numbersOk_7 : decode cX0_numbersOk 7 = .ok (.if_icmp .gt 18, 3) := by decide +kernel
theorem dX0_numbersOk_10 : decode cX0_numbersOk 10 = .ok (.iload_n 1, 1) := by decide +kernel
theorem dX0_numbersOk_11 : decode cX0_numbersOk 11 = .ok (.iload_n 2, 1) := by decide +kernel
theorem dX0_numbersOk_12 : decode cX0_numbersOk 12 = .ok (.if_icmp .gt 13, 3) := by decide +kernel
theorem dX0_numbersOk_15 : decode cX0_numbersOk 15 = .ok (.iload_n 2, 1) := by decide +kernel
theorem dX0_numbersOk_16 : decode cX0_numbersOk 16 = .ok (.bipush 15, 2) := by decide +kernel
theorem dX0_numbersOk_18 : decode cX0_numbersOk 18 = .ok (.if_icmp .gt 7, 3) := by decide +kernel
theorem dX0_numbersOk_21 : decode cX0_numbersOk 21 = .ok (.iconst 1, 1) := by decide +kernel
theorem dX0_numbersOk_22 : decode cX0_numbersOk 22 = .ok (.goto 4, 3) := by decide +kernel
theorem dX0_numbersOk_25 : decode cX0_numbersOk 25 = .ok (.iconst 0, 1) := by decide +kernel
theorem dX0_numbersOk_26 : decode cX0_numbersOk 26 = .ok (.ireturn, 1) := by decide +kernel
abbrev cX0_has : ByteArray := prog_1_method_2_code
def yX0_has : MethodName := ⟨RX0, "has", "(I)Z"⟩
theorem dX0_has_0 : decode cX0_has 0 = .ok (.iload_n 1, 1) := by decide +kernel
theorem dX0_has_1 : decode cX0_has 1 = .ok (.ifCond .lt 23, 3) := by decide +kernel
theorem dX0_has_4 : decode cX0_has 4 = .ok (.iload_n 1, 1) := by decide +kernel
theorem dX0_has_5 : decode cX0_has 5 = .ok (.iconst 5, 1) := by decide +kernel
theorem dX0_has_6 : decode cX0_has 6 = .ok (.if_icmp .ge 18, 3) := by decide +kernel
theorem dX0_has_9 : decode cX0_has 9 = .ok (.aload_n 0, 1) := by decide +kernel
theorem dX0_has_10 : decode cX0_has 10 = .ok (.getfield 29, 3) := by decide +kernel
theorem dX0_has_13 : decode cX0_has 13 = .ok (.iload_n 1, 1) := by decide +kernel
theorem dX0_has_14 : decode cX0_has 14 = .ok (.ishr, 1) := by decide +kernel
theorem dX0_has_15 : decode cX0_has 15 = .ok (.iconst 1, 1) := by decide +kernel
theorem dX0_has_16 : decode cX0_has 16 = .ok (.iand, 1) := by decide +kernel
theorem dX0_has_17 : decode cX0_has 17 = .ok (.ifCond .eq 7, 3) := by decide +kernel
theorem dX0_has_20 : decode cX0_has 20 = .ok (.iconst 1, 1) := by decide +kernel
theorem dX0_has_21 : decode cX0_has 21 = .ok (.goto 4, 3) := by decide +kernel
theorem dX0_has_24 : decode cX0_has 24 = .ok (.iconst 0, 1) := by decide +kernel
theorem dX0_has_25 : decode cX0_has 25 = .ok (.ireturn, 1) := by decide +kernel
abbrev cX0_remove : ByteArray := prog_1_method_7_code
def yX0_remove : MethodName := ⟨RX0, "remove", "(I)Z"⟩
theorem dX0_remove_0 : decode cX0_remove 0 = .ok (.aload_n 0, 1) := by decide +kernel
theorem dX0_remove_1 : decode cX0_remove 1 = .ok (.iload_n 1, 1) := by decide +kernel
theorem dX0_remove_2 : decode cX0_remove 2 = .ok (.invokevirtual 37, 3) := by decide +kernel
theorem dX0_remove_5 : decode cX0_remove 5 = .ok (.ifCond .ne 5, 3) := by decide +kernel
theorem dX0_remove_8 : decode cX0_remove 8 = .ok (.iconst 0, 1) := by decide +kernel
theorem dX0_remove_9 : decode cX0_remove 9 = .ok (.ireturn, 1) := by decide +kernel
theorem dX0_remove_10 : decode cX0_remove 10 = .ok (.aload_n 0, 1) := by decide +kernel
theorem dX0_remove_11 : decode cX0_remove 11 = .ok (.iload_n 1, 1) := by decide +kernel
theorem dX0_remove_12 : decode cX0_remove 12 = .ok (.invokevirtual 44, 3) := by decide +kernel
theorem dX0_remove_15 : decode cX0_remove 15 = .ok (.istore_n 2, 1) := by decide +kernel
theorem dX0_remove_16 : decode cX0_remove 16 = .ok (.aload_n 0, 1) := by decide +kernel
theorem dX0_remove_17 : decode cX0_remove 17 = .ok (.dup, 1) := by decide +kernel
theorem dX0_remove_18 : decode cX0_remove 18 = .ok (.getfield 41, 3) := by decide +kernel
theorem dX0_remove_21 : decode cX0_remove 21 = .ok (.iconst 1, 1) := by decide +kernel
theorem dX0_remove_22 : decode cX0_remove 22 = .ok (.isub, 1) := by decide +kernel
theorem dX0_remove_23 : decode cX0_remove 23 = .ok (.putfield 41, 3) := by decide +kernel
theorem dX0_remove_26 : decode cX0_remove 26 = .ok (.iload_n 2, 1) := by decide +kernel
theorem dX0_remove_27 : decode cX0_remove 27 = .ok (.istore_n 3, 1) := by decide +kernel
theorem dX0_remove_28 : decode cX0_remove 28 = .ok (.iload_n 3, 1) := by decide +kernel
theorem dX0_remove_29 : decode cX0_remove 29 = .ok (.aload_n 0, 1) := by decide +kernel
theorem dX0_remove_30 : decode cX0_remove 30 = .ok (.getfield 41, 3) := by decide +kernel
theorem dX0_remove_33 : decode cX0_remove 33 = .ok (.if_icmp .ge 23, 3) := by decide +kernel
theorem dX0_remove_36 : decode cX0_remove 36 = .ok (.aload_n 0, 1) := by decide +kernel
theorem dX0_remove_37 : decode cX0_remove 37 = .ok (.getfield 19, 3) := by decide +kernel
theorem dX0_remove_40 : decode cX0_remove 40 = .ok (.iload_n 3, 1) := by decide +kernel
theorem dX0_remove_41 : decode cX0_remove 41 = .ok (.aload_n 0, 1) := by decide +kernel
theorem dX0_remove_42 : decode cX0_remove 42 = .ok (.getfield 19, 3) := by decide +kernel
theorem dX0_remove_45 : decode cX0_remove 45 = .ok (.iload_n 3, 1) := by decide +kernel
theorem dX0_remove_46 : decode cX0_remove 46 = .ok (.iconst 1, 1) := by decide +kernel
theorem dX0_remove_47 : decode cX0_remove 47 = .ok (.iadd, 1) := by decide +kernel
theorem dX0_remove_48 : decode cX0_remove 48 = .ok (.baload, 1) := by decide +kernel
theorem dX0_remove_49 : decode cX0_remove 49 = .ok (.bastore, 1) := by decide +kernel
theorem dX0_remove_50 : decode cX0_remove 50 = .ok (.iinc 3 1, 3) := by decide +kernel
theorem dX0_remove_53 : decode cX0_remove 53 = .ok (.goto (-25), 3) := by decide +kernel
theorem dX0_remove_56 : decode cX0_remove 56 = .ok (.aload_n 0, 1) := by decide +kernel
theorem dX0_remove_57 : decode cX0_remove 57 = .ok (.dup, 1) := by decide +kernel
theorem dX0_remove_58 : decode cX0_remove 58 = .ok (.getfield 29, 3) := by decide +kernel
theorem dX0_remove_61 : decode cX0_remove 61 = .ok (.iconst 1, 1) := by decide +kernel
theorem dX0_remove_62 : decode cX0_remove 62 = .ok (.iload_n 1, 1) := by decide +kernel
theorem dX0_remove_63 : decode cX0_remove 63 = .ok (.ishl, 1) := by decide +kernel
theorem dX0_remove_64 : decode cX0_remove 64 = .ok (.iconst (-1), 1) := by decide +kernel
theorem dX0_remove_65 : decode cX0_remove 65 = .ok (.ixor, 1) := by decide +kernel
theorem dX0_remove_66 : decode cX0_remove 66 = .ok (.iand, 1) := by decide +kernel
theorem dX0_remove_67 : decode cX0_remove 67 = .ok (.putfield 29, 3) := by decide +kernel
theorem dX0_remove_70 : decode cX0_remove 70 = .ok (.iconst 1, 1) := by decide +kernel
theorem dX0_remove_71 : decode cX0_remove 71 = .ok (.ireturn, 1) := by decide +kernel
abbrev cX0_placeOf : ByteArray := prog_1_method_6_code
def yX0_placeOf : MethodName := ⟨RX0, "placeOf", "(I)I"⟩
theorem dX0_placeOf_0 : decode cX0_placeOf 0 = .ok (.iconst 0, 1) := by decide +kernel
theorem dX0_placeOf_1 : decode cX0_placeOf 1 = .ok (.istore_n 2, 1) := by decide +kernel
theorem dX0_placeOf_2 : decode cX0_placeOf 2 = .ok (.iload_n 2, 1) := by decide +kernel
theorem dX0_placeOf_3 : decode cX0_placeOf 3 = .ok (.aload_n 0, 1) := by decide +kernel
theorem dX0_placeOf_4 : decode cX0_placeOf 4 = .ok (.getfield 41, 3) := by decide +kernel
theorem dX0_placeOf_7 : decode cX0_placeOf 7 = .ok (.iconst 1, 1) := by decide +kernel
theorem dX0_placeOf_8 : decode cX0_placeOf 8 = .ok (.isub, 1) := by decide +kernel
theorem dX0_placeOf_9 : decode cX0_placeOf 9 = .ok (.if_icmp .ge 19, 3) := by decide +kernel
theorem dX0_placeOf_12 : decode cX0_placeOf 12 = .ok (.aload_n 0, 1) := by decide +kernel
theorem dX0_placeOf_13 : decode cX0_placeOf 13 = .ok (.getfield 19, 3) := by decide +kernel
theorem dX0_placeOf_16 : decode cX0_placeOf 16 = .ok (.iload_n 2, 1) := by decide +kernel
theorem dX0_placeOf_17 : decode cX0_placeOf 17 = .ok (.baload, 1) := by decide +kernel
theorem dX0_placeOf_18 : decode cX0_placeOf 18 = .ok (.iload_n 1, 1) := by decide +kernel
theorem dX0_placeOf_19 : decode cX0_placeOf 19 = .ok (.if_icmp .eq 9, 3) := by decide +kernel
theorem dX0_placeOf_22 : decode cX0_placeOf 22 = .ok (.iinc 2 1, 3) := by decide +kernel
theorem dX0_placeOf_25 : decode cX0_placeOf 25 = .ok (.goto (-23), 3) := by decide +kernel
theorem dX0_placeOf_28 : decode cX0_placeOf 28 = .ok (.iload_n 2, 1) := by decide +kernel
theorem dX0_placeOf_29 : decode cX0_placeOf 29 = .ok (.ireturn, 1) := by decide +kernel
abbrev cX0_place : ByteArray := prog_1_method_8_code
def yX0_place : MethodName := ⟨RX0, "place", "(II)Z"⟩
theorem dX0_place_0 : decode cX0_place 0 = .ok (.aload_n 0, 1) := by decide +kernel
theorem dX0_place_1 : decode cX0_place 1 = .ok (.iload_n 1, 1) := by decide +kernel
theorem dX0_place_2 : decode cX0_place 2 = .ok (.invokevirtual 37, 3) := by decide +kernel
theorem dX0_place_5 : decode cX0_place 5 = .ok (.ifCond .eq 15, 3) := by decide +kernel
theorem dX0_place_8 : decode cX0_place 8 = .ok (.iload_n 2, 1) := by decide +kernel
theorem dX0_place_9 : decode cX0_place 9 = .ok (.ifCond .lt 11, 3) := by decide +kernel
theorem dX0_place_12 : decode cX0_place 12 = .ok (.iload_n 2, 1) := by decide +kernel
theorem dX0_place_13 : decode cX0_place 13 = .ok (.aload_n 0, 1) := by decide +kernel
theorem dX0_place_14 : decode cX0_place 14 = .ok (.getfield 41, 3) := by decide +kernel
theorem dX0_place_17 : decode cX0_place 17 = .ok (.if_icmp .lt 5, 3) := by decide +kernel
theorem dX0_place_20 : decode cX0_place 20 = .ok (.iconst 0, 1) := by decide +kernel
theorem dX0_place_21 : decode cX0_place 21 = .ok (.ireturn, 1) := by decide +kernel
theorem dX0_place_22 : decode cX0_place 22 = .ok (.aload_n 0, 1) := by decide +kernel
theorem dX0_place_23 : decode cX0_place 23 = .ok (.iload_n 1, 1) := by decide +kernel
theorem dX0_place_24 : decode cX0_place 24 = .ok (.invokevirtual 44, 3) := by decide +kernel
theorem dX0_place_27 : decode cX0_place 27 = .ok (.istore_n 3, 1) := by decide +kernel
theorem dX0_place_28 : decode cX0_place 28 = .ok (.iload_n 3, 1) := by decide +kernel
theorem dX0_place_29 : decode cX0_place 29 = .ok (.iload_n 2, 1) := by decide +kernel
theorem dX0_place_30 : decode cX0_place 30 = .ok (.if_icmp .ge 23, 3) := by decide +kernel
theorem dX0_place_33 : decode cX0_place 33 = .ok (.aload_n 0, 1) := by decide +kernel
theorem dX0_place_34 : decode cX0_place 34 = .ok (.getfield 19, 3) := by decide +kernel
theorem dX0_place_37 : decode cX0_place 37 = .ok (.iload_n 3, 1) := by decide +kernel
theorem dX0_place_38 : decode cX0_place 38 = .ok (.aload_n 0, 1) := by decide +kernel
theorem dX0_place_39 : decode cX0_place 39 = .ok (.getfield 19, 3) := by decide +kernel
theorem dX0_place_42 : decode cX0_place 42 = .ok (.iload_n 3, 1) := by decide +kernel
theorem dX0_place_43 : decode cX0_place 43 = .ok (.iconst 1, 1) := by decide +kernel
theorem dX0_place_44 : decode cX0_place 44 = .ok (.iadd, 1) := by decide +kernel
theorem dX0_place_45 : decode cX0_place 45 = .ok (.baload, 1) := by decide +kernel
theorem dX0_place_46 : decode cX0_place 46 = .ok (.bastore, 1) := by decide +kernel
theorem dX0_place_47 : decode cX0_place 47 = .ok (.iinc 3 1, 3) := by decide +kernel
theorem dX0_place_50 : decode cX0_place 50 = .ok (.goto (-22), 3) := by decide +kernel
theorem dX0_place_53 : decode cX0_place 53 = .ok (.iload_n 3, 1) := by decide +kernel
theorem dX0_place_54 : decode cX0_place 54 = .ok (.iload_n 2, 1) := by decide +kernel
theorem dX0_place_55 : decode cX0_place 55 = .ok (.if_icmp .le 23, 3) := by decide +kernel
theorem dX0_place_58 : decode cX0_place 58 = .ok (.aload_n 0, 1) := by decide +kernel
theorem dX0_place_59 : decode cX0_place 59 = .ok (.getfield 19, 3) := by decide +kernel
theorem dX0_place_62 : decode cX0_place 62 = .ok (.iload_n 3, 1) := by decide +kernel
theorem dX0_place_63 : decode cX0_place 63 = .ok (.aload_n 0, 1) := by decide +kernel
theorem dX0_place_64 : decode cX0_place 64 = .ok (.getfield 19, 3) := by decide +kernel
theorem dX0_place_67 : decode cX0_place 67 = .ok (.iload_n 3, 1) := by decide +kernel
theorem dX0_place_68 : decode cX0_place 68 = .ok (.iconst 1, 1) := by decide +kernel
theorem dX0_place_69 : decode cX0_place 69 = .ok (.isub, 1) := by decide +kernel
theorem dX0_place_70 : decode cX0_place 70 = .ok (.baload, 1) := by decide +kernel
theorem dX0_place_71 : decode cX0_place 71 = .ok (.bastore, 1) := by decide +kernel
theorem dX0_place_72 : decode cX0_place 72 = .ok (.iinc 3 (-1), 3) := by decide +kernel
theorem dX0_place_75 : decode cX0_place 75 = .ok (.goto (-22), 3) := by decide +kernel
theorem dX0_place_78 : decode cX0_place 78 = .ok (.aload_n 0, 1) := by decide +kernel
theorem dX0_place_79 : decode cX0_place 79 = .ok (.getfield 19, 3) := by decide +kernel
theorem dX0_place_82 : decode cX0_place 82 = .ok (.iload_n 2, 1) := by decide +kernel
theorem dX0_place_83 : decode cX0_place 83 = .ok (.iload_n 1, 1) := by decide +kernel
theorem dX0_place_84 : decode cX0_place 84 = .ok (.i2b, 1) := by decide +kernel
theorem dX0_place_85 : decode cX0_place 85 = .ok (.bastore, 1) := by decide +kernel
theorem dX0_place_86 : decode cX0_place 86 = .ok (.iconst 1, 1) := by decide +kernel
theorem dX0_place_87 : decode cX0_place 87 = .ok (.ireturn, 1) := by decide +kernel
abbrev cX0_tasks : ByteArray := prog_1_method_9_code
def yX0_tasks : MethodName := ⟨RX0, "tasks", "()I"⟩
theorem dX0_tasks_0 : decode cX0_tasks 0 = .ok (.aload_n 0, 1) := by decide +kernel
theorem dX0_tasks_1 : decode cX0_tasks 1 = .ok (.getfield 29, 3) := by decide +kernel
theorem dX0_tasks_4 : decode cX0_tasks 4 = .ok (.ireturn, 1) := by decide +kernel
abbrev cX0_at : ByteArray := prog_1_method_10_code
def yX0_at : MethodName := ⟨RX0, "at", "(I)I"⟩
theorem dX0_at_0 : decode cX0_at 0 = .ok (.iload_n 1, 1) := by decide +kernel
theorem dX0_at_1 : decode cX0_at 1 = .ok (.ifCond .lt 11, 3) := by decide +kernel
theorem dX0_at_4 : decode cX0_at 4 = .ok (.iload_n 1, 1) := by decide +kernel
theorem dX0_at_5 : decode cX0_at 5 = .ok (.aload_n 0, 1) := by decide +kernel
theorem dX0_at_6 : decode cX0_at 6 = .ok (.getfield 41, 3) := by decide +kernel
theorem dX0_at_9 : decode cX0_at 9 = .ok (.if_icmp .lt 7, 3) := by decide +kernel
theorem dX0_at_12 : decode cX0_at 12 = .ok (.iconst (-1), 1) := by decide +kernel
theorem dX0_at_13 : decode cX0_at 13 = .ok (.goto 9, 3) := by decide +kernel
theorem dX0_at_16 : decode cX0_at 16 = .ok (.aload_n 0, 1) := by decide +kernel
theorem dX0_at_17 : decode cX0_at 17 = .ok (.getfield 19, 3) := by decide +kernel
theorem dX0_at_20 : decode cX0_at 20 = .ok (.iload_n 1, 1) := by decide +kernel
theorem dX0_at_21 : decode cX0_at 21 = .ok (.baload, 1) := by decide +kernel
theorem dX0_at_22 : decode cX0_at 22 = .ok (.ireturn, 1) := by decide +kernel
abbrev cX0_response : ByteArray := prog_1_method_15_code
def yX0_response : MethodName := ⟨RX0, "response", "(I)I"⟩
theorem dX0_response_0 : decode cX0_response 0 = .ok (.aload_n 0, 1) := by decide +kernel
theorem dX0_response_1 : decode cX0_response 1 = .ok (.iload_n 1, 1) := by decide +kernel
theorem dX0_response_2 : decode cX0_response 2 = .ok (.invokevirtual 37, 3) := by decide +kernel
theorem dX0_response_5 : decode cX0_response 5 = .ok (.ifCond .ne 5, 3) := by decide +kernel
theorem dX0_response_8 : decode cX0_response 8 = .ok (.iconst (-1), 1) := by decide +kernel
theorem dX0_response_9 : decode cX0_response 9 = .ok (.ireturn, 1) := by decide +kernel
theorem dX0_response_10 : decode cX0_response 10 = .ok (.aload_n 0, 1) := by decide +kernel
theorem dX0_response_11 : decode cX0_response 11 = .ok (.iload_n 1, 1) := by decide +kernel
theorem dX0_response_12 : decode cX0_response 12 = .ok (.invokevirtual 59, 3) := by decide +kernel
theorem dX0_response_15 : decode cX0_response 15 = .ok (.istore_n 2, 1) := by decide +kernel
theorem dX0_response_16 : decode cX0_response 16 = .ok (.aload_n 0, 1) := by decide +kernel
theorem dX0_response_17 : decode cX0_response 17 = .ok (.iload_n 1, 1) := by decide +kernel
theorem dX0_response_18 : decode cX0_response 18 = .ok (.iload_n 2, 1) := by decide +kernel
theorem dX0_response_19 : decode cX0_response 19 = .ok (.invokevirtual 56, 3) := by decide +kernel
theorem dX0_response_22 : decode cX0_response 22 = .ok (.ireturn, 1) := by decide +kernel
abbrev cX0_moreUrgent : ByteArray := prog_1_method_14_code
def yX0_moreUrgent : MethodName := ⟨RX0, "moreUrgent", "(I)I"⟩
theorem dX0_moreUrgent_0 : decode cX0_moreUrgent 0 = .ok (.iconst 0, 1) := by decide +kernel
theorem dX0_moreUrgent_1 : decode cX0_moreUrgent 1 = .ok (.istore_n 2, 1) := by decide +kernel
theorem dX0_moreUrgent_2 : decode cX0_moreUrgent 2 = .ok (.aload_n 0, 1) := by decide +kernel
theorem dX0_moreUrgent_3 : decode cX0_moreUrgent 3 = .ok (.iload_n 1, 1) := by decide +kernel
theorem dX0_moreUrgent_4 : decode cX0_moreUrgent 4 = .ok (.invokevirtual 44, 3) := by decide +kernel
theorem dX0_moreUrgent_7 : decode cX0_moreUrgent 7 = .ok (.istore_n 3, 1) := by decide +kernel
theorem dX0_moreUrgent_8 : decode cX0_moreUrgent 8 = .ok (.iconst 0, 1) := by decide +kernel
theorem dX0_moreUrgent_9 : decode cX0_moreUrgent 9 = .ok (.istore 4, 2) := by decide +kernel
theorem dX0_moreUrgent_11 : decode cX0_moreUrgent 11 = .ok (.iload 4, 2) := by decide +kernel
theorem dX0_moreUrgent_13 : decode cX0_moreUrgent 13 = .ok (.iload_n 3, 1) := by decide +kernel
theorem dX0_moreUrgent_14 : decode cX0_moreUrgent 14 = .ok (.if_icmp .ge 21, 3) := by decide +kernel
theorem dX0_moreUrgent_17 : decode cX0_moreUrgent 17 = .ok (.iload_n 2, 1) := by decide +kernel
theorem dX0_moreUrgent_18 : decode cX0_moreUrgent 18 = .ok (.iconst 1, 1) := by decide +kernel
theorem dX0_moreUrgent_19 : decode cX0_moreUrgent 19 = .ok (.aload_n 0, 1) := by decide +kernel
theorem dX0_moreUrgent_20 : decode cX0_moreUrgent 20 = .ok (.getfield 19, 3) := by decide +kernel
theorem dX0_moreUrgent_23 : decode cX0_moreUrgent 23 = .ok (.iload 4, 2) := by decide +kernel
theorem dX0_moreUrgent_25 : decode cX0_moreUrgent 25 = .ok (.baload, 1) := by decide +kernel
theorem dX0_moreUrgent_26 : decode cX0_moreUrgent 26 = .ok (.ishl, 1) := by decide +kernel
theorem dX0_moreUrgent_27 : decode cX0_moreUrgent 27 = .ok (.ior, 1) := by decide +kernel
theorem dX0_moreUrgent_28 : decode cX0_moreUrgent 28 = .ok (.istore_n 2, 1) := by decide +kernel
theorem dX0_moreUrgent_29 : decode cX0_moreUrgent 29 = .ok (.iinc 4 1, 3) := by decide +kernel
theorem dX0_moreUrgent_32 : decode cX0_moreUrgent 32 = .ok (.goto (-21), 3) := by decide +kernel
theorem dX0_moreUrgent_35 : decode cX0_moreUrgent 35 = .ok (.iload_n 2, 1) := by decide +kernel
theorem dX0_moreUrgent_36 : decode cX0_moreUrgent 36 = .ok (.ireturn, 1) := by decide +kernel
abbrev cX0_responseUnder : ByteArray := prog_1_method_12_code
def yX0_responseUnder : MethodName := ⟨RX0, "responseUnder", "(II)I"⟩
theorem dX0_responseUnder_0 : decode cX0_responseUnder 0 = .ok (.aload_n 0, 1) := by decide +kernel
theorem dX0_responseUnder_1 : decode cX0_responseUnder 1 = .ok (.getfield 7, 3) := by decide +kernel
theorem dX0_responseUnder_4 : decode cX0_responseUnder 4 = .ok (.iload_n 1, 1) := by decide +kernel
theorem dX0_responseUnder_5 : decode cX0_responseUnder 5 = .ok (.baload, 1) := by decide +kernel
theorem dX0_responseUnder_6 : decode cX0_responseUnder 6 = .ok (.istore_n 3, 1) := by decide +kernel
theorem dX0_responseUnder_7 : decode cX0_responseUnder 7 = .ok (.iconst 0, 1) := by decide +kernel
theorem dX0_responseUnder_8 : decode cX0_responseUnder 8 = .ok (.istore 4, 2) := by decide +kernel
theorem dX0_responseUnder_10 : decode cX0_responseUnder 10 = .ok (.iload 4, 2) := by decide +kernel
theorem dX0_responseUnder_12 : decode cX0_responseUnder 12 = .ok (.bipush 15, 2) := by decide +kernel
theorem dX0_responseUnder_14 : decode cX0_responseUnder 14 = .ok (.if_icmp .gt 49, 3) := by decide +kernel
theorem dX0_responseUnder_17 : decode cX0_responseUnder 17 = .ok (.aload_n 0, 1) := by decide +kernel
theorem dX0_responseUnder_18 : decode cX0_responseUnder 18 = .ok (.getfield 7, 3) := by decide +kernel
theorem dX0_responseUnder_21 : decode cX0_responseUnder 21 = .ok (.iload_n 1, 1) := by decide +kernel
theorem dX0_responseUnder_22 : decode cX0_responseUnder 22 = .ok (.baload, 1) := by decide +kernel
theorem dX0_responseUnder_23 : decode cX0_responseUnder 23 = .ok (.aload_n 0, 1) := by decide +kernel
theorem dX0_responseUnder_24 : decode cX0_responseUnder 24 = .ok (.iload_n 2, 1) := by decide +kernel
theorem dX0_responseUnder_25 : decode cX0_responseUnder 25 = .ok (.iload_n 3, 1) := by decide +kernel
theorem dX0_responseUnder_26 : decode cX0_responseUnder 26 = .ok (.invokevirtual 52, 3) := by decide +kernel
theorem dX0_responseUnder_29 : decode cX0_responseUnder 29 = .ok (.iadd, 1) := by decide +kernel
theorem dX0_responseUnder_30 : decode cX0_responseUnder 30 = .ok (.istore 5, 2) := by decide +kernel
theorem dX0_responseUnder_32 : decode cX0_responseUnder 32 = .ok (.iload 5, 2) := by decide +kernel
theorem dX0_responseUnder_34 : decode cX0_responseUnder 34 = .ok (.iload_n 3, 1) := by decide +kernel
theorem dX0_responseUnder_35 : decode cX0_responseUnder 35 = .ok (.if_icmp .ne 5, 3) := by decide +kernel
theorem dX0_responseUnder_38 : decode cX0_responseUnder 38 = .ok (.iload_n 3, 1) := by decide +kernel
theorem dX0_responseUnder_39 : decode cX0_responseUnder 39 = .ok (.ireturn, 1) := by decide +kernel
theorem dX0_responseUnder_40 : decode cX0_responseUnder 40 = .ok (.iload 5, 2) := by decide +kernel
theorem dX0_responseUnder_42 : decode cX0_responseUnder 42 = .ok (.aload_n 0, 1) := by decide +kernel
theorem dX0_responseUnder_43 : decode cX0_responseUnder 43 = .ok (.getfield 16, 3) := by decide +kernel
theorem dX0_responseUnder_46 : decode cX0_responseUnder 46 = .ok (.iload_n 1, 1) := by decide +kernel
theorem dX0_responseUnder_47 : decode cX0_responseUnder 47 = .ok (.baload, 1) := by decide +kernel
theorem dX0_responseUnder_48 : decode cX0_responseUnder 48 = .ok (.if_icmp .le 6, 3) := by decide +kernel
theorem dX0_responseUnder_51 : decode cX0_responseUnder 51 = .ok (.bipush (-3), 2) := by decide +kernel
theorem dX0_responseUnder_53 : decode cX0_responseUnder 53 = .ok (.ireturn, 1) := by decide +kernel
theorem dX0_responseUnder_54 : decode cX0_responseUnder 54 = .ok (.iload 5, 2) := by decide +kernel
theorem dX0_responseUnder_56 : decode cX0_responseUnder 56 = .ok (.istore_n 3, 1) := by decide +kernel
theorem dX0_responseUnder_57 : decode cX0_responseUnder 57 = .ok (.iinc 4 1, 3) := by decide +kernel
theorem dX0_responseUnder_60 : decode cX0_responseUnder 60 = .ok (.goto (-50), 3) := by decide +kernel
theorem dX0_responseUnder_63 : decode cX0_responseUnder 63 = .ok (.bipush (-3), 2) := by decide +kernel
theorem dX0_responseUnder_65 : decode cX0_responseUnder 65 = .ok (.ireturn, 1) := by decide +kernel
abbrev cX0_workIn : ByteArray := prog_1_method_11_code
def yX0_workIn : MethodName := ⟨RX0, "workIn", "(II)I"⟩
theorem dX0_workIn_0 : decode cX0_workIn 0 = .ok (.iconst 0, 1) := by decide +kernel
theorem dX0_workIn_1 : decode cX0_workIn 1 = .ok (.istore_n 3, 1) := by decide +kernel
theorem dX0_workIn_2 : decode cX0_workIn 2 = .ok (.iconst 0, 1) := by decide +kernel
theorem dX0_workIn_3 : decode cX0_workIn 3 = .ok (.istore 4, 2) := by decide +kernel
theorem dX0_workIn_5 : decode cX0_workIn 5 = .ok (.iload 4, 2) := by decide +kernel
theorem dX0_workIn_7 : decode cX0_workIn 7 = .ok (.iconst 5, 1) := by decide +kernel
theorem dX0_workIn_8 : decode cX0_workIn 8 = .ok (.if_icmp .ge 61, 3) := by decide +kernel
theorem dX0_workIn_11 : decode cX0_workIn 11 = .ok (.iload_n 1, 1) := by decide +kernel
theorem dX0_workIn_12 : decode cX0_workIn 12 = .ok (.iload 4, 2) := by decide +kernel
theorem dX0_workIn_14 : decode cX0_workIn 14 = .ok (.invokestatic 48, 3) := by decide +kernel
theorem dX0_workIn_17 : decode cX0_workIn 17 = .ok (.ifCond .eq 46, 3) := by decide +kernel
theorem dX0_workIn_20 : decode cX0_workIn 20 = .ok (.aload_n 0, 1) := by decide +kernel
theorem dX0_workIn_21 : decode cX0_workIn 21 = .ok (.getfield 16, 3) := by decide +kernel
theorem dX0_workIn_24 : decode cX0_workIn 24 = .ok (.iload 4, 2) := by decide +kernel
theorem dX0_workIn_26 : decode cX0_workIn 26 = .ok (.baload, 1) := by decide +kernel
theorem dX0_workIn_27 : decode cX0_workIn 27 = .ok (.ifCond .le 13, 3) := by decide +kernel
theorem dX0_workIn_30 : decode cX0_workIn 30 = .ok (.aload_n 0, 1) := by decide +kernel
theorem dX0_workIn_31 : decode cX0_workIn 31 = .ok (.getfield 16, 3) := by decide +kernel
theorem dX0_workIn_34 : decode cX0_workIn 34 = .ok (.iload 4, 2) := by decide +kernel
theorem dX0_workIn_36 : decode cX0_workIn 36 = .ok (.baload, 1) := by decide +kernel
theorem dX0_workIn_37 : decode cX0_workIn 37 = .ok (.goto 4, 3) := by decide +kernel
theorem dX0_workIn_40 : decode cX0_workIn 40 = .ok (.iconst 1, 1) := by decide +kernel
theorem dX0_workIn_41 : decode cX0_workIn 41 = .ok (.istore 5, 2) := by decide +kernel
theorem dX0_workIn_43 : decode cX0_workIn 43 = .ok (.iload_n 3, 1) := by decide +kernel
theorem dX0_workIn_44 : decode cX0_workIn 44 = .ok (.iload_n 2, 1) := by decide +kernel
theorem dX0_workIn_45 : decode cX0_workIn 45 = .ok (.iload 5, 2) := by decide +kernel
theorem dX0_workIn_47 : decode cX0_workIn 47 = .ok (.iadd, 1) := by decide +kernel
theorem dX0_workIn_48 : decode cX0_workIn 48 = .ok (.iconst 1, 1) := by decide +kernel
theorem dX0_workIn_49 : decode cX0_workIn 49 = .ok (.isub, 1) := by decide +kernel
theorem dX0_workIn_50 : decode cX0_workIn 50 = .ok (.iload 5, 2) := by decide +kernel
theorem dX0_workIn_52 : decode cX0_workIn 52 = .ok (.idiv, 1) := by decide +kernel
theorem dX0_workIn_53 : decode cX0_workIn 53 = .ok (.aload_n 0, 1) := by decide +kernel
theorem dX0_workIn_54 : decode cX0_workIn 54 = .ok (.getfield 7, 3) := by decide +kernel
theorem dX0_workIn_57 : decode cX0_workIn 57 = .ok (.iload 4, 2) := by decide +kernel
theorem dX0_workIn_59 : decode cX0_workIn 59 = .ok (.baload, 1) := by decide +kernel
theorem dX0_workIn_60 : decode cX0_workIn 60 = .ok (.imul, 1) := by decide +kernel
theorem dX0_workIn_61 : decode cX0_workIn 61 = .ok (.iadd, 1) := by decide +kernel
theorem dX0_workIn_62 : decode cX0_workIn 62 = .ok (.istore_n 3, 1) := by decide +kernel
theorem dX0_workIn_63 : decode cX0_workIn 63 = .ok (.iinc 4 1, 3) := by decide +kernel
theorem dX0_workIn_66 : decode cX0_workIn 66 = .ok (.goto (-61), 3) := by decide +kernel
theorem dX0_workIn_69 : decode cX0_workIn 69 = .ok (.iload_n 3, 1) := by decide +kernel
theorem dX0_workIn_70 : decode cX0_workIn 70 = .ok (.ireturn, 1) := by decide +kernel
abbrev cX0_in : ByteArray := prog_1_method_3_code
def yX0_in : MethodName := ⟨RX0, "in", "(II)Z"⟩
theorem dX0_in_0 : decode cX0_in 0 = .ok (.iload_n 0, 1) := by decide +kernel
theorem dX0_in_1 : decode cX0_in 1 = .ok (.iload_n 1, 1) := by decide +kernel
theorem dX0_in_2 : decode cX0_in 2 = .ok (.ishr, 1) := by decide +kernel
theorem dX0_in_3 : decode cX0_in 3 = .ok (.iconst 1, 1) := by decide +kernel
theorem dX0_in_4 : decode cX0_in 4 = .ok (.iand, 1) := by decide +kernel
theorem dX0_in_5 : decode cX0_in 5 = .ok (.ifCond .eq 7, 3) := by decide +kernel
theorem dX0_in_8 : decode cX0_in 8 = .ok (.iconst 1, 1) := by decide +kernel
theorem dX0_in_9 : decode cX0_in 9 = .ok (.goto 4, 3) := by decide +kernel
theorem dX0_in_12 : decode cX0_in 12 = .ok (.iconst 0, 1) := by decide +kernel
theorem dX0_in_13 : decode cX0_in 13 = .ok (.ireturn, 1) := by decide +kernel
abbrev cX0_good : ByteArray := prog_1_method_16_code
def yX0_good : MethodName := ⟨RX0, "good", "()Z"⟩
theorem dX0_good_0 : decode cX0_good 0 = .ok (.aload_n 0, 1) := by decide +kernel
theorem dX0_good_1 : decode cX0_good 1 = .ok (.invokevirtual 62, 3) := by decide +kernel
theorem dX0_good_4 : decode cX0_good 4 = .ok (.aload_n 0, 1) := by decide +kernel
theorem dX0_good_5 : decode cX0_good 5 = .ok (.getfield 29, 3) := by decide +kernel
theorem dX0_good_8 : decode cX0_good 8 = .ok (.if_icmp .ne 7, 3) := by decide +kernel
theorem dX0_good_11 : decode cX0_good 11 = .ok (.iconst 1, 1) := by decide +kernel
theorem dX0_good_12 : decode cX0_good 12 = .ok (.goto 4, 3) := by decide +kernel
theorem dX0_good_15 : decode cX0_good 15 = .ok (.iconst 0, 1) := by decide +kernel
theorem dX0_good_16 : decode cX0_good 16 = .ok (.ireturn, 1) := by decide +kernel
abbrev cX0_inTime : ByteArray := prog_1_method_17_code
def yX0_inTime : MethodName := ⟨RX0, "inTime", "()I"⟩
theorem dX0_inTime_0 : decode cX0_inTime 0 = .ok (.iconst 0, 1) := by decide +kernel
theorem dX0_inTime_1 : decode cX0_inTime 1 = .ok (.istore_n 1, 1) := by decide +kernel
theorem dX0_inTime_2 : decode cX0_inTime 2 = .ok (.iconst 0, 1) := by decide +kernel
theorem dX0_inTime_3 : decode cX0_inTime 3 = .ok (.istore_n 2, 1) := by decide +kernel
theorem dX0_inTime_4 : decode cX0_inTime 4 = .ok (.iload_n 2, 1) := by decide +kernel
theorem dX0_inTime_5 : decode cX0_inTime 5 = .ok (.iconst 5, 1) := by decide +kernel
theorem dX0_inTime_6 : decode cX0_inTime 6 = .ok (.if_icmp .ge 42, 3) := by decide +kernel
theorem dX0_inTime_9 : decode cX0_inTime 9 = .ok (.aload_n 0, 1) := by decide +kernel
theorem dX0_inTime_10 : decode cX0_inTime 10 = .ok (.iload_n 2, 1) := by decide +kernel
theorem dX0_inTime_11 : decode cX0_inTime 11 = .ok (.invokevirtual 37, 3) := by decide +kernel
theorem dX0_inTime_14 : decode cX0_inTime 14 = .ok (.ifCond .eq 28, 3) := by decide +kernel
theorem dX0_inTime_17 : decode cX0_inTime 17 = .ok (.aload_n 0, 1) := by decide +kernel
theorem dX0_inTime_18 : decode cX0_inTime 18 = .ok (.iload_n 2, 1) := by decide +kernel
theorem dX0_inTime_19 : decode cX0_inTime 19 = .ok (.invokevirtual 59, 3) := by decide +kernel
theorem dX0_inTime_22 : decode cX0_inTime 22 = .ok (.istore_n 3, 1) := by decide +kernel
theorem dX0_inTime_23 : decode cX0_inTime 23 = .ok (.iload_n 1, 1) := by decide +kernel
theorem dX0_inTime_24 : decode cX0_inTime 24 = .ok (.aload_n 0, 1) := by decide +kernel
theorem dX0_inTime_25 : decode cX0_inTime 25 = .ok (.iload_n 2, 1) := by decide +kernel
theorem dX0_inTime_26 : decode cX0_inTime 26 = .ok (.iload_n 3, 1) := by decide +kernel
theorem dX0_inTime_27 : decode cX0_inTime 27 = .ok (.invokevirtual 66, 3) := by decide +kernel
theorem dX0_inTime_30 : decode cX0_inTime 30 = .ok (.ifCond .eq 9, 3) := by decide +kernel
theorem dX0_inTime_33 : decode cX0_inTime 33 = .ok (.iconst 1, 1) := by decide +kernel
theorem dX0_inTime_34 : decode cX0_inTime 34 = .ok (.iload_n 2, 1) := by decide +kernel
theorem dX0_inTime_35 : decode cX0_inTime 35 = .ok (.ishl, 1) := by decide +kernel
theorem dX0_inTime_36 : decode cX0_inTime 36 = .ok (.goto 4, 3) := by decide +kernel
theorem dX0_inTime_39 : decode cX0_inTime 39 = .ok (.iconst 0, 1) := by decide +kernel
theorem dX0_inTime_40 : decode cX0_inTime 40 = .ok (.ior, 1) := by decide +kernel
theorem dX0_inTime_41 : decode cX0_inTime 41 = .ok (.istore_n 1, 1) := by decide +kernel
theorem dX0_inTime_42 : decode cX0_inTime 42 = .ok (.iinc 2 1, 3) := by decide +kernel
theorem dX0_inTime_45 : decode cX0_inTime 45 = .ok (.goto (-41), 3) := by decide +kernel
theorem dX0_inTime_48 : decode cX0_inTime 48 = .ok (.iload_n 1, 1) := by decide +kernel
theorem dX0_inTime_49 : decode cX0_inTime 49 = .ok (.ireturn, 1) := by decide +kernel
abbrev cX0_inTimeUnder : ByteArray := prog_1_method_13_code
def yX0_inTimeUnder : MethodName := ⟨RX0, "inTimeUnder", "(II)Z"⟩
theorem dX0_inTimeUnder_0 : decode cX0_inTimeUnder 0 = .ok (.aload_n 0, 1) := by decide +kernel
theorem dX0_inTimeUnder_1 : decode cX0_inTimeUnder 1 = .ok (.iload_n 1, 1) := by decide +kernel
theorem dX0_inTimeUnder_2 : decode cX0_inTimeUnder 2 = .ok (.iload_n 2, 1) := by decide +kernel
theorem dX0_inTimeUnder_3 : decode cX0_inTimeUnder 3 = .ok (.invokevirtual 56, 3) := by decide +kernel
theorem dX0_inTimeUnder_6 : decode cX0_inTimeUnder 6 = .ok (.istore_n 3, 1) := by decide +kernel
theorem dX0_inTimeUnder_7 : decode cX0_inTimeUnder 7 = .ok (.iload_n 3, 1) := by decide +kernel
theorem dX0_inTimeUnder_8 : decode cX0_inTimeUnder 8 = .ok (.bipush (-3), 2) := by decide +kernel
theorem dX0_inTimeUnder_10 : decode cX0_inTimeUnder 10 = .ok (.if_icmp .eq 17, 3) := by decide +kernel
theorem dX0_inTimeUnder_13 : decode cX0_inTimeUnder 13 = .ok (.iload_n 3, 1) := by decide +kernel
theorem dX0_inTimeUnder_14 : decode cX0_inTimeUnder 14 = .ok (.aload_n 0, 1) := by decide +kernel
theorem dX0_inTimeUnder_15 : decode cX0_inTimeUnder 15 = .ok (.getfield 13, 3) := by decide +kernel
theorem dX0_inTimeUnder_18 : decode cX0_inTimeUnder 18 = .ok (.iload_n 1, 1) := by decide +kernel
theorem dX0_inTimeUnder_19 : decode cX0_inTimeUnder 19 = .ok (.baload, 1) := by decide +kernel
theorem dX0_inTimeUnder_20 : decode cX0_inTimeUnder 20 = .ok (.if_icmp .gt 7, 3) := by decide +kernel
theorem dX0_inTimeUnder_23 : decode cX0_inTimeUnder 23 = .ok (.iconst 1, 1) := by decide +kernel
theorem dX0_inTimeUnder_24 : decode cX0_inTimeUnder 24 = .ok (.goto 4, 3) := by decide +kernel
theorem dX0_inTimeUnder_27 : decode cX0_inTimeUnder 27 = .ok (.iconst 0, 1) := by decide +kernel
theorem dX0_inTimeUnder_28 : decode cX0_inTimeUnder 28 = .ok (.ireturn, 1) := by decide +kernel
abbrev cX0_goodOrders : ByteArray := prog_1_method_19_code
def yX0_goodOrders : MethodName := ⟨RX0, "goodOrders", "()I"⟩
theorem dX0_goodOrders_0 : decode cX0_goodOrders 0 = .ok (.aload_n 0, 1) := by decide +kernel
theorem dX0_goodOrders_1 : decode cX0_goodOrders 1 = .ok (.invokevirtual 69, 3) := by decide +kernel
theorem dX0_goodOrders_4 : decode cX0_goodOrders 4 = .ok (.aload_n 0, 1) := by decide +kernel
theorem dX0_goodOrders_5 : decode cX0_goodOrders 5 = .ok (.getfield 22, 3) := by decide +kernel
theorem dX0_goodOrders_8 : decode cX0_goodOrders 8 = .ok (.iconst 0, 1) := by decide +kernel
theorem dX0_goodOrders_9 : decode cX0_goodOrders 9 = .ok (.iaload, 1) := by decide +kernel
theorem dX0_goodOrders_10 : decode cX0_goodOrders 10 = .ok (.ireturn, 1) := by decide +kernel
abbrev cX0_fill : ByteArray := prog_1_method_18_code
def yX0_fill : MethodName := ⟨RX0, "fill", "()V"⟩
theorem dX0_fill_0 : decode cX0_fill 0 = .ok (.bipush 31, 2) := by decide +kernel
theorem dX0_fill_2 : decode cX0_fill 2 = .ok (.istore_n 1, 1) := by decide +kernel
theorem dX0_fill_3 : decode cX0_fill 3 = .ok (.iload_n 1, 1) := by decide +kernel
theorem dX0_fill_4 : decode cX0_fill 4 = .ok (.ifCond .lt 95, 3) := by decide +kernel
theorem dX0_fill_7 : decode cX0_fill 7 = .ok (.aload_n 0, 1) := by decide +kernel
theorem dX0_fill_8 : decode cX0_fill 8 = .ok (.getfield 22, 3) := by decide +kernel
theorem dX0_fill_11 : decode cX0_fill 11 = .ok (.iload_n 1, 1) := by decide +kernel
theorem dX0_fill_12 : decode cX0_fill 12 = .ok (.iload_n 1, 1) := by decide +kernel
theorem dX0_fill_13 : decode cX0_fill 13 = .ok (.aload_n 0, 1) := by decide +kernel
theorem dX0_fill_14 : decode cX0_fill 14 = .ok (.getfield 29, 3) := by decide +kernel
theorem dX0_fill_17 : decode cX0_fill 17 = .ok (.if_icmp .ne 7, 3) := by decide +kernel
theorem dX0_fill_20 : decode cX0_fill 20 = .ok (.iconst 1, 1) := by decide +kernel
theorem dX0_fill_21 : decode cX0_fill 21 = .ok (.goto 4, 3) := by decide +kernel
theorem dX0_fill_24 : decode cX0_fill 24 = .ok (.iconst 0, 1) := by decide +kernel
theorem dX0_fill_25 : decode cX0_fill 25 = .ok (.iastore, 1) := by decide +kernel
theorem dX0_fill_26 : decode cX0_fill 26 = .ok (.iconst 0, 1) := by decide +kernel
theorem dX0_fill_27 : decode cX0_fill 27 = .ok (.istore_n 2, 1) := by decide +kernel
theorem dX0_fill_28 : decode cX0_fill 28 = .ok (.iload_n 2, 1) := by decide +kernel
theorem dX0_fill_29 : decode cX0_fill 29 = .ok (.iconst 5, 1) := by decide +kernel
theorem dX0_fill_30 : decode cX0_fill 30 = .ok (.if_icmp .ge 63, 3) := by decide +kernel
theorem dX0_fill_33 : decode cX0_fill 33 = .ok (.aload_n 0, 1) := by decide +kernel
theorem dX0_fill_34 : decode cX0_fill 34 = .ok (.getfield 29, 3) := by decide +kernel
theorem dX0_fill_37 : decode cX0_fill 37 = .ok (.iload_n 1, 1) := by decide +kernel
theorem dX0_fill_38 : decode cX0_fill 38 = .ok (.iconst (-1), 1) := by decide +kernel
theorem dX0_fill_39 : decode cX0_fill 39 = .ok (.ixor, 1) := by decide +kernel
theorem dX0_fill_40 : decode cX0_fill 40 = .ok (.iand, 1) := by decide +kernel
theorem dX0_fill_41 : decode cX0_fill 41 = .ok (.iload_n 2, 1) := by decide +kernel
theorem dX0_fill_42 : decode cX0_fill 42 = .ok (.invokestatic 48, 3) := by decide +kernel
theorem dX0_fill_45 : decode cX0_fill 45 = .ok (.ifCond .eq 42, 3) := by decide +kernel
theorem dX0_fill_48 : decode cX0_fill 48 = .ok (.iload_n 1, 1) := by decide +kernel
theorem dX0_fill_49 : decode cX0_fill 49 = .ok (.aload_n 0, 1) := by decide +kernel
theorem dX0_fill_50 : decode cX0_fill 50 = .ok (.getfield 29, 3) := by decide +kernel
theorem dX0_fill_53 : decode cX0_fill 53 = .ok (.iconst (-1), 1) := by decide +kernel
theorem dX0_fill_54 : decode cX0_fill 54 = .ok (.ixor, 1) := by decide +kernel
theorem dX0_fill_55 : decode cX0_fill 55 = .ok (.iand, 1) := by decide +kernel
theorem dX0_fill_56 : decode cX0_fill 56 = .ok (.ifCond .ne 31, 3) := by decide +kernel
theorem dX0_fill_59 : decode cX0_fill 59 = .ok (.aload_n 0, 1) := by decide +kernel
theorem dX0_fill_60 : decode cX0_fill 60 = .ok (.iload_n 2, 1) := by decide +kernel
theorem dX0_fill_61 : decode cX0_fill 61 = .ok (.iload_n 1, 1) := by decide +kernel
theorem dX0_fill_62 : decode cX0_fill 62 = .ok (.invokevirtual 66, 3) := by decide +kernel
theorem dX0_fill_65 : decode cX0_fill 65 = .ok (.ifCond .eq 22, 3) := by decide +kernel
theorem dX0_fill_68 : decode cX0_fill 68 = .ok (.aload_n 0, 1) := by decide +kernel
theorem dX0_fill_69 : decode cX0_fill 69 = .ok (.getfield 22, 3) := by decide +kernel
theorem dX0_fill_72 : decode cX0_fill 72 = .ok (.iload_n 1, 1) := by decide +kernel
theorem dX0_fill_73 : decode cX0_fill 73 = .ok (.dup2, 1) := by decide +kernel
theorem dX0_fill_74 : decode cX0_fill 74 = .ok (.iaload, 1) := by decide +kernel
theorem dX0_fill_75 : decode cX0_fill 75 = .ok (.aload_n 0, 1) := by decide +kernel
theorem dX0_fill_76 : decode cX0_fill 76 = .ok (.getfield 22, 3) := by decide +kernel
theorem dX0_fill_79 : decode cX0_fill 79 = .ok (.iload_n 1, 1) := by decide +kernel
theorem dX0_fill_80 : decode cX0_fill 80 = .ok (.iconst 1, 1) := by decide +kernel
theorem dX0_fill_81 : decode cX0_fill 81 = .ok (.iload_n 2, 1) := by decide +kernel
theorem dX0_fill_82 : decode cX0_fill 82 = .ok (.ishl, 1) := by decide +kernel
theorem dX0_fill_83 : decode cX0_fill 83 = .ok (.ior, 1) := by decide +kernel
theorem dX0_fill_84 : decode cX0_fill 84 = .ok (.iaload, 1) := by decide +kernel
theorem dX0_fill_85 : decode cX0_fill 85 = .ok (.iadd, 1) := by decide +kernel
theorem dX0_fill_86 : decode cX0_fill 86 = .ok (.iastore, 1) := by decide +kernel
theorem dX0_fill_87 : decode cX0_fill 87 = .ok (.iinc 2 1, 3) := by decide +kernel
theorem dX0_fill_90 : decode cX0_fill 90 = .ok (.goto (-62), 3) := by decide +kernel
theorem dX0_fill_93 : decode cX0_fill 93 = .ok (.iinc 1 (-1), 3) := by decide +kernel
theorem dX0_fill_96 : decode cX0_fill 96 = .ok (.goto (-93), 3) := by decide +kernel
theorem dX0_fill_99 : decode cX0_fill 99 = .ok (.iconst 0, 1) := by decide +kernel
theorem dX0_fill_100 : decode cX0_fill 100 = .ok (.istore_n 1, 1) := by decide +kernel
theorem dX0_fill_101 : decode cX0_fill 101 = .ok (.iload_n 1, 1) := by decide +kernel
theorem dX0_fill_102 : decode cX0_fill 102 = .ok (.bipush 32, 2) := by decide +kernel
theorem dX0_fill_104 : decode cX0_fill 104 = .ok (.if_icmp .ge 87, 3) := by decide +kernel
theorem dX0_fill_107 : decode cX0_fill 107 = .ok (.aload_n 0, 1) := by decide +kernel
theorem dX0_fill_108 : decode cX0_fill 108 = .ok (.getfield 26, 3) := by decide +kernel
theorem dX0_fill_111 : decode cX0_fill 111 = .ok (.iload_n 1, 1) := by decide +kernel
theorem dX0_fill_112 : decode cX0_fill 112 = .ok (.iload_n 1, 1) := by decide +kernel
theorem dX0_fill_113 : decode cX0_fill 113 = .ok (.ifCond .ne 7, 3) := by decide +kernel
theorem dX0_fill_116 : decode cX0_fill 116 = .ok (.iconst 1, 1) := by decide +kernel
theorem dX0_fill_117 : decode cX0_fill 117 = .ok (.goto 4, 3) := by decide +kernel
theorem dX0_fill_120 : decode cX0_fill 120 = .ok (.iconst 0, 1) := by decide +kernel
theorem dX0_fill_121 : decode cX0_fill 121 = .ok (.iastore, 1) := by decide +kernel
theorem dX0_fill_122 : decode cX0_fill 122 = .ok (.iconst 0, 1) := by decide +kernel
theorem dX0_fill_123 : decode cX0_fill 123 = .ok (.istore_n 2, 1) := by decide +kernel
theorem dX0_fill_124 : decode cX0_fill 124 = .ok (.iload_n 2, 1) := by decide +kernel
theorem dX0_fill_125 : decode cX0_fill 125 = .ok (.iconst 5, 1) := by decide +kernel
theorem dX0_fill_126 : decode cX0_fill 126 = .ok (.if_icmp .ge 59, 3) := by decide +kernel
theorem dX0_fill_129 : decode cX0_fill 129 = .ok (.iload_n 1, 1) := by decide +kernel
theorem dX0_fill_130 : decode cX0_fill 130 = .ok (.iconst 1, 1) := by decide +kernel
theorem dX0_fill_131 : decode cX0_fill 131 = .ok (.iload_n 2, 1) := by decide +kernel
theorem dX0_fill_132 : decode cX0_fill 132 = .ok (.ishl, 1) := by decide +kernel
theorem dX0_fill_133 : decode cX0_fill 133 = .ok (.iconst (-1), 1) := by decide +kernel
theorem dX0_fill_134 : decode cX0_fill 134 = .ok (.ixor, 1) := by decide +kernel
theorem dX0_fill_135 : decode cX0_fill 135 = .ok (.iand, 1) := by decide +kernel
theorem dX0_fill_136 : decode cX0_fill 136 = .ok (.istore_n 3, 1) := by decide +kernel
theorem dX0_fill_137 : decode cX0_fill 137 = .ok (.iload_n 1, 1) := by decide +kernel
theorem dX0_fill_138 : decode cX0_fill 138 = .ok (.aload_n 0, 1) := by decide +kernel
theorem dX0_fill_139 : decode cX0_fill 139 = .ok (.getfield 29, 3) := by decide +kernel
theorem dX0_fill_142 : decode cX0_fill 142 = .ok (.iand, 1) := by decide +kernel
theorem dX0_fill_143 : decode cX0_fill 143 = .ok (.iload_n 2, 1) := by decide +kernel
theorem dX0_fill_144 : decode cX0_fill 144 = .ok (.invokestatic 48, 3) := by decide +kernel
theorem dX0_fill_147 : decode cX0_fill 147 = .ok (.ifCond .eq 32, 3) := by decide +kernel
theorem dX0_fill_150 : decode cX0_fill 150 = .ok (.aload_n 0, 1) := by decide +kernel
theorem dX0_fill_151 : decode cX0_fill 151 = .ok (.iload_n 2, 1) := by decide +kernel
theorem dX0_fill_152 : decode cX0_fill 152 = .ok (.iload_n 3, 1) := by decide +kernel
theorem dX0_fill_153 : decode cX0_fill 153 = .ok (.aload_n 0, 1) := by decide +kernel
theorem dX0_fill_154 : decode cX0_fill 154 = .ok (.getfield 29, 3) := by decide +kernel
theorem dX0_fill_157 : decode cX0_fill 157 = .ok (.iand, 1) := by decide +kernel
theorem dX0_fill_158 : decode cX0_fill 158 = .ok (.invokevirtual 66, 3) := by decide +kernel
theorem dX0_fill_161 : decode cX0_fill 161 = .ok (.ifCond .eq 18, 3) := by decide +kernel
theorem dX0_fill_164 : decode cX0_fill 164 = .ok (.aload_n 0, 1) := by decide +kernel
theorem dX0_fill_165 : decode cX0_fill 165 = .ok (.getfield 26, 3) := by decide +kernel
theorem dX0_fill_168 : decode cX0_fill 168 = .ok (.iload_n 1, 1) := by decide +kernel
theorem dX0_fill_169 : decode cX0_fill 169 = .ok (.dup2, 1) := by decide +kernel
theorem dX0_fill_170 : decode cX0_fill 170 = .ok (.iaload, 1) := by decide +kernel
theorem dX0_fill_171 : decode cX0_fill 171 = .ok (.aload_n 0, 1) := by decide +kernel
theorem dX0_fill_172 : decode cX0_fill 172 = .ok (.getfield 26, 3) := by decide +kernel
theorem dX0_fill_175 : decode cX0_fill 175 = .ok (.iload_n 3, 1) := by decide +kernel
theorem dX0_fill_176 : decode cX0_fill 176 = .ok (.iaload, 1) := by decide +kernel
theorem dX0_fill_177 : decode cX0_fill 177 = .ok (.iadd, 1) := by decide +kernel
theorem dX0_fill_178 : decode cX0_fill 178 = .ok (.iastore, 1) := by decide +kernel
theorem dX0_fill_179 : decode cX0_fill 179 = .ok (.iinc 2 1, 3) := by decide +kernel
theorem dX0_fill_182 : decode cX0_fill 182 = .ok (.goto (-58), 3) := by decide +kernel
theorem dX0_fill_185 : decode cX0_fill 185 = .ok (.iinc 1 1, 3) := by decide +kernel
theorem dX0_fill_188 : decode cX0_fill 188 = .ok (.goto (-87), 3) := by decide +kernel
theorem dX0_fill_191 : decode cX0_fill 191 = .ok (.return_, 1) := by decide +kernel
abbrev cX0_arrange : ByteArray := prog_1_method_20_code
def yX0_arrange : MethodName := ⟨RX0, "arrange", "()Z"⟩
theorem dX0_arrange_0 : decode cX0_arrange 0 = .ok (.aload_n 0, 1) := by decide +kernel
theorem dX0_arrange_1 : decode cX0_arrange 1 = .ok (.invokevirtual 69, 3) := by decide +kernel
theorem dX0_arrange_4 : decode cX0_arrange 4 = .ok (.aload_n 0, 1) := by decide +kernel
theorem dX0_arrange_5 : decode cX0_arrange 5 = .ok (.getfield 22, 3) := by decide +kernel
theorem dX0_arrange_8 : decode cX0_arrange 8 = .ok (.iconst 0, 1) := by decide +kernel
theorem dX0_arrange_9 : decode cX0_arrange 9 = .ok (.iaload, 1) := by decide +kernel
theorem dX0_arrange_10 : decode cX0_arrange 10 = .ok (.ifCond .ne 5, 3) := by decide +kernel
theorem dX0_arrange_13 : decode cX0_arrange 13 = .ok (.iconst 0, 1) := by decide +kernel
theorem dX0_arrange_14 : decode cX0_arrange 14 = .ok (.ireturn, 1) := by decide +kernel
theorem dX0_arrange_15 : decode cX0_arrange 15 = .ok (.iconst 0, 1) := by decide +kernel
theorem dX0_arrange_16 : decode cX0_arrange 16 = .ok (.istore_n 1, 1) := by decide +kernel
theorem dX0_arrange_17 : decode cX0_arrange 17 = .ok (.iconst 0, 1) := by decide +kernel
theorem dX0_arrange_18 : decode cX0_arrange 18 = .ok (.istore_n 2, 1) := by decide +kernel
theorem dX0_arrange_19 : decode cX0_arrange 19 = .ok (.iload_n 2, 1) := by decide +kernel
theorem dX0_arrange_20 : decode cX0_arrange 20 = .ok (.aload_n 0, 1) := by decide +kernel
theorem dX0_arrange_21 : decode cX0_arrange 21 = .ok (.getfield 41, 3) := by decide +kernel
theorem dX0_arrange_24 : decode cX0_arrange 24 = .ok (.if_icmp .ge 45, 3) := by decide +kernel
theorem dX0_arrange_27 : decode cX0_arrange 27 = .ok (.iconst 0, 1) := by decide +kernel
theorem dX0_arrange_28 : decode cX0_arrange 28 = .ok (.istore_n 3, 1) := by decide +kernel
theorem dX0_arrange_29 : decode cX0_arrange 29 = .ok (.iload_n 3, 1) := by decide +kernel
theorem dX0_arrange_30 : decode cX0_arrange 30 = .ok (.iconst 4, 1) := by decide +kernel
theorem dX0_arrange_31 : decode cX0_arrange 31 = .ok (.if_icmp .ge 18, 3) := by decide +kernel
theorem dX0_arrange_34 : decode cX0_arrange 34 = .ok (.aload_n 0, 1) := by decide +kernel
theorem dX0_arrange_35 : decode cX0_arrange 35 = .ok (.iload_n 1, 1) := by decide +kernel
theorem dX0_arrange_36 : decode cX0_arrange 36 = .ok (.iload_n 3, 1) := by decide +kernel
theorem dX0_arrange_37 : decode cX0_arrange 37 = .ok (.invokevirtual 72, 3) := by decide +kernel
theorem dX0_arrange_40 : decode cX0_arrange 40 = .ok (.ifCond .ne 9, 3) := by decide +kernel
theorem dX0_arrange_43 : decode cX0_arrange 43 = .ok (.iinc 3 1, 3) := by decide +kernel
theorem dX0_arrange_46 : decode cX0_arrange 46 = .ok (.goto (-17), 3) := by decide +kernel
theorem dX0_arrange_49 : decode cX0_arrange 49 = .ok (.aload_n 0, 1) := by decide +kernel
theorem dX0_arrange_50 : decode cX0_arrange 50 = .ok (.getfield 19, 3) := by decide +kernel
theorem dX0_arrange_53 : decode cX0_arrange 53 = .ok (.iload_n 2, 1) := by decide +kernel
theorem dX0_arrange_54 : decode cX0_arrange 54 = .ok (.iload_n 3, 1) := by decide +kernel
theorem dX0_arrange_55 : decode cX0_arrange 55 = .ok (.i2b, 1) := by decide +kernel
theorem dX0_arrange_56 : decode cX0_arrange 56 = .ok (.bastore, 1) := by decide +kernel
theorem dX0_arrange_57 : decode cX0_arrange 57 = .ok (.iload_n 1, 1) := by decide +kernel
theorem dX0_arrange_58 : decode cX0_arrange 58 = .ok (.iconst 1, 1) := by decide +kernel
theorem dX0_arrange_59 : decode cX0_arrange 59 = .ok (.iload_n 3, 1) := by decide +kernel
theorem dX0_arrange_60 : decode cX0_arrange 60 = .ok (.ishl, 1) := by decide +kernel
theorem dX0_arrange_61 : decode cX0_arrange 61 = .ok (.ior, 1) := by decide +kernel
theorem dX0_arrange_62 : decode cX0_arrange 62 = .ok (.istore_n 1, 1) := by decide +kernel
theorem dX0_arrange_63 : decode cX0_arrange 63 = .ok (.iinc 2 1, 3) := by decide +kernel
theorem dX0_arrange_66 : decode cX0_arrange 66 = .ok (.goto (-47), 3) := by decide +kernel
theorem dX0_arrange_69 : decode cX0_arrange 69 = .ok (.iconst 1, 1) := by decide +kernel
theorem dX0_arrange_70 : decode cX0_arrange 70 = .ok (.ireturn, 1) := by decide +kernel
abbrev cX0_canFollow : ByteArray := prog_1_method_21_code
def yX0_canFollow : MethodName := ⟨RX0, "canFollow", "(II)Z"⟩
theorem dX0_canFollow_0 : decode cX0_canFollow 0 = .ok (.aload_n 0, 1) := by decide +kernel
theorem dX0_canFollow_1 : decode cX0_canFollow 1 = .ok (.getfield 29, 3) := by decide +kernel
theorem dX0_canFollow_4 : decode cX0_canFollow 4 = .ok (.iload_n 1, 1) := by decide +kernel
theorem dX0_canFollow_5 : decode cX0_canFollow 5 = .ok (.iconst (-1), 1) := by decide +kernel
theorem dX0_canFollow_6 : decode cX0_canFollow 6 = .ok (.ixor, 1) := by decide +kernel
theorem dX0_canFollow_7 : decode cX0_canFollow 7 = .ok (.iand, 1) := by decide +kernel
theorem dX0_canFollow_8 : decode cX0_canFollow 8 = .ok (.iload_n 2, 1) := by decide +kernel
theorem dX0_canFollow_9 : decode cX0_canFollow 9 = .ok (.invokestatic 48, 3) := by decide +kernel
theorem dX0_canFollow_12 : decode cX0_canFollow 12 = .ok (.ifCond .eq 29, 3) := by decide +kernel
theorem dX0_canFollow_15 : decode cX0_canFollow 15 = .ok (.aload_n 0, 1) := by decide +kernel
theorem dX0_canFollow_16 : decode cX0_canFollow 16 = .ok (.getfield 22, 3) := by decide +kernel
theorem dX0_canFollow_19 : decode cX0_canFollow 19 = .ok (.iload_n 1, 1) := by decide +kernel
theorem dX0_canFollow_20 : decode cX0_canFollow 20 = .ok (.iconst 1, 1) := by decide +kernel
theorem dX0_canFollow_21 : decode cX0_canFollow 21 = .ok (.iload_n 2, 1) := by decide +kernel
theorem dX0_canFollow_22 : decode cX0_canFollow 22 = .ok (.ishl, 1) := by decide +kernel
theorem dX0_canFollow_23 : decode cX0_canFollow 23 = .ok (.ior, 1) := by decide +kernel
theorem dX0_canFollow_24 : decode cX0_canFollow 24 = .ok (.iaload, 1) := by decide +kernel
theorem dX0_canFollow_25 : decode cX0_canFollow 25 = .ok (.ifCond .le 16, 3) := by decide +kernel
theorem dX0_canFollow_28 : decode cX0_canFollow 28 = .ok (.aload_n 0, 1) := by decide +kernel
theorem dX0_canFollow_29 : decode cX0_canFollow 29 = .ok (.iload_n 2, 1) := by decide +kernel
theorem dX0_canFollow_30 : decode cX0_canFollow 30 = .ok (.iload_n 1, 1) := by decide +kernel
theorem dX0_canFollow_31 : decode cX0_canFollow 31 = .ok (.invokevirtual 66, 3) := by decide +kernel
theorem dX0_canFollow_34 : decode cX0_canFollow 34 = .ok (.ifCond .eq 7, 3) := by decide +kernel
theorem dX0_canFollow_37 : decode cX0_canFollow 37 = .ok (.iconst 1, 1) := by decide +kernel
theorem dX0_canFollow_38 : decode cX0_canFollow 38 = .ok (.goto 4, 3) := by decide +kernel
theorem dX0_canFollow_41 : decode cX0_canFollow 41 = .ok (.iconst 0, 1) := by decide +kernel
theorem dX0_canFollow_42 : decode cX0_canFollow 42 = .ok (.ireturn, 1) := by decide +kernel
abbrev cX0_canBeLast : ByteArray := prog_1_method_22_code
def yX0_canBeLast : MethodName := ⟨RX0, "canBeLast", "()I"⟩
theorem dX0_canBeLast_0 : decode cX0_canBeLast 0 = .ok (.aload_n 0, 1) := by decide +kernel
theorem dX0_canBeLast_1 : decode cX0_canBeLast 1 = .ok (.invokevirtual 69, 3) := by decide +kernel
theorem dX0_canBeLast_4 : decode cX0_canBeLast 4 = .ok (.iconst 0, 1) := by decide +kernel
theorem dX0_canBeLast_5 : decode cX0_canBeLast 5 = .ok (.istore_n 1, 1) := by decide +kernel
theorem dX0_canBeLast_6 : decode cX0_canBeLast 6 = .ok (.iconst 0, 1) := by decide +kernel
theorem dX0_canBeLast_7 : decode cX0_canBeLast 7 = .ok (.istore_n 2, 1) := by decide +kernel
theorem dX0_canBeLast_8 : decode cX0_canBeLast 8 = .ok (.iload_n 2, 1) := by decide +kernel
theorem dX0_canBeLast_9 : decode cX0_canBeLast 9 = .ok (.iconst 5, 1) := by decide +kernel
theorem dX0_canBeLast_10 : decode cX0_canBeLast 10 = .ok (.if_icmp .ge 56, 3) := by decide +kernel
theorem dX0_canBeLast_13 : decode cX0_canBeLast 13 = .ok (.aload_n 0, 1) := by decide +kernel
theorem dX0_canBeLast_14 : decode cX0_canBeLast 14 = .ok (.getfield 29, 3) := by decide +kernel
theorem dX0_canBeLast_17 : decode cX0_canBeLast 17 = .ok (.iconst 1, 1) := by decide +kernel
theorem dX0_canBeLast_18 : decode cX0_canBeLast 18 = .ok (.iload_n 2, 1) := by decide +kernel
theorem dX0_canBeLast_19 : decode cX0_canBeLast 19 = .ok (.ishl, 1) := by decide +kernel
theorem dX0_canBeLast_20 : decode cX0_canBeLast 20 = .ok (.iconst (-1), 1) := by decide +kernel
theorem dX0_canBeLast_21 : decode cX0_canBeLast 21 = .ok (.ixor, 1) := by decide +kernel
theorem dX0_canBeLast_22 : decode cX0_canBeLast 22 = .ok (.iand, 1) := by decide +kernel
theorem dX0_canBeLast_23 : decode cX0_canBeLast 23 = .ok (.istore_n 3, 1) := by decide +kernel
theorem dX0_canBeLast_24 : decode cX0_canBeLast 24 = .ok (.iload_n 1, 1) := by decide +kernel
theorem dX0_canBeLast_25 : decode cX0_canBeLast 25 = .ok (.aload_n 0, 1) := by decide +kernel
theorem dX0_canBeLast_26 : decode cX0_canBeLast 26 = .ok (.iload_n 2, 1) := by decide +kernel
theorem dX0_canBeLast_27 : decode cX0_canBeLast 27 = .ok (.invokevirtual 37, 3) := by decide +kernel
theorem dX0_canBeLast_30 : decode cX0_canBeLast 30 = .ok (.ifCond .eq 27, 3) := by decide +kernel
theorem dX0_canBeLast_33 : decode cX0_canBeLast 33 = .ok (.aload_n 0, 1) := by decide +kernel
theorem dX0_canBeLast_34 : decode cX0_canBeLast 34 = .ok (.getfield 26, 3) := by decide +kernel
theorem dX0_canBeLast_37 : decode cX0_canBeLast 37 = .ok (.iload_n 3, 1) := by decide +kernel
theorem dX0_canBeLast_38 : decode cX0_canBeLast 38 = .ok (.iaload, 1) := by decide +kernel
theorem dX0_canBeLast_39 : decode cX0_canBeLast 39 = .ok (.ifCond .le 18, 3) := by decide +kernel
theorem dX0_canBeLast_42 : decode cX0_canBeLast 42 = .ok (.aload_n 0, 1) := by decide +kernel
theorem dX0_canBeLast_43 : decode cX0_canBeLast 43 = .ok (.iload_n 2, 1) := by decide +kernel
theorem dX0_canBeLast_44 : decode cX0_canBeLast 44 = .ok (.iload_n 3, 1) := by decide +kernel
theorem dX0_canBeLast_45 : decode cX0_canBeLast 45 = .ok (.invokevirtual 66, 3) := by decide +kernel
theorem dX0_canBeLast_48 : decode cX0_canBeLast 48 = .ok (.ifCond .eq 9, 3) := by decide +kernel
theorem dX0_canBeLast_51 : decode cX0_canBeLast 51 = .ok (.iconst 1, 1) := by decide +kernel
theorem dX0_canBeLast_52 : decode cX0_canBeLast 52 = .ok (.iload_n 2, 1) := by decide +kernel
theorem dX0_canBeLast_53 : decode cX0_canBeLast 53 = .ok (.ishl, 1) := by decide +kernel
theorem dX0_canBeLast_54 : decode cX0_canBeLast 54 = .ok (.goto 4, 3) := by decide +kernel
theorem dX0_canBeLast_57 : decode cX0_canBeLast 57 = .ok (.iconst 0, 1) := by decide +kernel
theorem dX0_canBeLast_58 : decode cX0_canBeLast 58 = .ok (.ior, 1) := by decide +kernel
theorem dX0_canBeLast_59 : decode cX0_canBeLast 59 = .ok (.istore_n 1, 1) := by decide +kernel
theorem dX0_canBeLast_60 : decode cX0_canBeLast 60 = .ok (.iinc 2 1, 3) := by decide +kernel
theorem dX0_canBeLast_63 : decode cX0_canBeLast 63 = .ok (.goto (-55), 3) := by decide +kernel
theorem dX0_canBeLast_66 : decode cX0_canBeLast 66 = .ok (.iload_n 1, 1) := by decide +kernel
theorem dX0_canBeLast_67 : decode cX0_canBeLast 67 = .ok (.ireturn, 1) := by decide +kernel
abbrev cX0_greatestCost : ByteArray := prog_1_method_23_code
def yX0_greatestCost : MethodName := ⟨RX0, "greatestCost", "(I)I"⟩
theorem dX0_greatestCost_0 : decode cX0_greatestCost 0 = .ok (.aload_n 0, 1) := by decide +kernel
theorem dX0_greatestCost_1 : decode cX0_greatestCost 1 = .ok (.iload_n 1, 1) := by decide +kernel
theorem dX0_greatestCost_2 : decode cX0_greatestCost 2 = .ok (.invokevirtual 37, 3) := by decide +kernel
theorem dX0_greatestCost_5 : decode cX0_greatestCost 5 = .ok (.ifCond .ne 5, 3) := by decide +kernel
theorem dX0_greatestCost_8 : decode cX0_greatestCost 8 = .ok (.iconst (-1), 1) := by decide +kernel
theorem dX0_greatestCost_9 : decode cX0_greatestCost 9 = .ok (.ireturn, 1) := by decide +kernel
theorem dX0_greatestCost_10 : decode cX0_greatestCost 10 = .ok (.aload_n 0, 1) := by decide +kernel
theorem dX0_greatestCost_11 : decode cX0_greatestCost 11 = .ok (.getfield 7, 3) := by decide +kernel
theorem dX0_greatestCost_14 : decode cX0_greatestCost 14 = .ok (.iload_n 1, 1) := by decide +kernel
theorem dX0_greatestCost_15 : decode cX0_greatestCost 15 = .ok (.baload, 1) := by decide +kernel
theorem dX0_greatestCost_16 : decode cX0_greatestCost 16 = .ok (.istore_n 2, 1) := by decide +kernel
theorem dX0_greatestCost_17 : decode cX0_greatestCost 17 = .ok (.iconst 0, 1) := by decide +kernel
theorem dX0_greatestCost_18 : decode cX0_greatestCost 18 = .ok (.istore_n 3, 1) := by decide +kernel
theorem dX0_greatestCost_19 : decode cX0_greatestCost 19 = .ok (.iconst 1, 1) := by decide +kernel
theorem dX0_greatestCost_20 : decode cX0_greatestCost 20 = .ok (.istore 4, 2) := by decide +kernel
theorem dX0_greatestCost_22 : decode cX0_greatestCost 22 = .ok (.iload 4, 2) := by decide +kernel
theorem dX0_greatestCost_24 : decode cX0_greatestCost 24 = .ok (.aload_n 0, 1) := by decide +kernel
theorem dX0_greatestCost_25 : decode cX0_greatestCost 25 = .ok (.getfield 13, 3) := by decide +kernel
theorem dX0_greatestCost_28 : decode cX0_greatestCost 28 = .ok (.iload_n 1, 1) := by decide +kernel
theorem dX0_greatestCost_29 : decode cX0_greatestCost 29 = .ok (.baload, 1) := by decide +kernel
theorem dX0_greatestCost_30 : decode cX0_greatestCost 30 = .ok (.if_icmp .gt 32, 3) := by decide +kernel
theorem dX0_greatestCost_33 : decode cX0_greatestCost 33 = .ok (.aload_n 0, 1) := by decide +kernel
theorem dX0_greatestCost_34 : decode cX0_greatestCost 34 = .ok (.getfield 7, 3) := by decide +kernel
theorem dX0_greatestCost_37 : decode cX0_greatestCost 37 = .ok (.iload_n 1, 1) := by decide +kernel
theorem dX0_greatestCost_38 : decode cX0_greatestCost 38 = .ok (.iload 4, 2) := by decide +kernel
theorem dX0_greatestCost_40 : decode cX0_greatestCost 40 = .ok (.i2b, 1) := by decide +kernel
theorem dX0_greatestCost_41 : decode cX0_greatestCost 41 = .ok (.bastore, 1) := by decide +kernel
theorem dX0_greatestCost_42 : decode cX0_greatestCost 42 = .ok (.aload_n 0, 1) := by decide +kernel
theorem dX0_greatestCost_43 : decode cX0_greatestCost 43 = .ok (.invokevirtual 75, 3) := by decide +kernel
theorem dX0_greatestCost_46 : decode cX0_greatestCost 46 = .ok (.ifCond .eq 8, 3) := by decide +kernel
theorem dX0_greatestCost_49 : decode cX0_greatestCost 49 = .ok (.iload 4, 2) := by decide +kernel
theorem dX0_greatestCost_51 : decode cX0_greatestCost 51 = .ok (.goto 4, 3) := by decide +kernel
theorem dX0_greatestCost_54 : decode cX0_greatestCost 54 = .ok (.iload_n 3, 1) := by decide +kernel
theorem dX0_greatestCost_55 : decode cX0_greatestCost 55 = .ok (.istore_n 3, 1) := by decide +kernel
theorem dX0_greatestCost_56 : decode cX0_greatestCost 56 = .ok (.iinc 4 1, 3) := by decide +kernel
theorem dX0_greatestCost_59 : decode cX0_greatestCost 59 = .ok (.goto (-37), 3) := by decide +kernel
theorem dX0_greatestCost_62 : decode cX0_greatestCost 62 = .ok (.aload_n 0, 1) := by decide +kernel
theorem dX0_greatestCost_63 : decode cX0_greatestCost 63 = .ok (.getfield 7, 3) := by decide +kernel
theorem dX0_greatestCost_66 : decode cX0_greatestCost 66 = .ok (.iload_n 1, 1) := by decide +kernel
theorem dX0_greatestCost_67 : decode cX0_greatestCost 67 = .ok (.iload_n 2, 1) := by decide +kernel
theorem dX0_greatestCost_68 : decode cX0_greatestCost 68 = .ok (.bastore, 1) := by decide +kernel
theorem dX0_greatestCost_69 : decode cX0_greatestCost 69 = .ok (.iload_n 3, 1) := by decide +kernel
theorem dX0_greatestCost_70 : decode cX0_greatestCost 70 = .ok (.ireturn, 1) := by decide +kernel
abbrev cX0_leastPeriod : ByteArray := prog_1_method_24_code
def yX0_leastPeriod : MethodName := ⟨RX0, "leastPeriod", "(I)I"⟩
theorem dX0_leastPeriod_0 : decode cX0_leastPeriod 0 = .ok (.aload_n 0, 1) := by decide +kernel
theorem dX0_leastPeriod_1 : decode cX0_leastPeriod 1 = .ok (.iload_n 1, 1) := by decide +kernel
theorem dX0_leastPeriod_2 : decode cX0_leastPeriod 2 = .ok (.invokevirtual 37, 3) := by decide +kernel
theorem dX0_leastPeriod_5 : decode cX0_leastPeriod 5 = .ok (.ifCond .ne 5, 3) := by decide +kernel
theorem dX0_leastPeriod_8 : decode cX0_leastPeriod 8 = .ok (.iconst (-1), 1) := by decide +kernel
theorem dX0_leastPeriod_9 : decode cX0_leastPeriod 9 = .ok (.ireturn, 1) := by decide +kernel
theorem dX0_leastPeriod_10 : decode cX0_leastPeriod 10 = .ok (.aload_n 0, 1) := by decide +kernel
theorem dX0_leastPeriod_11 : decode cX0_leastPeriod 11 = .ok (.getfield 16, 3) := by decide +kernel
theorem dX0_leastPeriod_14 : decode cX0_leastPeriod 14 = .ok (.iload_n 1, 1) := by decide +kernel
theorem dX0_leastPeriod_15 : decode cX0_leastPeriod 15 = .ok (.baload, 1) := by decide +kernel
theorem dX0_leastPeriod_16 : decode cX0_leastPeriod 16 = .ok (.istore_n 2, 1) := by decide +kernel
theorem dX0_leastPeriod_17 : decode cX0_leastPeriod 17 = .ok (.iconst 0, 1) := by decide +kernel
theorem dX0_leastPeriod_18 : decode cX0_leastPeriod 18 = .ok (.istore_n 3, 1) := by decide +kernel
theorem dX0_leastPeriod_19 : decode cX0_leastPeriod 19 = .ok (.bipush 15, 2) := by decide +kernel
theorem dX0_leastPeriod_21 : decode cX0_leastPeriod 21 = .ok (.istore 4, 2) := by decide +kernel
theorem dX0_leastPeriod_23 : decode cX0_leastPeriod 23 = .ok (.iload 4, 2) := by decide +kernel
theorem dX0_leastPeriod_25 : decode cX0_leastPeriod 25 = .ok (.aload_n 0, 1) := by decide +kernel
theorem dX0_leastPeriod_26 : decode cX0_leastPeriod 26 = .ok (.getfield 13, 3) := by decide +kernel
theorem dX0_leastPeriod_29 : decode cX0_leastPeriod 29 = .ok (.iload_n 1, 1) := by decide +kernel
theorem dX0_leastPeriod_30 : decode cX0_leastPeriod 30 = .ok (.baload, 1) := by decide +kernel
theorem dX0_leastPeriod_31 : decode cX0_leastPeriod 31 = .ok (.if_icmp .lt 32, 3) := by decide +kernel
theorem dX0_leastPeriod_34 : decode cX0_leastPeriod 34 = .ok (.aload_n 0, 1) := by decide +kernel
theorem dX0_leastPeriod_35 : decode cX0_leastPeriod 35 = .ok (.getfield 16, 3) := by decide +kernel
theorem dX0_leastPeriod_38 : decode cX0_leastPeriod 38 = .ok (.iload_n 1, 1) := by decide +kernel
theorem dX0_leastPeriod_39 : decode cX0_leastPeriod 39 = .ok (.iload 4, 2) := by decide +kernel
theorem dX0_leastPeriod_41 : decode cX0_leastPeriod 41 = .ok (.i2b, 1) := by decide +kernel
theorem dX0_leastPeriod_42 : decode cX0_leastPeriod 42 = .ok (.bastore, 1) := by decide +kernel
theorem dX0_leastPeriod_43 : decode cX0_leastPeriod 43 = .ok (.aload_n 0, 1) := by decide +kernel
theorem dX0_leastPeriod_44 : decode cX0_leastPeriod 44 = .ok (.invokevirtual 75, 3) := by decide +kernel
theorem dX0_leastPeriod_47 : decode cX0_leastPeriod 47 = .ok (.ifCond .eq 8, 3) := by decide +kernel
theorem dX0_leastPeriod_50 : decode cX0_leastPeriod 50 = .ok (.iload 4, 2) := by decide +kernel
theorem dX0_leastPeriod_52 : decode cX0_leastPeriod 52 = .ok (.goto 4, 3) := by decide +kernel
theorem dX0_leastPeriod_55 : decode cX0_leastPeriod 55 = .ok (.iload_n 3, 1) := by decide +kernel
theorem dX0_leastPeriod_56 : decode cX0_leastPeriod 56 = .ok (.istore_n 3, 1) := by decide +kernel
theorem dX0_leastPeriod_57 : decode cX0_leastPeriod 57 = .ok (.iinc 4 (-1), 3) := by decide +kernel
theorem dX0_leastPeriod_60 : decode cX0_leastPeriod 60 = .ok (.goto (-37), 3) := by decide +kernel
theorem dX0_leastPeriod_63 : decode cX0_leastPeriod 63 = .ok (.aload_n 0, 1) := by decide +kernel
theorem dX0_leastPeriod_64 : decode cX0_leastPeriod 64 = .ok (.getfield 16, 3) := by decide +kernel
theorem dX0_leastPeriod_67 : decode cX0_leastPeriod 67 = .ok (.iload_n 1, 1) := by decide +kernel
theorem dX0_leastPeriod_68 : decode cX0_leastPeriod 68 = .ok (.iload_n 2, 1) := by decide +kernel
theorem dX0_leastPeriod_69 : decode cX0_leastPeriod 69 = .ok (.bastore, 1) := by decide +kernel
theorem dX0_leastPeriod_70 : decode cX0_leastPeriod 70 = .ok (.iload_n 3, 1) := by decide +kernel
theorem dX0_leastPeriod_71 : decode cX0_leastPeriod 71 = .ok (.ireturn, 1) := by decide +kernel
abbrev cX0_idle : ByteArray := prog_1_method_25_code
def yX0_idle : MethodName := ⟨RX0, "idle", "(I)I"⟩
theorem dX0_idle_0 : decode cX0_idle 0 = .ok (.iconst 0, 1) := by decide +kernel
theorem dX0_idle_1 : decode cX0_idle 1 = .ok (.istore_n 2, 1) := by decide +kernel
theorem dX0_idle_2 : decode cX0_idle 2 = .ok (.iconst 1, 1) := by decide +kernel
theorem dX0_idle_3 : decode cX0_idle 3 = .ok (.istore_n 3, 1) := by decide +kernel
theorem dX0_idle_4 : decode cX0_idle 4 = .ok (.iload_n 3, 1) := by decide +kernel
theorem dX0_idle_5 : decode cX0_idle 5 = .ok (.iload_n 1, 1) := by decide +kernel
theorem dX0_idle_6 : decode cX0_idle 6 = .ok (.if_icmp .gt 41, 3) := by decide +kernel
theorem dX0_idle_9 : decode cX0_idle 9 = .ok (.iload_n 3, 1) := by decide +kernel
theorem dX0_idle_10 : decode cX0_idle 10 = .ok (.bipush 60, 2) := by decide +kernel
theorem dX0_idle_12 : decode cX0_idle 12 = .ok (.if_icmp .gt 35, 3) := by decide +kernel
theorem dX0_idle_15 : decode cX0_idle 15 = .ok (.iload_n 3, 1) := by decide +kernel
theorem dX0_idle_16 : decode cX0_idle 16 = .ok (.aload_n 0, 1) := by decide +kernel
theorem dX0_idle_17 : decode cX0_idle 17 = .ok (.aload_n 0, 1) := by decide +kernel
theorem dX0_idle_18 : decode cX0_idle 18 = .ok (.getfield 29, 3) := by decide +kernel
theorem dX0_idle_21 : decode cX0_idle 21 = .ok (.iload_n 3, 1) := by decide +kernel
theorem dX0_idle_22 : decode cX0_idle 22 = .ok (.invokevirtual 52, 3) := by decide +kernel
theorem dX0_idle_25 : decode cX0_idle 25 = .ok (.isub, 1) := by decide +kernel
theorem dX0_idle_26 : decode cX0_idle 26 = .ok (.istore 4, 2) := by decide +kernel
theorem dX0_idle_28 : decode cX0_idle 28 = .ok (.iload 4, 2) := by decide +kernel
theorem dX0_idle_30 : decode cX0_idle 30 = .ok (.iload_n 2, 1) := by decide +kernel
theorem dX0_idle_31 : decode cX0_idle 31 = .ok (.if_icmp .le 8, 3) := by decide +kernel
theorem dX0_idle_34 : decode cX0_idle 34 = .ok (.iload 4, 2) := by decide +kernel
theorem dX0_idle_36 : decode cX0_idle 36 = .ok (.goto 4, 3) := by decide +kernel
theorem dX0_idle_39 : decode cX0_idle 39 = .ok (.iload_n 2, 1) := by decide +kernel
theorem dX0_idle_40 : decode cX0_idle 40 = .ok (.istore_n 2, 1) := by decide +kernel
theorem dX0_idle_41 : decode cX0_idle 41 = .ok (.iinc 3 1, 3) := by decide +kernel
theorem dX0_idle_44 : decode cX0_idle 44 = .ok (.goto (-40), 3) := by decide +kernel
theorem dX0_idle_47 : decode cX0_idle 47 = .ok (.iload_n 2, 1) := by decide +kernel
theorem dX0_idle_48 : decode cX0_idle 48 = .ok (.ireturn, 1) := by decide +kernel
abbrev cX0_fits : ByteArray := prog_1_method_26_code
def yX0_fits : MethodName := ⟨RX0, "fits", "(III)Z"⟩
theorem dX0_fits_0 : decode cX0_fits 0 = .ok (.aload_n 0, 1) := by decide +kernel
theorem dX0_fits_1 : decode cX0_fits 1 = .ok (.iload_n 1, 1) := by decide +kernel
theorem dX0_fits_2 : decode cX0_fits 2 = .ok (.iload_n 2, 1) := by decide +kernel
theorem dX0_fits_3 : decode cX0_fits 3 = .ok (.iload_n 3, 1) := by decide +kernel
theorem dX0_fits_4 : decode cX0_fits 4 = .ok (.invokevirtual 79, 3) := by decide +kernel
theorem dX0_fits_7 : decode cX0_fits 7 = .ok (.istore 4, 2) := by decide +kernel
theorem dX0_fits_9 : decode cX0_fits 9 = .ok (.iload 4, 2) := by decide +kernel
theorem dX0_fits_11 : decode cX0_fits 11 = .ok (.ifCond .ge 5, 3) := by decide +kernel
theorem dX0_fits_14 : decode cX0_fits 14 = .ok (.iconst 0, 1) := by decide +kernel
theorem dX0_fits_15 : decode cX0_fits 15 = .ok (.ireturn, 1) := by decide +kernel
theorem dX0_fits_16 : decode cX0_fits 16 = .ok (.aload_n 0, 1) := by decide +kernel
theorem dX0_fits_17 : decode cX0_fits 17 = .ok (.invokevirtual 83, 3) := by decide +kernel
theorem dX0_fits_20 : decode cX0_fits 20 = .ok (.istore 5, 2) := by decide +kernel
theorem dX0_fits_22 : decode cX0_fits 22 = .ok (.aload_n 0, 1) := by decide +kernel
theorem dX0_fits_23 : decode cX0_fits 23 = .ok (.iload 4, 2) := by decide +kernel
theorem dX0_fits_25 : decode cX0_fits 25 = .ok (.invokevirtual 86, 3) := by decide +kernel
theorem dX0_fits_28 : decode cX0_fits 28 = .ok (.pop, 1) := by decide +kernel
theorem dX0_fits_29 : decode cX0_fits 29 = .ok (.iload 5, 2) := by decide +kernel
theorem dX0_fits_31 : decode cX0_fits 31 = .ok (.ifCond .le 7, 3) := by decide +kernel
theorem dX0_fits_34 : decode cX0_fits 34 = .ok (.iconst 1, 1) := by decide +kernel
theorem dX0_fits_35 : decode cX0_fits 35 = .ok (.goto 4, 3) := by decide +kernel
theorem dX0_fits_38 : decode cX0_fits 38 = .ok (.iconst 0, 1) := by decide +kernel
theorem dX0_fits_39 : decode cX0_fits 39 = .ok (.ireturn, 1) := by decide +kernel
theorem q22 : (Jvm.Cond.initialized "ResponseDesk") ∈ lw_all := lw_g (lw_at lw_m1 1 rfl) rfl
theorem q25 : (Jvm.Cond.instantiable "ResponseDesk" (8 : Nat)) ∈ lw_all := lw_g (lw_at lw_m1 4 rfl) rfl
theorem q27 : (Jvm.Cond.instanceMethod ({ cls := "ResponseDesk", name := "<init>", desc := "()V" } : Jvm.MethodName)) ∈ lw_all := lw_g (lw_at lw_m1 6 rfl) rfl
theorem q28 : (Jvm.Cond.code ({ cls := "ResponseDesk", name := "<init>", desc := "()V" } : Jvm.MethodName) prog_1_method_1_code (1 : Nat) (Option.none : Option Jvm.ClassFile.FieldType)) ∈ lw_all := lw_g (lw_at lw_m1 7 rfl) rfl
theorem q29 : (Jvm.Cond.methodLink "ResponseDesk" (1 : Nat) ({ cls := "java/lang/Object", name := "<init>", desc := "()V" } : Jvm.MethodName)) ∈ lw_all := lw_g (lw_at lw_m1 8 rfl) rfl
theorem q32 : (Jvm.Cond.fieldLink "ResponseDesk" (29 : Nat) "ResponseDesk" "present" "I") ∈ lw_all := lw_g (lw_at lw_m1 11 rfl) rfl
theorem q33 : (Jvm.Cond.fieldLink "ResponseDesk" (7 : Nat) "ResponseDesk" "costs" "[B") ∈ lw_all := lw_g (lw_at lw_m1 12 rfl) rfl
theorem q34 : (Jvm.Cond.fieldLink "ResponseDesk" (13 : Nat) "ResponseDesk" "limits" "[B") ∈ lw_all := lw_g (lw_at lw_m1 13 rfl) rfl
theorem q35 : (Jvm.Cond.fieldLink "ResponseDesk" (16 : Nat) "ResponseDesk" "periods" "[B") ∈ lw_all := lw_g (lw_at lw_m1 14 rfl) rfl
theorem q36 : (Jvm.Cond.fieldLink "ResponseDesk" (19 : Nat) "ResponseDesk" "order" "[B") ∈ lw_all := lw_g (lw_at lw_m1 15 rfl) rfl
theorem q37 : (Jvm.Cond.fieldLink "ResponseDesk" (41 : Nat) "ResponseDesk" "count" "I") ∈ lw_all := lw_g (lw_at lw_m1 16 rfl) rfl
theorem q38 : (Jvm.Cond.fieldLink "ResponseDesk" (22 : Nat) "ResponseDesk" "below" "[I") ∈ lw_all := lw_g (lw_at lw_m1 17 rfl) rfl
theorem q39 : (Jvm.Cond.fieldLink "ResponseDesk" (26 : Nat) "ResponseDesk" "among" "[I") ∈ lw_all := lw_g (lw_at lw_m1 18 rfl) rfl
theorem q40 : (Jvm.Cond.lays "ResponseDesk" "ResponseDesk" "present" "I") ∈ lw_all := lw_g (lw_at lw_m1 19 rfl) rfl
theorem q41 : (Jvm.Cond.soleField "ResponseDesk" "present") ∈ lw_all := lw_g (lw_at lw_m1 20 rfl) rfl
theorem q42 : (Jvm.Cond.laysFinal "ResponseDesk" "ResponseDesk" "costs" "[B") ∈ lw_all := lw_g (lw_at lw_m1 21 rfl) rfl
theorem q43 : (Jvm.Cond.soleField "ResponseDesk" "costs") ∈ lw_all := lw_g (lw_at lw_m1 22 rfl) rfl
theorem q44 : (Jvm.Cond.laysFinal "ResponseDesk" "ResponseDesk" "limits" "[B") ∈ lw_all := lw_g (lw_at lw_m1 23 rfl) rfl
theorem q45 : (Jvm.Cond.soleField "ResponseDesk" "limits") ∈ lw_all := lw_g (lw_at lw_m1 24 rfl) rfl
theorem q46 : (Jvm.Cond.laysFinal "ResponseDesk" "ResponseDesk" "periods" "[B") ∈ lw_all := lw_g (lw_at lw_m1 25 rfl) rfl
theorem q47 : (Jvm.Cond.soleField "ResponseDesk" "periods") ∈ lw_all := lw_g (lw_at lw_m1 26 rfl) rfl
theorem q48 : (Jvm.Cond.laysFinal "ResponseDesk" "ResponseDesk" "order" "[B") ∈ lw_all := lw_g (lw_at lw_m1 27 rfl) rfl
theorem q49 : (Jvm.Cond.soleField "ResponseDesk" "order") ∈ lw_all := lw_g (lw_at lw_m1 28 rfl) rfl
theorem q50 : (Jvm.Cond.lays "ResponseDesk" "ResponseDesk" "count" "I") ∈ lw_all := lw_g (lw_at lw_m1 29 rfl) rfl
theorem q51 : (Jvm.Cond.soleField "ResponseDesk" "count") ∈ lw_all := lw_g (lw_at lw_m1 30 rfl) rfl
theorem q52 : (Jvm.Cond.laysFinal "ResponseDesk" "ResponseDesk" "below" "[I") ∈ lw_all := lw_g (lw_at lw_m1 31 rfl) rfl
theorem q53 : (Jvm.Cond.soleField "ResponseDesk" "below") ∈ lw_all := lw_g (lw_at lw_m1 32 rfl) rfl
theorem q54 : (Jvm.Cond.laysFinal "ResponseDesk" "ResponseDesk" "among" "[I") ∈ lw_all := lw_g (lw_at lw_m1 33 rfl) rfl
theorem q55 : (Jvm.Cond.soleField "ResponseDesk" "among") ∈ lw_all := lw_g (lw_at lw_m1 34 rfl) rfl
theorem q56 : (Jvm.Cond.superclass "ResponseDesk" "java/lang/Object") ∈ lw_all := lw_g (lw_at lw_m1 35 rfl) rfl
theorem q60 : (Jvm.Cond.instanceMethod ({ cls := "ResponseDesk", name := "add", desc := "(III)I" } : Jvm.MethodName)) ∈ lw_all := lw_g (lw_at lw_m1 39 rfl) rfl
theorem q61 : (Jvm.Cond.selects "ResponseDesk" ({ cls := "ResponseDesk", name := "add", desc := "(III)I" } : Jvm.MethodName) ({ cls := "ResponseDesk", name := "add", desc := "(III)I" } : Jvm.MethodName)) ∈ lw_all := lw_g (lw_at lw_m1 40 rfl) rfl
theorem q62 : (Jvm.Cond.code ({ cls := "ResponseDesk", name := "add", desc := "(III)I" } : Jvm.MethodName) prog_1_method_5_code (5 : Nat) (Option.some Jvm.ClassFile.FieldType.int)) ∈ lw_all := lw_g (lw_at lw_m1 41 rfl) rfl
theorem q63 : (Jvm.Cond.methodLink "ResponseDesk" (33 : Nat) ({ cls := "ResponseDesk", name := "numbersOk", desc := "(III)Z" } : Jvm.MethodName)) ∈ lw_all := lw_g (lw_at lw_m1 42 rfl) rfl
theorem q64 : (Jvm.Cond.static ({ cls := "ResponseDesk", name := "numbersOk", desc := "(III)Z" } : Jvm.MethodName)) ∈ lw_all := lw_g (lw_at lw_m1 43 rfl) rfl
theorem q65 : (Jvm.Cond.code ({ cls := "ResponseDesk", name := "numbersOk", desc := "(III)Z" } : Jvm.MethodName) prog_1_method_4_code (3 : Nat) (Option.some Jvm.ClassFile.FieldType.boolean)) ∈ lw_all := lw_g (lw_at lw_m1 44 rfl) rfl
theorem q66 : (Jvm.Cond.methodLink "ResponseDesk" (37 : Nat) ({ cls := "ResponseDesk", name := "has", desc := "(I)Z" } : Jvm.MethodName)) ∈ lw_all := lw_g (lw_at lw_m1 45 rfl) rfl
theorem q67 : (Jvm.Cond.privateMethod ({ cls := "ResponseDesk", name := "has", desc := "(I)Z" } : Jvm.MethodName)) ∈ lw_tbl := lw_at lw_m1 46 rfl
theorem q68 : (Jvm.Cond.instanceMethod ({ cls := "ResponseDesk", name := "has", desc := "(I)Z" } : Jvm.MethodName)) ∈ lw_all := lw_g (lw_at lw_m1 47 rfl) rfl
theorem q69 : (Jvm.Cond.code ({ cls := "ResponseDesk", name := "has", desc := "(I)Z" } : Jvm.MethodName) prog_1_method_2_code (2 : Nat) (Option.some Jvm.ClassFile.FieldType.boolean)) ∈ lw_all := lw_g (lw_at lw_m1 48 rfl) rfl
theorem q71 : (Jvm.Cond.instanceMethod ({ cls := "ResponseDesk", name := "remove", desc := "(I)Z" } : Jvm.MethodName)) ∈ lw_all := lw_g (lw_at lw_m1 50 rfl) rfl
theorem q72 : (Jvm.Cond.selects "ResponseDesk" ({ cls := "ResponseDesk", name := "remove", desc := "(I)Z" } : Jvm.MethodName) ({ cls := "ResponseDesk", name := "remove", desc := "(I)Z" } : Jvm.MethodName)) ∈ lw_all := lw_g (lw_at lw_m1 51 rfl) rfl
theorem q73 : (Jvm.Cond.code ({ cls := "ResponseDesk", name := "remove", desc := "(I)Z" } : Jvm.MethodName) prog_1_method_7_code (4 : Nat) (Option.some Jvm.ClassFile.FieldType.boolean)) ∈ lw_all := lw_g (lw_at lw_m1 52 rfl) rfl
theorem q74 : (Jvm.Cond.methodLink "ResponseDesk" (44 : Nat) ({ cls := "ResponseDesk", name := "placeOf", desc := "(I)I" } : Jvm.MethodName)) ∈ lw_all := lw_g (lw_at lw_m1 53 rfl) rfl
theorem q75 : (Jvm.Cond.privateMethod ({ cls := "ResponseDesk", name := "placeOf", desc := "(I)I" } : Jvm.MethodName)) ∈ lw_tbl := lw_at lw_m1 54 rfl
theorem q76 : (Jvm.Cond.instanceMethod ({ cls := "ResponseDesk", name := "placeOf", desc := "(I)I" } : Jvm.MethodName)) ∈ lw_all := lw_g (lw_at lw_m1 55 rfl) rfl
theorem q77 : (Jvm.Cond.code ({ cls := "ResponseDesk", name := "placeOf", desc := "(I)I" } : Jvm.MethodName) prog_1_method_6_code (3 : Nat) (Option.some Jvm.ClassFile.FieldType.int)) ∈ lw_all := lw_g (lw_at lw_m1 56 rfl) rfl
theorem q79 : (Jvm.Cond.instanceMethod ({ cls := "ResponseDesk", name := "place", desc := "(II)Z" } : Jvm.MethodName)) ∈ lw_all := lw_g (lw_at lw_m1 58 rfl) rfl
theorem q80 : (Jvm.Cond.selects "ResponseDesk" ({ cls := "ResponseDesk", name := "place", desc := "(II)Z" } : Jvm.MethodName) ({ cls := "ResponseDesk", name := "place", desc := "(II)Z" } : Jvm.MethodName)) ∈ lw_all := lw_g (lw_at lw_m1 59 rfl) rfl
theorem q81 : (Jvm.Cond.code ({ cls := "ResponseDesk", name := "place", desc := "(II)Z" } : Jvm.MethodName) prog_1_method_8_code (4 : Nat) (Option.some Jvm.ClassFile.FieldType.boolean)) ∈ lw_all := lw_g (lw_at lw_m1 60 rfl) rfl
theorem q83 : (Jvm.Cond.instanceMethod ({ cls := "ResponseDesk", name := "tasks", desc := "()I" } : Jvm.MethodName)) ∈ lw_all := lw_g (lw_at lw_m1 62 rfl) rfl
theorem q84 : (Jvm.Cond.selects "ResponseDesk" ({ cls := "ResponseDesk", name := "tasks", desc := "()I" } : Jvm.MethodName) ({ cls := "ResponseDesk", name := "tasks", desc := "()I" } : Jvm.MethodName)) ∈ lw_all := lw_g (lw_at lw_m1 63 rfl) rfl
theorem q85 : (Jvm.Cond.code ({ cls := "ResponseDesk", name := "tasks", desc := "()I" } : Jvm.MethodName) prog_1_method_9_code (1 : Nat) (Option.some Jvm.ClassFile.FieldType.int)) ∈ lw_all := lw_g (lw_at lw_m1 64 rfl) rfl
theorem q87 : (Jvm.Cond.instanceMethod ({ cls := "ResponseDesk", name := "at", desc := "(I)I" } : Jvm.MethodName)) ∈ lw_all := lw_g (lw_at lw_m1 66 rfl) rfl
theorem q88 : (Jvm.Cond.selects "ResponseDesk" ({ cls := "ResponseDesk", name := "at", desc := "(I)I" } : Jvm.MethodName) ({ cls := "ResponseDesk", name := "at", desc := "(I)I" } : Jvm.MethodName)) ∈ lw_all := lw_g (lw_at lw_m1 67 rfl) rfl
theorem q89 : (Jvm.Cond.code ({ cls := "ResponseDesk", name := "at", desc := "(I)I" } : Jvm.MethodName) prog_1_method_10_code (2 : Nat) (Option.some Jvm.ClassFile.FieldType.int)) ∈ lw_all := lw_g (lw_at lw_m1 68 rfl) rfl
theorem q91 : (Jvm.Cond.instanceMethod ({ cls := "ResponseDesk", name := "response", desc := "(I)I" } : Jvm.MethodName)) ∈ lw_all := lw_g (lw_at lw_m1 70 rfl) rfl
theorem q92 : (Jvm.Cond.selects "ResponseDesk" ({ cls := "ResponseDesk", name := "response", desc := "(I)I" } : Jvm.MethodName) ({ cls := "ResponseDesk", name := "response", desc := "(I)I" } : Jvm.MethodName)) ∈ lw_all := lw_g (lw_at lw_m1 71 rfl) rfl
theorem q93 : (Jvm.Cond.code ({ cls := "ResponseDesk", name := "response", desc := "(I)I" } : Jvm.MethodName) prog_1_method_15_code (3 : Nat) (Option.some Jvm.ClassFile.FieldType.int)) ∈ lw_all := lw_g (lw_at lw_m1 72 rfl) rfl
theorem q94 : (Jvm.Cond.methodLink "ResponseDesk" (59 : Nat) ({ cls := "ResponseDesk", name := "moreUrgent", desc := "(I)I" } : Jvm.MethodName)) ∈ lw_all := lw_g (lw_at lw_m1 73 rfl) rfl
theorem q95 : (Jvm.Cond.privateMethod ({ cls := "ResponseDesk", name := "moreUrgent", desc := "(I)I" } : Jvm.MethodName)) ∈ lw_tbl := lw_at lw_m1 74 rfl
theorem q96 : (Jvm.Cond.instanceMethod ({ cls := "ResponseDesk", name := "moreUrgent", desc := "(I)I" } : Jvm.MethodName)) ∈ lw_all := lw_g (lw_at lw_m1 75 rfl) rfl
theorem q97 : (Jvm.Cond.code ({ cls := "ResponseDesk", name := "moreUrgent", desc := "(I)I" } : Jvm.MethodName) prog_1_method_14_code (5 : Nat) (Option.some Jvm.ClassFile.FieldType.int)) ∈ lw_all := lw_g (lw_at lw_m1 76 rfl) rfl
theorem q98 : (Jvm.Cond.methodLink "ResponseDesk" (56 : Nat) ({ cls := "ResponseDesk", name := "responseUnder", desc := "(II)I" } : Jvm.MethodName)) ∈ lw_all := lw_g (lw_at lw_m1 77 rfl) rfl
theorem q99 : (Jvm.Cond.privateMethod ({ cls := "ResponseDesk", name := "responseUnder", desc := "(II)I" } : Jvm.MethodName)) ∈ lw_tbl := lw_at lw_m1 78 rfl
theorem q100 : (Jvm.Cond.instanceMethod ({ cls := "ResponseDesk", name := "responseUnder", desc := "(II)I" } : Jvm.MethodName)) ∈ lw_all := lw_g (lw_at lw_m1 79 rfl) rfl
theorem q101 : (Jvm.Cond.code ({ cls := "ResponseDesk", name := "responseUnder", desc := "(II)I" } : Jvm.MethodName) prog_1_method_12_code (6 : Nat) (Option.some Jvm.ClassFile.FieldType.int)) ∈ lw_all := lw_g (lw_at lw_m1 80 rfl) rfl
theorem q102 : (Jvm.Cond.methodLink "ResponseDesk" (52 : Nat) ({ cls := "ResponseDesk", name := "workIn", desc := "(II)I" } : Jvm.MethodName)) ∈ lw_all := lw_g (lw_at lw_m1 81 rfl) rfl
theorem q103 : (Jvm.Cond.privateMethod ({ cls := "ResponseDesk", name := "workIn", desc := "(II)I" } : Jvm.MethodName)) ∈ lw_tbl := lw_at lw_m1 82 rfl
theorem q104 : (Jvm.Cond.instanceMethod ({ cls := "ResponseDesk", name := "workIn", desc := "(II)I" } : Jvm.MethodName)) ∈ lw_all := lw_g (lw_at lw_m1 83 rfl) rfl
theorem q105 : (Jvm.Cond.code ({ cls := "ResponseDesk", name := "workIn", desc := "(II)I" } : Jvm.MethodName) prog_1_method_11_code (6 : Nat) (Option.some Jvm.ClassFile.FieldType.int)) ∈ lw_all := lw_g (lw_at lw_m1 84 rfl) rfl
theorem q106 : (Jvm.Cond.methodLink "ResponseDesk" (48 : Nat) ({ cls := "ResponseDesk", name := "in", desc := "(II)Z" } : Jvm.MethodName)) ∈ lw_all := lw_g (lw_at lw_m1 85 rfl) rfl
theorem q107 : (Jvm.Cond.static ({ cls := "ResponseDesk", name := "in", desc := "(II)Z" } : Jvm.MethodName)) ∈ lw_all := lw_g (lw_at lw_m1 86 rfl) rfl
theorem q108 : (Jvm.Cond.code ({ cls := "ResponseDesk", name := "in", desc := "(II)Z" } : Jvm.MethodName) prog_1_method_3_code (2 : Nat) (Option.some Jvm.ClassFile.FieldType.boolean)) ∈ lw_all := lw_g (lw_at lw_m1 87 rfl) rfl
theorem q110 : (Jvm.Cond.instanceMethod ({ cls := "ResponseDesk", name := "good", desc := "()Z" } : Jvm.MethodName)) ∈ lw_all := lw_g (lw_at lw_m1 89 rfl) rfl
theorem q111 : (Jvm.Cond.selects "ResponseDesk" ({ cls := "ResponseDesk", name := "good", desc := "()Z" } : Jvm.MethodName) ({ cls := "ResponseDesk", name := "good", desc := "()Z" } : Jvm.MethodName)) ∈ lw_all := lw_g (lw_at lw_m1 90 rfl) rfl
theorem q112 : (Jvm.Cond.code ({ cls := "ResponseDesk", name := "good", desc := "()Z" } : Jvm.MethodName) prog_1_method_16_code (1 : Nat) (Option.some Jvm.ClassFile.FieldType.boolean)) ∈ lw_all := lw_g (lw_at lw_m1 91 rfl) rfl
theorem q113 : (Jvm.Cond.methodLink "ResponseDesk" (62 : Nat) ({ cls := "ResponseDesk", name := "inTime", desc := "()I" } : Jvm.MethodName)) ∈ lw_all := lw_g (lw_at lw_m1 92 rfl) rfl
theorem q114 : (Jvm.Cond.instanceMethod ({ cls := "ResponseDesk", name := "inTime", desc := "()I" } : Jvm.MethodName)) ∈ lw_all := lw_g (lw_at lw_m1 93 rfl) rfl
theorem q115 : (Jvm.Cond.selects "ResponseDesk" ({ cls := "ResponseDesk", name := "inTime", desc := "()I" } : Jvm.MethodName) ({ cls := "ResponseDesk", name := "inTime", desc := "()I" } : Jvm.MethodName)) ∈ lw_all := lw_g (lw_at lw_m1 94 rfl) rfl
theorem q116 : (Jvm.Cond.code ({ cls := "ResponseDesk", name := "inTime", desc := "()I" } : Jvm.MethodName) prog_1_method_17_code (4 : Nat) (Option.some Jvm.ClassFile.FieldType.int)) ∈ lw_all := lw_g (lw_at lw_m1 95 rfl) rfl
theorem q117 : (Jvm.Cond.methodLink "ResponseDesk" (66 : Nat) ({ cls := "ResponseDesk", name := "inTimeUnder", desc := "(II)Z" } : Jvm.MethodName)) ∈ lw_all := lw_g (lw_at lw_m1 96 rfl) rfl
theorem q118 : (Jvm.Cond.privateMethod ({ cls := "ResponseDesk", name := "inTimeUnder", desc := "(II)Z" } : Jvm.MethodName)) ∈ lw_tbl := lw_at lw_m1 97 rfl
theorem q119 : (Jvm.Cond.instanceMethod ({ cls := "ResponseDesk", name := "inTimeUnder", desc := "(II)Z" } : Jvm.MethodName)) ∈ lw_all := lw_g (lw_at lw_m1 98 rfl) rfl
theorem q120 : (Jvm.Cond.code ({ cls := "ResponseDesk", name := "inTimeUnder", desc := "(II)Z" } : Jvm.MethodName) prog_1_method_13_code (4 : Nat) (Option.some Jvm.ClassFile.FieldType.boolean)) ∈ lw_all := lw_g (lw_at lw_m1 99 rfl) rfl
theorem q123 : (Jvm.Cond.instanceMethod ({ cls := "ResponseDesk", name := "goodOrders", desc := "()I" } : Jvm.MethodName)) ∈ lw_all := lw_g (lw_at lw_m1 102 rfl) rfl
theorem q124 : (Jvm.Cond.selects "ResponseDesk" ({ cls := "ResponseDesk", name := "goodOrders", desc := "()I" } : Jvm.MethodName) ({ cls := "ResponseDesk", name := "goodOrders", desc := "()I" } : Jvm.MethodName)) ∈ lw_all := lw_g (lw_at lw_m1 103 rfl) rfl
theorem q125 : (Jvm.Cond.code ({ cls := "ResponseDesk", name := "goodOrders", desc := "()I" } : Jvm.MethodName) prog_1_method_19_code (1 : Nat) (Option.some Jvm.ClassFile.FieldType.int)) ∈ lw_all := lw_g (lw_at lw_m1 104 rfl) rfl
theorem q126 : (Jvm.Cond.methodLink "ResponseDesk" (69 : Nat) ({ cls := "ResponseDesk", name := "fill", desc := "()V" } : Jvm.MethodName)) ∈ lw_all := lw_g (lw_at lw_m1 105 rfl) rfl
theorem q127 : (Jvm.Cond.privateMethod ({ cls := "ResponseDesk", name := "fill", desc := "()V" } : Jvm.MethodName)) ∈ lw_tbl := lw_at lw_m1 106 rfl
theorem q128 : (Jvm.Cond.instanceMethod ({ cls := "ResponseDesk", name := "fill", desc := "()V" } : Jvm.MethodName)) ∈ lw_all := lw_g (lw_at lw_m1 107 rfl) rfl
theorem q129 : (Jvm.Cond.code ({ cls := "ResponseDesk", name := "fill", desc := "()V" } : Jvm.MethodName) prog_1_method_18_code (4 : Nat) (Option.none : Option Jvm.ClassFile.FieldType)) ∈ lw_all := lw_g (lw_at lw_m1 108 rfl) rfl
theorem q131 : (Jvm.Cond.instanceMethod ({ cls := "ResponseDesk", name := "arrange", desc := "()Z" } : Jvm.MethodName)) ∈ lw_all := lw_g (lw_at lw_m1 110 rfl) rfl
theorem q132 : (Jvm.Cond.selects "ResponseDesk" ({ cls := "ResponseDesk", name := "arrange", desc := "()Z" } : Jvm.MethodName) ({ cls := "ResponseDesk", name := "arrange", desc := "()Z" } : Jvm.MethodName)) ∈ lw_all := lw_g (lw_at lw_m1 111 rfl) rfl
theorem q133 : (Jvm.Cond.code ({ cls := "ResponseDesk", name := "arrange", desc := "()Z" } : Jvm.MethodName) prog_1_method_20_code (4 : Nat) (Option.some Jvm.ClassFile.FieldType.boolean)) ∈ lw_all := lw_g (lw_at lw_m1 112 rfl) rfl
theorem q134 : (Jvm.Cond.methodLink "ResponseDesk" (72 : Nat) ({ cls := "ResponseDesk", name := "canFollow", desc := "(II)Z" } : Jvm.MethodName)) ∈ lw_all := lw_g (lw_at lw_m1 113 rfl) rfl
theorem q135 : (Jvm.Cond.privateMethod ({ cls := "ResponseDesk", name := "canFollow", desc := "(II)Z" } : Jvm.MethodName)) ∈ lw_tbl := lw_at lw_m1 114 rfl
theorem q136 : (Jvm.Cond.instanceMethod ({ cls := "ResponseDesk", name := "canFollow", desc := "(II)Z" } : Jvm.MethodName)) ∈ lw_all := lw_g (lw_at lw_m1 115 rfl) rfl
theorem q137 : (Jvm.Cond.code ({ cls := "ResponseDesk", name := "canFollow", desc := "(II)Z" } : Jvm.MethodName) prog_1_method_21_code (3 : Nat) (Option.some Jvm.ClassFile.FieldType.boolean)) ∈ lw_all := lw_g (lw_at lw_m1 116 rfl) rfl
theorem q139 : (Jvm.Cond.instanceMethod ({ cls := "ResponseDesk", name := "canBeLast", desc := "()I" } : Jvm.MethodName)) ∈ lw_all := lw_g (lw_at lw_m1 118 rfl) rfl
theorem q140 : (Jvm.Cond.selects "ResponseDesk" ({ cls := "ResponseDesk", name := "canBeLast", desc := "()I" } : Jvm.MethodName) ({ cls := "ResponseDesk", name := "canBeLast", desc := "()I" } : Jvm.MethodName)) ∈ lw_all := lw_g (lw_at lw_m1 119 rfl) rfl
theorem q141 : (Jvm.Cond.code ({ cls := "ResponseDesk", name := "canBeLast", desc := "()I" } : Jvm.MethodName) prog_1_method_22_code (4 : Nat) (Option.some Jvm.ClassFile.FieldType.int)) ∈ lw_all := lw_g (lw_at lw_m1 120 rfl) rfl
theorem q143 : (Jvm.Cond.instanceMethod ({ cls := "ResponseDesk", name := "greatestCost", desc := "(I)I" } : Jvm.MethodName)) ∈ lw_all := lw_g (lw_at lw_m1 122 rfl) rfl
theorem q144 : (Jvm.Cond.selects "ResponseDesk" ({ cls := "ResponseDesk", name := "greatestCost", desc := "(I)I" } : Jvm.MethodName) ({ cls := "ResponseDesk", name := "greatestCost", desc := "(I)I" } : Jvm.MethodName)) ∈ lw_all := lw_g (lw_at lw_m1 123 rfl) rfl
theorem q145 : (Jvm.Cond.code ({ cls := "ResponseDesk", name := "greatestCost", desc := "(I)I" } : Jvm.MethodName) prog_1_method_23_code (5 : Nat) (Option.some Jvm.ClassFile.FieldType.int)) ∈ lw_all := lw_g (lw_at lw_m1 124 rfl) rfl
theorem q146 : (Jvm.Cond.methodLink "ResponseDesk" (75 : Nat) ({ cls := "ResponseDesk", name := "good", desc := "()Z" } : Jvm.MethodName)) ∈ lw_all := lw_g (lw_at lw_m1 125 rfl) rfl
theorem q148 : (Jvm.Cond.instanceMethod ({ cls := "ResponseDesk", name := "leastPeriod", desc := "(I)I" } : Jvm.MethodName)) ∈ lw_all := lw_g (lw_at lw_m1 127 rfl) rfl
theorem q149 : (Jvm.Cond.selects "ResponseDesk" ({ cls := "ResponseDesk", name := "leastPeriod", desc := "(I)I" } : Jvm.MethodName) ({ cls := "ResponseDesk", name := "leastPeriod", desc := "(I)I" } : Jvm.MethodName)) ∈ lw_all := lw_g (lw_at lw_m1 128 rfl) rfl
theorem q150 : (Jvm.Cond.code ({ cls := "ResponseDesk", name := "leastPeriod", desc := "(I)I" } : Jvm.MethodName) prog_1_method_24_code (5 : Nat) (Option.some Jvm.ClassFile.FieldType.int)) ∈ lw_all := lw_g (lw_at lw_m1 129 rfl) rfl
theorem q152 : (Jvm.Cond.instanceMethod ({ cls := "ResponseDesk", name := "idle", desc := "(I)I" } : Jvm.MethodName)) ∈ lw_all := lw_g (lw_at lw_m1 131 rfl) rfl
theorem q153 : (Jvm.Cond.selects "ResponseDesk" ({ cls := "ResponseDesk", name := "idle", desc := "(I)I" } : Jvm.MethodName) ({ cls := "ResponseDesk", name := "idle", desc := "(I)I" } : Jvm.MethodName)) ∈ lw_all := lw_g (lw_at lw_m1 132 rfl) rfl
theorem q154 : (Jvm.Cond.code ({ cls := "ResponseDesk", name := "idle", desc := "(I)I" } : Jvm.MethodName) prog_1_method_25_code (5 : Nat) (Option.some Jvm.ClassFile.FieldType.int)) ∈ lw_all := lw_g (lw_at lw_m1 133 rfl) rfl
theorem q156 : (Jvm.Cond.instanceMethod ({ cls := "ResponseDesk", name := "fits", desc := "(III)Z" } : Jvm.MethodName)) ∈ lw_all := lw_g (lw_at lw_m1 135 rfl) rfl
theorem q157 : (Jvm.Cond.selects "ResponseDesk" ({ cls := "ResponseDesk", name := "fits", desc := "(III)Z" } : Jvm.MethodName) ({ cls := "ResponseDesk", name := "fits", desc := "(III)Z" } : Jvm.MethodName)) ∈ lw_all := lw_g (lw_at lw_m1 136 rfl) rfl
theorem q158 : (Jvm.Cond.code ({ cls := "ResponseDesk", name := "fits", desc := "(III)Z" } : Jvm.MethodName) prog_1_method_26_code (6 : Nat) (Option.some Jvm.ClassFile.FieldType.boolean)) ∈ lw_all := lw_g (lw_at lw_m1 137 rfl) rfl
theorem q159 : (Jvm.Cond.methodLink "ResponseDesk" (79 : Nat) ({ cls := "ResponseDesk", name := "add", desc := "(III)I" } : Jvm.MethodName)) ∈ lw_all := lw_g (lw_at lw_m1 138 rfl) rfl
theorem q160 : (Jvm.Cond.methodLink "ResponseDesk" (83 : Nat) ({ cls := "ResponseDesk", name := "goodOrders", desc := "()I" } : Jvm.MethodName)) ∈ lw_all := lw_g (lw_at lw_m1 139 rfl) rfl
theorem q161 : (Jvm.Cond.methodLink "ResponseDesk" (86 : Nat) ({ cls := "ResponseDesk", name := "remove", desc := "(I)Z" } : Jvm.MethodName)) ∈ lw_all := lw_g (lw_at lw_m1 140 rfl) rfl
theorem in_X0 : ∀ w ∈ wsX00, w ∈ lw_all := lw_in wsX00 [40, 42, 44, 46, 48, 50, 52, 54] (by decide +kernel) (by decide +kernel)
end
section
/-! ResponseDeskModel -/
set_option maxRecDepth 100000
def RX1 : String := "ResponseDeskModel"
def TX1 : u_T := fun k => match k with
  | 0 => ("ResponseDeskModel", "there", "[Z", false)
  | 1 => ("ResponseDeskModel", "costs", "[I", false)
  | 2 => ("ResponseDeskModel", "limits", "[I", false)
  | 3 => ("ResponseDeskModel", "periods", "[I", false)
  | 4 => ("ResponseDeskModel", "size", "I", false)
  | 5 => ("ResponseDeskModel", "order", "[I", false)
  | 6 => ("ResponseDeskModel", "row", "[I", false)
  | 7 => ("ResponseDeskModel", "left", "[I", false)
  | _ => ("ResponseDeskModel", "given", "[I", false)
def tyX1 : Nat → FieldType := fun k => match k with
  | 0 => .array .boolean
  | 1 => .array .int
  | 2 => .array .int
  | 3 => .array .int
  | 4 => .int
  | 5 => .array .int
  | 6 => .array .int
  | 7 => .array .int
  | _ => .array .int
abbrev wsX10 : List Cond := u_ws RX1 TX1 9
theorem nmX1 : ∀ a, a < 9 → ∀ b, b < 9 → a ≠ b → (TX1 a).2.1 ≠ (TX1 b).2.1 := by decide +kernel
theorem tyX1_ok : ∀ k, k < 9 → parseFieldDescriptor (TX1 k).2.2.1 = some (tyX1 k) := by decide +kernel
abbrev cX1_init : ByteArray := prog_3_method_1_code
def yX1_init : MethodName := ⟨RX1, "<init>", "()V"⟩
theorem dX1_init_0 : decode cX1_init 0 = .ok (.aload_n 0, 1) := by decide +kernel
theorem dX1_init_1 : decode cX1_init 1 = .ok (.invokespecial 1, 3) := by decide +kernel
theorem dX1_init_4 : decode cX1_init 4 = .ok (.aload_n 0, 1) := by decide +kernel
theorem dX1_init_5 : decode cX1_init 5 = .ok (.iconst 5, 1) := by decide +kernel
theorem dX1_init_6 : decode cX1_init 6 = .ok (.newarray .boolean, 2) := by decide +kernel
theorem dX1_init_8 : decode cX1_init 8 = .ok (.putfield 7, 3) := by decide +kernel
theorem dX1_init_11 : decode cX1_init 11 = .ok (.aload_n 0, 1) := by decide +kernel
theorem dX1_init_12 : decode cX1_init 12 = .ok (.iconst 5, 1) := by decide +kernel
theorem dX1_init_13 : decode cX1_init 13 = .ok (.newarray .int, 2) := by decide +kernel
theorem dX1_init_15 : decode cX1_init 15 = .ok (.putfield 13, 3) := by decide +kernel
theorem dX1_init_18 : decode cX1_init 18 = .ok (.aload_n 0, 1) := by decide +kernel
theorem dX1_init_19 : decode cX1_init 19 = .ok (.iconst 5, 1) := by decide +kernel
theorem dX1_init_20 : decode cX1_init 20 = .ok (.newarray .int, 2) := by decide +kernel
theorem dX1_init_22 : decode cX1_init 22 = .ok (.putfield 17, 3) := by decide +kernel
theorem dX1_init_25 : decode cX1_init 25 = .ok (.aload_n 0, 1) := by decide +kernel
theorem dX1_init_26 : decode cX1_init 26 = .ok (.iconst 5, 1) := by decide +kernel
theorem dX1_init_27 : decode cX1_init 27 = .ok (.newarray .int, 2) := by decide +kernel
theorem dX1_init_29 : decode cX1_init 29 = .ok (.putfield 20, 3) := by decide +kernel
theorem dX1_init_32 : decode cX1_init 32 = .ok (.aload_n 0, 1) := by decide +kernel
theorem dX1_init_33 : decode cX1_init 33 = .ok (.iconst 5, 1) := by decide +kernel
theorem dX1_init_34 : decode cX1_init 34 = .ok (.newarray .int, 2) := by decide +kernel
theorem dX1_init_36 : decode cX1_init 36 = .ok (.putfield 23, 3) := by decide +kernel
theorem dX1_init_39 : decode cX1_init 39 = .ok (.aload_n 0, 1) := by decide +kernel
theorem dX1_init_40 : decode cX1_init 40 = .ok (.iconst 5, 1) := by decide +kernel
theorem dX1_init_41 : decode cX1_init 41 = .ok (.newarray .int, 2) := by decide +kernel
theorem dX1_init_43 : decode cX1_init 43 = .ok (.putfield 26, 3) := by decide +kernel
theorem dX1_init_46 : decode cX1_init 46 = .ok (.aload_n 0, 1) := by decide +kernel
theorem dX1_init_47 : decode cX1_init 47 = .ok (.iconst 5, 1) := by decide +kernel
theorem dX1_init_48 : decode cX1_init 48 = .ok (.newarray .int, 2) := by decide +kernel
theorem dX1_init_50 : decode cX1_init 50 = .ok (.putfield 29, 3) := by decide +kernel
theorem dX1_init_53 : decode cX1_init 53 = .ok (.aload_n 0, 1) := by decide +kernel
theorem dX1_init_54 : decode cX1_init 54 = .ok (.iconst 5, 1) := by decide +kernel
theorem dX1_init_55 : decode cX1_init 55 = .ok (.newarray .int, 2) := by decide +kernel
theorem dX1_init_57 : decode cX1_init 57 = .ok (.putfield 32, 3) := by decide +kernel
theorem dX1_init_60 : decode cX1_init 60 = .ok (.return_, 1) := by decide +kernel
abbrev cX1_add : ByteArray := prog_3_method_4_code
def yX1_add : MethodName := ⟨RX1, "add", "(III)I"⟩
theorem dX1_add_0 : decode cX1_add 0 = .ok (.aload_n 0, 1) := by decide +kernel
theorem dX1_add_1 : decode cX1_add 1 = .ok (.iload_n 1, 1) := by decide +kernel
theorem dX1_add_2 : decode cX1_add 2 = .ok (.iload_n 2, 1) := by decide +kernel
theorem dX1_add_3 : decode cX1_add 3 = .ok (.iload_n 3, 1) := by decide +kernel
theorem dX1_add_4 : decode cX1_add 4 = .ok (.invokevirtual 35, 3) := by decide +kernel
theorem dX1_add_7 : decode cX1_add 7 = .ok (.ifCond .ne 5, 3) := by decide +kernel
theorem dX1_add_10 : decode cX1_add 10 = .ok (.iconst (-1), 1) := by decide +kernel
theorem dX1_add_11 : decode cX1_add 11 = .ok (.ireturn, 1) := by decide +kernel
theorem dX1_add_12 : decode cX1_add 12 = .ok (.iconst 0, 1) := by decide +kernel
theorem dX1_add_13 : decode cX1_add 13 = .ok (.istore 4, 2) := by decide +kernel
theorem dX1_add_15 : decode cX1_add 15 = .ok (.iload 4, 2) := by decide +kernel
theorem dX1_add_17 : decode cX1_add 17 = .ok (.iconst 5, 1) := by decide +kernel
theorem dX1_add_18 : decode cX1_add 18 = .ok (.if_icmp .ge 75, 3) := by decide +kernel
theorem dX1_add_21 : decode cX1_add 21 = .ok (.aload_n 0, 1) := by decide +kernel
theorem dX1_add_22 : decode cX1_add 22 = .ok (.getfield 7, 3) := by decide +kernel
theorem dX1_add_25 : decode cX1_add 25 = .ok (.iload 4, 2) := by decide +kernel
theorem dX1_add_27 : decode cX1_add 27 = .ok (.baload, 1) := by decide +kernel
theorem dX1_add_28 : decode cX1_add 28 = .ok (.ifCond .ne 59, 3) := by decide +kernel
theorem dX1_add_31 : decode cX1_add 31 = .ok (.aload_n 0, 1) := by decide +kernel
theorem dX1_add_32 : decode cX1_add 32 = .ok (.getfield 7, 3) := by decide +kernel
theorem dX1_add_35 : decode cX1_add 35 = .ok (.iload 4, 2) := by decide +kernel
theorem dX1_add_37 : decode cX1_add 37 = .ok (.iconst 1, 1) := by decide +kernel
theorem dX1_add_38 : decode cX1_add 38 = .ok (.bastore, 1) := by decide +kernel
theorem dX1_add_39 : decode cX1_add 39 = .ok (.aload_n 0, 1) := by decide +kernel
theorem dX1_add_40 : decode cX1_add 40 = .ok (.getfield 13, 3) := by decide +kernel
theorem dX1_add_43 : decode cX1_add 43 = .ok (.iload 4, 2) := by decide +kernel
theorem dX1_add_45 : decode cX1_add 45 = .ok (.iload_n 1, 1) := by decide +kernel
theorem dX1_add_46 : decode cX1_add 46 = .ok (.iastore, 1) := by decide +kernel
theorem dX1_add_47 : decode cX1_add 47 = .ok (.aload_n 0, 1) := by decide +kernel
theorem dX1_add_48 : decode cX1_add 48 = .ok (.getfield 17, 3) := by decide +kernel
theorem dX1_add_51 : decode cX1_add 51 = .ok (.iload 4, 2) := by decide +kernel
theorem dX1_add_53 : decode cX1_add 53 = .ok (.iload_n 2, 1) := by decide +kernel
theorem dX1_add_54 : decode cX1_add 54 = .ok (.iastore, 1) := by decide +kernel
theorem dX1_add_55 : decode cX1_add 55 = .ok (.aload_n 0, 1) := by decide +kernel
theorem dX1_add_56 : decode cX1_add 56 = .ok (.getfield 20, 3) := by decide +kernel
theorem dX1_add_59 : decode cX1_add 59 = .ok (.iload 4, 2) := by decide +kernel
theorem dX1_add_61 : decode cX1_add 61 = .ok (.iload_n 3, 1) := by decide +kernel
theorem dX1_add_62 : decode cX1_add 62 = .ok (.iastore, 1) := by decide +kernel
theorem dX1_add_63 : decode cX1_add 63 = .ok (.aload_n 0, 1) := by decide +kernel
theorem dX1_add_64 : decode cX1_add 64 = .ok (.getfield 23, 3) := by decide +kernel
theorem dX1_add_67 : decode cX1_add 67 = .ok (.aload_n 0, 1) := by decide +kernel
theorem dX1_add_68 : decode cX1_add 68 = .ok (.getfield 39, 3) := by decide +kernel
theorem dX1_add_71 : decode cX1_add 71 = .ok (.iload 4, 2) := by decide +kernel
theorem dX1_add_73 : decode cX1_add 73 = .ok (.iastore, 1) := by decide +kernel
theorem dX1_add_74 : decode cX1_add 74 = .ok (.aload_n 0, 1) := by decide +kernel
theorem dX1_add_75 : decode cX1_add 75 = .ok (.dup, 1) := by decide +kernel
theorem dX1_add_76 : decode cX1_add 76 = .ok (.getfield 39, 3) := by decide +kernel
theorem dX1_add_79 : decode cX1_add 79 = .ok (.iconst 1, 1) := by decide +kernel
theorem dX1_add_80 : decode cX1_add 80 = .ok (.iadd, 1) := by decide +kernel
theorem dX1_add_81 : decode cX1_add 81 = .ok (.putfield 39, 3) := by decide +kernel
theorem dX1_add_84 : decode cX1_add 84 = .ok (.iload 4, 2) := by decide +kernel
theorem dX1_add_86 : decode cX1_add 86 = .ok (.ireturn, 1) := by decide +kernel
theorem dX1_add_87 : decode cX1_add 87 = .ok (.iinc 4 1, 3) := by decide +kernel
theorem dX1_add_90 : decode cX1_add 90 = .ok (.goto (-75), 3) := by decide +kernel
theorem dX1_add_93 : decode cX1_add 93 = .ok (.bipush (-2), 2) := by decide +kernel
theorem dX1_add_95 : decode cX1_add 95 = .ok (.ireturn, 1) := by decide +kernel
abbrev cX1_fine : ByteArray := prog_3_method_3_code
def yX1_fine : MethodName := ⟨RX1, "fine", "(III)Z"⟩
theorem dX1_fine_0 : decode cX1_fine 0 = .ok (.iload_n 1, 1) := by decide +kernel
theorem dX1_fine_1 : decode cX1_fine 1 = .ok (.iconst 1, 1) := by decide +kernel
theorem dX1_fine_2 : decode cX1_fine 2 = .ok (.if_icmp .lt 23, 3) := by decide +kernel
theorem dX1_fine_5 : decode cX1_fine 5 = .ok (.iload_n 1, 1) := by decide +kernel
theorem dX1_fine_6 : decode cX1_fine 6 = .ok (.iload_n 2, 1) := by decide +kernel
theorem dX1_fine_7 : decode cX1_fine 7 = .ok (.if_icmp .gt 18, 3) := by decide +kernel
theorem dX1_fine_10 : decode cX1_fine 10 = .ok (.iload_n 2, 1) := by decide +kernel
theorem dX1_fine_11 : decode cX1_fine 11 = .ok (.iload_n 3, 1) := by decide +kernel
theorem dX1_fine_12 : decode cX1_fine 12 = .ok (.if_icmp .gt 13, 3) := by decide +kernel
theorem dX1_fine_15 : decode cX1_fine 15 = .ok (.iload_n 3, 1) := by decide +kernel
theorem dX1_fine_16 : decode cX1_fine 16 = .ok (.bipush 15, 2) := by decide +kernel
theorem dX1_fine_18 : decode cX1_fine 18 = .ok (.if_icmp .gt 7, 3) := by decide +kernel
theorem dX1_fine_21 : decode cX1_fine 21 = .ok (.iconst 1, 1) := by decide +kernel
theorem dX1_fine_22 : decode cX1_fine 22 = .ok (.goto 4, 3) := by decide +kernel
theorem dX1_fine_25 : decode cX1_fine 25 = .ok (.iconst 0, 1) := by decide +kernel
theorem dX1_fine_26 : decode cX1_fine 26 = .ok (.ireturn, 1) := by decide +kernel
abbrev cX1_remove : ByteArray := prog_3_method_7_code
def yX1_remove : MethodName := ⟨RX1, "remove", "(I)Z"⟩
theorem dX1_remove_0 : decode cX1_remove 0 = .ok (.aload_n 0, 1) := by decide +kernel
theorem dX1_remove_1 : decode cX1_remove 1 = .ok (.iload_n 1, 1) := by decide +kernel
theorem dX1_remove_2 : decode cX1_remove 2 = .ok (.invokevirtual 43, 3) := by decide +kernel
theorem dX1_remove_5 : decode cX1_remove 5 = .ok (.ifCond .ne 5, 3) := by decide +kernel
theorem dX1_remove_8 : decode cX1_remove 8 = .ok (.iconst 0, 1) := by decide +kernel
theorem dX1_remove_9 : decode cX1_remove 9 = .ok (.ireturn, 1) := by decide +kernel
theorem dX1_remove_10 : decode cX1_remove 10 = .ok (.aload_n 0, 1) := by decide +kernel
theorem dX1_remove_11 : decode cX1_remove 11 = .ok (.iload_n 1, 1) := by decide +kernel
theorem dX1_remove_12 : decode cX1_remove 12 = .ok (.invokevirtual 47, 3) := by decide +kernel
theorem dX1_remove_15 : decode cX1_remove 15 = .ok (.istore_n 2, 1) := by decide +kernel
theorem dX1_remove_16 : decode cX1_remove 16 = .ok (.aload_n 0, 1) := by decide +kernel
theorem dX1_remove_17 : decode cX1_remove 17 = .ok (.iload_n 2, 1) := by decide +kernel
theorem dX1_remove_18 : decode cX1_remove 18 = .ok (.invokevirtual 51, 3) := by decide +kernel
theorem dX1_remove_21 : decode cX1_remove 21 = .ok (.aload_n 0, 1) := by decide +kernel
theorem dX1_remove_22 : decode cX1_remove 22 = .ok (.getfield 7, 3) := by decide +kernel
theorem dX1_remove_25 : decode cX1_remove 25 = .ok (.iload_n 1, 1) := by decide +kernel
theorem dX1_remove_26 : decode cX1_remove 26 = .ok (.iconst 0, 1) := by decide +kernel
theorem dX1_remove_27 : decode cX1_remove 27 = .ok (.bastore, 1) := by decide +kernel
theorem dX1_remove_28 : decode cX1_remove 28 = .ok (.iconst 1, 1) := by decide +kernel
theorem dX1_remove_29 : decode cX1_remove 29 = .ok (.ireturn, 1) := by decide +kernel
abbrev cX1_is : ByteArray := prog_3_method_2_code
def yX1_is : MethodName := ⟨RX1, "is", "(I)Z"⟩
theorem dX1_is_0 : decode cX1_is 0 = .ok (.iload_n 1, 1) := by decide +kernel
theorem dX1_is_1 : decode cX1_is 1 = .ok (.ifCond .lt 21, 3) := by decide +kernel
theorem dX1_is_4 : decode cX1_is 4 = .ok (.iload_n 1, 1) := by decide +kernel
theorem dX1_is_5 : decode cX1_is 5 = .ok (.iconst 5, 1) := by decide +kernel
theorem dX1_is_6 : decode cX1_is 6 = .ok (.if_icmp .ge 16, 3) := by decide +kernel
theorem dX1_is_9 : decode cX1_is 9 = .ok (.aload_n 0, 1) := by decide +kernel
theorem dX1_is_10 : decode cX1_is 10 = .ok (.getfield 7, 3) := by decide +kernel
theorem dX1_is_13 : decode cX1_is 13 = .ok (.iload_n 1, 1) := by decide +kernel
theorem dX1_is_14 : decode cX1_is 14 = .ok (.baload, 1) := by decide +kernel
theorem dX1_is_15 : decode cX1_is 15 = .ok (.ifCond .eq 7, 3) := by decide +kernel
theorem dX1_is_18 : decode cX1_is 18 = .ok (.iconst 1, 1) := by decide +kernel
theorem dX1_is_19 : decode cX1_is 19 = .ok (.goto 4, 3) := by decide +kernel
theorem dX1_is_22 : decode cX1_is 22 = .ok (.iconst 0, 1) := by decide +kernel
theorem dX1_is_23 : decode cX1_is 23 = .ok (.ireturn, 1) := by decide +kernel
abbrev cX1_find : ByteArray := prog_3_method_5_code
def yX1_find : MethodName := ⟨RX1, "find", "(I)I"⟩
theorem dX1_find_0 : decode cX1_find 0 = .ok (.iconst 0, 1) := by decide +kernel
theorem dX1_find_1 : decode cX1_find 1 = .ok (.istore_n 2, 1) := by decide +kernel
theorem dX1_find_2 : decode cX1_find 2 = .ok (.iload_n 2, 1) := by decide +kernel
theorem dX1_find_3 : decode cX1_find 3 = .ok (.aload_n 0, 1) := by decide +kernel
theorem dX1_find_4 : decode cX1_find 4 = .ok (.getfield 39, 3) := by decide +kernel
theorem dX1_find_7 : decode cX1_find 7 = .ok (.if_icmp .ge 21, 3) := by decide +kernel
theorem dX1_find_10 : decode cX1_find 10 = .ok (.aload_n 0, 1) := by decide +kernel
theorem dX1_find_11 : decode cX1_find 11 = .ok (.getfield 23, 3) := by decide +kernel
theorem dX1_find_14 : decode cX1_find 14 = .ok (.iload_n 2, 1) := by decide +kernel
theorem dX1_find_15 : decode cX1_find 15 = .ok (.iaload, 1) := by decide +kernel
theorem dX1_find_16 : decode cX1_find 16 = .ok (.iload_n 1, 1) := by decide +kernel
theorem dX1_find_17 : decode cX1_find 17 = .ok (.if_icmp .ne 5, 3) := by decide +kernel
theorem dX1_find_20 : decode cX1_find 20 = .ok (.iload_n 2, 1) := by decide +kernel
theorem dX1_find_21 : decode cX1_find 21 = .ok (.ireturn, 1) := by decide +kernel
theorem dX1_find_22 : decode cX1_find 22 = .ok (.iinc 2 1, 3) := by decide +kernel
theorem dX1_find_25 : decode cX1_find 25 = .ok (.goto (-23), 3) := by decide +kernel
theorem dX1_find_28 : decode cX1_find 28 = .ok (.iconst (-1), 1) := by decide +kernel
theorem dX1_find_29 : decode cX1_find 29 = .ok (.ireturn, 1) := by decide +kernel
abbrev cX1_takeOut : ByteArray := prog_3_method_6_code
def yX1_takeOut : MethodName := ⟨RX1, "takeOut", "(I)V"⟩
theorem dX1_takeOut_0 : decode cX1_takeOut 0 = .ok (.iload_n 1, 1) := by decide +kernel
theorem dX1_takeOut_1 : decode cX1_takeOut 1 = .ok (.istore_n 2, 1) := by decide +kernel
theorem dX1_takeOut_2 : decode cX1_takeOut 2 = .ok (.iload_n 2, 1) := by decide +kernel
theorem dX1_takeOut_3 : decode cX1_takeOut 3 = .ok (.iconst 1, 1) := by decide +kernel
theorem dX1_takeOut_4 : decode cX1_takeOut 4 = .ok (.iadd, 1) := by decide +kernel
theorem dX1_takeOut_5 : decode cX1_takeOut 5 = .ok (.aload_n 0, 1) := by decide +kernel
theorem dX1_takeOut_6 : decode cX1_takeOut 6 = .ok (.getfield 39, 3) := by decide +kernel
theorem dX1_takeOut_9 : decode cX1_takeOut 9 = .ok (.if_icmp .ge 23, 3) := by decide +kernel
theorem dX1_takeOut_12 : decode cX1_takeOut 12 = .ok (.aload_n 0, 1) := by decide +kernel
theorem dX1_takeOut_13 : decode cX1_takeOut 13 = .ok (.getfield 23, 3) := by decide +kernel
theorem dX1_takeOut_16 : decode cX1_takeOut 16 = .ok (.iload_n 2, 1) := by decide +kernel
theorem dX1_takeOut_17 : decode cX1_takeOut 17 = .ok (.aload_n 0, 1) := by decide +kernel
theorem dX1_takeOut_18 : decode cX1_takeOut 18 = .ok (.getfield 23, 3) := by decide +kernel
theorem dX1_takeOut_21 : decode cX1_takeOut 21 = .ok (.iload_n 2, 1) := by decide +kernel
theorem dX1_takeOut_22 : decode cX1_takeOut 22 = .ok (.iconst 1, 1) := by decide +kernel
theorem dX1_takeOut_23 : decode cX1_takeOut 23 = .ok (.iadd, 1) := by decide +kernel
theorem dX1_takeOut_24 : decode cX1_takeOut 24 = .ok (.iaload, 1) := by decide +kernel
theorem dX1_takeOut_25 : decode cX1_takeOut 25 = .ok (.iastore, 1) := by decide +kernel
theorem dX1_takeOut_26 : decode cX1_takeOut 26 = .ok (.iinc 2 1, 3) := by decide +kernel
theorem dX1_takeOut_29 : decode cX1_takeOut 29 = .ok (.goto (-27), 3) := by decide +kernel
theorem dX1_takeOut_32 : decode cX1_takeOut 32 = .ok (.aload_n 0, 1) := by decide +kernel
theorem dX1_takeOut_33 : decode cX1_takeOut 33 = .ok (.dup, 1) := by decide +kernel
theorem dX1_takeOut_34 : decode cX1_takeOut 34 = .ok (.getfield 39, 3) := by decide +kernel
theorem dX1_takeOut_37 : decode cX1_takeOut 37 = .ok (.iconst 1, 1) := by decide +kernel
theorem dX1_takeOut_38 : decode cX1_takeOut 38 = .ok (.isub, 1) := by decide +kernel
theorem dX1_takeOut_39 : decode cX1_takeOut 39 = .ok (.putfield 39, 3) := by decide +kernel
theorem dX1_takeOut_42 : decode cX1_takeOut 42 = .ok (.return_, 1) := by decide +kernel
abbrev cX1_place : ByteArray := prog_3_method_8_code
def yX1_place : MethodName := ⟨RX1, "place", "(II)Z"⟩
theorem dX1_place_0 : decode cX1_place 0 = .ok (.aload_n 0, 1) := by decide +kernel
theorem dX1_place_1 : decode cX1_place 1 = .ok (.iload_n 1, 1) := by decide +kernel
theorem dX1_place_2 : decode cX1_place 2 = .ok (.invokevirtual 43, 3) := by decide +kernel
theorem dX1_place_5 : decode cX1_place 5 = .ok (.ifCond .eq 15, 3) := by decide +kernel
theorem dX1_place_8 : decode cX1_place 8 = .ok (.iload_n 2, 1) := by decide +kernel
theorem dX1_place_9 : decode cX1_place 9 = .ok (.ifCond .lt 11, 3) := by decide +kernel
theorem dX1_place_12 : decode cX1_place 12 = .ok (.iload_n 2, 1) := by decide +kernel
theorem dX1_place_13 : decode cX1_place 13 = .ok (.aload_n 0, 1) := by decide +kernel
theorem dX1_place_14 : decode cX1_place 14 = .ok (.getfield 39, 3) := by decide +kernel
theorem dX1_place_17 : decode cX1_place 17 = .ok (.if_icmp .lt 5, 3) := by decide +kernel
theorem dX1_place_20 : decode cX1_place 20 = .ok (.iconst 0, 1) := by decide +kernel
theorem dX1_place_21 : decode cX1_place 21 = .ok (.ireturn, 1) := by decide +kernel
theorem dX1_place_22 : decode cX1_place 22 = .ok (.aload_n 0, 1) := by decide +kernel
theorem dX1_place_23 : decode cX1_place 23 = .ok (.iload_n 1, 1) := by decide +kernel
theorem dX1_place_24 : decode cX1_place 24 = .ok (.invokevirtual 47, 3) := by decide +kernel
theorem dX1_place_27 : decode cX1_place 27 = .ok (.istore_n 3, 1) := by decide +kernel
theorem dX1_place_28 : decode cX1_place 28 = .ok (.aload_n 0, 1) := by decide +kernel
theorem dX1_place_29 : decode cX1_place 29 = .ok (.iload_n 3, 1) := by decide +kernel
theorem dX1_place_30 : decode cX1_place 30 = .ok (.invokevirtual 51, 3) := by decide +kernel
theorem dX1_place_33 : decode cX1_place 33 = .ok (.aload_n 0, 1) := by decide +kernel
theorem dX1_place_34 : decode cX1_place 34 = .ok (.getfield 39, 3) := by decide +kernel
theorem dX1_place_37 : decode cX1_place 37 = .ok (.istore 4, 2) := by decide +kernel
theorem dX1_place_39 : decode cX1_place 39 = .ok (.iload 4, 2) := by decide +kernel
theorem dX1_place_41 : decode cX1_place 41 = .ok (.iload_n 2, 1) := by decide +kernel
theorem dX1_place_42 : decode cX1_place 42 = .ok (.if_icmp .le 25, 3) := by decide +kernel
theorem dX1_place_45 : decode cX1_place 45 = .ok (.aload_n 0, 1) := by decide +kernel
theorem dX1_place_46 : decode cX1_place 46 = .ok (.getfield 23, 3) := by decide +kernel
theorem dX1_place_49 : decode cX1_place 49 = .ok (.iload 4, 2) := by decide +kernel
theorem dX1_place_51 : decode cX1_place 51 = .ok (.aload_n 0, 1) := by decide +kernel
theorem dX1_place_52 : decode cX1_place 52 = .ok (.getfield 23, 3) := by decide +kernel
theorem dX1_place_55 : decode cX1_place 55 = .ok (.iload 4, 2) := by decide +kernel
theorem dX1_place_57 : decode cX1_place 57 = .ok (.iconst 1, 1) := by decide +kernel
theorem dX1_place_58 : decode cX1_place 58 = .ok (.isub, 1) := by decide +kernel
theorem dX1_place_59 : decode cX1_place 59 = .ok (.iaload, 1) := by decide +kernel
theorem dX1_place_60 : decode cX1_place 60 = .ok (.iastore, 1) := by decide +kernel
theorem dX1_place_61 : decode cX1_place 61 = .ok (.iinc 4 (-1), 3) := by decide +kernel
theorem dX1_place_64 : decode cX1_place 64 = .ok (.goto (-25), 3) := by decide +kernel
theorem dX1_place_67 : decode cX1_place 67 = .ok (.aload_n 0, 1) := by decide +kernel
theorem dX1_place_68 : decode cX1_place 68 = .ok (.getfield 23, 3) := by decide +kernel
theorem dX1_place_71 : decode cX1_place 71 = .ok (.iload_n 2, 1) := by decide +kernel
theorem dX1_place_72 : decode cX1_place 72 = .ok (.iload_n 1, 1) := by decide +kernel
theorem dX1_place_73 : decode cX1_place 73 = .ok (.iastore, 1) := by decide +kernel
theorem dX1_place_74 : decode cX1_place 74 = .ok (.aload_n 0, 1) := by decide +kernel
theorem dX1_place_75 : decode cX1_place 75 = .ok (.dup, 1) := by decide +kernel
theorem dX1_place_76 : decode cX1_place 76 = .ok (.getfield 39, 3) := by decide +kernel
theorem dX1_place_79 : decode cX1_place 79 = .ok (.iconst 1, 1) := by decide +kernel
theorem dX1_place_80 : decode cX1_place 80 = .ok (.iadd, 1) := by decide +kernel
theorem dX1_place_81 : decode cX1_place 81 = .ok (.putfield 39, 3) := by decide +kernel
theorem dX1_place_84 : decode cX1_place 84 = .ok (.iconst 1, 1) := by decide +kernel
theorem dX1_place_85 : decode cX1_place 85 = .ok (.ireturn, 1) := by decide +kernel
abbrev cX1_tasks : ByteArray := prog_3_method_9_code
def yX1_tasks : MethodName := ⟨RX1, "tasks", "()I"⟩
theorem dX1_tasks_0 : decode cX1_tasks 0 = .ok (.iconst 0, 1) := by decide +kernel
theorem dX1_tasks_1 : decode cX1_tasks 1 = .ok (.istore_n 1, 1) := by decide +kernel
theorem dX1_tasks_2 : decode cX1_tasks 2 = .ok (.iconst 0, 1) := by decide +kernel
theorem dX1_tasks_3 : decode cX1_tasks 3 = .ok (.istore_n 2, 1) := by decide +kernel
theorem dX1_tasks_4 : decode cX1_tasks 4 = .ok (.iload_n 2, 1) := by decide +kernel
theorem dX1_tasks_5 : decode cX1_tasks 5 = .ok (.iconst 5, 1) := by decide +kernel
theorem dX1_tasks_6 : decode cX1_tasks 6 = .ok (.if_icmp .ge 28, 3) := by decide +kernel
theorem dX1_tasks_9 : decode cX1_tasks 9 = .ok (.aload_n 0, 1) := by decide +kernel
theorem dX1_tasks_10 : decode cX1_tasks 10 = .ok (.getfield 7, 3) := by decide +kernel
theorem dX1_tasks_13 : decode cX1_tasks 13 = .ok (.iload_n 2, 1) := by decide +kernel
theorem dX1_tasks_14 : decode cX1_tasks 14 = .ok (.baload, 1) := by decide +kernel
theorem dX1_tasks_15 : decode cX1_tasks 15 = .ok (.ifCond .eq 11, 3) := by decide +kernel
theorem dX1_tasks_18 : decode cX1_tasks 18 = .ok (.iload_n 1, 1) := by decide +kernel
theorem dX1_tasks_19 : decode cX1_tasks 19 = .ok (.iconst 1, 1) := by decide +kernel
theorem dX1_tasks_20 : decode cX1_tasks 20 = .ok (.iload_n 2, 1) := by decide +kernel
theorem dX1_tasks_21 : decode cX1_tasks 21 = .ok (.ishl, 1) := by decide +kernel
theorem dX1_tasks_22 : decode cX1_tasks 22 = .ok (.ior, 1) := by decide +kernel
theorem dX1_tasks_23 : decode cX1_tasks 23 = .ok (.goto 4, 3) := by decide +kernel
theorem dX1_tasks_26 : decode cX1_tasks 26 = .ok (.iload_n 1, 1) := by decide +kernel
theorem dX1_tasks_27 : decode cX1_tasks 27 = .ok (.istore_n 1, 1) := by decide +kernel
theorem dX1_tasks_28 : decode cX1_tasks 28 = .ok (.iinc 2 1, 3) := by decide +kernel
theorem dX1_tasks_31 : decode cX1_tasks 31 = .ok (.goto (-27), 3) := by decide +kernel
theorem dX1_tasks_34 : decode cX1_tasks 34 = .ok (.iload_n 1, 1) := by decide +kernel
theorem dX1_tasks_35 : decode cX1_tasks 35 = .ok (.ireturn, 1) := by decide +kernel
abbrev cX1_at : ByteArray := prog_3_method_10_code
def yX1_at : MethodName := ⟨RX1, "at", "(I)I"⟩
theorem dX1_at_0 : decode cX1_at 0 = .ok (.iload_n 1, 1) := by decide +kernel
theorem dX1_at_1 : decode cX1_at 1 = .ok (.ifCond .lt 20, 3) := by decide +kernel
theorem dX1_at_4 : decode cX1_at 4 = .ok (.iload_n 1, 1) := by decide +kernel
theorem dX1_at_5 : decode cX1_at 5 = .ok (.aload_n 0, 1) := by decide +kernel
theorem dX1_at_6 : decode cX1_at 6 = .ok (.getfield 39, 3) := by decide +kernel
theorem dX1_at_9 : decode cX1_at 9 = .ok (.if_icmp .ge 12, 3) := by decide +kernel
theorem dX1_at_12 : decode cX1_at 12 = .ok (.aload_n 0, 1) := by decide +kernel
theorem dX1_at_13 : decode cX1_at 13 = .ok (.getfield 23, 3) := by decide +kernel
theorem dX1_at_16 : decode cX1_at 16 = .ok (.iload_n 1, 1) := by decide +kernel
theorem dX1_at_17 : decode cX1_at 17 = .ok (.iaload, 1) := by decide +kernel
theorem dX1_at_18 : decode cX1_at 18 = .ok (.goto 4, 3) := by decide +kernel
theorem dX1_at_21 : decode cX1_at 21 = .ok (.iconst (-1), 1) := by decide +kernel
theorem dX1_at_22 : decode cX1_at 22 = .ok (.ireturn, 1) := by decide +kernel
abbrev cX1_response : ByteArray := prog_3_method_17_code
def yX1_response : MethodName := ⟨RX1, "response", "(I)I"⟩
theorem dX1_response_0 : decode cX1_response 0 = .ok (.aload_n 0, 1) := by decide +kernel
theorem dX1_response_1 : decode cX1_response 1 = .ok (.invokevirtual 67, 3) := by decide +kernel
theorem dX1_response_4 : decode cX1_response 4 = .ok (.aload_n 0, 1) := by decide +kernel
theorem dX1_response_5 : decode cX1_response 5 = .ok (.iload_n 1, 1) := by decide +kernel
theorem dX1_response_6 : decode cX1_response 6 = .ok (.invokevirtual 43, 3) := by decide +kernel
theorem dX1_response_9 : decode cX1_response 9 = .ok (.ifCond .eq 11, 3) := by decide +kernel
theorem dX1_response_12 : decode cX1_response 12 = .ok (.aload_n 0, 1) := by decide +kernel
theorem dX1_response_13 : decode cX1_response 13 = .ok (.iload_n 1, 1) := by decide +kernel
theorem dX1_response_14 : decode cX1_response 14 = .ok (.invokevirtual 61, 3) := by decide +kernel
theorem dX1_response_17 : decode cX1_response 17 = .ok (.goto 4, 3) := by decide +kernel
theorem dX1_response_20 : decode cX1_response 20 = .ok (.iconst (-1), 1) := by decide +kernel
theorem dX1_response_21 : decode cX1_response 21 = .ok (.ireturn, 1) := by decide +kernel
abbrev cX1_useOrder : ByteArray := prog_3_method_11_code
def yX1_useOrder : MethodName := ⟨RX1, "useOrder", "()V"⟩
theorem dX1_useOrder_0 : decode cX1_useOrder 0 = .ok (.iconst 0, 1) := by decide +kernel
theorem dX1_useOrder_1 : decode cX1_useOrder 1 = .ok (.istore_n 1, 1) := by decide +kernel
theorem dX1_useOrder_2 : decode cX1_useOrder 2 = .ok (.iload_n 1, 1) := by decide +kernel
theorem dX1_useOrder_3 : decode cX1_useOrder 3 = .ok (.aload_n 0, 1) := by decide +kernel
theorem dX1_useOrder_4 : decode cX1_useOrder 4 = .ok (.getfield 39, 3) := by decide +kernel
theorem dX1_useOrder_7 : decode cX1_useOrder 7 = .ok (.if_icmp .ge 21, 3) := by decide +kernel
theorem dX1_useOrder_10 : decode cX1_useOrder 10 = .ok (.aload_n 0, 1) := by decide +kernel
theorem dX1_useOrder_11 : decode cX1_useOrder 11 = .ok (.getfield 26, 3) := by decide +kernel
theorem dX1_useOrder_14 : decode cX1_useOrder 14 = .ok (.iload_n 1, 1) := by decide +kernel
theorem dX1_useOrder_15 : decode cX1_useOrder 15 = .ok (.aload_n 0, 1) := by decide +kernel
theorem dX1_useOrder_16 : decode cX1_useOrder 16 = .ok (.getfield 23, 3) := by decide +kernel
theorem dX1_useOrder_19 : decode cX1_useOrder 19 = .ok (.iload_n 1, 1) := by decide +kernel
theorem dX1_useOrder_20 : decode cX1_useOrder 20 = .ok (.iaload, 1) := by decide +kernel
theorem dX1_useOrder_21 : decode cX1_useOrder 21 = .ok (.iastore, 1) := by decide +kernel
theorem dX1_useOrder_22 : decode cX1_useOrder 22 = .ok (.iinc 1 1, 3) := by decide +kernel
theorem dX1_useOrder_25 : decode cX1_useOrder 25 = .ok (.goto (-23), 3) := by decide +kernel
theorem dX1_useOrder_28 : decode cX1_useOrder 28 = .ok (.return_, 1) := by decide +kernel
abbrev cX1_responseOf : ByteArray := prog_3_method_14_code
def yX1_responseOf : MethodName := ⟨RX1, "responseOf", "(I)I"⟩
theorem dX1_responseOf_0 : decode cX1_responseOf 0 = .ok (.aload_n 0, 1) := by decide +kernel
theorem dX1_responseOf_1 : decode cX1_responseOf 1 = .ok (.invokevirtual 55, 3) := by decide +kernel
theorem dX1_responseOf_4 : decode cX1_responseOf 4 = .ok (.iconst 0, 1) := by decide +kernel
theorem dX1_responseOf_5 : decode cX1_responseOf 5 = .ok (.istore_n 2, 1) := by decide +kernel
theorem dX1_responseOf_6 : decode cX1_responseOf 6 = .ok (.iload_n 2, 1) := by decide +kernel
theorem dX1_responseOf_7 : decode cX1_responseOf 7 = .ok (.aload_n 0, 1) := by decide +kernel
theorem dX1_responseOf_8 : decode cX1_responseOf 8 = .ok (.getfield 20, 3) := by decide +kernel
theorem dX1_responseOf_11 : decode cX1_responseOf 11 = .ok (.iload_n 1, 1) := by decide +kernel
theorem dX1_responseOf_12 : decode cX1_responseOf 12 = .ok (.iaload, 1) := by decide +kernel
theorem dX1_responseOf_13 : decode cX1_responseOf 13 = .ok (.if_icmp .ge 39, 3) := by decide +kernel
theorem dX1_responseOf_16 : decode cX1_responseOf 16 = .ok (.aload_n 0, 1) := by decide +kernel
theorem dX1_responseOf_17 : decode cX1_responseOf 17 = .ok (.iload_n 2, 1) := by decide +kernel
theorem dX1_responseOf_18 : decode cX1_responseOf 18 = .ok (.invokevirtual 58, 3) := by decide +kernel
theorem dX1_responseOf_21 : decode cX1_responseOf 21 = .ok (.istore_n 3, 1) := by decide +kernel
theorem dX1_responseOf_22 : decode cX1_responseOf 22 = .ok (.iload_n 3, 1) := by decide +kernel
theorem dX1_responseOf_23 : decode cX1_responseOf 23 = .ok (.iload_n 1, 1) := by decide +kernel
theorem dX1_responseOf_24 : decode cX1_responseOf 24 = .ok (.if_icmp .ne 22, 3) := by decide +kernel
theorem dX1_responseOf_27 : decode cX1_responseOf 27 = .ok (.aload_n 0, 1) := by decide +kernel
theorem dX1_responseOf_28 : decode cX1_responseOf 28 = .ok (.getfield 32, 3) := by decide +kernel
theorem dX1_responseOf_31 : decode cX1_responseOf 31 = .ok (.iload_n 1, 1) := by decide +kernel
theorem dX1_responseOf_32 : decode cX1_responseOf 32 = .ok (.iaload, 1) := by decide +kernel
theorem dX1_responseOf_33 : decode cX1_responseOf 33 = .ok (.aload_n 0, 1) := by decide +kernel
theorem dX1_responseOf_34 : decode cX1_responseOf 34 = .ok (.getfield 13, 3) := by decide +kernel
theorem dX1_responseOf_37 : decode cX1_responseOf 37 = .ok (.iload_n 1, 1) := by decide +kernel
theorem dX1_responseOf_38 : decode cX1_responseOf 38 = .ok (.iaload, 1) := by decide +kernel
theorem dX1_responseOf_39 : decode cX1_responseOf 39 = .ok (.if_icmp .ne 7, 3) := by decide +kernel
theorem dX1_responseOf_42 : decode cX1_responseOf 42 = .ok (.iload_n 2, 1) := by decide +kernel
theorem dX1_responseOf_43 : decode cX1_responseOf 43 = .ok (.iconst 1, 1) := by decide +kernel
theorem dX1_responseOf_44 : decode cX1_responseOf 44 = .ok (.iadd, 1) := by decide +kernel
theorem dX1_responseOf_45 : decode cX1_responseOf 45 = .ok (.ireturn, 1) := by decide +kernel
theorem dX1_responseOf_46 : decode cX1_responseOf 46 = .ok (.iinc 2 1, 3) := by decide +kernel
theorem dX1_responseOf_49 : decode cX1_responseOf 49 = .ok (.goto (-43), 3) := by decide +kernel
theorem dX1_responseOf_52 : decode cX1_responseOf 52 = .ok (.bipush (-3), 2) := by decide +kernel
theorem dX1_responseOf_54 : decode cX1_responseOf 54 = .ok (.ireturn, 1) := by decide +kernel
abbrev cX1_start : ByteArray := prog_3_method_12_code
def yX1_start : MethodName := ⟨RX1, "start", "()V"⟩
theorem dX1_start_0 : decode cX1_start 0 = .ok (.iconst 0, 1) := by decide +kernel
theorem dX1_start_1 : decode cX1_start 1 = .ok (.istore_n 1, 1) := by decide +kernel
theorem dX1_start_2 : decode cX1_start 2 = .ok (.iload_n 1, 1) := by decide +kernel
theorem dX1_start_3 : decode cX1_start 3 = .ok (.iconst 5, 1) := by decide +kernel
theorem dX1_start_4 : decode cX1_start 4 = .ok (.if_icmp .ge 23, 3) := by decide +kernel
theorem dX1_start_7 : decode cX1_start 7 = .ok (.aload_n 0, 1) := by decide +kernel
theorem dX1_start_8 : decode cX1_start 8 = .ok (.getfield 29, 3) := by decide +kernel
theorem dX1_start_11 : decode cX1_start 11 = .ok (.iload_n 1, 1) := by decide +kernel
theorem dX1_start_12 : decode cX1_start 12 = .ok (.iconst 0, 1) := by decide +kernel
theorem dX1_start_13 : decode cX1_start 13 = .ok (.iastore, 1) := by decide +kernel
theorem dX1_start_14 : decode cX1_start 14 = .ok (.aload_n 0, 1) := by decide +kernel
theorem dX1_start_15 : decode cX1_start 15 = .ok (.getfield 32, 3) := by decide +kernel
theorem dX1_start_18 : decode cX1_start 18 = .ok (.iload_n 1, 1) := by decide +kernel
theorem dX1_start_19 : decode cX1_start 19 = .ok (.iconst 0, 1) := by decide +kernel
theorem dX1_start_20 : decode cX1_start 20 = .ok (.iastore, 1) := by decide +kernel
theorem dX1_start_21 : decode cX1_start 21 = .ok (.iinc 1 1, 3) := by decide +kernel
theorem dX1_start_24 : decode cX1_start 24 = .ok (.goto (-22), 3) := by decide +kernel
theorem dX1_start_27 : decode cX1_start 27 = .ok (.return_, 1) := by decide +kernel
abbrev cX1_unit : ByteArray := prog_3_method_13_code
def yX1_unit : MethodName := ⟨RX1, "unit", "(I)I"⟩
theorem dX1_unit_0 : decode cX1_unit 0 = .ok (.iconst (-1), 1) := by decide +kernel
theorem dX1_unit_1 : decode cX1_unit 1 = .ok (.istore_n 2, 1) := by decide +kernel
theorem dX1_unit_2 : decode cX1_unit 2 = .ok (.aload_n 0, 1) := by decide +kernel
theorem dX1_unit_3 : decode cX1_unit 3 = .ok (.getfield 39, 3) := by decide +kernel
theorem dX1_unit_6 : decode cX1_unit 6 = .ok (.iconst 1, 1) := by decide +kernel
theorem dX1_unit_7 : decode cX1_unit 7 = .ok (.isub, 1) := by decide +kernel
theorem dX1_unit_8 : decode cX1_unit 8 = .ok (.istore_n 3, 1) := by decide +kernel
theorem dX1_unit_9 : decode cX1_unit 9 = .ok (.iload_n 3, 1) := by decide +kernel
theorem dX1_unit_10 : decode cX1_unit 10 = .ok (.ifCond .lt 87, 3) := by decide +kernel
theorem dX1_unit_13 : decode cX1_unit 13 = .ok (.aload_n 0, 1) := by decide +kernel
theorem dX1_unit_14 : decode cX1_unit 14 = .ok (.getfield 26, 3) := by decide +kernel
theorem dX1_unit_17 : decode cX1_unit 17 = .ok (.iload_n 3, 1) := by decide +kernel
theorem dX1_unit_18 : decode cX1_unit 18 = .ok (.iaload, 1) := by decide +kernel
theorem dX1_unit_19 : decode cX1_unit 19 = .ok (.istore 4, 2) := by decide +kernel
theorem dX1_unit_21 : decode cX1_unit 21 = .ok (.aload_n 0, 1) := by decide +kernel
theorem dX1_unit_22 : decode cX1_unit 22 = .ok (.getfield 20, 3) := by decide +kernel
theorem dX1_unit_25 : decode cX1_unit 25 = .ok (.iload 4, 2) := by decide +kernel
theorem dX1_unit_27 : decode cX1_unit 27 = .ok (.iaload, 1) := by decide +kernel
theorem dX1_unit_28 : decode cX1_unit 28 = .ok (.istore 5, 2) := by decide +kernel
theorem dX1_unit_30 : decode cX1_unit 30 = .ok (.aload_n 0, 1) := by decide +kernel
theorem dX1_unit_31 : decode cX1_unit 31 = .ok (.getfield 29, 3) := by decide +kernel
theorem dX1_unit_34 : decode cX1_unit 34 = .ok (.iload 4, 2) := by decide +kernel
theorem dX1_unit_36 : decode cX1_unit 36 = .ok (.iload 5, 2) := by decide +kernel
theorem dX1_unit_38 : decode cX1_unit 38 = .ok (.ifCond .le 28, 3) := by decide +kernel
theorem dX1_unit_41 : decode cX1_unit 41 = .ok (.iload_n 1, 1) := by decide +kernel
theorem dX1_unit_42 : decode cX1_unit 42 = .ok (.iload 5, 2) := by decide +kernel
theorem dX1_unit_44 : decode cX1_unit 44 = .ok (.irem, 1) := by decide +kernel
theorem dX1_unit_45 : decode cX1_unit 45 = .ok (.ifCond .ne 21, 3) := by decide +kernel
theorem dX1_unit_48 : decode cX1_unit 48 = .ok (.aload_n 0, 1) := by decide +kernel
theorem dX1_unit_49 : decode cX1_unit 49 = .ok (.getfield 29, 3) := by decide +kernel
theorem dX1_unit_52 : decode cX1_unit 52 = .ok (.iload 4, 2) := by decide +kernel
theorem dX1_unit_54 : decode cX1_unit 54 = .ok (.iaload, 1) := by decide +kernel
theorem dX1_unit_55 : decode cX1_unit 55 = .ok (.aload_n 0, 1) := by decide +kernel
theorem dX1_unit_56 : decode cX1_unit 56 = .ok (.getfield 13, 3) := by decide +kernel
theorem dX1_unit_59 : decode cX1_unit 59 = .ok (.iload 4, 2) := by decide +kernel
theorem dX1_unit_61 : decode cX1_unit 61 = .ok (.iaload, 1) := by decide +kernel
theorem dX1_unit_62 : decode cX1_unit 62 = .ok (.iadd, 1) := by decide +kernel
theorem dX1_unit_63 : decode cX1_unit 63 = .ok (.goto 10, 3) := by decide +kernel
theorem dX1_unit_66 : decode cX1_unit 66 = .ok (.aload_n 0, 1) := by decide +kernel
theorem dX1_unit_67 : decode cX1_unit 67 = .ok (.getfield 29, 3) := by decide +kernel
theorem dX1_unit_70 : decode cX1_unit 70 = .ok (.iload 4, 2) := by decide +kernel
theorem dX1_unit_72 : decode cX1_unit 72 = .ok (.iaload, 1) := by decide +kernel
theorem dX1_unit_73 : decode cX1_unit 73 = .ok (.iastore, 1) := by decide +kernel
theorem dX1_unit_74 : decode cX1_unit 74 = .ok (.aload_n 0, 1) := by decide +kernel
theorem dX1_unit_75 : decode cX1_unit 75 = .ok (.getfield 29, 3) := by decide +kernel
theorem dX1_unit_78 : decode cX1_unit 78 = .ok (.iload 4, 2) := by decide +kernel
theorem dX1_unit_80 : decode cX1_unit 80 = .ok (.iaload, 1) := by decide +kernel
theorem dX1_unit_81 : decode cX1_unit 81 = .ok (.ifCond .le 8, 3) := by decide +kernel
theorem dX1_unit_84 : decode cX1_unit 84 = .ok (.iload 4, 2) := by decide +kernel
theorem dX1_unit_86 : decode cX1_unit 86 = .ok (.goto 4, 3) := by decide +kernel
theorem dX1_unit_89 : decode cX1_unit 89 = .ok (.iload_n 2, 1) := by decide +kernel
theorem dX1_unit_90 : decode cX1_unit 90 = .ok (.istore_n 2, 1) := by decide +kernel
theorem dX1_unit_91 : decode cX1_unit 91 = .ok (.iinc 3 (-1), 3) := by decide +kernel
theorem dX1_unit_94 : decode cX1_unit 94 = .ok (.goto (-85), 3) := by decide +kernel
theorem dX1_unit_97 : decode cX1_unit 97 = .ok (.iload_n 2, 1) := by decide +kernel
theorem dX1_unit_98 : decode cX1_unit 98 = .ok (.ifCond .lt 23, 3) := by decide +kernel
theorem dX1_unit_101 : decode cX1_unit 101 = .ok (.aload_n 0, 1) := by decide +kernel
theorem dX1_unit_102 : decode cX1_unit 102 = .ok (.getfield 29, 3) := by decide +kernel
theorem dX1_unit_105 : decode cX1_unit 105 = .ok (.iload_n 2, 1) := by decide +kernel
theorem dX1_unit_106 : decode cX1_unit 106 = .ok (.dup2, 1) := by decide +kernel
theorem dX1_unit_107 : decode cX1_unit 107 = .ok (.iaload, 1) := by decide +kernel
theorem dX1_unit_108 : decode cX1_unit 108 = .ok (.iconst 1, 1) := by decide +kernel
theorem dX1_unit_109 : decode cX1_unit 109 = .ok (.isub, 1) := by decide +kernel
theorem dX1_unit_110 : decode cX1_unit 110 = .ok (.iastore, 1) := by decide +kernel
theorem dX1_unit_111 : decode cX1_unit 111 = .ok (.aload_n 0, 1) := by decide +kernel
theorem dX1_unit_112 : decode cX1_unit 112 = .ok (.getfield 32, 3) := by decide +kernel
theorem dX1_unit_115 : decode cX1_unit 115 = .ok (.iload_n 2, 1) := by decide +kernel
theorem dX1_unit_116 : decode cX1_unit 116 = .ok (.dup2, 1) := by decide +kernel
theorem dX1_unit_117 : decode cX1_unit 117 = .ok (.iaload, 1) := by decide +kernel
theorem dX1_unit_118 : decode cX1_unit 118 = .ok (.iconst 1, 1) := by decide +kernel
theorem dX1_unit_119 : decode cX1_unit 119 = .ok (.iadd, 1) := by decide +kernel
theorem dX1_unit_120 : decode cX1_unit 120 = .ok (.iastore, 1) := by decide +kernel
theorem dX1_unit_121 : decode cX1_unit 121 = .ok (.iload_n 2, 1) := by decide +kernel
theorem dX1_unit_122 : decode cX1_unit 122 = .ok (.ireturn, 1) := by decide +kernel
abbrev cX1_good : ByteArray := prog_3_method_18_code
def yX1_good : MethodName := ⟨RX1, "good", "()Z"⟩
theorem dX1_good_0 : decode cX1_good 0 = .ok (.aload_n 0, 1) := by decide +kernel
theorem dX1_good_1 : decode cX1_good 1 = .ok (.invokevirtual 67, 3) := by decide +kernel
theorem dX1_good_4 : decode cX1_good 4 = .ok (.aload_n 0, 1) := by decide +kernel
theorem dX1_good_5 : decode cX1_good 5 = .ok (.invokevirtual 70, 3) := by decide +kernel
theorem dX1_good_8 : decode cX1_good 8 = .ok (.ireturn, 1) := by decide +kernel
abbrev cX1_allPunctual : ByteArray := prog_3_method_16_code
def yX1_allPunctual : MethodName := ⟨RX1, "allPunctual", "()Z"⟩
theorem dX1_allPunctual_0 : decode cX1_allPunctual 0 = .ok (.iconst 1, 1) := by decide +kernel
theorem dX1_allPunctual_1 : decode cX1_allPunctual 1 = .ok (.istore_n 1, 1) := by decide +kernel
theorem dX1_allPunctual_2 : decode cX1_allPunctual 2 = .ok (.iconst 0, 1) := by decide +kernel
theorem dX1_allPunctual_3 : decode cX1_allPunctual 3 = .ok (.istore_n 2, 1) := by decide +kernel
theorem dX1_allPunctual_4 : decode cX1_allPunctual 4 = .ok (.iload_n 2, 1) := by decide +kernel
theorem dX1_allPunctual_5 : decode cX1_allPunctual 5 = .ok (.iconst 5, 1) := by decide +kernel
theorem dX1_allPunctual_6 : decode cX1_allPunctual 6 = .ok (.if_icmp .ge 36, 3) := by decide +kernel
theorem dX1_allPunctual_9 : decode cX1_allPunctual 9 = .ok (.iload_n 1, 1) := by decide +kernel
theorem dX1_allPunctual_10 : decode cX1_allPunctual 10 = .ok (.ifCond .eq 24, 3) := by decide +kernel
theorem dX1_allPunctual_13 : decode cX1_allPunctual 13 = .ok (.aload_n 0, 1) := by decide +kernel
theorem dX1_allPunctual_14 : decode cX1_allPunctual 14 = .ok (.getfield 7, 3) := by decide +kernel
theorem dX1_allPunctual_17 : decode cX1_allPunctual 17 = .ok (.iload_n 2, 1) := by decide +kernel
theorem dX1_allPunctual_18 : decode cX1_allPunctual 18 = .ok (.baload, 1) := by decide +kernel
theorem dX1_allPunctual_19 : decode cX1_allPunctual 19 = .ok (.ifCond .eq 11, 3) := by decide +kernel
theorem dX1_allPunctual_22 : decode cX1_allPunctual 22 = .ok (.aload_n 0, 1) := by decide +kernel
theorem dX1_allPunctual_23 : decode cX1_allPunctual 23 = .ok (.iload_n 2, 1) := by decide +kernel
theorem dX1_allPunctual_24 : decode cX1_allPunctual 24 = .ok (.invokevirtual 64, 3) := by decide +kernel
theorem dX1_allPunctual_27 : decode cX1_allPunctual 27 = .ok (.ifCond .eq 7, 3) := by decide +kernel
theorem dX1_allPunctual_30 : decode cX1_allPunctual 30 = .ok (.iconst 1, 1) := by decide +kernel
theorem dX1_allPunctual_31 : decode cX1_allPunctual 31 = .ok (.goto 4, 3) := by decide +kernel
theorem dX1_allPunctual_34 : decode cX1_allPunctual 34 = .ok (.iconst 0, 1) := by decide +kernel
theorem dX1_allPunctual_35 : decode cX1_allPunctual 35 = .ok (.istore_n 1, 1) := by decide +kernel
theorem dX1_allPunctual_36 : decode cX1_allPunctual 36 = .ok (.iinc 2 1, 3) := by decide +kernel
theorem dX1_allPunctual_39 : decode cX1_allPunctual 39 = .ok (.goto (-35), 3) := by decide +kernel
theorem dX1_allPunctual_42 : decode cX1_allPunctual 42 = .ok (.iload_n 1, 1) := by decide +kernel
theorem dX1_allPunctual_43 : decode cX1_allPunctual 43 = .ok (.ireturn, 1) := by decide +kernel
abbrev cX1_punctual : ByteArray := prog_3_method_15_code
def yX1_punctual : MethodName := ⟨RX1, "punctual", "(I)Z"⟩
theorem dX1_punctual_0 : decode cX1_punctual 0 = .ok (.aload_n 0, 1) := by decide +kernel
theorem dX1_punctual_1 : decode cX1_punctual 1 = .ok (.iload_n 1, 1) := by decide +kernel
theorem dX1_punctual_2 : decode cX1_punctual 2 = .ok (.invokevirtual 61, 3) := by decide +kernel
theorem dX1_punctual_5 : decode cX1_punctual 5 = .ok (.istore_n 2, 1) := by decide +kernel
theorem dX1_punctual_6 : decode cX1_punctual 6 = .ok (.iload_n 2, 1) := by decide +kernel
theorem dX1_punctual_7 : decode cX1_punctual 7 = .ok (.bipush (-3), 2) := by decide +kernel
theorem dX1_punctual_9 : decode cX1_punctual 9 = .ok (.if_icmp .eq 17, 3) := by decide +kernel
theorem dX1_punctual_12 : decode cX1_punctual 12 = .ok (.iload_n 2, 1) := by decide +kernel
theorem dX1_punctual_13 : decode cX1_punctual 13 = .ok (.aload_n 0, 1) := by decide +kernel
theorem dX1_punctual_14 : decode cX1_punctual 14 = .ok (.getfield 17, 3) := by decide +kernel
theorem dX1_punctual_17 : decode cX1_punctual 17 = .ok (.iload_n 1, 1) := by decide +kernel
theorem dX1_punctual_18 : decode cX1_punctual 18 = .ok (.iaload, 1) := by decide +kernel
theorem dX1_punctual_19 : decode cX1_punctual 19 = .ok (.if_icmp .gt 7, 3) := by decide +kernel
theorem dX1_punctual_22 : decode cX1_punctual 22 = .ok (.iconst 1, 1) := by decide +kernel
theorem dX1_punctual_23 : decode cX1_punctual 23 = .ok (.goto 4, 3) := by decide +kernel
theorem dX1_punctual_26 : decode cX1_punctual 26 = .ok (.iconst 0, 1) := by decide +kernel
theorem dX1_punctual_27 : decode cX1_punctual 27 = .ok (.ireturn, 1) := by decide +kernel
abbrev cX1_inTime : ByteArray := prog_3_method_19_code
def yX1_inTime : MethodName := ⟨RX1, "inTime", "()I"⟩
theorem dX1_inTime_0 : decode cX1_inTime 0 = .ok (.aload_n 0, 1) := by decide +kernel
theorem dX1_inTime_1 : decode cX1_inTime 1 = .ok (.invokevirtual 67, 3) := by decide +kernel
theorem dX1_inTime_4 : decode cX1_inTime 4 = .ok (.iconst 0, 1) := by decide +kernel
theorem dX1_inTime_5 : decode cX1_inTime 5 = .ok (.istore_n 1, 1) := by decide +kernel
theorem dX1_inTime_6 : decode cX1_inTime 6 = .ok (.iconst 0, 1) := by decide +kernel
theorem dX1_inTime_7 : decode cX1_inTime 7 = .ok (.istore_n 2, 1) := by decide +kernel
theorem dX1_inTime_8 : decode cX1_inTime 8 = .ok (.iload_n 2, 1) := by decide +kernel
theorem dX1_inTime_9 : decode cX1_inTime 9 = .ok (.iconst 5, 1) := by decide +kernel
theorem dX1_inTime_10 : decode cX1_inTime 10 = .ok (.if_icmp .ge 36, 3) := by decide +kernel
theorem dX1_inTime_13 : decode cX1_inTime 13 = .ok (.aload_n 0, 1) := by decide +kernel
theorem dX1_inTime_14 : decode cX1_inTime 14 = .ok (.getfield 7, 3) := by decide +kernel
theorem dX1_inTime_17 : decode cX1_inTime 17 = .ok (.iload_n 2, 1) := by decide +kernel
theorem dX1_inTime_18 : decode cX1_inTime 18 = .ok (.baload, 1) := by decide +kernel
theorem dX1_inTime_19 : decode cX1_inTime 19 = .ok (.ifCond .eq 19, 3) := by decide +kernel
theorem dX1_inTime_22 : decode cX1_inTime 22 = .ok (.aload_n 0, 1) := by decide +kernel
theorem dX1_inTime_23 : decode cX1_inTime 23 = .ok (.iload_n 2, 1) := by decide +kernel
theorem dX1_inTime_24 : decode cX1_inTime 24 = .ok (.invokevirtual 64, 3) := by decide +kernel
theorem dX1_inTime_27 : decode cX1_inTime 27 = .ok (.ifCond .eq 11, 3) := by decide +kernel
theorem dX1_inTime_30 : decode cX1_inTime 30 = .ok (.iload_n 1, 1) := by decide +kernel
theorem dX1_inTime_31 : decode cX1_inTime 31 = .ok (.iconst 1, 1) := by decide +kernel
theorem dX1_inTime_32 : decode cX1_inTime 32 = .ok (.iload_n 2, 1) := by decide +kernel
theorem dX1_inTime_33 : decode cX1_inTime 33 = .ok (.ishl, 1) := by decide +kernel
theorem dX1_inTime_34 : decode cX1_inTime 34 = .ok (.ior, 1) := by decide +kernel
theorem dX1_inTime_35 : decode cX1_inTime 35 = .ok (.goto 4, 3) := by decide +kernel
theorem dX1_inTime_38 : decode cX1_inTime 38 = .ok (.iload_n 1, 1) := by decide +kernel
theorem dX1_inTime_39 : decode cX1_inTime 39 = .ok (.istore_n 1, 1) := by decide +kernel
theorem dX1_inTime_40 : decode cX1_inTime 40 = .ok (.iinc 2 1, 3) := by decide +kernel
theorem dX1_inTime_43 : decode cX1_inTime 43 = .ok (.goto (-35), 3) := by decide +kernel
theorem dX1_inTime_46 : decode cX1_inTime 46 = .ok (.iload_n 1, 1) := by decide +kernel
theorem dX1_inTime_47 : decode cX1_inTime 47 = .ok (.ireturn, 1) := by decide +kernel
abbrev cX1_goodOrders : ByteArray := prog_3_method_23_code
def yX1_goodOrders : MethodName := ⟨RX1, "goodOrders", "()I"⟩
theorem dX1_goodOrders_0 : decode cX1_goodOrders 0 = .ok (.aload_n 0, 1) := by decide +kernel
theorem dX1_goodOrders_1 : decode cX1_goodOrders 1 = .ok (.invokevirtual 74, 3) := by decide +kernel
theorem dX1_goodOrders_4 : decode cX1_goodOrders 4 = .ok (.istore_n 1, 1) := by decide +kernel
theorem dX1_goodOrders_5 : decode cX1_goodOrders 5 = .ok (.iconst 0, 1) := by decide +kernel
theorem dX1_goodOrders_6 : decode cX1_goodOrders 6 = .ok (.istore_n 2, 1) := by decide +kernel
theorem dX1_goodOrders_7 : decode cX1_goodOrders 7 = .ok (.iconst 0, 1) := by decide +kernel
theorem dX1_goodOrders_8 : decode cX1_goodOrders 8 = .ok (.istore_n 3, 1) := by decide +kernel
theorem dX1_goodOrders_9 : decode cX1_goodOrders 9 = .ok (.iload_n 3, 1) := by decide +kernel
theorem dX1_goodOrders_10 : decode cX1_goodOrders 10 = .ok (.iload_n 1, 1) := by decide +kernel
theorem dX1_goodOrders_11 : decode cX1_goodOrders 11 = .ok (.if_icmp .ge 29, 3) := by decide +kernel
theorem dX1_goodOrders_14 : decode cX1_goodOrders 14 = .ok (.aload_n 0, 1) := by decide +kernel
theorem dX1_goodOrders_15 : decode cX1_goodOrders 15 = .ok (.iload_n 3, 1) := by decide +kernel
theorem dX1_goodOrders_16 : decode cX1_goodOrders 16 = .ok (.invokevirtual 82, 3) := by decide +kernel
theorem dX1_goodOrders_19 : decode cX1_goodOrders 19 = .ok (.aload_n 0, 1) := by decide +kernel
theorem dX1_goodOrders_20 : decode cX1_goodOrders 20 = .ok (.invokevirtual 70, 3) := by decide +kernel
theorem dX1_goodOrders_23 : decode cX1_goodOrders 23 = .ok (.ifCond .eq 9, 3) := by decide +kernel
theorem dX1_goodOrders_26 : decode cX1_goodOrders 26 = .ok (.iload_n 2, 1) := by decide +kernel
theorem dX1_goodOrders_27 : decode cX1_goodOrders 27 = .ok (.iconst 1, 1) := by decide +kernel
theorem dX1_goodOrders_28 : decode cX1_goodOrders 28 = .ok (.iadd, 1) := by decide +kernel
theorem dX1_goodOrders_29 : decode cX1_goodOrders 29 = .ok (.goto 4, 3) := by decide +kernel
theorem dX1_goodOrders_32 : decode cX1_goodOrders 32 = .ok (.iload_n 2, 1) := by decide +kernel
theorem dX1_goodOrders_33 : decode cX1_goodOrders 33 = .ok (.istore_n 2, 1) := by decide +kernel
theorem dX1_goodOrders_34 : decode cX1_goodOrders 34 = .ok (.iinc 3 1, 3) := by decide +kernel
theorem dX1_goodOrders_37 : decode cX1_goodOrders 37 = .ok (.goto (-28), 3) := by decide +kernel
theorem dX1_goodOrders_40 : decode cX1_goodOrders 40 = .ok (.iload_n 2, 1) := by decide +kernel
theorem dX1_goodOrders_41 : decode cX1_goodOrders 41 = .ok (.ireturn, 1) := by decide +kernel
abbrev cX1_orders : ByteArray := prog_3_method_20_code
def yX1_orders : MethodName := ⟨RX1, "orders", "()I"⟩
theorem dX1_orders_0 : decode cX1_orders 0 = .ok (.iconst 1, 1) := by decide +kernel
theorem dX1_orders_1 : decode cX1_orders 1 = .ok (.istore_n 1, 1) := by decide +kernel
theorem dX1_orders_2 : decode cX1_orders 2 = .ok (.iconst 2, 1) := by decide +kernel
theorem dX1_orders_3 : decode cX1_orders 3 = .ok (.istore_n 2, 1) := by decide +kernel
theorem dX1_orders_4 : decode cX1_orders 4 = .ok (.iload_n 2, 1) := by decide +kernel
theorem dX1_orders_5 : decode cX1_orders 5 = .ok (.aload_n 0, 1) := by decide +kernel
theorem dX1_orders_6 : decode cX1_orders 6 = .ok (.getfield 39, 3) := by decide +kernel
theorem dX1_orders_9 : decode cX1_orders 9 = .ok (.if_icmp .gt 13, 3) := by decide +kernel
theorem dX1_orders_12 : decode cX1_orders 12 = .ok (.iload_n 1, 1) := by decide +kernel
theorem dX1_orders_13 : decode cX1_orders 13 = .ok (.iload_n 2, 1) := by decide +kernel
theorem dX1_orders_14 : decode cX1_orders 14 = .ok (.imul, 1) := by decide +kernel
theorem dX1_orders_15 : decode cX1_orders 15 = .ok (.istore_n 1, 1) := by decide +kernel
theorem dX1_orders_16 : decode cX1_orders 16 = .ok (.iinc 2 1, 3) := by decide +kernel
theorem dX1_orders_19 : decode cX1_orders 19 = .ok (.goto (-15), 3) := by decide +kernel
theorem dX1_orders_22 : decode cX1_orders 22 = .ok (.iload_n 1, 1) := by decide +kernel
theorem dX1_orders_23 : decode cX1_orders 23 = .ok (.ireturn, 1) := by decide +kernel
abbrev cX1_spell : ByteArray := prog_3_method_21_code
def yX1_spell : MethodName := ⟨RX1, "spell", "(I)V"⟩
theorem dX1_spell_0 : decode cX1_spell 0 = .ok (.aload_n 0, 1) := by decide +kernel
theorem dX1_spell_1 : decode cX1_spell 1 = .ok (.invokevirtual 74, 3) := by decide +kernel
theorem dX1_spell_4 : decode cX1_spell 4 = .ok (.istore_n 2, 1) := by decide +kernel
theorem dX1_spell_5 : decode cX1_spell 5 = .ok (.iload_n 1, 1) := by decide +kernel
theorem dX1_spell_6 : decode cX1_spell 6 = .ok (.istore_n 3, 1) := by decide +kernel
theorem dX1_spell_7 : decode cX1_spell 7 = .ok (.iconst 0, 1) := by decide +kernel
theorem dX1_spell_8 : decode cX1_spell 8 = .ok (.istore 4, 2) := by decide +kernel
theorem dX1_spell_10 : decode cX1_spell 10 = .ok (.iconst 0, 1) := by decide +kernel
theorem dX1_spell_11 : decode cX1_spell 11 = .ok (.istore 5, 2) := by decide +kernel
theorem dX1_spell_13 : decode cX1_spell 13 = .ok (.iload 5, 2) := by decide +kernel
theorem dX1_spell_15 : decode cX1_spell 15 = .ok (.aload_n 0, 1) := by decide +kernel
theorem dX1_spell_16 : decode cX1_spell 16 = .ok (.getfield 39, 3) := by decide +kernel
theorem dX1_spell_19 : decode cX1_spell 19 = .ok (.if_icmp .ge 87, 3) := by decide +kernel
theorem dX1_spell_22 : decode cX1_spell 22 = .ok (.iload_n 2, 1) := by decide +kernel
theorem dX1_spell_23 : decode cX1_spell 23 = .ok (.aload_n 0, 1) := by decide +kernel
theorem dX1_spell_24 : decode cX1_spell 24 = .ok (.getfield 39, 3) := by decide +kernel
theorem dX1_spell_27 : decode cX1_spell 27 = .ok (.iload 5, 2) := by decide +kernel
theorem dX1_spell_29 : decode cX1_spell 29 = .ok (.isub, 1) := by decide +kernel
theorem dX1_spell_30 : decode cX1_spell 30 = .ok (.ifCond .le 13, 3) := by decide +kernel
theorem dX1_spell_33 : decode cX1_spell 33 = .ok (.aload_n 0, 1) := by decide +kernel
theorem dX1_spell_34 : decode cX1_spell 34 = .ok (.getfield 39, 3) := by decide +kernel
theorem dX1_spell_37 : decode cX1_spell 37 = .ok (.iload 5, 2) := by decide +kernel
theorem dX1_spell_39 : decode cX1_spell 39 = .ok (.isub, 1) := by decide +kernel
theorem dX1_spell_40 : decode cX1_spell 40 = .ok (.goto 4, 3) := by decide +kernel
theorem dX1_spell_43 : decode cX1_spell 43 = .ok (.iconst 1, 1) := by decide +kernel
theorem dX1_spell_44 : decode cX1_spell 44 = .ok (.idiv, 1) := by decide +kernel
theorem dX1_spell_45 : decode cX1_spell 45 = .ok (.istore_n 2, 1) := by decide +kernel
theorem dX1_spell_46 : decode cX1_spell 46 = .ok (.iload_n 2, 1) := by decide +kernel
theorem dX1_spell_47 : decode cX1_spell 47 = .ok (.ifCond .le 9, 3) := by decide +kernel
theorem dX1_spell_50 : decode cX1_spell 50 = .ok (.iload_n 3, 1) := by decide +kernel
theorem dX1_spell_51 : decode cX1_spell 51 = .ok (.iload_n 2, 1) := by decide +kernel
theorem dX1_spell_52 : decode cX1_spell 52 = .ok (.idiv, 1) := by decide +kernel
theorem dX1_spell_53 : decode cX1_spell 53 = .ok (.goto 4, 3) := by decide +kernel
theorem dX1_spell_56 : decode cX1_spell 56 = .ok (.iconst 0, 1) := by decide +kernel
theorem dX1_spell_57 : decode cX1_spell 57 = .ok (.istore 6, 2) := by decide +kernel
theorem dX1_spell_59 : decode cX1_spell 59 = .ok (.iload_n 2, 1) := by decide +kernel
theorem dX1_spell_60 : decode cX1_spell 60 = .ok (.ifCond .le 9, 3) := by decide +kernel
theorem dX1_spell_63 : decode cX1_spell 63 = .ok (.iload_n 3, 1) := by decide +kernel
theorem dX1_spell_64 : decode cX1_spell 64 = .ok (.iload_n 2, 1) := by decide +kernel
theorem dX1_spell_65 : decode cX1_spell 65 = .ok (.irem, 1) := by decide +kernel
theorem dX1_spell_66 : decode cX1_spell 66 = .ok (.goto 4, 3) := by decide +kernel
theorem dX1_spell_69 : decode cX1_spell 69 = .ok (.iconst 0, 1) := by decide +kernel
theorem dX1_spell_70 : decode cX1_spell 70 = .ok (.istore_n 3, 1) := by decide +kernel
theorem dX1_spell_71 : decode cX1_spell 71 = .ok (.aload_n 0, 1) := by decide +kernel
theorem dX1_spell_72 : decode cX1_spell 72 = .ok (.getfield 26, 3) := by decide +kernel
theorem dX1_spell_75 : decode cX1_spell 75 = .ok (.iload 5, 2) := by decide +kernel
theorem dX1_spell_77 : decode cX1_spell 77 = .ok (.aload_n 0, 1) := by decide +kernel
theorem dX1_spell_78 : decode cX1_spell 78 = .ok (.iload 4, 2) := by decide +kernel
theorem dX1_spell_80 : decode cX1_spell 80 = .ok (.iload 6, 2) := by decide +kernel
theorem dX1_spell_82 : decode cX1_spell 82 = .ok (.invokevirtual 78, 3) := by decide +kernel
theorem dX1_spell_85 : decode cX1_spell 85 = .ok (.iastore, 1) := by decide +kernel
theorem dX1_spell_86 : decode cX1_spell 86 = .ok (.iload 4, 2) := by decide +kernel
theorem dX1_spell_88 : decode cX1_spell 88 = .ok (.iconst 1, 1) := by decide +kernel
theorem dX1_spell_89 : decode cX1_spell 89 = .ok (.aload_n 0, 1) := by decide +kernel
theorem dX1_spell_90 : decode cX1_spell 90 = .ok (.getfield 26, 3) := by decide +kernel
theorem dX1_spell_93 : decode cX1_spell 93 = .ok (.iload 5, 2) := by decide +kernel
theorem dX1_spell_95 : decode cX1_spell 95 = .ok (.iaload, 1) := by decide +kernel
theorem dX1_spell_96 : decode cX1_spell 96 = .ok (.ishl, 1) := by decide +kernel
theorem dX1_spell_97 : decode cX1_spell 97 = .ok (.ior, 1) := by decide +kernel
theorem dX1_spell_98 : decode cX1_spell 98 = .ok (.istore 4, 2) := by decide +kernel
theorem dX1_spell_100 : decode cX1_spell 100 = .ok (.iinc 5 1, 3) := by decide +kernel
theorem dX1_spell_103 : decode cX1_spell 103 = .ok (.goto (-90), 3) := by decide +kernel
theorem dX1_spell_106 : decode cX1_spell 106 = .ok (.return_, 1) := by decide +kernel
abbrev cX1_unused : ByteArray := prog_3_method_22_code
def yX1_unused : MethodName := ⟨RX1, "unused", "(II)I"⟩
theorem dX1_unused_0 : decode cX1_unused 0 = .ok (.iconst 0, 1) := by decide +kernel
theorem dX1_unused_1 : decode cX1_unused 1 = .ok (.istore_n 3, 1) := by decide +kernel
theorem dX1_unused_2 : decode cX1_unused 2 = .ok (.iconst 0, 1) := by decide +kernel
theorem dX1_unused_3 : decode cX1_unused 3 = .ok (.istore 4, 2) := by decide +kernel
theorem dX1_unused_5 : decode cX1_unused 5 = .ok (.iload 4, 2) := by decide +kernel
theorem dX1_unused_7 : decode cX1_unused 7 = .ok (.iconst 5, 1) := by decide +kernel
theorem dX1_unused_8 : decode cX1_unused 8 = .ok (.if_icmp .ge 39, 3) := by decide +kernel
theorem dX1_unused_11 : decode cX1_unused 11 = .ok (.aload_n 0, 1) := by decide +kernel
theorem dX1_unused_12 : decode cX1_unused 12 = .ok (.getfield 7, 3) := by decide +kernel
theorem dX1_unused_15 : decode cX1_unused 15 = .ok (.iload 4, 2) := by decide +kernel
theorem dX1_unused_17 : decode cX1_unused 17 = .ok (.baload, 1) := by decide +kernel
theorem dX1_unused_18 : decode cX1_unused 18 = .ok (.ifCond .eq 23, 3) := by decide +kernel
theorem dX1_unused_21 : decode cX1_unused 21 = .ok (.iload_n 1, 1) := by decide +kernel
theorem dX1_unused_22 : decode cX1_unused 22 = .ok (.iload 4, 2) := by decide +kernel
theorem dX1_unused_24 : decode cX1_unused 24 = .ok (.ishr, 1) := by decide +kernel
theorem dX1_unused_25 : decode cX1_unused 25 = .ok (.iconst 1, 1) := by decide +kernel
theorem dX1_unused_26 : decode cX1_unused 26 = .ok (.iand, 1) := by decide +kernel
theorem dX1_unused_27 : decode cX1_unused 27 = .ok (.ifCond .ne 14, 3) := by decide +kernel
theorem dX1_unused_30 : decode cX1_unused 30 = .ok (.iload_n 3, 1) := by decide +kernel
theorem dX1_unused_31 : decode cX1_unused 31 = .ok (.iload_n 2, 1) := by decide +kernel
theorem dX1_unused_32 : decode cX1_unused 32 = .ok (.if_icmp .ne 6, 3) := by decide +kernel
theorem dX1_unused_35 : decode cX1_unused 35 = .ok (.iload 4, 2) := by decide +kernel
theorem dX1_unused_37 : decode cX1_unused 37 = .ok (.ireturn, 1) := by decide +kernel
theorem dX1_unused_38 : decode cX1_unused 38 = .ok (.iinc 3 1, 3) := by decide +kernel
theorem dX1_unused_41 : decode cX1_unused 41 = .ok (.iinc 4 1, 3) := by decide +kernel
theorem dX1_unused_44 : decode cX1_unused 44 = .ok (.goto (-39), 3) := by decide +kernel
theorem dX1_unused_47 : decode cX1_unused 47 = .ok (.iconst 0, 1) := by decide +kernel
theorem dX1_unused_48 : decode cX1_unused 48 = .ok (.ireturn, 1) := by decide +kernel
abbrev cX1_arrange : ByteArray := prog_3_method_24_code
def yX1_arrange : MethodName := ⟨RX1, "arrange", "()Z"⟩
theorem dX1_arrange_0 : decode cX1_arrange 0 = .ok (.aload_n 0, 1) := by decide +kernel
theorem dX1_arrange_1 : decode cX1_arrange 1 = .ok (.invokevirtual 74, 3) := by decide +kernel
theorem dX1_arrange_4 : decode cX1_arrange 4 = .ok (.istore_n 1, 1) := by decide +kernel
theorem dX1_arrange_5 : decode cX1_arrange 5 = .ok (.iconst 0, 1) := by decide +kernel
theorem dX1_arrange_6 : decode cX1_arrange 6 = .ok (.istore_n 2, 1) := by decide +kernel
theorem dX1_arrange_7 : decode cX1_arrange 7 = .ok (.iload_n 2, 1) := by decide +kernel
theorem dX1_arrange_8 : decode cX1_arrange 8 = .ok (.iload_n 1, 1) := by decide +kernel
theorem dX1_arrange_9 : decode cX1_arrange 9 = .ok (.if_icmp .ge 51, 3) := by decide +kernel
theorem dX1_arrange_12 : decode cX1_arrange 12 = .ok (.aload_n 0, 1) := by decide +kernel
theorem dX1_arrange_13 : decode cX1_arrange 13 = .ok (.iload_n 2, 1) := by decide +kernel
theorem dX1_arrange_14 : decode cX1_arrange 14 = .ok (.invokevirtual 82, 3) := by decide +kernel
theorem dX1_arrange_17 : decode cX1_arrange 17 = .ok (.aload_n 0, 1) := by decide +kernel
theorem dX1_arrange_18 : decode cX1_arrange 18 = .ok (.invokevirtual 70, 3) := by decide +kernel
theorem dX1_arrange_21 : decode cX1_arrange 21 = .ok (.ifCond .eq 33, 3) := by decide +kernel
theorem dX1_arrange_24 : decode cX1_arrange 24 = .ok (.iconst 0, 1) := by decide +kernel
theorem dX1_arrange_25 : decode cX1_arrange 25 = .ok (.istore_n 3, 1) := by decide +kernel
theorem dX1_arrange_26 : decode cX1_arrange 26 = .ok (.iload_n 3, 1) := by decide +kernel
theorem dX1_arrange_27 : decode cX1_arrange 27 = .ok (.aload_n 0, 1) := by decide +kernel
theorem dX1_arrange_28 : decode cX1_arrange 28 = .ok (.getfield 39, 3) := by decide +kernel
theorem dX1_arrange_31 : decode cX1_arrange 31 = .ok (.if_icmp .ge 21, 3) := by decide +kernel
theorem dX1_arrange_34 : decode cX1_arrange 34 = .ok (.aload_n 0, 1) := by decide +kernel
theorem dX1_arrange_35 : decode cX1_arrange 35 = .ok (.getfield 23, 3) := by decide +kernel
theorem dX1_arrange_38 : decode cX1_arrange 38 = .ok (.iload_n 3, 1) := by decide +kernel
theorem dX1_arrange_39 : decode cX1_arrange 39 = .ok (.aload_n 0, 1) := by decide +kernel
theorem dX1_arrange_40 : decode cX1_arrange 40 = .ok (.getfield 26, 3) := by decide +kernel
theorem dX1_arrange_43 : decode cX1_arrange 43 = .ok (.iload_n 3, 1) := by decide +kernel
theorem dX1_arrange_44 : decode cX1_arrange 44 = .ok (.iaload, 1) := by decide +kernel
theorem dX1_arrange_45 : decode cX1_arrange 45 = .ok (.iastore, 1) := by decide +kernel
theorem dX1_arrange_46 : decode cX1_arrange 46 = .ok (.iinc 3 1, 3) := by decide +kernel
theorem dX1_arrange_49 : decode cX1_arrange 49 = .ok (.goto (-23), 3) := by decide +kernel
theorem dX1_arrange_52 : decode cX1_arrange 52 = .ok (.iconst 1, 1) := by decide +kernel
theorem dX1_arrange_53 : decode cX1_arrange 53 = .ok (.ireturn, 1) := by decide +kernel
theorem dX1_arrange_54 : decode cX1_arrange 54 = .ok (.iinc 2 1, 3) := by decide +kernel
theorem dX1_arrange_57 : decode cX1_arrange 57 = .ok (.goto (-50), 3) := by decide +kernel
theorem dX1_arrange_60 : decode cX1_arrange 60 = .ok (.iconst 0, 1) := by decide +kernel
theorem dX1_arrange_61 : decode cX1_arrange 61 = .ok (.ireturn, 1) := by decide +kernel
abbrev cX1_canBeLast : ByteArray := prog_3_method_25_code
def yX1_canBeLast : MethodName := ⟨RX1, "canBeLast", "()I"⟩
theorem dX1_canBeLast_0 : decode cX1_canBeLast 0 = .ok (.aload_n 0, 1) := by decide +kernel
theorem dX1_canBeLast_1 : decode cX1_canBeLast 1 = .ok (.invokevirtual 74, 3) := by decide +kernel
theorem dX1_canBeLast_4 : decode cX1_canBeLast 4 = .ok (.istore_n 1, 1) := by decide +kernel
theorem dX1_canBeLast_5 : decode cX1_canBeLast 5 = .ok (.iconst 0, 1) := by decide +kernel
theorem dX1_canBeLast_6 : decode cX1_canBeLast 6 = .ok (.istore_n 2, 1) := by decide +kernel
theorem dX1_canBeLast_7 : decode cX1_canBeLast 7 = .ok (.iconst 0, 1) := by decide +kernel
theorem dX1_canBeLast_8 : decode cX1_canBeLast 8 = .ok (.istore_n 3, 1) := by decide +kernel
theorem dX1_canBeLast_9 : decode cX1_canBeLast 9 = .ok (.iload_n 3, 1) := by decide +kernel
theorem dX1_canBeLast_10 : decode cX1_canBeLast 10 = .ok (.iload_n 1, 1) := by decide +kernel
theorem dX1_canBeLast_11 : decode cX1_canBeLast 11 = .ok (.if_icmp .ge 48, 3) := by decide +kernel
theorem dX1_canBeLast_14 : decode cX1_canBeLast 14 = .ok (.aload_n 0, 1) := by decide +kernel
theorem dX1_canBeLast_15 : decode cX1_canBeLast 15 = .ok (.getfield 39, 3) := by decide +kernel
theorem dX1_canBeLast_18 : decode cX1_canBeLast 18 = .ok (.ifCond .le 41, 3) := by decide +kernel
theorem dX1_canBeLast_21 : decode cX1_canBeLast 21 = .ok (.aload_n 0, 1) := by decide +kernel
theorem dX1_canBeLast_22 : decode cX1_canBeLast 22 = .ok (.iload_n 3, 1) := by decide +kernel
theorem dX1_canBeLast_23 : decode cX1_canBeLast 23 = .ok (.invokevirtual 82, 3) := by decide +kernel
theorem dX1_canBeLast_26 : decode cX1_canBeLast 26 = .ok (.aload_n 0, 1) := by decide +kernel
theorem dX1_canBeLast_27 : decode cX1_canBeLast 27 = .ok (.invokevirtual 70, 3) := by decide +kernel
theorem dX1_canBeLast_30 : decode cX1_canBeLast 30 = .ok (.ifCond .eq 21, 3) := by decide +kernel
theorem dX1_canBeLast_33 : decode cX1_canBeLast 33 = .ok (.iload_n 2, 1) := by decide +kernel
theorem dX1_canBeLast_34 : decode cX1_canBeLast 34 = .ok (.iconst 1, 1) := by decide +kernel
theorem dX1_canBeLast_35 : decode cX1_canBeLast 35 = .ok (.aload_n 0, 1) := by decide +kernel
theorem dX1_canBeLast_36 : decode cX1_canBeLast 36 = .ok (.getfield 26, 3) := by decide +kernel
theorem dX1_canBeLast_39 : decode cX1_canBeLast 39 = .ok (.aload_n 0, 1) := by decide +kernel
theorem dX1_canBeLast_40 : decode cX1_canBeLast 40 = .ok (.getfield 39, 3) := by decide +kernel
theorem dX1_canBeLast_43 : decode cX1_canBeLast 43 = .ok (.iconst 1, 1) := by decide +kernel
theorem dX1_canBeLast_44 : decode cX1_canBeLast 44 = .ok (.isub, 1) := by decide +kernel
theorem dX1_canBeLast_45 : decode cX1_canBeLast 45 = .ok (.iaload, 1) := by decide +kernel
theorem dX1_canBeLast_46 : decode cX1_canBeLast 46 = .ok (.ishl, 1) := by decide +kernel
theorem dX1_canBeLast_47 : decode cX1_canBeLast 47 = .ok (.ior, 1) := by decide +kernel
theorem dX1_canBeLast_48 : decode cX1_canBeLast 48 = .ok (.goto 4, 3) := by decide +kernel
theorem dX1_canBeLast_51 : decode cX1_canBeLast 51 = .ok (.iload_n 2, 1) := by decide +kernel
theorem dX1_canBeLast_52 : decode cX1_canBeLast 52 = .ok (.istore_n 2, 1) := by decide +kernel
theorem dX1_canBeLast_53 : decode cX1_canBeLast 53 = .ok (.iinc 3 1, 3) := by decide +kernel
theorem dX1_canBeLast_56 : decode cX1_canBeLast 56 = .ok (.goto (-47), 3) := by decide +kernel
theorem dX1_canBeLast_59 : decode cX1_canBeLast 59 = .ok (.iload_n 2, 1) := by decide +kernel
theorem dX1_canBeLast_60 : decode cX1_canBeLast 60 = .ok (.ireturn, 1) := by decide +kernel
abbrev cX1_greatestCost : ByteArray := prog_3_method_26_code
def yX1_greatestCost : MethodName := ⟨RX1, "greatestCost", "(I)I"⟩
theorem dX1_greatestCost_0 : decode cX1_greatestCost 0 = .ok (.aload_n 0, 1) := by decide +kernel
theorem dX1_greatestCost_1 : decode cX1_greatestCost 1 = .ok (.iload_n 1, 1) := by decide +kernel
theorem dX1_greatestCost_2 : decode cX1_greatestCost 2 = .ok (.invokevirtual 43, 3) := by decide +kernel
theorem dX1_greatestCost_5 : decode cX1_greatestCost 5 = .ok (.ifCond .ne 5, 3) := by decide +kernel
theorem dX1_greatestCost_8 : decode cX1_greatestCost 8 = .ok (.iconst (-1), 1) := by decide +kernel
theorem dX1_greatestCost_9 : decode cX1_greatestCost 9 = .ok (.ireturn, 1) := by decide +kernel
theorem dX1_greatestCost_10 : decode cX1_greatestCost 10 = .ok (.aload_n 0, 1) := by decide +kernel
theorem dX1_greatestCost_11 : decode cX1_greatestCost 11 = .ok (.invokevirtual 67, 3) := by decide +kernel
theorem dX1_greatestCost_14 : decode cX1_greatestCost 14 = .ok (.aload_n 0, 1) := by decide +kernel
theorem dX1_greatestCost_15 : decode cX1_greatestCost 15 = .ok (.getfield 13, 3) := by decide +kernel
theorem dX1_greatestCost_18 : decode cX1_greatestCost 18 = .ok (.iload_n 1, 1) := by decide +kernel
theorem dX1_greatestCost_19 : decode cX1_greatestCost 19 = .ok (.iaload, 1) := by decide +kernel
theorem dX1_greatestCost_20 : decode cX1_greatestCost 20 = .ok (.istore_n 2, 1) := by decide +kernel
theorem dX1_greatestCost_21 : decode cX1_greatestCost 21 = .ok (.iconst 0, 1) := by decide +kernel
theorem dX1_greatestCost_22 : decode cX1_greatestCost 22 = .ok (.istore_n 3, 1) := by decide +kernel
theorem dX1_greatestCost_23 : decode cX1_greatestCost 23 = .ok (.iconst 1, 1) := by decide +kernel
theorem dX1_greatestCost_24 : decode cX1_greatestCost 24 = .ok (.istore 4, 2) := by decide +kernel
theorem dX1_greatestCost_26 : decode cX1_greatestCost 26 = .ok (.iload 4, 2) := by decide +kernel
theorem dX1_greatestCost_28 : decode cX1_greatestCost 28 = .ok (.aload_n 0, 1) := by decide +kernel
theorem dX1_greatestCost_29 : decode cX1_greatestCost 29 = .ok (.getfield 17, 3) := by decide +kernel
theorem dX1_greatestCost_32 : decode cX1_greatestCost 32 = .ok (.iload_n 1, 1) := by decide +kernel
theorem dX1_greatestCost_33 : decode cX1_greatestCost 33 = .ok (.iaload, 1) := by decide +kernel
theorem dX1_greatestCost_34 : decode cX1_greatestCost 34 = .ok (.if_icmp .gt 31, 3) := by decide +kernel
theorem dX1_greatestCost_37 : decode cX1_greatestCost 37 = .ok (.aload_n 0, 1) := by decide +kernel
theorem dX1_greatestCost_38 : decode cX1_greatestCost 38 = .ok (.getfield 13, 3) := by decide +kernel
theorem dX1_greatestCost_41 : decode cX1_greatestCost 41 = .ok (.iload_n 1, 1) := by decide +kernel
theorem dX1_greatestCost_42 : decode cX1_greatestCost 42 = .ok (.iload 4, 2) := by decide +kernel
theorem dX1_greatestCost_44 : decode cX1_greatestCost 44 = .ok (.iastore, 1) := by decide +kernel
theorem dX1_greatestCost_45 : decode cX1_greatestCost 45 = .ok (.aload_n 0, 1) := by decide +kernel
theorem dX1_greatestCost_46 : decode cX1_greatestCost 46 = .ok (.invokevirtual 70, 3) := by decide +kernel
theorem dX1_greatestCost_49 : decode cX1_greatestCost 49 = .ok (.ifCond .eq 8, 3) := by decide +kernel
theorem dX1_greatestCost_52 : decode cX1_greatestCost 52 = .ok (.iload 4, 2) := by decide +kernel
theorem dX1_greatestCost_54 : decode cX1_greatestCost 54 = .ok (.goto 4, 3) := by decide +kernel
theorem dX1_greatestCost_57 : decode cX1_greatestCost 57 = .ok (.iload_n 3, 1) := by decide +kernel
theorem dX1_greatestCost_58 : decode cX1_greatestCost 58 = .ok (.istore_n 3, 1) := by decide +kernel
theorem dX1_greatestCost_59 : decode cX1_greatestCost 59 = .ok (.iinc 4 1, 3) := by decide +kernel
theorem dX1_greatestCost_62 : decode cX1_greatestCost 62 = .ok (.goto (-36), 3) := by decide +kernel
theorem dX1_greatestCost_65 : decode cX1_greatestCost 65 = .ok (.aload_n 0, 1) := by decide +kernel
theorem dX1_greatestCost_66 : decode cX1_greatestCost 66 = .ok (.getfield 13, 3) := by decide +kernel
theorem dX1_greatestCost_69 : decode cX1_greatestCost 69 = .ok (.iload_n 1, 1) := by decide +kernel
theorem dX1_greatestCost_70 : decode cX1_greatestCost 70 = .ok (.iload_n 2, 1) := by decide +kernel
theorem dX1_greatestCost_71 : decode cX1_greatestCost 71 = .ok (.iastore, 1) := by decide +kernel
theorem dX1_greatestCost_72 : decode cX1_greatestCost 72 = .ok (.iload_n 3, 1) := by decide +kernel
theorem dX1_greatestCost_73 : decode cX1_greatestCost 73 = .ok (.ireturn, 1) := by decide +kernel
abbrev cX1_leastPeriod : ByteArray := prog_3_method_27_code
def yX1_leastPeriod : MethodName := ⟨RX1, "leastPeriod", "(I)I"⟩
theorem dX1_leastPeriod_0 : decode cX1_leastPeriod 0 = .ok (.aload_n 0, 1) := by decide +kernel
theorem dX1_leastPeriod_1 : decode cX1_leastPeriod 1 = .ok (.iload_n 1, 1) := by decide +kernel
theorem dX1_leastPeriod_2 : decode cX1_leastPeriod 2 = .ok (.invokevirtual 43, 3) := by decide +kernel
theorem dX1_leastPeriod_5 : decode cX1_leastPeriod 5 = .ok (.ifCond .ne 5, 3) := by decide +kernel
theorem dX1_leastPeriod_8 : decode cX1_leastPeriod 8 = .ok (.iconst (-1), 1) := by decide +kernel
theorem dX1_leastPeriod_9 : decode cX1_leastPeriod 9 = .ok (.ireturn, 1) := by decide +kernel
theorem dX1_leastPeriod_10 : decode cX1_leastPeriod 10 = .ok (.aload_n 0, 1) := by decide +kernel
theorem dX1_leastPeriod_11 : decode cX1_leastPeriod 11 = .ok (.invokevirtual 67, 3) := by decide +kernel
theorem dX1_leastPeriod_14 : decode cX1_leastPeriod 14 = .ok (.aload_n 0, 1) := by decide +kernel
theorem dX1_leastPeriod_15 : decode cX1_leastPeriod 15 = .ok (.getfield 20, 3) := by decide +kernel
theorem dX1_leastPeriod_18 : decode cX1_leastPeriod 18 = .ok (.iload_n 1, 1) := by decide +kernel
theorem dX1_leastPeriod_19 : decode cX1_leastPeriod 19 = .ok (.iaload, 1) := by decide +kernel
theorem dX1_leastPeriod_20 : decode cX1_leastPeriod 20 = .ok (.istore_n 2, 1) := by decide +kernel
theorem dX1_leastPeriod_21 : decode cX1_leastPeriod 21 = .ok (.iconst 0, 1) := by decide +kernel
theorem dX1_leastPeriod_22 : decode cX1_leastPeriod 22 = .ok (.istore_n 3, 1) := by decide +kernel
theorem dX1_leastPeriod_23 : decode cX1_leastPeriod 23 = .ok (.bipush 15, 2) := by decide +kernel
theorem dX1_leastPeriod_25 : decode cX1_leastPeriod 25 = .ok (.istore 4, 2) := by decide +kernel
theorem dX1_leastPeriod_27 : decode cX1_leastPeriod 27 = .ok (.iload 4, 2) := by decide +kernel
theorem dX1_leastPeriod_29 : decode cX1_leastPeriod 29 = .ok (.aload_n 0, 1) := by decide +kernel
theorem dX1_leastPeriod_30 : decode cX1_leastPeriod 30 = .ok (.getfield 17, 3) := by decide +kernel
theorem dX1_leastPeriod_33 : decode cX1_leastPeriod 33 = .ok (.iload_n 1, 1) := by decide +kernel
theorem dX1_leastPeriod_34 : decode cX1_leastPeriod 34 = .ok (.iaload, 1) := by decide +kernel
theorem dX1_leastPeriod_35 : decode cX1_leastPeriod 35 = .ok (.if_icmp .lt 31, 3) := by decide +kernel
theorem dX1_leastPeriod_38 : decode cX1_leastPeriod 38 = .ok (.aload_n 0, 1) := by decide +kernel
theorem dX1_leastPeriod_39 : decode cX1_leastPeriod 39 = .ok (.getfield 20, 3) := by decide +kernel
theorem dX1_leastPeriod_42 : decode cX1_leastPeriod 42 = .ok (.iload_n 1, 1) := by decide +kernel
theorem dX1_leastPeriod_43 : decode cX1_leastPeriod 43 = .ok (.iload 4, 2) := by decide +kernel
theorem dX1_leastPeriod_45 : decode cX1_leastPeriod 45 = .ok (.iastore, 1) := by decide +kernel
theorem dX1_leastPeriod_46 : decode cX1_leastPeriod 46 = .ok (.aload_n 0, 1) := by decide +kernel
theorem dX1_leastPeriod_47 : decode cX1_leastPeriod 47 = .ok (.invokevirtual 70, 3) := by decide +kernel
theorem dX1_leastPeriod_50 : decode cX1_leastPeriod 50 = .ok (.ifCond .eq 8, 3) := by decide +kernel
theorem dX1_leastPeriod_53 : decode cX1_leastPeriod 53 = .ok (.iload 4, 2) := by decide +kernel
theorem dX1_leastPeriod_55 : decode cX1_leastPeriod 55 = .ok (.goto 4, 3) := by decide +kernel
theorem dX1_leastPeriod_58 : decode cX1_leastPeriod 58 = .ok (.iload_n 3, 1) := by decide +kernel
theorem dX1_leastPeriod_59 : decode cX1_leastPeriod 59 = .ok (.istore_n 3, 1) := by decide +kernel
theorem dX1_leastPeriod_60 : decode cX1_leastPeriod 60 = .ok (.iinc 4 (-1), 3) := by decide +kernel
theorem dX1_leastPeriod_63 : decode cX1_leastPeriod 63 = .ok (.goto (-36), 3) := by decide +kernel
theorem dX1_leastPeriod_66 : decode cX1_leastPeriod 66 = .ok (.aload_n 0, 1) := by decide +kernel
theorem dX1_leastPeriod_67 : decode cX1_leastPeriod 67 = .ok (.getfield 20, 3) := by decide +kernel
theorem dX1_leastPeriod_70 : decode cX1_leastPeriod 70 = .ok (.iload_n 1, 1) := by decide +kernel
theorem dX1_leastPeriod_71 : decode cX1_leastPeriod 71 = .ok (.iload_n 2, 1) := by decide +kernel
theorem dX1_leastPeriod_72 : decode cX1_leastPeriod 72 = .ok (.iastore, 1) := by decide +kernel
theorem dX1_leastPeriod_73 : decode cX1_leastPeriod 73 = .ok (.iload_n 3, 1) := by decide +kernel
theorem dX1_leastPeriod_74 : decode cX1_leastPeriod 74 = .ok (.ireturn, 1) := by decide +kernel
abbrev cX1_idle : ByteArray := prog_3_method_28_code
def yX1_idle : MethodName := ⟨RX1, "idle", "(I)I"⟩
theorem dX1_idle_0 : decode cX1_idle 0 = .ok (.aload_n 0, 1) := by decide +kernel
theorem dX1_idle_1 : decode cX1_idle 1 = .ok (.invokevirtual 67, 3) := by decide +kernel
theorem dX1_idle_4 : decode cX1_idle 4 = .ok (.aload_n 0, 1) := by decide +kernel
theorem dX1_idle_5 : decode cX1_idle 5 = .ok (.invokevirtual 55, 3) := by decide +kernel
theorem dX1_idle_8 : decode cX1_idle 8 = .ok (.iconst 0, 1) := by decide +kernel
theorem dX1_idle_9 : decode cX1_idle 9 = .ok (.istore_n 2, 1) := by decide +kernel
theorem dX1_idle_10 : decode cX1_idle 10 = .ok (.iconst 0, 1) := by decide +kernel
theorem dX1_idle_11 : decode cX1_idle 11 = .ok (.istore_n 3, 1) := by decide +kernel
theorem dX1_idle_12 : decode cX1_idle 12 = .ok (.iload_n 3, 1) := by decide +kernel
theorem dX1_idle_13 : decode cX1_idle 13 = .ok (.bipush 60, 2) := by decide +kernel
theorem dX1_idle_15 : decode cX1_idle 15 = .ok (.if_icmp .ge 30, 3) := by decide +kernel
theorem dX1_idle_18 : decode cX1_idle 18 = .ok (.iload_n 3, 1) := by decide +kernel
theorem dX1_idle_19 : decode cX1_idle 19 = .ok (.iload_n 1, 1) := by decide +kernel
theorem dX1_idle_20 : decode cX1_idle 20 = .ok (.if_icmp .ge 25, 3) := by decide +kernel
theorem dX1_idle_23 : decode cX1_idle 23 = .ok (.aload_n 0, 1) := by decide +kernel
theorem dX1_idle_24 : decode cX1_idle 24 = .ok (.iload_n 3, 1) := by decide +kernel
theorem dX1_idle_25 : decode cX1_idle 25 = .ok (.invokevirtual 58, 3) := by decide +kernel
theorem dX1_idle_28 : decode cX1_idle 28 = .ok (.ifCond .ge 9, 3) := by decide +kernel
theorem dX1_idle_31 : decode cX1_idle 31 = .ok (.iload_n 2, 1) := by decide +kernel
theorem dX1_idle_32 : decode cX1_idle 32 = .ok (.iconst 1, 1) := by decide +kernel
theorem dX1_idle_33 : decode cX1_idle 33 = .ok (.iadd, 1) := by decide +kernel
theorem dX1_idle_34 : decode cX1_idle 34 = .ok (.goto 4, 3) := by decide +kernel
theorem dX1_idle_37 : decode cX1_idle 37 = .ok (.iload_n 2, 1) := by decide +kernel
theorem dX1_idle_38 : decode cX1_idle 38 = .ok (.istore_n 2, 1) := by decide +kernel
theorem dX1_idle_39 : decode cX1_idle 39 = .ok (.iinc 3 1, 3) := by decide +kernel
theorem dX1_idle_42 : decode cX1_idle 42 = .ok (.goto (-30), 3) := by decide +kernel
theorem dX1_idle_45 : decode cX1_idle 45 = .ok (.iload_n 2, 1) := by decide +kernel
theorem dX1_idle_46 : decode cX1_idle 46 = .ok (.ireturn, 1) := by decide +kernel
abbrev cX1_fits : ByteArray := prog_3_method_29_code
def yX1_fits : MethodName := ⟨RX1, "fits", "(III)Z"⟩
theorem dX1_fits_0 : decode cX1_fits 0 = .ok (.aload_n 0, 1) := by decide +kernel
theorem dX1_fits_1 : decode cX1_fits 1 = .ok (.iload_n 1, 1) := by decide +kernel
theorem dX1_fits_2 : decode cX1_fits 2 = .ok (.iload_n 2, 1) := by decide +kernel
theorem dX1_fits_3 : decode cX1_fits 3 = .ok (.iload_n 3, 1) := by decide +kernel
theorem dX1_fits_4 : decode cX1_fits 4 = .ok (.invokevirtual 85, 3) := by decide +kernel
theorem dX1_fits_7 : decode cX1_fits 7 = .ok (.istore 4, 2) := by decide +kernel
theorem dX1_fits_9 : decode cX1_fits 9 = .ok (.iload 4, 2) := by decide +kernel
theorem dX1_fits_11 : decode cX1_fits 11 = .ok (.ifCond .ge 5, 3) := by decide +kernel
theorem dX1_fits_14 : decode cX1_fits 14 = .ok (.iconst 0, 1) := by decide +kernel
theorem dX1_fits_15 : decode cX1_fits 15 = .ok (.ireturn, 1) := by decide +kernel
theorem dX1_fits_16 : decode cX1_fits 16 = .ok (.aload_n 0, 1) := by decide +kernel
theorem dX1_fits_17 : decode cX1_fits 17 = .ok (.invokevirtual 89, 3) := by decide +kernel
theorem dX1_fits_20 : decode cX1_fits 20 = .ok (.ifCond .le 7, 3) := by decide +kernel
theorem dX1_fits_23 : decode cX1_fits 23 = .ok (.iconst 1, 1) := by decide +kernel
theorem dX1_fits_24 : decode cX1_fits 24 = .ok (.goto 4, 3) := by decide +kernel
theorem dX1_fits_27 : decode cX1_fits 27 = .ok (.iconst 0, 1) := by decide +kernel
theorem dX1_fits_28 : decode cX1_fits 28 = .ok (.istore 5, 2) := by decide +kernel
theorem dX1_fits_30 : decode cX1_fits 30 = .ok (.aload_n 0, 1) := by decide +kernel
theorem dX1_fits_31 : decode cX1_fits 31 = .ok (.iload 4, 2) := by decide +kernel
theorem dX1_fits_33 : decode cX1_fits 33 = .ok (.invokevirtual 92, 3) := by decide +kernel
theorem dX1_fits_36 : decode cX1_fits 36 = .ok (.pop, 1) := by decide +kernel
theorem dX1_fits_37 : decode cX1_fits 37 = .ok (.iload 5, 2) := by decide +kernel
theorem dX1_fits_39 : decode cX1_fits 39 = .ok (.ireturn, 1) := by decide +kernel
theorem q23 : (Jvm.Cond.initialized "ResponseDeskModel") ∈ lw_all := lw_g (lw_at lw_m1 2 rfl) rfl
theorem q163 : (Jvm.Cond.instantiable "ResponseDeskModel" (9 : Nat)) ∈ lw_all := lw_g (lw_at lw_m1 142 rfl) rfl
theorem q165 : (Jvm.Cond.instanceMethod ({ cls := "ResponseDeskModel", name := "<init>", desc := "()V" } : Jvm.MethodName)) ∈ lw_all := lw_g (lw_at lw_m1 144 rfl) rfl
theorem q166 : (Jvm.Cond.code ({ cls := "ResponseDeskModel", name := "<init>", desc := "()V" } : Jvm.MethodName) prog_3_method_1_code (1 : Nat) (Option.none : Option Jvm.ClassFile.FieldType)) ∈ lw_all := lw_g (lw_at lw_m1 145 rfl) rfl
theorem q167 : (Jvm.Cond.methodLink "ResponseDeskModel" (1 : Nat) ({ cls := "java/lang/Object", name := "<init>", desc := "()V" } : Jvm.MethodName)) ∈ lw_all := lw_g (lw_at lw_m1 146 rfl) rfl
theorem q168 : (Jvm.Cond.fieldLink "ResponseDeskModel" (7 : Nat) "ResponseDeskModel" "there" "[Z") ∈ lw_all := lw_g (lw_at lw_m1 147 rfl) rfl
theorem q169 : (Jvm.Cond.fieldLink "ResponseDeskModel" (13 : Nat) "ResponseDeskModel" "costs" "[I") ∈ lw_all := lw_g (lw_at lw_m1 148 rfl) rfl
theorem q170 : (Jvm.Cond.fieldLink "ResponseDeskModel" (17 : Nat) "ResponseDeskModel" "limits" "[I") ∈ lw_all := lw_g (lw_at lw_m1 149 rfl) rfl
theorem q171 : (Jvm.Cond.fieldLink "ResponseDeskModel" (20 : Nat) "ResponseDeskModel" "periods" "[I") ∈ lw_all := lw_g (lw_at lw_m1 150 rfl) rfl
theorem q172 : (Jvm.Cond.fieldLink "ResponseDeskModel" (39 : Nat) "ResponseDeskModel" "size" "I") ∈ lw_all := lw_g (lw_at lw_m1 151 rfl) rfl
theorem q173 : (Jvm.Cond.fieldLink "ResponseDeskModel" (23 : Nat) "ResponseDeskModel" "order" "[I") ∈ lw_all := lw_g (lw_at lw_m1 152 rfl) rfl
theorem q174 : (Jvm.Cond.fieldLink "ResponseDeskModel" (26 : Nat) "ResponseDeskModel" "row" "[I") ∈ lw_all := lw_g (lw_at lw_m1 153 rfl) rfl
theorem q175 : (Jvm.Cond.fieldLink "ResponseDeskModel" (29 : Nat) "ResponseDeskModel" "left" "[I") ∈ lw_all := lw_g (lw_at lw_m1 154 rfl) rfl
theorem q176 : (Jvm.Cond.fieldLink "ResponseDeskModel" (32 : Nat) "ResponseDeskModel" "given" "[I") ∈ lw_all := lw_g (lw_at lw_m1 155 rfl) rfl
theorem q177 : (Jvm.Cond.lays "ResponseDeskModel" "ResponseDeskModel" "there" "[Z") ∈ lw_all := lw_g (lw_at lw_m1 156 rfl) rfl
theorem q178 : (Jvm.Cond.soleField "ResponseDeskModel" "there") ∈ lw_all := lw_g (lw_at lw_m1 157 rfl) rfl
theorem q179 : (Jvm.Cond.lays "ResponseDeskModel" "ResponseDeskModel" "costs" "[I") ∈ lw_all := lw_g (lw_at lw_m1 158 rfl) rfl
theorem q180 : (Jvm.Cond.soleField "ResponseDeskModel" "costs") ∈ lw_all := lw_g (lw_at lw_m1 159 rfl) rfl
theorem q181 : (Jvm.Cond.lays "ResponseDeskModel" "ResponseDeskModel" "limits" "[I") ∈ lw_all := lw_g (lw_at lw_m1 160 rfl) rfl
theorem q182 : (Jvm.Cond.soleField "ResponseDeskModel" "limits") ∈ lw_all := lw_g (lw_at lw_m1 161 rfl) rfl
theorem q183 : (Jvm.Cond.lays "ResponseDeskModel" "ResponseDeskModel" "periods" "[I") ∈ lw_all := lw_g (lw_at lw_m1 162 rfl) rfl
theorem q184 : (Jvm.Cond.soleField "ResponseDeskModel" "periods") ∈ lw_all := lw_g (lw_at lw_m1 163 rfl) rfl
theorem q185 : (Jvm.Cond.lays "ResponseDeskModel" "ResponseDeskModel" "size" "I") ∈ lw_all := lw_g (lw_at lw_m1 164 rfl) rfl
theorem q186 : (Jvm.Cond.soleField "ResponseDeskModel" "size") ∈ lw_all := lw_g (lw_at lw_m1 165 rfl) rfl
theorem q187 : (Jvm.Cond.lays "ResponseDeskModel" "ResponseDeskModel" "order" "[I") ∈ lw_all := lw_g (lw_at lw_m1 166 rfl) rfl
theorem q188 : (Jvm.Cond.soleField "ResponseDeskModel" "order") ∈ lw_all := lw_g (lw_at lw_m1 167 rfl) rfl
theorem q189 : (Jvm.Cond.lays "ResponseDeskModel" "ResponseDeskModel" "row" "[I") ∈ lw_all := lw_g (lw_at lw_m1 168 rfl) rfl
theorem q190 : (Jvm.Cond.soleField "ResponseDeskModel" "row") ∈ lw_all := lw_g (lw_at lw_m1 169 rfl) rfl
theorem q191 : (Jvm.Cond.lays "ResponseDeskModel" "ResponseDeskModel" "left" "[I") ∈ lw_all := lw_g (lw_at lw_m1 170 rfl) rfl
theorem q192 : (Jvm.Cond.soleField "ResponseDeskModel" "left") ∈ lw_all := lw_g (lw_at lw_m1 171 rfl) rfl
theorem q193 : (Jvm.Cond.lays "ResponseDeskModel" "ResponseDeskModel" "given" "[I") ∈ lw_all := lw_g (lw_at lw_m1 172 rfl) rfl
theorem q194 : (Jvm.Cond.soleField "ResponseDeskModel" "given") ∈ lw_all := lw_g (lw_at lw_m1 173 rfl) rfl
theorem q195 : (Jvm.Cond.superclass "ResponseDeskModel" "java/lang/Object") ∈ lw_all := lw_g (lw_at lw_m1 174 rfl) rfl
theorem q198 : (Jvm.Cond.instanceMethod ({ cls := "ResponseDeskModel", name := "add", desc := "(III)I" } : Jvm.MethodName)) ∈ lw_all := lw_g (lw_at lw_m1 177 rfl) rfl
theorem q199 : (Jvm.Cond.selects "ResponseDeskModel" ({ cls := "ResponseDeskModel", name := "add", desc := "(III)I" } : Jvm.MethodName) ({ cls := "ResponseDeskModel", name := "add", desc := "(III)I" } : Jvm.MethodName)) ∈ lw_all := lw_g (lw_at lw_m1 178 rfl) rfl
theorem q200 : (Jvm.Cond.code ({ cls := "ResponseDeskModel", name := "add", desc := "(III)I" } : Jvm.MethodName) prog_3_method_4_code (5 : Nat) (Option.some Jvm.ClassFile.FieldType.int)) ∈ lw_all := lw_g (lw_at lw_m1 179 rfl) rfl
theorem q201 : (Jvm.Cond.methodLink "ResponseDeskModel" (35 : Nat) ({ cls := "ResponseDeskModel", name := "fine", desc := "(III)Z" } : Jvm.MethodName)) ∈ lw_all := lw_g (lw_at lw_m1 180 rfl) rfl
theorem q202 : (Jvm.Cond.privateMethod ({ cls := "ResponseDeskModel", name := "fine", desc := "(III)Z" } : Jvm.MethodName)) ∈ lw_tbl := lw_at lw_m1 181 rfl
theorem q203 : (Jvm.Cond.instanceMethod ({ cls := "ResponseDeskModel", name := "fine", desc := "(III)Z" } : Jvm.MethodName)) ∈ lw_all := lw_g (lw_at lw_m1 182 rfl) rfl
theorem q204 : (Jvm.Cond.code ({ cls := "ResponseDeskModel", name := "fine", desc := "(III)Z" } : Jvm.MethodName) prog_3_method_3_code (4 : Nat) (Option.some Jvm.ClassFile.FieldType.boolean)) ∈ lw_all := lw_g (lw_at lw_m1 183 rfl) rfl
theorem q206 : (Jvm.Cond.instanceMethod ({ cls := "ResponseDeskModel", name := "remove", desc := "(I)Z" } : Jvm.MethodName)) ∈ lw_all := lw_g (lw_at lw_m1 185 rfl) rfl
theorem q207 : (Jvm.Cond.selects "ResponseDeskModel" ({ cls := "ResponseDeskModel", name := "remove", desc := "(I)Z" } : Jvm.MethodName) ({ cls := "ResponseDeskModel", name := "remove", desc := "(I)Z" } : Jvm.MethodName)) ∈ lw_all := lw_g (lw_at lw_m1 186 rfl) rfl
theorem q208 : (Jvm.Cond.code ({ cls := "ResponseDeskModel", name := "remove", desc := "(I)Z" } : Jvm.MethodName) prog_3_method_7_code (3 : Nat) (Option.some Jvm.ClassFile.FieldType.boolean)) ∈ lw_all := lw_g (lw_at lw_m1 187 rfl) rfl
theorem q209 : (Jvm.Cond.methodLink "ResponseDeskModel" (43 : Nat) ({ cls := "ResponseDeskModel", name := "is", desc := "(I)Z" } : Jvm.MethodName)) ∈ lw_all := lw_g (lw_at lw_m1 188 rfl) rfl
theorem q210 : (Jvm.Cond.privateMethod ({ cls := "ResponseDeskModel", name := "is", desc := "(I)Z" } : Jvm.MethodName)) ∈ lw_tbl := lw_at lw_m1 189 rfl
theorem q211 : (Jvm.Cond.instanceMethod ({ cls := "ResponseDeskModel", name := "is", desc := "(I)Z" } : Jvm.MethodName)) ∈ lw_all := lw_g (lw_at lw_m1 190 rfl) rfl
theorem q212 : (Jvm.Cond.code ({ cls := "ResponseDeskModel", name := "is", desc := "(I)Z" } : Jvm.MethodName) prog_3_method_2_code (2 : Nat) (Option.some Jvm.ClassFile.FieldType.boolean)) ∈ lw_all := lw_g (lw_at lw_m1 191 rfl) rfl
theorem q213 : (Jvm.Cond.methodLink "ResponseDeskModel" (47 : Nat) ({ cls := "ResponseDeskModel", name := "find", desc := "(I)I" } : Jvm.MethodName)) ∈ lw_all := lw_g (lw_at lw_m1 192 rfl) rfl
theorem q214 : (Jvm.Cond.privateMethod ({ cls := "ResponseDeskModel", name := "find", desc := "(I)I" } : Jvm.MethodName)) ∈ lw_tbl := lw_at lw_m1 193 rfl
theorem q215 : (Jvm.Cond.instanceMethod ({ cls := "ResponseDeskModel", name := "find", desc := "(I)I" } : Jvm.MethodName)) ∈ lw_all := lw_g (lw_at lw_m1 194 rfl) rfl
theorem q216 : (Jvm.Cond.code ({ cls := "ResponseDeskModel", name := "find", desc := "(I)I" } : Jvm.MethodName) prog_3_method_5_code (3 : Nat) (Option.some Jvm.ClassFile.FieldType.int)) ∈ lw_all := lw_g (lw_at lw_m1 195 rfl) rfl
theorem q217 : (Jvm.Cond.methodLink "ResponseDeskModel" (51 : Nat) ({ cls := "ResponseDeskModel", name := "takeOut", desc := "(I)V" } : Jvm.MethodName)) ∈ lw_all := lw_g (lw_at lw_m1 196 rfl) rfl
theorem q218 : (Jvm.Cond.privateMethod ({ cls := "ResponseDeskModel", name := "takeOut", desc := "(I)V" } : Jvm.MethodName)) ∈ lw_tbl := lw_at lw_m1 197 rfl
theorem q219 : (Jvm.Cond.instanceMethod ({ cls := "ResponseDeskModel", name := "takeOut", desc := "(I)V" } : Jvm.MethodName)) ∈ lw_all := lw_g (lw_at lw_m1 198 rfl) rfl
theorem q220 : (Jvm.Cond.code ({ cls := "ResponseDeskModel", name := "takeOut", desc := "(I)V" } : Jvm.MethodName) prog_3_method_6_code (3 : Nat) (Option.none : Option Jvm.ClassFile.FieldType)) ∈ lw_all := lw_g (lw_at lw_m1 199 rfl) rfl
theorem q222 : (Jvm.Cond.instanceMethod ({ cls := "ResponseDeskModel", name := "place", desc := "(II)Z" } : Jvm.MethodName)) ∈ lw_all := lw_g (lw_at lw_m1 201 rfl) rfl
theorem q223 : (Jvm.Cond.selects "ResponseDeskModel" ({ cls := "ResponseDeskModel", name := "place", desc := "(II)Z" } : Jvm.MethodName) ({ cls := "ResponseDeskModel", name := "place", desc := "(II)Z" } : Jvm.MethodName)) ∈ lw_all := lw_g (lw_at lw_m1 202 rfl) rfl
theorem q224 : (Jvm.Cond.code ({ cls := "ResponseDeskModel", name := "place", desc := "(II)Z" } : Jvm.MethodName) prog_3_method_8_code (5 : Nat) (Option.some Jvm.ClassFile.FieldType.boolean)) ∈ lw_all := lw_g (lw_at lw_m1 203 rfl) rfl
theorem q226 : (Jvm.Cond.instanceMethod ({ cls := "ResponseDeskModel", name := "tasks", desc := "()I" } : Jvm.MethodName)) ∈ lw_all := lw_g (lw_at lw_m1 205 rfl) rfl
theorem q227 : (Jvm.Cond.selects "ResponseDeskModel" ({ cls := "ResponseDeskModel", name := "tasks", desc := "()I" } : Jvm.MethodName) ({ cls := "ResponseDeskModel", name := "tasks", desc := "()I" } : Jvm.MethodName)) ∈ lw_all := lw_g (lw_at lw_m1 206 rfl) rfl
theorem q228 : (Jvm.Cond.code ({ cls := "ResponseDeskModel", name := "tasks", desc := "()I" } : Jvm.MethodName) prog_3_method_9_code (3 : Nat) (Option.some Jvm.ClassFile.FieldType.int)) ∈ lw_all := lw_g (lw_at lw_m1 207 rfl) rfl
theorem q230 : (Jvm.Cond.instanceMethod ({ cls := "ResponseDeskModel", name := "at", desc := "(I)I" } : Jvm.MethodName)) ∈ lw_all := lw_g (lw_at lw_m1 209 rfl) rfl
theorem q231 : (Jvm.Cond.selects "ResponseDeskModel" ({ cls := "ResponseDeskModel", name := "at", desc := "(I)I" } : Jvm.MethodName) ({ cls := "ResponseDeskModel", name := "at", desc := "(I)I" } : Jvm.MethodName)) ∈ lw_all := lw_g (lw_at lw_m1 210 rfl) rfl
theorem q232 : (Jvm.Cond.code ({ cls := "ResponseDeskModel", name := "at", desc := "(I)I" } : Jvm.MethodName) prog_3_method_10_code (2 : Nat) (Option.some Jvm.ClassFile.FieldType.int)) ∈ lw_all := lw_g (lw_at lw_m1 211 rfl) rfl
theorem q234 : (Jvm.Cond.instanceMethod ({ cls := "ResponseDeskModel", name := "response", desc := "(I)I" } : Jvm.MethodName)) ∈ lw_all := lw_g (lw_at lw_m1 213 rfl) rfl
theorem q235 : (Jvm.Cond.selects "ResponseDeskModel" ({ cls := "ResponseDeskModel", name := "response", desc := "(I)I" } : Jvm.MethodName) ({ cls := "ResponseDeskModel", name := "response", desc := "(I)I" } : Jvm.MethodName)) ∈ lw_all := lw_g (lw_at lw_m1 214 rfl) rfl
theorem q236 : (Jvm.Cond.code ({ cls := "ResponseDeskModel", name := "response", desc := "(I)I" } : Jvm.MethodName) prog_3_method_17_code (2 : Nat) (Option.some Jvm.ClassFile.FieldType.int)) ∈ lw_all := lw_g (lw_at lw_m1 215 rfl) rfl
theorem q237 : (Jvm.Cond.methodLink "ResponseDeskModel" (67 : Nat) ({ cls := "ResponseDeskModel", name := "useOrder", desc := "()V" } : Jvm.MethodName)) ∈ lw_all := lw_g (lw_at lw_m1 216 rfl) rfl
theorem q238 : (Jvm.Cond.privateMethod ({ cls := "ResponseDeskModel", name := "useOrder", desc := "()V" } : Jvm.MethodName)) ∈ lw_tbl := lw_at lw_m1 217 rfl
theorem q239 : (Jvm.Cond.instanceMethod ({ cls := "ResponseDeskModel", name := "useOrder", desc := "()V" } : Jvm.MethodName)) ∈ lw_all := lw_g (lw_at lw_m1 218 rfl) rfl
theorem q240 : (Jvm.Cond.code ({ cls := "ResponseDeskModel", name := "useOrder", desc := "()V" } : Jvm.MethodName) prog_3_method_11_code (2 : Nat) (Option.none : Option Jvm.ClassFile.FieldType)) ∈ lw_all := lw_g (lw_at lw_m1 219 rfl) rfl
theorem q241 : (Jvm.Cond.methodLink "ResponseDeskModel" (61 : Nat) ({ cls := "ResponseDeskModel", name := "responseOf", desc := "(I)I" } : Jvm.MethodName)) ∈ lw_all := lw_g (lw_at lw_m1 220 rfl) rfl
theorem q242 : (Jvm.Cond.privateMethod ({ cls := "ResponseDeskModel", name := "responseOf", desc := "(I)I" } : Jvm.MethodName)) ∈ lw_tbl := lw_at lw_m1 221 rfl
theorem q243 : (Jvm.Cond.instanceMethod ({ cls := "ResponseDeskModel", name := "responseOf", desc := "(I)I" } : Jvm.MethodName)) ∈ lw_all := lw_g (lw_at lw_m1 222 rfl) rfl
theorem q244 : (Jvm.Cond.code ({ cls := "ResponseDeskModel", name := "responseOf", desc := "(I)I" } : Jvm.MethodName) prog_3_method_14_code (4 : Nat) (Option.some Jvm.ClassFile.FieldType.int)) ∈ lw_all := lw_g (lw_at lw_m1 223 rfl) rfl
theorem q245 : (Jvm.Cond.methodLink "ResponseDeskModel" (55 : Nat) ({ cls := "ResponseDeskModel", name := "start", desc := "()V" } : Jvm.MethodName)) ∈ lw_all := lw_g (lw_at lw_m1 224 rfl) rfl
theorem q246 : (Jvm.Cond.privateMethod ({ cls := "ResponseDeskModel", name := "start", desc := "()V" } : Jvm.MethodName)) ∈ lw_tbl := lw_at lw_m1 225 rfl
theorem q247 : (Jvm.Cond.instanceMethod ({ cls := "ResponseDeskModel", name := "start", desc := "()V" } : Jvm.MethodName)) ∈ lw_all := lw_g (lw_at lw_m1 226 rfl) rfl
theorem q248 : (Jvm.Cond.code ({ cls := "ResponseDeskModel", name := "start", desc := "()V" } : Jvm.MethodName) prog_3_method_12_code (2 : Nat) (Option.none : Option Jvm.ClassFile.FieldType)) ∈ lw_all := lw_g (lw_at lw_m1 227 rfl) rfl
theorem q249 : (Jvm.Cond.methodLink "ResponseDeskModel" (58 : Nat) ({ cls := "ResponseDeskModel", name := "unit", desc := "(I)I" } : Jvm.MethodName)) ∈ lw_all := lw_g (lw_at lw_m1 228 rfl) rfl
theorem q250 : (Jvm.Cond.privateMethod ({ cls := "ResponseDeskModel", name := "unit", desc := "(I)I" } : Jvm.MethodName)) ∈ lw_tbl := lw_at lw_m1 229 rfl
theorem q251 : (Jvm.Cond.instanceMethod ({ cls := "ResponseDeskModel", name := "unit", desc := "(I)I" } : Jvm.MethodName)) ∈ lw_all := lw_g (lw_at lw_m1 230 rfl) rfl
theorem q252 : (Jvm.Cond.code ({ cls := "ResponseDeskModel", name := "unit", desc := "(I)I" } : Jvm.MethodName) prog_3_method_13_code (6 : Nat) (Option.some Jvm.ClassFile.FieldType.int)) ∈ lw_all := lw_g (lw_at lw_m1 231 rfl) rfl
theorem q254 : (Jvm.Cond.instanceMethod ({ cls := "ResponseDeskModel", name := "good", desc := "()Z" } : Jvm.MethodName)) ∈ lw_all := lw_g (lw_at lw_m1 233 rfl) rfl
theorem q255 : (Jvm.Cond.selects "ResponseDeskModel" ({ cls := "ResponseDeskModel", name := "good", desc := "()Z" } : Jvm.MethodName) ({ cls := "ResponseDeskModel", name := "good", desc := "()Z" } : Jvm.MethodName)) ∈ lw_all := lw_g (lw_at lw_m1 234 rfl) rfl
theorem q256 : (Jvm.Cond.code ({ cls := "ResponseDeskModel", name := "good", desc := "()Z" } : Jvm.MethodName) prog_3_method_18_code (1 : Nat) (Option.some Jvm.ClassFile.FieldType.boolean)) ∈ lw_all := lw_g (lw_at lw_m1 235 rfl) rfl
theorem q257 : (Jvm.Cond.methodLink "ResponseDeskModel" (70 : Nat) ({ cls := "ResponseDeskModel", name := "allPunctual", desc := "()Z" } : Jvm.MethodName)) ∈ lw_all := lw_g (lw_at lw_m1 236 rfl) rfl
theorem q258 : (Jvm.Cond.privateMethod ({ cls := "ResponseDeskModel", name := "allPunctual", desc := "()Z" } : Jvm.MethodName)) ∈ lw_tbl := lw_at lw_m1 237 rfl
theorem q259 : (Jvm.Cond.instanceMethod ({ cls := "ResponseDeskModel", name := "allPunctual", desc := "()Z" } : Jvm.MethodName)) ∈ lw_all := lw_g (lw_at lw_m1 238 rfl) rfl
theorem q260 : (Jvm.Cond.code ({ cls := "ResponseDeskModel", name := "allPunctual", desc := "()Z" } : Jvm.MethodName) prog_3_method_16_code (3 : Nat) (Option.some Jvm.ClassFile.FieldType.boolean)) ∈ lw_all := lw_g (lw_at lw_m1 239 rfl) rfl
theorem q261 : (Jvm.Cond.methodLink "ResponseDeskModel" (64 : Nat) ({ cls := "ResponseDeskModel", name := "punctual", desc := "(I)Z" } : Jvm.MethodName)) ∈ lw_all := lw_g (lw_at lw_m2 0 rfl) rfl
theorem q262 : (Jvm.Cond.privateMethod ({ cls := "ResponseDeskModel", name := "punctual", desc := "(I)Z" } : Jvm.MethodName)) ∈ lw_tbl := lw_at lw_m2 1 rfl
theorem q263 : (Jvm.Cond.instanceMethod ({ cls := "ResponseDeskModel", name := "punctual", desc := "(I)Z" } : Jvm.MethodName)) ∈ lw_all := lw_g (lw_at lw_m2 2 rfl) rfl
theorem q264 : (Jvm.Cond.code ({ cls := "ResponseDeskModel", name := "punctual", desc := "(I)Z" } : Jvm.MethodName) prog_3_method_15_code (3 : Nat) (Option.some Jvm.ClassFile.FieldType.boolean)) ∈ lw_all := lw_g (lw_at lw_m2 3 rfl) rfl
theorem q266 : (Jvm.Cond.instanceMethod ({ cls := "ResponseDeskModel", name := "inTime", desc := "()I" } : Jvm.MethodName)) ∈ lw_all := lw_g (lw_at lw_m2 5 rfl) rfl
theorem q267 : (Jvm.Cond.selects "ResponseDeskModel" ({ cls := "ResponseDeskModel", name := "inTime", desc := "()I" } : Jvm.MethodName) ({ cls := "ResponseDeskModel", name := "inTime", desc := "()I" } : Jvm.MethodName)) ∈ lw_all := lw_g (lw_at lw_m2 6 rfl) rfl
theorem q268 : (Jvm.Cond.code ({ cls := "ResponseDeskModel", name := "inTime", desc := "()I" } : Jvm.MethodName) prog_3_method_19_code (3 : Nat) (Option.some Jvm.ClassFile.FieldType.int)) ∈ lw_all := lw_g (lw_at lw_m2 7 rfl) rfl
theorem q270 : (Jvm.Cond.instanceMethod ({ cls := "ResponseDeskModel", name := "goodOrders", desc := "()I" } : Jvm.MethodName)) ∈ lw_all := lw_g (lw_at lw_m2 9 rfl) rfl
theorem q271 : (Jvm.Cond.selects "ResponseDeskModel" ({ cls := "ResponseDeskModel", name := "goodOrders", desc := "()I" } : Jvm.MethodName) ({ cls := "ResponseDeskModel", name := "goodOrders", desc := "()I" } : Jvm.MethodName)) ∈ lw_all := lw_g (lw_at lw_m2 10 rfl) rfl
theorem q272 : (Jvm.Cond.code ({ cls := "ResponseDeskModel", name := "goodOrders", desc := "()I" } : Jvm.MethodName) prog_3_method_23_code (4 : Nat) (Option.some Jvm.ClassFile.FieldType.int)) ∈ lw_all := lw_g (lw_at lw_m2 11 rfl) rfl
theorem q273 : (Jvm.Cond.methodLink "ResponseDeskModel" (74 : Nat) ({ cls := "ResponseDeskModel", name := "orders", desc := "()I" } : Jvm.MethodName)) ∈ lw_all := lw_g (lw_at lw_m2 12 rfl) rfl
theorem q274 : (Jvm.Cond.privateMethod ({ cls := "ResponseDeskModel", name := "orders", desc := "()I" } : Jvm.MethodName)) ∈ lw_tbl := lw_at lw_m2 13 rfl
theorem q275 : (Jvm.Cond.instanceMethod ({ cls := "ResponseDeskModel", name := "orders", desc := "()I" } : Jvm.MethodName)) ∈ lw_all := lw_g (lw_at lw_m2 14 rfl) rfl
theorem q276 : (Jvm.Cond.code ({ cls := "ResponseDeskModel", name := "orders", desc := "()I" } : Jvm.MethodName) prog_3_method_20_code (3 : Nat) (Option.some Jvm.ClassFile.FieldType.int)) ∈ lw_all := lw_g (lw_at lw_m2 15 rfl) rfl
theorem q277 : (Jvm.Cond.methodLink "ResponseDeskModel" (82 : Nat) ({ cls := "ResponseDeskModel", name := "spell", desc := "(I)V" } : Jvm.MethodName)) ∈ lw_all := lw_g (lw_at lw_m2 16 rfl) rfl
theorem q278 : (Jvm.Cond.privateMethod ({ cls := "ResponseDeskModel", name := "spell", desc := "(I)V" } : Jvm.MethodName)) ∈ lw_tbl := lw_at lw_m2 17 rfl
theorem q279 : (Jvm.Cond.instanceMethod ({ cls := "ResponseDeskModel", name := "spell", desc := "(I)V" } : Jvm.MethodName)) ∈ lw_all := lw_g (lw_at lw_m2 18 rfl) rfl
theorem q280 : (Jvm.Cond.code ({ cls := "ResponseDeskModel", name := "spell", desc := "(I)V" } : Jvm.MethodName) prog_3_method_21_code (7 : Nat) (Option.none : Option Jvm.ClassFile.FieldType)) ∈ lw_all := lw_g (lw_at lw_m2 19 rfl) rfl
theorem q281 : (Jvm.Cond.methodLink "ResponseDeskModel" (78 : Nat) ({ cls := "ResponseDeskModel", name := "unused", desc := "(II)I" } : Jvm.MethodName)) ∈ lw_all := lw_g (lw_at lw_m2 20 rfl) rfl
theorem q282 : (Jvm.Cond.privateMethod ({ cls := "ResponseDeskModel", name := "unused", desc := "(II)I" } : Jvm.MethodName)) ∈ lw_tbl := lw_at lw_m2 21 rfl
theorem q283 : (Jvm.Cond.instanceMethod ({ cls := "ResponseDeskModel", name := "unused", desc := "(II)I" } : Jvm.MethodName)) ∈ lw_all := lw_g (lw_at lw_m2 22 rfl) rfl
theorem q284 : (Jvm.Cond.code ({ cls := "ResponseDeskModel", name := "unused", desc := "(II)I" } : Jvm.MethodName) prog_3_method_22_code (5 : Nat) (Option.some Jvm.ClassFile.FieldType.int)) ∈ lw_all := lw_g (lw_at lw_m2 23 rfl) rfl
theorem q286 : (Jvm.Cond.instanceMethod ({ cls := "ResponseDeskModel", name := "arrange", desc := "()Z" } : Jvm.MethodName)) ∈ lw_all := lw_g (lw_at lw_m2 25 rfl) rfl
theorem q287 : (Jvm.Cond.selects "ResponseDeskModel" ({ cls := "ResponseDeskModel", name := "arrange", desc := "()Z" } : Jvm.MethodName) ({ cls := "ResponseDeskModel", name := "arrange", desc := "()Z" } : Jvm.MethodName)) ∈ lw_all := lw_g (lw_at lw_m2 26 rfl) rfl
theorem q288 : (Jvm.Cond.code ({ cls := "ResponseDeskModel", name := "arrange", desc := "()Z" } : Jvm.MethodName) prog_3_method_24_code (4 : Nat) (Option.some Jvm.ClassFile.FieldType.boolean)) ∈ lw_all := lw_g (lw_at lw_m2 27 rfl) rfl
theorem q290 : (Jvm.Cond.instanceMethod ({ cls := "ResponseDeskModel", name := "canBeLast", desc := "()I" } : Jvm.MethodName)) ∈ lw_all := lw_g (lw_at lw_m2 29 rfl) rfl
theorem q291 : (Jvm.Cond.selects "ResponseDeskModel" ({ cls := "ResponseDeskModel", name := "canBeLast", desc := "()I" } : Jvm.MethodName) ({ cls := "ResponseDeskModel", name := "canBeLast", desc := "()I" } : Jvm.MethodName)) ∈ lw_all := lw_g (lw_at lw_m2 30 rfl) rfl
theorem q292 : (Jvm.Cond.code ({ cls := "ResponseDeskModel", name := "canBeLast", desc := "()I" } : Jvm.MethodName) prog_3_method_25_code (4 : Nat) (Option.some Jvm.ClassFile.FieldType.int)) ∈ lw_all := lw_g (lw_at lw_m2 31 rfl) rfl
theorem q294 : (Jvm.Cond.instanceMethod ({ cls := "ResponseDeskModel", name := "greatestCost", desc := "(I)I" } : Jvm.MethodName)) ∈ lw_all := lw_g (lw_at lw_m2 33 rfl) rfl
theorem q295 : (Jvm.Cond.selects "ResponseDeskModel" ({ cls := "ResponseDeskModel", name := "greatestCost", desc := "(I)I" } : Jvm.MethodName) ({ cls := "ResponseDeskModel", name := "greatestCost", desc := "(I)I" } : Jvm.MethodName)) ∈ lw_all := lw_g (lw_at lw_m2 34 rfl) rfl
theorem q296 : (Jvm.Cond.code ({ cls := "ResponseDeskModel", name := "greatestCost", desc := "(I)I" } : Jvm.MethodName) prog_3_method_26_code (5 : Nat) (Option.some Jvm.ClassFile.FieldType.int)) ∈ lw_all := lw_g (lw_at lw_m2 35 rfl) rfl
theorem q298 : (Jvm.Cond.instanceMethod ({ cls := "ResponseDeskModel", name := "leastPeriod", desc := "(I)I" } : Jvm.MethodName)) ∈ lw_all := lw_g (lw_at lw_m2 37 rfl) rfl
theorem q299 : (Jvm.Cond.selects "ResponseDeskModel" ({ cls := "ResponseDeskModel", name := "leastPeriod", desc := "(I)I" } : Jvm.MethodName) ({ cls := "ResponseDeskModel", name := "leastPeriod", desc := "(I)I" } : Jvm.MethodName)) ∈ lw_all := lw_g (lw_at lw_m2 38 rfl) rfl
theorem q300 : (Jvm.Cond.code ({ cls := "ResponseDeskModel", name := "leastPeriod", desc := "(I)I" } : Jvm.MethodName) prog_3_method_27_code (5 : Nat) (Option.some Jvm.ClassFile.FieldType.int)) ∈ lw_all := lw_g (lw_at lw_m2 39 rfl) rfl
theorem q302 : (Jvm.Cond.instanceMethod ({ cls := "ResponseDeskModel", name := "idle", desc := "(I)I" } : Jvm.MethodName)) ∈ lw_all := lw_g (lw_at lw_m2 41 rfl) rfl
theorem q303 : (Jvm.Cond.selects "ResponseDeskModel" ({ cls := "ResponseDeskModel", name := "idle", desc := "(I)I" } : Jvm.MethodName) ({ cls := "ResponseDeskModel", name := "idle", desc := "(I)I" } : Jvm.MethodName)) ∈ lw_all := lw_g (lw_at lw_m2 42 rfl) rfl
theorem q304 : (Jvm.Cond.code ({ cls := "ResponseDeskModel", name := "idle", desc := "(I)I" } : Jvm.MethodName) prog_3_method_28_code (4 : Nat) (Option.some Jvm.ClassFile.FieldType.int)) ∈ lw_all := lw_g (lw_at lw_m2 43 rfl) rfl
theorem q306 : (Jvm.Cond.instanceMethod ({ cls := "ResponseDeskModel", name := "fits", desc := "(III)Z" } : Jvm.MethodName)) ∈ lw_all := lw_g (lw_at lw_m2 45 rfl) rfl
theorem q307 : (Jvm.Cond.selects "ResponseDeskModel" ({ cls := "ResponseDeskModel", name := "fits", desc := "(III)Z" } : Jvm.MethodName) ({ cls := "ResponseDeskModel", name := "fits", desc := "(III)Z" } : Jvm.MethodName)) ∈ lw_all := lw_g (lw_at lw_m2 46 rfl) rfl
theorem q308 : (Jvm.Cond.code ({ cls := "ResponseDeskModel", name := "fits", desc := "(III)Z" } : Jvm.MethodName) prog_3_method_29_code (6 : Nat) (Option.some Jvm.ClassFile.FieldType.boolean)) ∈ lw_all := lw_g (lw_at lw_m2 47 rfl) rfl
theorem q309 : (Jvm.Cond.methodLink "ResponseDeskModel" (85 : Nat) ({ cls := "ResponseDeskModel", name := "add", desc := "(III)I" } : Jvm.MethodName)) ∈ lw_all := lw_g (lw_at lw_m2 48 rfl) rfl
theorem q310 : (Jvm.Cond.methodLink "ResponseDeskModel" (89 : Nat) ({ cls := "ResponseDeskModel", name := "goodOrders", desc := "()I" } : Jvm.MethodName)) ∈ lw_all := lw_g (lw_at lw_m2 49 rfl) rfl
theorem q311 : (Jvm.Cond.methodLink "ResponseDeskModel" (92 : Nat) ({ cls := "ResponseDeskModel", name := "remove", desc := "(I)Z" } : Jvm.MethodName)) ∈ lw_all := lw_g (lw_at lw_m2 50 rfl) rfl
theorem in_X1 : ∀ w ∈ wsX10, w ∈ lw_all := lw_in wsX10 [177, 179, 181, 183, 185, 187, 189, 191, 193] (by decide +kernel) (by decide +kernel)
end
section
/-! the law's own entry -/
set_option maxRecDepth 100000
abbrev cL_law : ByteArray := code
theorem dL_law_0 : decode cL_law 0 = .ok (.new 7, 3) := by decide +kernel
theorem dL_law_3 : decode cL_law 3 = .ok (.dup, 1) := by decide +kernel
theorem dL_law_4 : decode cL_law 4 = .ok (.invokespecial 9, 3) := by decide +kernel
theorem dL_law_7 : decode cL_law 7 = .ok (.astore_n 1, 1) := by decide +kernel
theorem dL_law_8 : decode cL_law 8 = .ok (.new 10, 3) := by decide +kernel
theorem dL_law_11 : decode cL_law 11 = .ok (.dup, 1) := by decide +kernel
theorem dL_law_12 : decode cL_law 12 = .ok (.invokespecial 12, 3) := by decide +kernel
theorem dL_law_15 : decode cL_law 15 = .ok (.astore_n 2, 1) := by decide +kernel
theorem dL_law_16 : decode cL_law 16 = .ok (.iconst 0, 1) := by decide +kernel
theorem dL_law_17 : decode cL_law 17 = .ok (.istore_n 3, 1) := by decide +kernel
theorem dL_law_18 : decode cL_law 18 = .ok (.iload_n 3, 1) := by decide +kernel
theorem dL_law_19 : decode cL_law 19 = .ok (.aload_n 0, 1) := by decide +kernel
theorem dL_law_20 : decode cL_law 20 = .ok (.arraylength, 1) := by decide +kernel
theorem dL_law_21 : decode cL_law 21 = .ok (.iconst 4, 1) := by decide +kernel
theorem dL_law_22 : decode cL_law 22 = .ok (.isub, 1) := by decide +kernel
theorem dL_law_23 : decode cL_law 23 = .ok (.if_icmp .gt 426, 3) := by decide +kernel
theorem dL_law_26 : decode cL_law 26 = .ok (.aload_n 0, 1) := by decide +kernel
theorem dL_law_27 : decode cL_law 27 = .ok (.iload_n 3, 1) := by decide +kernel
theorem dL_law_28 : decode cL_law 28 = .ok (.iaload, 1) := by decide +kernel
theorem dL_law_29 : decode cL_law 29 = .ok (.bipush 15, 2) := by decide +kernel
theorem dL_law_31 : decode cL_law 31 = .ok (.iand, 1) := by decide +kernel
theorem dL_law_32 : decode cL_law 32 = .ok (.tableswitch 411 0 14 #[76, 119, 142, 175, 188, 211, 234, 247, 260, 273, 286, 299, 322, 345, 368], 76) := by decide +kernel
theorem dL_law_108 : decode cL_law 108 = .ok (.aload_n 1, 1) := by decide +kernel
theorem dL_law_109 : decode cL_law 109 = .ok (.aload_n 0, 1) := by decide +kernel
theorem dL_law_110 : decode cL_law 110 = .ok (.iload_n 3, 1) := by decide +kernel
theorem dL_law_111 : decode cL_law 111 = .ok (.iconst 1, 1) := by decide +kernel
theorem dL_law_112 : decode cL_law 112 = .ok (.iadd, 1) := by decide +kernel
theorem dL_law_113 : decode cL_law 113 = .ok (.iaload, 1) := by decide +kernel
theorem dL_law_114 : decode cL_law 114 = .ok (.aload_n 0, 1) := by decide +kernel
theorem dL_law_115 : decode cL_law 115 = .ok (.iload_n 3, 1) := by decide +kernel
theorem dL_law_116 : decode cL_law 116 = .ok (.iconst 2, 1) := by decide +kernel
theorem dL_law_117 : decode cL_law 117 = .ok (.iadd, 1) := by decide +kernel
theorem dL_law_118 : decode cL_law 118 = .ok (.iaload, 1) := by decide +kernel
theorem dL_law_119 : decode cL_law 119 = .ok (.aload_n 0, 1) := by decide +kernel
theorem dL_law_120 : decode cL_law 120 = .ok (.iload_n 3, 1) := by decide +kernel
theorem dL_law_121 : decode cL_law 121 = .ok (.iconst 3, 1) := by decide +kernel
theorem dL_law_122 : decode cL_law 122 = .ok (.iadd, 1) := by decide +kernel
theorem dL_law_123 : decode cL_law 123 = .ok (.iaload, 1) := by decide +kernel
theorem dL_law_124 : decode cL_law 124 = .ok (.invokevirtual 13, 3) := by decide +kernel
theorem dL_law_127 : decode cL_law 127 = .ok (.aload_n 2, 1) := by decide +kernel
theorem dL_law_128 : decode cL_law 128 = .ok (.aload_n 0, 1) := by decide +kernel
theorem dL_law_129 : decode cL_law 129 = .ok (.iload_n 3, 1) := by decide +kernel
theorem dL_law_130 : decode cL_law 130 = .ok (.iconst 1, 1) := by decide +kernel
theorem dL_law_131 : decode cL_law 131 = .ok (.iadd, 1) := by decide +kernel
theorem dL_law_132 : decode cL_law 132 = .ok (.iaload, 1) := by decide +kernel
theorem dL_law_133 : decode cL_law 133 = .ok (.aload_n 0, 1) := by decide +kernel
theorem dL_law_134 : decode cL_law 134 = .ok (.iload_n 3, 1) := by decide +kernel
theorem dL_law_135 : decode cL_law 135 = .ok (.iconst 2, 1) := by decide +kernel
theorem dL_law_136 : decode cL_law 136 = .ok (.iadd, 1) := by decide +kernel
theorem dL_law_137 : decode cL_law 137 = .ok (.iaload, 1) := by decide +kernel
theorem dL_law_138 : decode cL_law 138 = .ok (.aload_n 0, 1) := by decide +kernel
theorem dL_law_139 : decode cL_law 139 = .ok (.iload_n 3, 1) := by decide +kernel
theorem dL_law_140 : decode cL_law 140 = .ok (.iconst 3, 1) := by decide +kernel
theorem dL_law_141 : decode cL_law 141 = .ok (.iadd, 1) := by decide +kernel
theorem dL_law_142 : decode cL_law 142 = .ok (.iaload, 1) := by decide +kernel
theorem dL_law_143 : decode cL_law 143 = .ok (.invokevirtual 17, 3) := by decide +kernel
theorem dL_law_146 : decode cL_law 146 = .ok (.if_icmp .eq 297, 3) := by decide +kernel
theorem dL_law_149 : decode cL_law 149 = .ok (.iconst 0, 1) := by decide +kernel
theorem dL_law_150 : decode cL_law 150 = .ok (.ireturn, 1) := by decide +kernel
theorem dL_law_151 : decode cL_law 151 = .ok (.aload_n 1, 1) := by decide +kernel
theorem dL_law_152 : decode cL_law 152 = .ok (.aload_n 0, 1) := by decide +kernel
theorem dL_law_153 : decode cL_law 153 = .ok (.iload_n 3, 1) := by decide +kernel
theorem dL_law_154 : decode cL_law 154 = .ok (.iconst 1, 1) := by decide +kernel
theorem dL_law_155 : decode cL_law 155 = .ok (.iadd, 1) := by decide +kernel
theorem dL_law_156 : decode cL_law 156 = .ok (.iaload, 1) := by decide +kernel
theorem dL_law_157 : decode cL_law 157 = .ok (.invokevirtual 18, 3) := by decide +kernel
theorem dL_law_160 : decode cL_law 160 = .ok (.aload_n 2, 1) := by decide +kernel
theorem dL_law_161 : decode cL_law 161 = .ok (.aload_n 0, 1) := by decide +kernel
theorem dL_law_162 : decode cL_law 162 = .ok (.iload_n 3, 1) := by decide +kernel
theorem dL_law_163 : decode cL_law 163 = .ok (.iconst 1, 1) := by decide +kernel
theorem dL_law_164 : decode cL_law 164 = .ok (.iadd, 1) := by decide +kernel
theorem dL_law_165 : decode cL_law 165 = .ok (.iaload, 1) := by decide +kernel
theorem dL_law_166 : decode cL_law 166 = .ok (.invokevirtual 22, 3) := by decide +kernel
theorem dL_law_169 : decode cL_law 169 = .ok (.if_icmp .eq 274, 3) := by decide +kernel
theorem dL_law_172 : decode cL_law 172 = .ok (.iconst 0, 1) := by decide +kernel
theorem dL_law_173 : decode cL_law 173 = .ok (.ireturn, 1) := by decide +kernel
theorem dL_law_174 : decode cL_law 174 = .ok (.aload_n 1, 1) := by decide +kernel
theorem dL_law_175 : decode cL_law 175 = .ok (.aload_n 0, 1) := by decide +kernel
theorem dL_law_176 : decode cL_law 176 = .ok (.iload_n 3, 1) := by decide +kernel
theorem dL_law_177 : decode cL_law 177 = .ok (.iconst 1, 1) := by decide +kernel
theorem dL_law_178 : decode cL_law 178 = .ok (.iadd, 1) := by decide +kernel
theorem dL_law_179 : decode cL_law 179 = .ok (.iaload, 1) := by decide +kernel
theorem dL_law_180 : decode cL_law 180 = .ok (.aload_n 0, 1) := by decide +kernel
theorem dL_law_181 : decode cL_law 181 = .ok (.iload_n 3, 1) := by decide +kernel
theorem dL_law_182 : decode cL_law 182 = .ok (.iconst 2, 1) := by decide +kernel
theorem dL_law_183 : decode cL_law 183 = .ok (.iadd, 1) := by decide +kernel
theorem dL_law_184 : decode cL_law 184 = .ok (.iaload, 1) := by decide +kernel
theorem dL_law_185 : decode cL_law 185 = .ok (.invokevirtual 23, 3) := by decide +kernel
theorem dL_law_188 : decode cL_law 188 = .ok (.aload_n 2, 1) := by decide +kernel
theorem dL_law_189 : decode cL_law 189 = .ok (.aload_n 0, 1) := by decide +kernel
theorem dL_law_190 : decode cL_law 190 = .ok (.iload_n 3, 1) := by decide +kernel
theorem dL_law_191 : decode cL_law 191 = .ok (.iconst 1, 1) := by decide +kernel
theorem dL_law_192 : decode cL_law 192 = .ok (.iadd, 1) := by decide +kernel
theorem dL_law_193 : decode cL_law 193 = .ok (.iaload, 1) := by decide +kernel
theorem dL_law_194 : decode cL_law 194 = .ok (.aload_n 0, 1) := by decide +kernel
theorem dL_law_195 : decode cL_law 195 = .ok (.iload_n 3, 1) := by decide +kernel
theorem dL_law_196 : decode cL_law 196 = .ok (.iconst 2, 1) := by decide +kernel
theorem dL_law_197 : decode cL_law 197 = .ok (.iadd, 1) := by decide +kernel
theorem dL_law_198 : decode cL_law 198 = .ok (.iaload, 1) := by decide +kernel
theorem dL_law_199 : decode cL_law 199 = .ok (.invokevirtual 27, 3) := by decide +kernel
theorem dL_law_202 : decode cL_law 202 = .ok (.if_icmp .eq 241, 3) := by decide +kernel
theorem dL_law_205 : decode cL_law 205 = .ok (.iconst 0, 1) := by decide +kernel
theorem dL_law_206 : decode cL_law 206 = .ok (.ireturn, 1) := by decide +kernel
theorem dL_law_207 : decode cL_law 207 = .ok (.aload_n 1, 1) := by decide +kernel
theorem dL_law_208 : decode cL_law 208 = .ok (.invokevirtual 28, 3) := by decide +kernel
theorem dL_law_211 : decode cL_law 211 = .ok (.aload_n 2, 1) := by decide +kernel
theorem dL_law_212 : decode cL_law 212 = .ok (.invokevirtual 32, 3) := by decide +kernel
theorem dL_law_215 : decode cL_law 215 = .ok (.if_icmp .eq 228, 3) := by decide +kernel
theorem dL_law_218 : decode cL_law 218 = .ok (.iconst 0, 1) := by decide +kernel
theorem dL_law_219 : decode cL_law 219 = .ok (.ireturn, 1) := by decide +kernel
theorem dL_law_220 : decode cL_law 220 = .ok (.aload_n 1, 1) := by decide +kernel
theorem dL_law_221 : decode cL_law 221 = .ok (.aload_n 0, 1) := by decide +kernel
theorem dL_law_222 : decode cL_law 222 = .ok (.iload_n 3, 1) := by decide +kernel
theorem dL_law_223 : decode cL_law 223 = .ok (.iconst 1, 1) := by decide +kernel
theorem dL_law_224 : decode cL_law 224 = .ok (.iadd, 1) := by decide +kernel
theorem dL_law_225 : decode cL_law 225 = .ok (.iaload, 1) := by decide +kernel
theorem dL_law_226 : decode cL_law 226 = .ok (.invokevirtual 33, 3) := by decide +kernel
theorem dL_law_229 : decode cL_law 229 = .ok (.aload_n 2, 1) := by decide +kernel
theorem dL_law_230 : decode cL_law 230 = .ok (.aload_n 0, 1) := by decide +kernel
theorem dL_law_231 : decode cL_law 231 = .ok (.iload_n 3, 1) := by decide +kernel
theorem dL_law_232 : decode cL_law 232 = .ok (.iconst 1, 1) := by decide +kernel
theorem dL_law_233 : decode cL_law 233 = .ok (.iadd, 1) := by decide +kernel
theorem dL_law_234 : decode cL_law 234 = .ok (.iaload, 1) := by decide +kernel
theorem dL_law_235 : decode cL_law 235 = .ok (.invokevirtual 37, 3) := by decide +kernel
theorem dL_law_238 : decode cL_law 238 = .ok (.if_icmp .eq 205, 3) := by decide +kernel
theorem dL_law_241 : decode cL_law 241 = .ok (.iconst 0, 1) := by decide +kernel
theorem dL_law_242 : decode cL_law 242 = .ok (.ireturn, 1) := by decide +kernel
theorem dL_law_243 : decode cL_law 243 = .ok (.aload_n 1, 1) := by decide +kernel
theorem dL_law_244 : decode cL_law 244 = .ok (.aload_n 0, 1) := by decide +kernel
theorem dL_law_245 : decode cL_law 245 = .ok (.iload_n 3, 1) := by decide +kernel
theorem dL_law_246 : decode cL_law 246 = .ok (.iconst 1, 1) := by decide +kernel
theorem dL_law_247 : decode cL_law 247 = .ok (.iadd, 1) := by decide +kernel
theorem dL_law_248 : decode cL_law 248 = .ok (.iaload, 1) := by decide +kernel
theorem dL_law_249 : decode cL_law 249 = .ok (.invokevirtual 38, 3) := by decide +kernel
theorem dL_law_252 : decode cL_law 252 = .ok (.aload_n 2, 1) := by decide +kernel
theorem dL_law_253 : decode cL_law 253 = .ok (.aload_n 0, 1) := by decide +kernel
theorem dL_law_254 : decode cL_law 254 = .ok (.iload_n 3, 1) := by decide +kernel
theorem dL_law_255 : decode cL_law 255 = .ok (.iconst 1, 1) := by decide +kernel
theorem dL_law_256 : decode cL_law 256 = .ok (.iadd, 1) := by decide +kernel
theorem dL_law_257 : decode cL_law 257 = .ok (.iaload, 1) := by decide +kernel
theorem dL_law_258 : decode cL_law 258 = .ok (.invokevirtual 41, 3) := by decide +kernel
theorem dL_law_261 : decode cL_law 261 = .ok (.if_icmp .eq 182, 3) := by decide +kernel
theorem dL_law_264 : decode cL_law 264 = .ok (.iconst 0, 1) := by decide +kernel
theorem dL_law_265 : decode cL_law 265 = .ok (.ireturn, 1) := by decide +kernel
theorem dL_law_266 : decode cL_law 266 = .ok (.aload_n 1, 1) := by decide +kernel
theorem dL_law_267 : decode cL_law 267 = .ok (.invokevirtual 42, 3) := by decide +kernel
theorem dL_law_270 : decode cL_law 270 = .ok (.aload_n 2, 1) := by decide +kernel
theorem dL_law_271 : decode cL_law 271 = .ok (.invokevirtual 46, 3) := by decide +kernel
theorem dL_law_274 : decode cL_law 274 = .ok (.if_icmp .eq 169, 3) := by decide +kernel
theorem dL_law_277 : decode cL_law 277 = .ok (.iconst 0, 1) := by decide +kernel
theorem dL_law_278 : decode cL_law 278 = .ok (.ireturn, 1) := by decide +kernel
theorem dL_law_279 : decode cL_law 279 = .ok (.aload_n 1, 1) := by decide +kernel
theorem dL_law_280 : decode cL_law 280 = .ok (.invokevirtual 47, 3) := by decide +kernel
theorem dL_law_283 : decode cL_law 283 = .ok (.aload_n 2, 1) := by decide +kernel
theorem dL_law_284 : decode cL_law 284 = .ok (.invokevirtual 50, 3) := by decide +kernel
theorem dL_law_287 : decode cL_law 287 = .ok (.if_icmp .eq 156, 3) := by decide +kernel
theorem dL_law_290 : decode cL_law 290 = .ok (.iconst 0, 1) := by decide +kernel
theorem dL_law_291 : decode cL_law 291 = .ok (.ireturn, 1) := by decide +kernel
theorem dL_law_292 : decode cL_law 292 = .ok (.aload_n 1, 1) := by decide +kernel
theorem dL_law_293 : decode cL_law 293 = .ok (.invokevirtual 51, 3) := by decide +kernel
theorem dL_law_296 : decode cL_law 296 = .ok (.aload_n 2, 1) := by decide +kernel
theorem dL_law_297 : decode cL_law 297 = .ok (.invokevirtual 54, 3) := by decide +kernel
theorem dL_law_300 : decode cL_law 300 = .ok (.if_icmp .eq 143, 3) := by decide +kernel
theorem dL_law_303 : decode cL_law 303 = .ok (.iconst 0, 1) := by decide +kernel
theorem dL_law_304 : decode cL_law 304 = .ok (.ireturn, 1) := by decide +kernel
theorem dL_law_305 : decode cL_law 305 = .ok (.aload_n 1, 1) := by decide +kernel
theorem dL_law_306 : decode cL_law 306 = .ok (.invokevirtual 55, 3) := by decide +kernel
theorem dL_law_309 : decode cL_law 309 = .ok (.aload_n 2, 1) := by decide +kernel
theorem dL_law_310 : decode cL_law 310 = .ok (.invokevirtual 58, 3) := by decide +kernel
theorem dL_law_313 : decode cL_law 313 = .ok (.if_icmp .eq 130, 3) := by decide +kernel
theorem dL_law_316 : decode cL_law 316 = .ok (.iconst 0, 1) := by decide +kernel
theorem dL_law_317 : decode cL_law 317 = .ok (.ireturn, 1) := by decide +kernel
theorem dL_law_318 : decode cL_law 318 = .ok (.aload_n 1, 1) := by decide +kernel
theorem dL_law_319 : decode cL_law 319 = .ok (.invokevirtual 59, 3) := by decide +kernel
theorem dL_law_322 : decode cL_law 322 = .ok (.aload_n 2, 1) := by decide +kernel
theorem dL_law_323 : decode cL_law 323 = .ok (.invokevirtual 62, 3) := by decide +kernel
theorem dL_law_326 : decode cL_law 326 = .ok (.if_icmp .eq 117, 3) := by decide +kernel
theorem dL_law_329 : decode cL_law 329 = .ok (.iconst 0, 1) := by decide +kernel
theorem dL_law_330 : decode cL_law 330 = .ok (.ireturn, 1) := by decide +kernel
theorem dL_law_331 : decode cL_law 331 = .ok (.aload_n 1, 1) := by decide +kernel
theorem dL_law_332 : decode cL_law 332 = .ok (.aload_n 0, 1) := by decide +kernel
theorem dL_law_333 : decode cL_law 333 = .ok (.iload_n 3, 1) := by decide +kernel
theorem dL_law_334 : decode cL_law 334 = .ok (.iconst 1, 1) := by decide +kernel
theorem dL_law_335 : decode cL_law 335 = .ok (.iadd, 1) := by decide +kernel
theorem dL_law_336 : decode cL_law 336 = .ok (.iaload, 1) := by decide +kernel
theorem dL_law_337 : decode cL_law 337 = .ok (.invokevirtual 63, 3) := by decide +kernel
theorem dL_law_340 : decode cL_law 340 = .ok (.aload_n 2, 1) := by decide +kernel
theorem dL_law_341 : decode cL_law 341 = .ok (.aload_n 0, 1) := by decide +kernel
theorem dL_law_342 : decode cL_law 342 = .ok (.iload_n 3, 1) := by decide +kernel
theorem dL_law_343 : decode cL_law 343 = .ok (.iconst 1, 1) := by decide +kernel
theorem dL_law_344 : decode cL_law 344 = .ok (.iadd, 1) := by decide +kernel
theorem dL_law_345 : decode cL_law 345 = .ok (.iaload, 1) := by decide +kernel
theorem dL_law_346 : decode cL_law 346 = .ok (.invokevirtual 66, 3) := by decide +kernel
theorem dL_law_349 : decode cL_law 349 = .ok (.if_icmp .eq 94, 3) := by decide +kernel
theorem dL_law_352 : decode cL_law 352 = .ok (.iconst 0, 1) := by decide +kernel
theorem dL_law_353 : decode cL_law 353 = .ok (.ireturn, 1) := by decide +kernel
theorem dL_law_354 : decode cL_law 354 = .ok (.aload_n 1, 1) := by decide +kernel
theorem dL_law_355 : decode cL_law 355 = .ok (.aload_n 0, 1) := by decide +kernel
theorem dL_law_356 : decode cL_law 356 = .ok (.iload_n 3, 1) := by decide +kernel
theorem dL_law_357 : decode cL_law 357 = .ok (.iconst 1, 1) := by decide +kernel
theorem dL_law_358 : decode cL_law 358 = .ok (.iadd, 1) := by decide +kernel
theorem dL_law_359 : decode cL_law 359 = .ok (.iaload, 1) := by decide +kernel
theorem dL_law_360 : decode cL_law 360 = .ok (.invokevirtual 67, 3) := by decide +kernel
theorem dL_law_363 : decode cL_law 363 = .ok (.aload_n 2, 1) := by decide +kernel
theorem dL_law_364 : decode cL_law 364 = .ok (.aload_n 0, 1) := by decide +kernel
theorem dL_law_365 : decode cL_law 365 = .ok (.iload_n 3, 1) := by decide +kernel
theorem dL_law_366 : decode cL_law 366 = .ok (.iconst 1, 1) := by decide +kernel
theorem dL_law_367 : decode cL_law 367 = .ok (.iadd, 1) := by decide +kernel
theorem dL_law_368 : decode cL_law 368 = .ok (.iaload, 1) := by decide +kernel
theorem dL_law_369 : decode cL_law 369 = .ok (.invokevirtual 70, 3) := by decide +kernel
theorem dL_law_372 : decode cL_law 372 = .ok (.if_icmp .eq 71, 3) := by decide +kernel
theorem dL_law_375 : decode cL_law 375 = .ok (.iconst 0, 1) := by decide +kernel
theorem dL_law_376 : decode cL_law 376 = .ok (.ireturn, 1) := by decide +kernel
theorem dL_law_377 : decode cL_law 377 = .ok (.aload_n 1, 1) := by decide +kernel
theorem dL_law_378 : decode cL_law 378 = .ok (.aload_n 0, 1) := by decide +kernel
theorem dL_law_379 : decode cL_law 379 = .ok (.iload_n 3, 1) := by decide +kernel
theorem dL_law_380 : decode cL_law 380 = .ok (.iconst 1, 1) := by decide +kernel
theorem dL_law_381 : decode cL_law 381 = .ok (.iadd, 1) := by decide +kernel
theorem dL_law_382 : decode cL_law 382 = .ok (.iaload, 1) := by decide +kernel
theorem dL_law_383 : decode cL_law 383 = .ok (.invokevirtual 71, 3) := by decide +kernel
theorem dL_law_386 : decode cL_law 386 = .ok (.aload_n 2, 1) := by decide +kernel
theorem dL_law_387 : decode cL_law 387 = .ok (.aload_n 0, 1) := by decide +kernel
theorem dL_law_388 : decode cL_law 388 = .ok (.iload_n 3, 1) := by decide +kernel
theorem dL_law_389 : decode cL_law 389 = .ok (.iconst 1, 1) := by decide +kernel
theorem dL_law_390 : decode cL_law 390 = .ok (.iadd, 1) := by decide +kernel
theorem dL_law_391 : decode cL_law 391 = .ok (.iaload, 1) := by decide +kernel
theorem dL_law_392 : decode cL_law 392 = .ok (.invokevirtual 74, 3) := by decide +kernel
theorem dL_law_395 : decode cL_law 395 = .ok (.if_icmp .eq 48, 3) := by decide +kernel
theorem dL_law_398 : decode cL_law 398 = .ok (.iconst 0, 1) := by decide +kernel
theorem dL_law_399 : decode cL_law 399 = .ok (.ireturn, 1) := by decide +kernel
theorem dL_law_400 : decode cL_law 400 = .ok (.aload_n 1, 1) := by decide +kernel
theorem dL_law_401 : decode cL_law 401 = .ok (.aload_n 0, 1) := by decide +kernel
theorem dL_law_402 : decode cL_law 402 = .ok (.iload_n 3, 1) := by decide +kernel
theorem dL_law_403 : decode cL_law 403 = .ok (.iconst 1, 1) := by decide +kernel
theorem dL_law_404 : decode cL_law 404 = .ok (.iadd, 1) := by decide +kernel
theorem dL_law_405 : decode cL_law 405 = .ok (.iaload, 1) := by decide +kernel
theorem dL_law_406 : decode cL_law 406 = .ok (.aload_n 0, 1) := by decide +kernel
theorem dL_law_407 : decode cL_law 407 = .ok (.iload_n 3, 1) := by decide +kernel
theorem dL_law_408 : decode cL_law 408 = .ok (.iconst 2, 1) := by decide +kernel
theorem dL_law_409 : decode cL_law 409 = .ok (.iadd, 1) := by decide +kernel
theorem dL_law_410 : decode cL_law 410 = .ok (.iaload, 1) := by decide +kernel
theorem dL_law_411 : decode cL_law 411 = .ok (.aload_n 0, 1) := by decide +kernel
theorem dL_law_412 : decode cL_law 412 = .ok (.iload_n 3, 1) := by decide +kernel
theorem dL_law_413 : decode cL_law 413 = .ok (.iconst 3, 1) := by decide +kernel
theorem dL_law_414 : decode cL_law 414 = .ok (.iadd, 1) := by decide +kernel
theorem dL_law_415 : decode cL_law 415 = .ok (.iaload, 1) := by decide +kernel
theorem dL_law_416 : decode cL_law 416 = .ok (.invokevirtual 75, 3) := by decide +kernel
theorem dL_law_419 : decode cL_law 419 = .ok (.aload_n 2, 1) := by decide +kernel
theorem dL_law_420 : decode cL_law 420 = .ok (.aload_n 0, 1) := by decide +kernel
theorem dL_law_421 : decode cL_law 421 = .ok (.iload_n 3, 1) := by decide +kernel
theorem dL_law_422 : decode cL_law 422 = .ok (.iconst 1, 1) := by decide +kernel
theorem dL_law_423 : decode cL_law 423 = .ok (.iadd, 1) := by decide +kernel
theorem dL_law_424 : decode cL_law 424 = .ok (.iaload, 1) := by decide +kernel
theorem dL_law_425 : decode cL_law 425 = .ok (.aload_n 0, 1) := by decide +kernel
theorem dL_law_426 : decode cL_law 426 = .ok (.iload_n 3, 1) := by decide +kernel
theorem dL_law_427 : decode cL_law 427 = .ok (.iconst 2, 1) := by decide +kernel
theorem dL_law_428 : decode cL_law 428 = .ok (.iadd, 1) := by decide +kernel
theorem dL_law_429 : decode cL_law 429 = .ok (.iaload, 1) := by decide +kernel
theorem dL_law_430 : decode cL_law 430 = .ok (.aload_n 0, 1) := by decide +kernel
theorem dL_law_431 : decode cL_law 431 = .ok (.iload_n 3, 1) := by decide +kernel
theorem dL_law_432 : decode cL_law 432 = .ok (.iconst 3, 1) := by decide +kernel
theorem dL_law_433 : decode cL_law 433 = .ok (.iadd, 1) := by decide +kernel
theorem dL_law_434 : decode cL_law 434 = .ok (.iaload, 1) := by decide +kernel
theorem dL_law_435 : decode cL_law 435 = .ok (.invokevirtual 79, 3) := by decide +kernel
theorem dL_law_438 : decode cL_law 438 = .ok (.if_icmp .eq 5, 3) := by decide +kernel
theorem dL_law_441 : decode cL_law 441 = .ok (.iconst 0, 1) := by decide +kernel
theorem dL_law_442 : decode cL_law 442 = .ok (.ireturn, 1) := by decide +kernel
theorem dL_law_443 : decode cL_law 443 = .ok (.iinc 3 4, 3) := by decide +kernel
theorem dL_law_446 : decode cL_law 446 = .ok (.goto (-428), 3) := by decide +kernel
theorem dL_law_449 : decode cL_law 449 = .ok (.iconst 1, 1) := by decide +kernel
theorem dL_law_450 : decode cL_law 450 = .ok (.ireturn, 1) := by decide +kernel
end
section
/-! own rows: instructions on numbers nI n; the pictures of the two objects; calls, starts and ends -/
set_option maxRecDepth 100000
def bI (b : Bool) : Int32 := if b then 1 else 0
theorem rd_nI1 : (1 : Int32) = nI 1 := rfl
theorem rd_or (a b : Nat) : nI a ||| nI b = nI (a ||| b) := by
  apply Int32.toBitVec_inj.1
  show BitVec.ofNat 32 a ||| BitVec.ofNat 32 b = BitVec.ofNat 32 (a ||| b)
  apply BitVec.eq_of_getLsbD_eq
  intro i hi
  simp [hi]
theorem rd_and (a b : Nat) : nI a &&& nI b = nI (a &&& b) := by
  apply Int32.toBitVec_inj.1
  show BitVec.ofNat 32 a &&& BitVec.ofNat 32 b = BitVec.ofNat 32 (a &&& b)
  apply BitVec.eq_of_getLsbD_eq
  intro i hi
  simp [hi]
theorem rd_smod : ∀ n, n < 32 → ((nI n &&& 31).toBitVec.smod 32).toNat = n := by decide +kernel
theorem rd_sh1 : ∀ k, k < 31 → nI 1 <<< (nI k &&& 31) = nI (2 ^ k) := by decide +kernel
theorem rd_i8 : ∀ v, v < 128 → (nI v).toInt8.toInt32 = nI v := by decide +kernel
theorem rd_nar8 {v : Nat} (h : v < 128) : vp_nar .byte (nI v) = nI v := by rw [vp_nar_byte]; exact rd_i8 v h
theorem rd_inc1 (a : Nat) : nI a + Int32.ofInt 1 = nI (a + 1) := nI_1 a
theorem rd_dec1 (a : Nat) : nI (a + 1) + Int32.ofInt (-1) = nI a := pk_m1 a
theorem rd_inc4 (a : Nat) : nI a + Int32.ofInt 4 = nI (a + 4) := nI_add a 4
theorem rd_not : ∀ b, b < 32 → ∀ a, a < 32 → nI a &&& (nI b ^^^ (-1)) = nI (a &&& (31 ^^^ b)) := by decide +kernel
theorem rd_lt0 {a : Nat} (h : a < 2 ^ 31) : ¬ nI a < 0 := nI_pos h
theorem rd_tb (a k : Nat) : (a / 2 ^ k) &&& 1 = 0 ↔ a.testBit k = false := by
  rw [Nat.and_one_is_mod, Nat.testBit_eq_decide_div_mod_eq]
  have := Nat.mod_two_eq_zero_or_one (a / 2 ^ k)
  simp only [decide_eq_false_iff_not]
  omega
theorem rd_upI (f : Nat → Nat) (k v : Nat) : upd (fun j => nI (f j)) k (nI v) = fun j => nI (va_up f k v j) := by
  funext j
  by_cases h : j = k
  · subst h; simp [upd, va_up]
  · simp [upd, va_up, h]
theorem rd_upB (f : Nat → Bool) (k : Nat) (v : Bool) : upd (fun j => bI (f j)) k (bI v) = fun j => bI (va_up f k v j) := by
  funext j
  by_cases h : j = k
  · subst h; simp [upd, va_up]
  · simp [upd, va_up, h]
theorem rd_narB (b : Bool) : vp_nar .boolean (bI b) = bI b := by cases b <;> rfl
theorem rd_b0 {b : Bool} : bI b = 0 ↔ b = false := by cases b <;> decide
theorem rd_narZ (b : Bool) : narrow .boolean (.int (bI b)) = .int (bI b) := by cases b <;> rfl
section NN
variable {p : Program} {l : Launch} {e : Env} {R : Room} {s : State} {m : MethodId} {args : Array Value} {below : List Frame} {meth : Method} {c : Code} {H : Heap} {locs : List Loc} {cells slots : Nat} {Q : State → Prop}
variable {cc : ByteArray} {pc : Nat} {ls : Array Slot} {rest : List Value}
theorem rd_iadd (hx : p.tables.exec = Jvm.exec) (hb : c.code = cc) {a b : Nat} (hdg : decode cc pc = .ok (.iadd, 1))
    (k : W p l e R s m args below meth c H locs cells slots Q (F0 m (pc + 1) ls (.int (nI (a + b)) :: rest))) : W p l e R s m args below meth c H locs cells slots Q (F0 m pc ls (.int (nI b) :: .int (nI a) :: rest)) := lv_iadd hx hb hdg (by rw [nI_add]; exact k)
theorem rd_isub (hx : p.tables.exec = Jvm.exec) (hb : c.code = cc) {a b : Nat} (h : b ≤ a) (hdg : decode cc pc = .ok (.isub, 1))
    (k : W p l e R s m args below meth c H locs cells slots Q (F0 m (pc + 1) ls (.int (nI (a - b)) :: rest))) : W p l e R s m args below meth c H locs cells slots Q (F0 m pc ls (.int (nI b) :: .int (nI a) :: rest)) := lv_isub hx hb hdg (by rw [pk_sub h]; exact k)
theorem rd_imul (hx : p.tables.exec = Jvm.exec) (hb : c.code = cc) {a b : Nat} (hdg : decode cc pc = .ok (.imul, 1))
    (k : W p l e R s m args below meth c H locs cells slots Q (F0 m (pc + 1) ls (.int (nI (a * b)) :: rest))) : W p l e R s m args below meth c H locs cells slots Q (F0 m pc ls (.int (nI b) :: .int (nI a) :: rest)) := lv_imul hx hb hdg (by rw [pk_mul]; exact k)
theorem rd_idiv (hx : p.tables.exec = Jvm.exec) (hb : c.code = cc) {a b : Nat} (h1 : a < 2 ^ 31) (h0 : 0 < b) (h2 : b < 2 ^ 31) (hdg : decode cc pc = .ok (.idiv, 1))
    (k : W p l e R s m args below meth c H locs cells slots Q (F0 m (pc + 1) ls (.int (nI (a / b)) :: rest))) : W p l e R s m args below meth c H locs cells slots Q (F0 m pc ls (.int (nI b) :: .int (nI a) :: rest)) := lv_idiv hx hb hdg (nI_ne0 h0 h2) (by rw [pk_div h1 h0 h2]; exact k)
theorem rd_irem (hx : p.tables.exec = Jvm.exec) (hb : c.code = cc) {a b : Nat} (h1 : a < 2 ^ 31) (h0 : 0 < b) (h2 : b < 2 ^ 31) (hdg : decode cc pc = .ok (.irem, 1))
    (k : W p l e R s m args below meth c H locs cells slots Q (F0 m (pc + 1) ls (.int (nI (a % b)) :: rest))) : W p l e R s m args below meth c H locs cells slots Q (F0 m pc ls (.int (nI b) :: .int (nI a) :: rest)) := lv_irem hx hb hdg (nI_ne0 h0 h2) (by rw [pk_rem h1 h0 h2]; exact k)
theorem rd_ior (hx : p.tables.exec = Jvm.exec) (hb : c.code = cc) {a b : Nat} (hdg : decode cc pc = .ok (.ior, 1))
    (k : W p l e R s m args below meth c H locs cells slots Q (F0 m (pc + 1) ls (.int (nI (a ||| b)) :: rest))) : W p l e R s m args below meth c H locs cells slots Q (F0 m pc ls (.int (nI b) :: .int (nI a) :: rest)) := lv_ior hx hb hdg (by rw [rd_or]; exact k)
theorem rd_iand (hx : p.tables.exec = Jvm.exec) (hb : c.code = cc) {a b : Nat} (hdg : decode cc pc = .ok (.iand, 1))
    (k : W p l e R s m args below meth c H locs cells slots Q (F0 m (pc + 1) ls (.int (nI (a &&& b)) :: rest))) : W p l e R s m args below meth c H locs cells slots Q (F0 m pc ls (.int (nI b) :: .int (nI a) :: rest)) := lv_iand hx hb hdg (by rw [rd_and]; exact k)
theorem rd_iandn (hx : p.tables.exec = Jvm.exec) (hb : c.code = cc) {a b : Nat} (h1 : a < 32) (h2 : b < 32) (hdg : decode cc pc = .ok (.iand, 1))
    (k : W p l e R s m args below meth c H locs cells slots Q (F0 m (pc + 1) ls (.int (nI (a &&& (31 ^^^ b))) :: rest))) : W p l e R s m args below meth c H locs cells slots Q (F0 m pc ls (.int (nI b ^^^ (-1)) :: .int (nI a) :: rest)) := lv_iand hx hb hdg (by rw [rd_not b h2 a h1]; exact k)
theorem rd_ishl1 (hx : p.tables.exec = Jvm.exec) (hb : c.code = cc) {n : Nat} (h : n < 31) (hdg : decode cc pc = .ok (.ishl, 1))
    (k : W p l e R s m args below meth c H locs cells slots Q (F0 m (pc + 1) ls (.int (nI (2 ^ n)) :: rest))) : W p l e R s m args below meth c H locs cells slots Q (F0 m pc ls (.int (nI n) :: .int (nI 1) :: rest)) := lv_ishl hx hb hdg (by rw [rd_sh1 n h]; exact k)
theorem rd_ishr (hx : p.tables.exec = Jvm.exec) (hb : c.code = cc) {a n : Nat} (h1 : a < 2 ^ 31) (h : n < 32) (hdg : decode cc pc = .ok (.ishr, 1))
    (k : W p l e R s m args below meth c H locs cells slots Q (F0 m (pc + 1) ls (.int (nI (a / 2 ^ n)) :: rest))) : W p l e R s m args below meth c H locs cells slots Q (F0 m pc ls (.int (nI n) :: .int (nI a) :: rest)) := lv_ishr hx hb hdg (by rw [pk_shrN h1 _ n (rd_smod n h)]; exact k)
theorem rd_i2b (hx : p.tables.exec = Jvm.exec) (hb : c.code = cc) {v : Nat} (h : v < 128) (hdg : decode cc pc = .ok (.i2b, 1))
    (k : W p l e R s m args below meth c H locs cells slots Q (F0 m (pc + 1) ls (.int (nI v) :: rest))) : W p l e R s m args below meth c H locs cells slots Q (F0 m pc ls (.int (nI v) :: rest)) := lv_i2b hx hb hdg (rd_i8 v h) k
theorem rd_icmp_ge (hx : p.tables.exec = Jvm.exec) (hb : c.code = cc) {a b : Nat} (ha : a < 2 ^ 31) (h2 : b < 2 ^ 31) {off : Int} {tgt : Nat} (hdg : decode cc pc = .ok (.if_icmp .ge off, 3)) (ht : (pc : Int) + off = (tgt : Int))
    (kt : b ≤ a → W p l e R s m args below meth c H locs cells slots Q (F0 m tgt ls rest)) (kf : a < b → W p l e R s m args below meth c H locs cells slots Q (F0 m (pc + 3) ls rest)) : W p l e R s m args below meth c H locs cells slots Q (F0 m pc ls (.int (nI b) :: .int (nI a) :: rest)) :=
  lv_icmp_ge hx hb hdg ht (fun h => kt ((nI_leI h2 ha).mp h)) (fun h => kf (by rw [nI_leI h2 ha] at h; omega))
theorem rd_icmp_gt (hx : p.tables.exec = Jvm.exec) (hb : c.code = cc) {a b : Nat} (ha : a < 2 ^ 31) (h2 : b < 2 ^ 31) {off : Int} {tgt : Nat} (hdg : decode cc pc = .ok (.if_icmp .gt off, 3)) (ht : (pc : Int) + off = (tgt : Int))
    (kt : b < a → W p l e R s m args below meth c H locs cells slots Q (F0 m tgt ls rest)) (kf : a ≤ b → W p l e R s m args below meth c H locs cells slots Q (F0 m (pc + 3) ls rest)) : W p l e R s m args below meth c H locs cells slots Q (F0 m pc ls (.int (nI b) :: .int (nI a) :: rest)) :=
  lv_icmp_gt hx hb hdg ht (fun h => kt ((nI_ltI h2 ha).mp h)) (fun h => kf (by rw [nI_ltI h2 ha] at h; omega))
theorem rd_icmp_le (hx : p.tables.exec = Jvm.exec) (hb : c.code = cc) {a b : Nat} (ha : a < 2 ^ 31) (h2 : b < 2 ^ 31) {off : Int} {tgt : Nat} (hdg : decode cc pc = .ok (.if_icmp .le off, 3)) (ht : (pc : Int) + off = (tgt : Int))
    (kt : a ≤ b → W p l e R s m args below meth c H locs cells slots Q (F0 m tgt ls rest)) (kf : b < a → W p l e R s m args below meth c H locs cells slots Q (F0 m (pc + 3) ls rest)) : W p l e R s m args below meth c H locs cells slots Q (F0 m pc ls (.int (nI b) :: .int (nI a) :: rest)) :=
  lv_icmp_le hx hb hdg ht (fun h => kt ((nI_leI ha h2).mp h)) (fun h => kf (by rw [nI_leI ha h2] at h; omega))
theorem rd_icmp_lt (hx : p.tables.exec = Jvm.exec) (hb : c.code = cc) {a b : Nat} (ha : a < 2 ^ 31) (h2 : b < 2 ^ 31) {off : Int} {tgt : Nat} (hdg : decode cc pc = .ok (.if_icmp .lt off, 3)) (ht : (pc : Int) + off = (tgt : Int))
    (kt : a < b → W p l e R s m args below meth c H locs cells slots Q (F0 m tgt ls rest)) (kf : b ≤ a → W p l e R s m args below meth c H locs cells slots Q (F0 m (pc + 3) ls rest)) : W p l e R s m args below meth c H locs cells slots Q (F0 m pc ls (.int (nI b) :: .int (nI a) :: rest)) :=
  lv_icmp_lt hx hb hdg ht (fun h => kt ((nI_ltI ha h2).mp h)) (fun h => kf (by rw [nI_ltI ha h2] at h; omega))
theorem rd_icmp_eq (hx : p.tables.exec = Jvm.exec) (hb : c.code = cc) {a b : Nat} (ha : a < 2 ^ 31) (h2 : b < 2 ^ 31) {off : Int} {tgt : Nat} (hdg : decode cc pc = .ok (.if_icmp .eq off, 3)) (ht : (pc : Int) + off = (tgt : Int))
    (kt : a = b → W p l e R s m args below meth c H locs cells slots Q (F0 m tgt ls rest)) (kf : a ≠ b → W p l e R s m args below meth c H locs cells slots Q (F0 m (pc + 3) ls rest)) : W p l e R s m args below meth c H locs cells slots Q (F0 m pc ls (.int (nI b) :: .int (nI a) :: rest)) :=
  lv_icmp_eq hx hb hdg ht (fun h => kt ((nI_eq ha h2).mp h)) (fun h => kf (fun q => h ((nI_eq ha h2).mpr q)))
theorem rd_icmp_ne (hx : p.tables.exec = Jvm.exec) (hb : c.code = cc) {a b : Nat} (ha : a < 2 ^ 31) (h2 : b < 2 ^ 31) {off : Int} {tgt : Nat} (hdg : decode cc pc = .ok (.if_icmp .ne off, 3)) (ht : (pc : Int) + off = (tgt : Int))
    (kt : a ≠ b → W p l e R s m args below meth c H locs cells slots Q (F0 m tgt ls rest)) (kf : a = b → W p l e R s m args below meth c H locs cells slots Q (F0 m (pc + 3) ls rest)) : W p l e R s m args below meth c H locs cells slots Q (F0 m pc ls (.int (nI b) :: .int (nI a) :: rest)) :=
  lv_icmp_ne hx hb hdg ht (fun h => kt (fun q => h ((nI_eq ha h2).mpr q))) (fun h => kf ((nI_eq ha h2).mp h))
theorem rd_if_eq (hx : p.tables.exec = Jvm.exec) (hb : c.code = cc) {a : Nat} (ha : a < 2 ^ 31) {off : Int} {tgt : Nat} (hdg : decode cc pc = .ok (.ifCond .eq off, 3)) (ht : (pc : Int) + off = (tgt : Int))
    (kt : a = 0 → W p l e R s m args below meth c H locs cells slots Q (F0 m tgt ls rest)) (kf : 0 < a → W p l e R s m args below meth c H locs cells slots Q (F0 m (pc + 3) ls rest)) : W p l e R s m args below meth c H locs cells slots Q (F0 m pc ls (.int (nI a) :: rest)) :=
  lv_if_eq hx hb hdg ht (fun h => kt ((nI_eq ha (by decide)).mp h)) (fun h => kf (Nat.pos_of_ne_zero fun q => h (by rw [q]; rfl)))
theorem rd_if_ne (hx : p.tables.exec = Jvm.exec) (hb : c.code = cc) {a : Nat} (ha : a < 2 ^ 31) {off : Int} {tgt : Nat} (hdg : decode cc pc = .ok (.ifCond .ne off, 3)) (ht : (pc : Int) + off = (tgt : Int))
    (kt : 0 < a → W p l e R s m args below meth c H locs cells slots Q (F0 m tgt ls rest)) (kf : a = 0 → W p l e R s m args below meth c H locs cells slots Q (F0 m (pc + 3) ls rest)) : W p l e R s m args below meth c H locs cells slots Q (F0 m pc ls (.int (nI a) :: rest)) :=
  lv_if_ne hx hb hdg ht (fun h => kt (Nat.pos_of_ne_zero fun q => h (by rw [q]; rfl))) (fun h => kf ((nI_eq ha (by decide)).mp h))
theorem rd_if_le (hx : p.tables.exec = Jvm.exec) (hb : c.code = cc) {a : Nat} (ha : a < 2 ^ 31) {off : Int} {tgt : Nat} (hdg : decode cc pc = .ok (.ifCond .le off, 3)) (ht : (pc : Int) + off = (tgt : Int))
    (kt : a = 0 → W p l e R s m args below meth c H locs cells slots Q (F0 m tgt ls rest)) (kf : 0 < a → W p l e R s m args below meth c H locs cells slots Q (F0 m (pc + 3) ls rest)) : W p l e R s m args below meth c H locs cells slots Q (F0 m pc ls (.int (nI a) :: rest)) :=
  lv_if_le hx hb hdg ht (fun h => kt (by rw [← nI_0, nI_leI ha (by decide)] at h; omega)) (fun h => kf (by rw [← nI_0, nI_leI ha (by decide)] at h; omega))
theorem rd_ifb_eq (hx : p.tables.exec = Jvm.exec) (hb : c.code = cc) {b : Bool} {off : Int} {tgt : Nat} (hdg : decode cc pc = .ok (.ifCond .eq off, 3)) (ht : (pc : Int) + off = (tgt : Int))
    (kt : b = false → W p l e R s m args below meth c H locs cells slots Q (F0 m tgt ls rest)) (kf : b = true → W p l e R s m args below meth c H locs cells slots Q (F0 m (pc + 3) ls rest)) : W p l e R s m args below meth c H locs cells slots Q (F0 m pc ls (.int (bI b) :: rest)) :=
  lv_if_eq hx hb hdg ht (fun h => kt (rd_b0.mp h)) (fun h => kf (by cases b with | true => rfl | false => exact absurd rfl h))
theorem rd_ifb_ne (hx : p.tables.exec = Jvm.exec) (hb : c.code = cc) {b : Bool} {off : Int} {tgt : Nat} (hdg : decode cc pc = .ok (.ifCond .ne off, 3)) (ht : (pc : Int) + off = (tgt : Int))
    (kt : b = true → W p l e R s m args below meth c H locs cells slots Q (F0 m tgt ls rest)) (kf : b = false → W p l e R s m args below meth c H locs cells slots Q (F0 m (pc + 3) ls rest)) : W p l e R s m args below meth c H locs cells slots Q (F0 m pc ls (.int (bI b) :: rest)) :=
  lv_if_ne hx hb hdg ht (fun h => kt (by cases b with | true => rfl | false => exact absurd rfl h)) (fun h => kf (rd_b0.mp h))
theorem rd_ift_eq (hx : p.tables.exec = Jvm.exec) (hb : c.code = cc) {a n : Nat} (ha : a < 2 ^ 31) {off : Int} {tgt : Nat} (hdg : decode cc pc = .ok (.ifCond .eq off, 3)) (ht : (pc : Int) + off = (tgt : Int))
    (kt : a.testBit n = false → W p l e R s m args below meth c H locs cells slots Q (F0 m tgt ls rest)) (kf : a.testBit n = true → W p l e R s m args below meth c H locs cells slots Q (F0 m (pc + 3) ls rest)) : W p l e R s m args below meth c H locs cells slots Q (F0 m pc ls (.int (nI (a / 2 ^ n &&& 1)) :: rest)) :=
  lv_if_eq hx hb hdg ht (fun h => kt ((rd_tb a n).mp ((nI_eq (Nat.lt_of_le_of_lt Nat.and_le_right (by decide)) (by decide)).mp h))) (fun h => kf (by cases hq : a.testBit n with | true => rfl | false => exact absurd (congrArg nI ((rd_tb a n).mpr hq)) h))
theorem rd_ift_ne (hx : p.tables.exec = Jvm.exec) (hb : c.code = cc) {a n : Nat} (ha : a < 2 ^ 31) {off : Int} {tgt : Nat} (hdg : decode cc pc = .ok (.ifCond .ne off, 3)) (ht : (pc : Int) + off = (tgt : Int))
    (kt : a.testBit n = true → W p l e R s m args below meth c H locs cells slots Q (F0 m tgt ls rest)) (kf : a.testBit n = false → W p l e R s m args below meth c H locs cells slots Q (F0 m (pc + 3) ls rest)) : W p l e R s m args below meth c H locs cells slots Q (F0 m pc ls (.int (nI (a / 2 ^ n &&& 1)) :: rest)) :=
  lv_if_ne hx hb hdg ht (fun h => kt (by cases hq : a.testBit n with | true => rfl | false => exact absurd (congrArg nI ((rd_tb a n).mpr hq)) h)) (fun h => kf ((rd_tb a n).mp ((nI_eq (Nat.lt_of_le_of_lt Nat.and_le_right (by decide)) (by decide)).mp h)))
/-- a merge: the value on top by a name -/
theorem rd_top {v v' : Int32} (hv : v = v') (k : W p l e R s m args below meth c H locs cells slots Q (F0 m pc ls (.int v' :: rest))) : W p l e R s m args below meth c H locs cells slots Q (F0 m pc ls (.int v :: rest)) := by rw [hv]; exact k
end NN
abbrev cl2 : List vw_C := [(RX0, TX0, 8), (RX1, TX1, 9)]
/-- what a walk of a method has of its machine -/
def CX (p : Program) (s : State) (m : MethodId) (args : Array Value) (meth : Method) (c : Code) (cc : ByteArray) (nL : Nat) (ret : Option FieldType) (own : String) : Prop := p.tables.exec = Jvm.exec ∧ c.code = cc ∧ meth.sig.returnType = ret ∧ c.maxLocals = nL ∧ s.vm.findClass own = some m.cls ∧ (∀ w ∈ lw_all, w.before args s = true) ∧ meth.locks = false
/-- the heap H holds the cells w, apart and in A; outside A nothing changed since H0 -/
def HH (D : va_G) (w : va_W) (A : Nat → Prop) (H0 H : Heap) (locs : List Loc) : Prop := va_P D cl2 w H ∧ va_D A w ∧ va_S A H0 H locs ∧ ∀ q, H0.size ≤ q → A q
/-- a contract of a method that changes nothing -/
def CtP (l : Launch) (y : MethodName) (cc : ByteArray) (nL : Nat) (ret : Option FieldType) (rm : Room) (D : va_G) (tys : List (ClassId × FieldType)) (w : va_W) (As : List Value) (post : Int32 → Prop) : Prop := Met l y (ws_ y cc nL ret) rm (va_Pc As (fun U => va_P D cl2 w U.heap ∧ va_K D cl2 tys U)) (vp_Si post) 0 0 (fun _ => False)
/-- a contract of a method that changes cells of its world -/
def CtI {S : Type} (l : Launch) (y : MethodName) (cc : ByteArray) (nL : Nat) (ret : Option FieldType) (rm : Room) (D : va_G) (tys : List (ClassId × FieldType)) (w : va_W) (As : List Value) (post : Int32 → S → Prop) (pic : S → va_W) : Prop := ∀ sz : Nat, Met l y (ws_ y cc nL ret) rm (va_Pc As (fun U => U.heap.size = sz ∧ va_P D cl2 w U.heap ∧ va_K D cl2 tys U ∧ va_D (fun _ => True) w)) (va_Qi post (fun u t => va_P D cl2 (pic u) t.heap ∧ va_K D cl2 tys t ∧ va_D (va_A w sz) (pic u)) (va_A w sz)) 0 0 (va_A w sz)
def CtV {S : Type} (l : Launch) (y : MethodName) (cc : ByteArray) (nL : Nat) (rm : Room) (D : va_G) (tys : List (ClassId × FieldType)) (w : va_W) (As : List Value) (post : S → Prop) (pic : S → va_W) : Prop := ∀ sz : Nat, Met l y (ws_ y cc nL none) rm (va_Pc As (fun U => U.heap.size = sz ∧ va_P D cl2 w U.heap ∧ va_K D cl2 tys U ∧ va_D (fun _ => True) w)) (va_Qv post (fun u t => va_P D cl2 (pic u) t.heap ∧ va_K D cl2 tys t ∧ va_D (va_A w sz) (pic u)) (va_A w sz)) 0 0 (va_A w sz)
section ST
variable {l : Launch} {y : MethodName} {cc : ByteArray} {nL : Nat} {ret : Option FieldType} {rm : Room} {D : va_G} {tys : List (ClassId × FieldType)} {w : va_W} {As : List Value}
theorem rd_startP {post : Int32 → Prop} (hy : plainName y.cls = true) (hl : (lg_sl As).length ≤ nL)
    (body : ∀ (p : Program) (e : Env) (s : State) (m : MethodId) (below : List Frame) (meth : Method) (c : Code) (ls : Array Slot) (Q : State → Prop), Q = MQ below (vp_Si post) As.toArray s 0 0 (fun _ => False) → CX p s m As.toArray meth c cc nL ret y.cls → va_K D cl2 tys s → va_P D cl2 w s.heap → lv_has ls nL (lv_args 0 As) →
      W p l e rm s m As.toArray below meth c s.heap [] 0 0 Q (F0 m 0 ls [])) : CtP l y cc nL ret rm D tys w As post := by
  refine Met.ofW (cc := cc) (maxL := nL) (ret := ret) hy rfl ?_
  intro p e s m args below meth c s₁ B hml hv
  obtain ⟨rfl, hP, hK⟩ := hv
  have hts := atoms_spec (ws := ws_ y cc nL ret) B.pre
  rw [lg_entry_eq]
  exact body p e s m below meth c _ _ rfl ⟨B.exec, B.bytes, B.returns, hml, findClass_of_methodNamed B.named, fun w h => hts w (List.mem_cons_of_mem _ h), B.notSynchronized⟩ hK hP (lv_entry As hl)
theorem rd_startI {S : Type} {post : Int32 → S → Prop} {pic : S → va_W} (hy : plainName y.cls = true) (hl : (lg_sl As).length ≤ nL)
    (body : ∀ (p : Program) (e : Env) (s : State) (m : MethodId) (below : List Frame) (meth : Method) (c : Code) (ls : Array Slot) (A : Nat → Prop) (Q : State → Prop), Q = MQ below (va_Qi post (fun u t => va_P D cl2 (pic u) t.heap ∧ va_K D cl2 tys t ∧ va_D A (pic u)) A) As.toArray s 0 0 A → CX p s m As.toArray meth c cc nL ret y.cls → va_K D cl2 tys s → HH D w A s.heap s.heap [] → lv_has ls nL (lv_args 0 As) →
      W p l e rm s m As.toArray below meth c s.heap [] 0 0 Q (F0 m 0 ls [])) : CtI l y cc nL ret rm D tys w As post pic := by
  intro sz
  refine Met.ofW (cc := cc) (maxL := nL) (ret := ret) hy rfl ?_
  intro p e s m args below meth c s₁ B hml hv
  obtain ⟨rfl, rfl, hP, hK, hD⟩ := hv
  have hts := atoms_spec (ws := ws_ y cc nL ret) B.pre
  rw [lg_entry_eq]
  exact body p e s m below meth c _ (va_A w s.heap.size) _ rfl ⟨B.exec, B.bytes, B.returns, hml, findClass_of_methodNamed B.named, fun w h => hts w (List.mem_cons_of_mem _ h), B.notSynchronized⟩ hK ⟨hP, hD.self, va_S.rf, fun q h => Or.inr h⟩ (lv_entry As hl)
theorem rd_startV {S : Type} {post : S → Prop} {pic : S → va_W} (hy : plainName y.cls = true) (hl : (lg_sl As).length ≤ nL)
    (body : ∀ (p : Program) (e : Env) (s : State) (m : MethodId) (below : List Frame) (meth : Method) (c : Code) (ls : Array Slot) (A : Nat → Prop) (Q : State → Prop), Q = MQ below (va_Qv post (fun u t => va_P D cl2 (pic u) t.heap ∧ va_K D cl2 tys t ∧ va_D A (pic u)) A) As.toArray s 0 0 A → CX p s m As.toArray meth c cc nL none y.cls → va_K D cl2 tys s → HH D w A s.heap s.heap [] → lv_has ls nL (lv_args 0 As) →
      W p l e rm s m As.toArray below meth c s.heap [] 0 0 Q (F0 m 0 ls [])) : CtV l y cc nL rm D tys w As post pic := by
  intro sz
  refine Met.ofW (cc := cc) (maxL := nL) (ret := none) hy rfl ?_
  intro p e s m args below meth c s₁ B hml hv
  obtain ⟨rfl, rfl, hP, hK, hD⟩ := hv
  have hts := atoms_spec (ws := ws_ y cc nL none) B.pre
  rw [lg_entry_eq]
  exact body p e s m below meth c _ (va_A w s.heap.size) _ rfl ⟨B.exec, B.bytes, B.returns, hml, findClass_of_methodNamed B.named, fun w h => hts w (List.mem_cons_of_mem _ h), B.notSynchronized⟩ hK ⟨hP, hD.self, va_S.rf, fun q h => Or.inr h⟩ (lv_entry As hl)
end ST
section EN
variable {p : Program} {l : Launch} {e : Env} {R : Room} {s : State} {m : MethodId} {args : Array Value} {below : List Frame} {meth : Method} {c : Code} {H : Heap} {locs : List Loc} {cells slots : Nat} {Q : State → Prop}
variable {cc : ByteArray} {pc : Nat} {ls : Array Slot} {rest : List Value}
variable {nL : Nat} {own : String} {D : va_G} {tys : List (ClassId × FieldType)} {A : Nat → Prop}
theorem rd_retP {post : Int32 → Prop} {v : Int32} (C : CX p s m args meth c cc nL (some .int) own) (hq : post v) (hdg : decode cc pc = .ok (.ireturn, 1)) : W p l e R s m args below meth c s.heap [] 0 0 (MQ below (vp_Si post) args s 0 0 (fun _ => False)) (F0 m pc ls [.int v]) :=
  W.iret C.1 C.2.1 C.2.2.1 (fun t ht _ => ⟨v, rfl, hq, ht⟩) (fun q h => by cases h) hdg C.2.2.2.2.2.2
theorem rd_retPz {post : Int32 → Prop} {v : Int32} (C : CX p s m args meth c cc nL (some .boolean) own) (hn : narrow .boolean (.int v) = .int v) (hq : post v) (hdg : decode cc pc = .ok (.ireturn, 1)) : W p l e R s m args below meth c s.heap [] 0 0 (MQ below (vp_Si post) args s 0 0 (fun _ => False)) (F0 m pc ls [.int v]) :=
  W.zret C.1 C.2.1 C.2.2.1 hn (fun t ht _ => ⟨_, rfl, hq, ht⟩) (fun q h => by cases h) hdg C.2.2.2.2.2.2
theorem rd_retI {S : Type} {post : Int32 → S → Prop} {pic : S → va_W} {v : Int32} (u : S) (C : CX p s m args meth c cc nL (some .int) own) (hK : va_K D cl2 tys s) (hh : HH D (pic u) A s.heap H locs) (hq : post v u) (hdg : decode cc pc = .ok (.ireturn, 1)) : W p l e R s m args below meth c H locs 0 0 (MQ below (va_Qi post (fun u t => va_P D cl2 (pic u) t.heap ∧ va_K D cl2 tys t ∧ va_D A (pic u)) A) args s 0 0 A) (F0 m pc ls [.int v]) :=
  W.iret C.1 C.2.1 C.2.2.1 (fun t ht hW => ⟨⟨v, u, rfl, hq, by rw [ht]; exact hh.1, va_K.moved hW.alike hK, hh.2.1⟩, hh.2.2.1.F ht⟩) hh.2.2.1.2.2 hdg C.2.2.2.2.2.2
theorem rd_retIz {S : Type} {post : Int32 → S → Prop} {pic : S → va_W} {v : Int32} (u : S) (C : CX p s m args meth c cc nL (some .boolean) own) (hK : va_K D cl2 tys s) (hh : HH D (pic u) A s.heap H locs) (hn : narrow .boolean (.int v) = .int v) (hq : post v u) (hdg : decode cc pc = .ok (.ireturn, 1)) : W p l e R s m args below meth c H locs 0 0 (MQ below (va_Qi post (fun u t => va_P D cl2 (pic u) t.heap ∧ va_K D cl2 tys t ∧ va_D A (pic u)) A) args s 0 0 A) (F0 m pc ls [.int v]) :=
  W.zret C.1 C.2.1 C.2.2.1 hn (fun t ht hW => ⟨⟨_, u, rfl, hq, by rw [ht]; exact hh.1, va_K.moved hW.alike hK, hh.2.1⟩, hh.2.2.1.F ht⟩) hh.2.2.1.2.2 hdg C.2.2.2.2.2.2
theorem rd_retV {S : Type} {post : S → Prop} {pic : S → va_W} (u : S) (C : CX p s m args meth c cc nL none own) (hK : va_K D cl2 tys s) (hh : HH D (pic u) A s.heap H locs) (hq : post u) (hdg : decode cc pc = .ok (.return_, 1)) : W p l e R s m args below meth c H locs 0 0 (MQ below (va_Qv post (fun u t => va_P D cl2 (pic u) t.heap ∧ va_K D cl2 tys t ∧ va_D A (pic u)) A) args s 0 0 A) (F0 m pc ls []) :=
  W.vret C.1 C.2.1 C.2.2.1 (fun t ht hW => ⟨⟨u, rfl, hq, by rw [ht]; exact hh.1, va_K.moved hW.alike hK, hh.2.1⟩, hh.2.2.1.F ht⟩) hh.2.2.1.2.2 hdg C.2.2.2.2.2.2
end EN
section CA
variable {p : Program} {l : Launch} {e : Env} {R : Room} {s : State} {m : MethodId} {args : Array Value} {below : List Frame} {meth : Method} {c : Code} {H : Heap} {locs : List Loc} {cells slots : Nat} {Q : State → Prop}
variable {cc : ByteArray} {pc : Nat} {ls : Array Slot} {rest : List Value}
variable {nL nL' n index ci q0 b : Nat} {own : String} {ret ret' : Option FieldType} {D : va_G} {tys : List (ClassId × FieldType)} {A : Nat → Prop} {H0 : Heap} {y : MethodName} {cc' : ByteArray} {rm : Room} {w w1 w2 : va_W} {As st0 : List Value} {q : vw_C} {fs : List Value}
abbrev rd_Fit (y : MethodName) (C : String) (n : Nat) : Prop := y.cls = C ∧ y.cls ≠ "java/lang/invoke/MethodHandle" ∧ y.cls ≠ "java/lang/invoke/VarHandle" ∧ (parseMethodDescriptor y.desc).map (fun d => d.parameters.length) = some n
abbrev rd_Room (rm R : Room) (nL : Nat) : Prop := rm.frames + 1 ≤ R.frames ∧ 8 + (nL + 11) + rm.locals ≤ R.locals
theorem rd_blindP : FrameBlind (va_Pc As (fun U => va_P D cl2 w U.heap ∧ va_K D cl2 tys U)) := fun a U g mk q => by
  obtain ⟨q0, qP, qK⟩ := q
  exact ⟨q0, qP, va_K.moved (u := U) (U := U.calling g mk a) (Vm.Alike.refl U.vm) qK⟩
theorem rd_blindI {sz : Nat} : FrameBlind (va_Pc As (fun U => U.heap.size = sz ∧ va_P D cl2 w U.heap ∧ va_K D cl2 tys U ∧ va_D (fun _ => True) w)) := fun a U g mk q => by
  obtain ⟨q0, q1, qP, qK, qD⟩ := q
  exact ⟨q0, q1, qP, va_K.moved (u := U) (U := U.calling g mk a) (Vm.Alike.refl U.vm) qK, qD⟩
/-- a call through an object that changes nothing: C is the class's name, ci its number -/
theorem rd_callP {post : Int32 → Prop} (C : CX p s m args meth c cc nL ret own) (hK : va_K D cl2 tys s) (hP : va_P D cl2 w H) (hM : CtP l y cc' nL' ret' rm D tys w (.ref b :: As) post) (hG : GoodIn lw_all (wsV own index q.1 y (ws_ y cc' nL' ret'))) (hd : rd_Fit y q.1 n) (hn : As.length = n) (hrm : rm.cells = 0 ∧ rm.slots = 0) (hR : rd_Room rm R nL')
    (ci q0 : Nat) (hc : cl2[ci]? = some q) (he : w[q0]? = some (b, .inr (ci, fs))) (hst : st0 = As.reverse ++ .ref b :: rest) (hsz : ls.size = nL) (hW : (rest.map fun v => v.category).sum ≤ 8) (hcs : cells ≤ R.cells ∧ slots ≤ R.slots) (hdg : decode cc pc = .ok (.invokevirtual index, 3))
    (kk : ∀ r : Int32, post r → W p l e R s m args below meth c H locs cells slots Q (F0 m (pc + 3) ls (.int r :: rest))) : W p l e R s m args below meth c H locs cells slots Q (F0 m pc ls st0) := by
  subst hst
  exact vp_callSi (va_runV (As := As) (rest := rest) ⟨C.1, C.2.1, C.2.2.2.1, C.2.2.2.2.1, C.2.2.2.2.2.1⟩ hM (cwV n C.2.2.2.2.2.1 hG rfl hrm.1 hrm.2 hd hR) ⟨rd_blindP, va_recv hK hP hc he, fun U hU hW => ⟨rfl, by rw [hU]; exact hP, va_K.moved hW.alike hK⟩⟩ rfl hn hsz rfl (lv_room hW) hdg hcs).run kk
/-- a static call that touches no cell -/
theorem rd_callS {post : Int32 → Prop} (C : CX p s m args meth c cc nL ret own) (hM : CtP l y cc' nL' ret' rm D [] [] As post) (hK : va_K D cl2 [] s) (hG : GoodIn lw_all (va_wsS own index y (ws_ y cc' nL' ret'))) (hd : y.cls ≠ "java/lang/invoke/MethodHandle" ∧ y.cls ≠ "java/lang/invoke/VarHandle" ∧ (parseMethodDescriptor y.desc).map (fun d => d.parameters.length) = some n) (hn : As.length = n) (hrm : rm.cells = 0 ∧ rm.slots = 0) (hR : rd_Room rm R nL')
    (hst : st0 = As.reverse ++ rest) (hsz : ls.size = nL) (hW : (rest.map fun v => v.category).sum ≤ 8) (hcs : cells ≤ R.cells ∧ slots ≤ R.slots) (hdg : decode cc pc = .ok (.invokestatic index, 3))
    (kk : ∀ r : Int32, post r → W p l e R s m args below meth c H locs cells slots Q (F0 m (pc + 3) ls (.int r :: rest))) : W p l e R s m args below meth c H locs cells slots Q (F0 m pc ls st0) := by
  subst hst
  exact vp_callSi (va_runS (As := As) (rest := rest) ⟨C.1, C.2.1, C.2.2.2.1, C.2.2.2.2.1, C.2.2.2.2.2.1⟩ hM (va_cwS n C.2.2.2.2.2.1 hG rfl hrm.1 hrm.2 hd hR) ⟨rd_blindP, fun U hU hW => ⟨rfl, fun k q h => by simp at h, va_K.moved hW.alike hK⟩⟩ rfl hn hsz rfl (lv_room hW) hdg hcs).run kk
theorem rd_left (h : HH D (w1 ++ w2) A H0 H locs) : va_P D cl2 w1 H ∧ va_D A w1 := by
  have e : ∀ (k : Nat) (q : Nat × va_E), w1[k]? = some q → (w1 ++ w2)[k]? = some q := fun k q hk => by
    rw [List.getElem?_append_left (List.getElem?_eq_some_iff.mp hk).1]; exact hk
  exact ⟨fun k q hk => h.1 k q (e k q hk), ⟨fun i j x y hi hj => h.2.1.1 i j x y (e i x hi) (e j y hj), fun k q hk => h.2.1.2 k q (e k q hk)⟩⟩
theorem rd_right (h : HH D (w1 ++ w2) A H0 H locs) : va_P D cl2 w2 H ∧ va_D A w2 := by
  have e : ∀ (k : Nat) (q : Nat × va_E), w2[k]? = some q → (w1 ++ w2)[w1.length + k]? = some q := fun k q hk => by
    rw [List.getElem?_append_right (by omega), Nat.add_sub_cancel_left]; exact hk
  exact ⟨fun k q hk => h.1 _ q (e k q hk), ⟨fun i j x y hi hj hxy => by have := h.2.1.1 _ _ x y (e i x hi) (e j y hj) hxy; omega, fun k q hk => h.2.1.2 _ q (e k q hk)⟩⟩
theorem rd_apart (h : HH D (w1 ++ w2) A H0 H locs) {i j : Nat} {x y : Nat × va_E} (hi : w1[i]? = some x) (hj : w2[j]? = some y) : x.1 ≠ y.1 := fun hxy => by
  have hl := (List.getElem?_eq_some_iff.mp hi).1
  have := h.2.1.1 i (w1.length + j) x y (by rw [List.getElem?_append_left hl]; exact hi) (by rw [List.getElem?_append_right (by omega), Nat.add_sub_cancel_left]; exact hj) hxy
  omega
theorem rd_swap (h : HH D (w1 ++ w2) A H0 H locs) : HH D (w2 ++ w1) A H0 H locs :=
  ⟨va_P.app (rd_right h).1 (rd_left h).1, va_D.app (rd_right h).2 (rd_left h).2 (fun i j x y hi hj hxy => rd_apart h hj hi hxy.symm), h.2.2.1, h.2.2.2⟩
theorem rd_freeW (hD : va_D A w) (hS : va_S A H0 H locs) (hA : ∀ q, H0.size ≤ q → A q) : ∀ q, va_A w H.size q → A q := fun q h => by
  rcases h with ⟨k, e, h⟩ | h
  · exact hD.2 k (q, e) h
  · exact hA q (Nat.le_trans hS.1 h)
theorem rd_back {w1' : va_W} {H1 : Heap} {locs1 : List Loc} (hh : HH D (w1 ++ w2) A H0 H locs) (hP1 : va_P D cl2 w1' H1) (hD1 : va_D (va_A w1 H.size) w1') (hk : ∀ q : Nat, q < H.size → ¬ va_A w1 H.size q → H1[q]? = H[q]?) (hS : va_S A H0 H1 locs1) : HH D (w1' ++ w2) A H0 H1 locs1 := by
  have hl := rd_left hh
  have hr := rd_right hh
  have apart : ∀ (j : Nat) (y : Nat × va_E), w2[j]? = some y → y.1 < H.size ∧ ¬ va_A w1 H.size y.1 := fun j y hj => by
    have h1 := (hr.1 j y hj).lt
    refine ⟨h1, fun h => ?_⟩
    rcases h with ⟨k, e, h⟩ | h
    · exact rd_apart hh h hj rfl
    · omega
  refine ⟨va_P.app hP1 (hr.1.kept fun j y hj => hk y.1 (apart j y hj).1 (apart j y hj).2), va_D.app (hD1.weaken fun k q _ h => rd_freeW hl.2 hh.2.2.1 hh.2.2.2 _ h) hr.2 (fun i j x y hi hj hxy => (apart j y hj).2 (by rw [← hxy]; exact hD1.2 i x hi)), hS, hh.2.2.2⟩
/-- a call on an object whose world w1 stands first in the caller's world -/
theorem rd_callL {S : Type} {post : Int32 → S → Prop} {pic : S → va_W} (C : CX p s m args meth c cc nL ret own) (hK : va_K D cl2 tys s) (hh : HH D (w1 ++ w2) A H0 H locs) (hM : CtI l y cc' nL' ret' rm D tys w1 (.ref b :: As) post pic) (hG : GoodIn lw_all (wsV own index q.1 y (ws_ y cc' nL' ret'))) (hd : rd_Fit y q.1 n) (hn : As.length = n) (hrm : rm.cells = 0 ∧ rm.slots = 0) (hR : rd_Room rm R nL')
    (ci q0 : Nat) (hc : cl2[ci]? = some q) (he : w1[q0]? = some (b, .inr (ci, fs))) (hst : st0 = As.reverse ++ .ref b :: rest) (hsz : ls.size = nL) (hW : (rest.map fun v => v.category).sum ≤ 8) (hcs : cells ≤ R.cells ∧ slots ≤ R.slots) (hdg : decode cc pc = .ok (.invokevirtual index, 3))
    (kk : ∀ (r : Int32) (u : S) (H1 : Heap) (locs1 : List Loc), post r u → HH D (pic u ++ w2) A H0 H1 locs1 → W p l e R s m args below meth c H1 locs1 cells slots Q (F0 m (pc + 3) ls (.int r :: rest))) : W p l e R s m args below meth c H locs cells slots Q (F0 m pc ls st0) := by
  subst hst
  have hl := rd_left hh
  have hF := rd_freeW hl.2 hh.2.2.1 hh.2.2.2
  refine va_calli (va_runV (As := As) (rest := rest) ⟨C.1, C.2.1, C.2.2.2.1, C.2.2.2.2.1, C.2.2.2.2.2.1⟩ (hM H.size) (cwV n C.2.2.2.2.2.1 hG rfl hrm.1 hrm.2 hd hR) ⟨rd_blindI, va_recv hK hl.1 hc he, fun U hU hW => ⟨rfl, by rw [hU], by rw [hU]; exact hl.1, va_K.moved hW.alike hK, hl.2.weaken (fun _ _ _ _ => trivial)⟩⟩ rfl hn hsz rfl (lv_room hW) hdg hcs) hh.2.2.1 (fun q _ h => hF q h) hF (fun r u t H1 locs1 ht hvm hq hB hz1 hk1 hS => ?_)
  rw [ht] at hB
  exact kk r u H1 locs1 hq (rd_back hh hB.1 hB.2.2 hk1 hS)
theorem rd_callLv {S : Type} {post : S → Prop} {pic : S → va_W} (C : CX p s m args meth c cc nL ret own) (hK : va_K D cl2 tys s) (hh : HH D (w1 ++ w2) A H0 H locs) (hM : CtV l y cc' nL' rm D tys w1 (.ref b :: As) post pic) (hG : GoodIn lw_all (wsV own index q.1 y (ws_ y cc' nL' none))) (hd : rd_Fit y q.1 n) (hn : As.length = n) (hrm : rm.cells = 0 ∧ rm.slots = 0) (hR : rd_Room rm R nL')
    (ci q0 : Nat) (hc : cl2[ci]? = some q) (he : w1[q0]? = some (b, .inr (ci, fs))) (hst : st0 = As.reverse ++ .ref b :: rest) (hsz : ls.size = nL) (hW : (rest.map fun v => v.category).sum ≤ 8) (hcs : cells ≤ R.cells ∧ slots ≤ R.slots) (hdg : decode cc pc = .ok (.invokevirtual index, 3))
    (kk : ∀ (u : S) (H1 : Heap) (locs1 : List Loc), post u → HH D (pic u ++ w2) A H0 H1 locs1 → W p l e R s m args below meth c H1 locs1 cells slots Q (F0 m (pc + 3) ls rest)) : W p l e R s m args below meth c H locs cells slots Q (F0 m pc ls st0) := by
  subst hst
  have hl := rd_left hh
  have hF := rd_freeW hl.2 hh.2.2.1 hh.2.2.2
  refine va_callv (va_runV (As := As) (rest := rest) ⟨C.1, C.2.1, C.2.2.2.1, C.2.2.2.2.1, C.2.2.2.2.2.1⟩ (hM H.size) (cwV n C.2.2.2.2.2.1 hG rfl hrm.1 hrm.2 hd hR) ⟨rd_blindI, va_recv hK hl.1 hc he, fun U hU hW => ⟨rfl, by rw [hU], by rw [hU]; exact hl.1, va_K.moved hW.alike hK, hl.2.weaken (fun _ _ _ _ => trivial)⟩⟩ rfl hn hsz rfl (lv_room hW) hdg hcs) hh.2.2.1 (fun q _ h => hF q h) hF (fun u t H1 locs1 ht hvm hq hB hz1 hk1 hS => ?_)
  rw [ht] at hB
  exact kk u H1 locs1 hq (rd_back hh hB.1 hB.2.2 hk1 hS)
theorem rd_nil : HH D (w ++ []) A H0 H locs ↔ HH D w A H0 H locs := by rw [List.append_nil]
/-- a call on the own object: the whole world is the callee's -/
theorem rd_callI {S : Type} {post : Int32 → S → Prop} {pic : S → va_W} (C : CX p s m args meth c cc nL ret own) (hK : va_K D cl2 tys s) (hh : HH D w A H0 H locs) (hM : CtI l y cc' nL' ret' rm D tys w (.ref b :: As) post pic) (hG : GoodIn lw_all (wsV own index q.1 y (ws_ y cc' nL' ret'))) (hd : rd_Fit y q.1 n) (hn : As.length = n) (hrm : rm.cells = 0 ∧ rm.slots = 0) (hR : rd_Room rm R nL')
    (ci q0 : Nat) (hc : cl2[ci]? = some q) (he : w[q0]? = some (b, .inr (ci, fs))) (hst : st0 = As.reverse ++ .ref b :: rest) (hsz : ls.size = nL) (hW : (rest.map fun v => v.category).sum ≤ 8) (hcs : cells ≤ R.cells ∧ slots ≤ R.slots) (hdg : decode cc pc = .ok (.invokevirtual index, 3))
    (kk : ∀ (r : Int32) (u : S) (H1 : Heap) (locs1 : List Loc), post r u → HH D (pic u) A H0 H1 locs1 → W p l e R s m args below meth c H1 locs1 cells slots Q (F0 m (pc + 3) ls (.int r :: rest))) : W p l e R s m args below meth c H locs cells slots Q (F0 m pc ls st0) :=
  rd_callL C hK (rd_nil.mpr hh) hM hG hd hn hrm hR ci q0 hc he hst hsz hW hcs hdg (fun r u H1 locs1 hq h => kk r u H1 locs1 hq (rd_nil.mp h))
theorem rd_callIv {S : Type} {post : S → Prop} {pic : S → va_W} (C : CX p s m args meth c cc nL ret own) (hK : va_K D cl2 tys s) (hh : HH D w A H0 H locs) (hM : CtV l y cc' nL' rm D tys w (.ref b :: As) post pic) (hG : GoodIn lw_all (wsV own index q.1 y (ws_ y cc' nL' none))) (hd : rd_Fit y q.1 n) (hn : As.length = n) (hrm : rm.cells = 0 ∧ rm.slots = 0) (hR : rd_Room rm R nL')
    (ci q0 : Nat) (hc : cl2[ci]? = some q) (he : w[q0]? = some (b, .inr (ci, fs))) (hst : st0 = As.reverse ++ .ref b :: rest) (hsz : ls.size = nL) (hW : (rest.map fun v => v.category).sum ≤ 8) (hcs : cells ≤ R.cells ∧ slots ≤ R.slots) (hdg : decode cc pc = .ok (.invokevirtual index, 3))
    (kk : ∀ (u : S) (H1 : Heap) (locs1 : List Loc), post u → HH D (pic u) A H0 H1 locs1 → W p l e R s m args below meth c H1 locs1 cells slots Q (F0 m (pc + 3) ls rest)) : W p l e R s m args below meth c H locs cells slots Q (F0 m pc ls st0) :=
  rd_callLv C hK (rd_nil.mpr hh) hM hG hd hn hrm hR ci q0 hc he hst hsz hW hcs hdg (fun u H1 locs1 hq h => kk u H1 locs1 hq (rd_nil.mp h))
end CA
/-- the desk: its fields present, costs, limits, periods, order, count, below, among and its six arrays -/
def dkW (q : Nat → Nat) (K : Nat → ClassId) (pr n : Nat) (c l p o : Nat → Nat) (b a : Nat → Int32) : va_W := [(q 0, .inr (0, [.int (nI pr), .ref (q 1), .ref (q 2), .ref (q 3), .ref (q 4), .int (nI n), .ref (q 5), .ref (q 6)])), (q 1, .inl (K 1, 5, .inl (fun j => nI (c j)))), (q 2, .inl (K 2, 5, .inl (fun j => nI (l j)))), (q 3, .inl (K 3, 5, .inl (fun j => nI (p j)))), (q 4, .inl (K 4, 5, .inl (fun j => nI (o j)))), (q 5, .inl (K 5, 32, .inl b)), (q 6, .inl (K 6, 32, .inl a))]
def dtys (K : Nat → ClassId) : List (ClassId × FieldType) := [(K 1, .byte), (K 2, .byte), (K 3, .byte), (K 4, .byte), (K 5, .int), (K 6, .int)]
/-- the model: there (as a mask), costs, limits, periods, size, order, row, left, given -/
def mdW (q : Nat → Nat) (K : Nat → ClassId) (pr : Nat) (c l p : Nat → Nat) (n : Nat) (o r f g : Nat → Nat) : va_W := [(q 0, .inr (1, [.ref (q 1), .ref (q 2), .ref (q 3), .ref (q 4), .int (nI n), .ref (q 5), .ref (q 6), .ref (q 7), .ref (q 8)])), (q 1, .inl (K 1, 5, .inl (fun j => bI (pr.testBit j)))), (q 2, .inl (K 2, 5, .inl (fun j => nI (c j)))), (q 3, .inl (K 3, 5, .inl (fun j => nI (l j)))), (q 4, .inl (K 4, 5, .inl (fun j => nI (p j)))), (q 5, .inl (K 5, 5, .inl (fun j => nI (o j)))), (q 6, .inl (K 6, 5, .inl (fun j => nI (r j)))), (q 7, .inl (K 7, 5, .inl (fun j => nI (f j)))), (q 8, .inl (K 8, 5, .inl (fun j => nI (g j))))]
def mtys (K : Nat → ClassId) : List (ClassId × FieldType) := [(K 1, .boolean), (K 2, .int), (K 3, .int), (K 4, .int), (K 5, .int), (K 6, .int), (K 7, .int), (K 8, .int)]
section FD
variable {p : Program} {l : Launch} {e : Env} {R : Room} {s : State} {m : MethodId} {args : Array Value} {below : List Frame} {meth : Method} {c : Code} {H : Heap} {locs : List Loc} {cells slots : Nat} {Q : State → Prop}
variable {cc : ByteArray} {pc : Nat} {ls : Array Slot} {rest : List Value}
variable {nL : Nat} {ret : Option FieldType} {D : va_G} {A : Nat → Prop} {H0 : Heap} {q : Nat → Nat} {K : Nat → ClassId} {pr n : Nat} {fc fl fp fo fr ff fg : Nat → Nat} {fb fa : Nat → Int32}
theorem dg_present (C : CX p s m args meth c cc nL ret RX0) (hK : va_K D cl2 (dtys K) s) (hP : va_P D cl2 (dkW q K pr n fc fl fp fo fb fa) H) (hdg : decode cc pc = .ok (.getfield 29, 3))
    (k : W p l e R s m args below meth c H locs cells slots Q (F0 m (pc + 3) ls (.int (nI pr) :: rest))) : W p l e R s m args below meth c H locs cells slots Q (F0 m pc ls (.ref (q 0) :: rest)) :=
  va_get (D := D) (ci := 0) (v := .int (nI pr)) (C := RX0) (T := TX0) (N := 8) C.1 C.2.1 C.2.2.2.2.2.1 in_X0 C.2.2.2.2.1 hK hP 0 rfl rfl 0 (by decide) (C.2.2.2.2.2.1 _ q32) (fun _ h9 => h9) rfl hdg k
theorem dg_costs (C : CX p s m args meth c cc nL ret RX0) (hK : va_K D cl2 (dtys K) s) (hP : va_P D cl2 (dkW q K pr n fc fl fp fo fb fa) H) (hdg : decode cc pc = .ok (.getfield 7, 3))
    (k : W p l e R s m args below meth c H locs cells slots Q (F0 m (pc + 3) ls (.ref (q 1) :: rest))) : W p l e R s m args below meth c H locs cells slots Q (F0 m pc ls (.ref (q 0) :: rest)) :=
  va_get (D := D) (ci := 0) (v := .ref (q 1)) (C := RX0) (T := TX0) (N := 8) C.1 C.2.1 C.2.2.2.2.2.1 in_X0 C.2.2.2.2.1 hK hP 0 rfl rfl 1 (by decide) (C.2.2.2.2.2.1 _ q33) (fun _ h9 => h9) rfl hdg k
theorem dg_limits (C : CX p s m args meth c cc nL ret RX0) (hK : va_K D cl2 (dtys K) s) (hP : va_P D cl2 (dkW q K pr n fc fl fp fo fb fa) H) (hdg : decode cc pc = .ok (.getfield 13, 3))
    (k : W p l e R s m args below meth c H locs cells slots Q (F0 m (pc + 3) ls (.ref (q 2) :: rest))) : W p l e R s m args below meth c H locs cells slots Q (F0 m pc ls (.ref (q 0) :: rest)) :=
  va_get (D := D) (ci := 0) (v := .ref (q 2)) (C := RX0) (T := TX0) (N := 8) C.1 C.2.1 C.2.2.2.2.2.1 in_X0 C.2.2.2.2.1 hK hP 0 rfl rfl 2 (by decide) (C.2.2.2.2.2.1 _ q34) (fun _ h9 => h9) rfl hdg k
theorem dg_periods (C : CX p s m args meth c cc nL ret RX0) (hK : va_K D cl2 (dtys K) s) (hP : va_P D cl2 (dkW q K pr n fc fl fp fo fb fa) H) (hdg : decode cc pc = .ok (.getfield 16, 3))
    (k : W p l e R s m args below meth c H locs cells slots Q (F0 m (pc + 3) ls (.ref (q 3) :: rest))) : W p l e R s m args below meth c H locs cells slots Q (F0 m pc ls (.ref (q 0) :: rest)) :=
  va_get (D := D) (ci := 0) (v := .ref (q 3)) (C := RX0) (T := TX0) (N := 8) C.1 C.2.1 C.2.2.2.2.2.1 in_X0 C.2.2.2.2.1 hK hP 0 rfl rfl 3 (by decide) (C.2.2.2.2.2.1 _ q35) (fun _ h9 => h9) rfl hdg k
theorem dg_order (C : CX p s m args meth c cc nL ret RX0) (hK : va_K D cl2 (dtys K) s) (hP : va_P D cl2 (dkW q K pr n fc fl fp fo fb fa) H) (hdg : decode cc pc = .ok (.getfield 19, 3))
    (k : W p l e R s m args below meth c H locs cells slots Q (F0 m (pc + 3) ls (.ref (q 4) :: rest))) : W p l e R s m args below meth c H locs cells slots Q (F0 m pc ls (.ref (q 0) :: rest)) :=
  va_get (D := D) (ci := 0) (v := .ref (q 4)) (C := RX0) (T := TX0) (N := 8) C.1 C.2.1 C.2.2.2.2.2.1 in_X0 C.2.2.2.2.1 hK hP 0 rfl rfl 4 (by decide) (C.2.2.2.2.2.1 _ q36) (fun _ h9 => h9) rfl hdg k
theorem dg_count (C : CX p s m args meth c cc nL ret RX0) (hK : va_K D cl2 (dtys K) s) (hP : va_P D cl2 (dkW q K pr n fc fl fp fo fb fa) H) (hdg : decode cc pc = .ok (.getfield 41, 3))
    (k : W p l e R s m args below meth c H locs cells slots Q (F0 m (pc + 3) ls (.int (nI n) :: rest))) : W p l e R s m args below meth c H locs cells slots Q (F0 m pc ls (.ref (q 0) :: rest)) :=
  va_get (D := D) (ci := 0) (v := .int (nI n)) (C := RX0) (T := TX0) (N := 8) C.1 C.2.1 C.2.2.2.2.2.1 in_X0 C.2.2.2.2.1 hK hP 0 rfl rfl 5 (by decide) (C.2.2.2.2.2.1 _ q37) (fun _ h9 => h9) rfl hdg k
theorem dg_below (C : CX p s m args meth c cc nL ret RX0) (hK : va_K D cl2 (dtys K) s) (hP : va_P D cl2 (dkW q K pr n fc fl fp fo fb fa) H) (hdg : decode cc pc = .ok (.getfield 22, 3))
    (k : W p l e R s m args below meth c H locs cells slots Q (F0 m (pc + 3) ls (.ref (q 5) :: rest))) : W p l e R s m args below meth c H locs cells slots Q (F0 m pc ls (.ref (q 0) :: rest)) :=
  va_get (D := D) (ci := 0) (v := .ref (q 5)) (C := RX0) (T := TX0) (N := 8) C.1 C.2.1 C.2.2.2.2.2.1 in_X0 C.2.2.2.2.1 hK hP 0 rfl rfl 6 (by decide) (C.2.2.2.2.2.1 _ q38) (fun _ h9 => h9) rfl hdg k
theorem dg_among (C : CX p s m args meth c cc nL ret RX0) (hK : va_K D cl2 (dtys K) s) (hP : va_P D cl2 (dkW q K pr n fc fl fp fo fb fa) H) (hdg : decode cc pc = .ok (.getfield 26, 3))
    (k : W p l e R s m args below meth c H locs cells slots Q (F0 m (pc + 3) ls (.ref (q 6) :: rest))) : W p l e R s m args below meth c H locs cells slots Q (F0 m pc ls (.ref (q 0) :: rest)) :=
  va_get (D := D) (ci := 0) (v := .ref (q 6)) (C := RX0) (T := TX0) (N := 8) C.1 C.2.1 C.2.2.2.2.2.1 in_X0 C.2.2.2.2.1 hK hP 0 rfl rfl 7 (by decide) (C.2.2.2.2.2.1 _ q39) (fun _ h9 => h9) rfl hdg k
theorem mg_there (C : CX p s m args meth c cc nL ret RX1) (hK : va_K D cl2 (mtys K) s) (hP : va_P D cl2 (mdW q K pr fc fl fp n fo fr ff fg) H) (hdg : decode cc pc = .ok (.getfield 7, 3))
    (k : W p l e R s m args below meth c H locs cells slots Q (F0 m (pc + 3) ls (.ref (q 1) :: rest))) : W p l e R s m args below meth c H locs cells slots Q (F0 m pc ls (.ref (q 0) :: rest)) :=
  va_get (D := D) (ci := 1) (v := .ref (q 1)) (C := RX1) (T := TX1) (N := 9) C.1 C.2.1 C.2.2.2.2.2.1 in_X1 C.2.2.2.2.1 hK hP 0 rfl rfl 0 (by decide) (C.2.2.2.2.2.1 _ q168) (fun _ h9 => h9) rfl hdg k
theorem mg_costs (C : CX p s m args meth c cc nL ret RX1) (hK : va_K D cl2 (mtys K) s) (hP : va_P D cl2 (mdW q K pr fc fl fp n fo fr ff fg) H) (hdg : decode cc pc = .ok (.getfield 13, 3))
    (k : W p l e R s m args below meth c H locs cells slots Q (F0 m (pc + 3) ls (.ref (q 2) :: rest))) : W p l e R s m args below meth c H locs cells slots Q (F0 m pc ls (.ref (q 0) :: rest)) :=
  va_get (D := D) (ci := 1) (v := .ref (q 2)) (C := RX1) (T := TX1) (N := 9) C.1 C.2.1 C.2.2.2.2.2.1 in_X1 C.2.2.2.2.1 hK hP 0 rfl rfl 1 (by decide) (C.2.2.2.2.2.1 _ q169) (fun _ h9 => h9) rfl hdg k
theorem mg_limits (C : CX p s m args meth c cc nL ret RX1) (hK : va_K D cl2 (mtys K) s) (hP : va_P D cl2 (mdW q K pr fc fl fp n fo fr ff fg) H) (hdg : decode cc pc = .ok (.getfield 17, 3))
    (k : W p l e R s m args below meth c H locs cells slots Q (F0 m (pc + 3) ls (.ref (q 3) :: rest))) : W p l e R s m args below meth c H locs cells slots Q (F0 m pc ls (.ref (q 0) :: rest)) :=
  va_get (D := D) (ci := 1) (v := .ref (q 3)) (C := RX1) (T := TX1) (N := 9) C.1 C.2.1 C.2.2.2.2.2.1 in_X1 C.2.2.2.2.1 hK hP 0 rfl rfl 2 (by decide) (C.2.2.2.2.2.1 _ q170) (fun _ h9 => h9) rfl hdg k
theorem mg_periods (C : CX p s m args meth c cc nL ret RX1) (hK : va_K D cl2 (mtys K) s) (hP : va_P D cl2 (mdW q K pr fc fl fp n fo fr ff fg) H) (hdg : decode cc pc = .ok (.getfield 20, 3))
    (k : W p l e R s m args below meth c H locs cells slots Q (F0 m (pc + 3) ls (.ref (q 4) :: rest))) : W p l e R s m args below meth c H locs cells slots Q (F0 m pc ls (.ref (q 0) :: rest)) :=
  va_get (D := D) (ci := 1) (v := .ref (q 4)) (C := RX1) (T := TX1) (N := 9) C.1 C.2.1 C.2.2.2.2.2.1 in_X1 C.2.2.2.2.1 hK hP 0 rfl rfl 3 (by decide) (C.2.2.2.2.2.1 _ q171) (fun _ h9 => h9) rfl hdg k
theorem mg_size (C : CX p s m args meth c cc nL ret RX1) (hK : va_K D cl2 (mtys K) s) (hP : va_P D cl2 (mdW q K pr fc fl fp n fo fr ff fg) H) (hdg : decode cc pc = .ok (.getfield 39, 3))
    (k : W p l e R s m args below meth c H locs cells slots Q (F0 m (pc + 3) ls (.int (nI n) :: rest))) : W p l e R s m args below meth c H locs cells slots Q (F0 m pc ls (.ref (q 0) :: rest)) :=
  va_get (D := D) (ci := 1) (v := .int (nI n)) (C := RX1) (T := TX1) (N := 9) C.1 C.2.1 C.2.2.2.2.2.1 in_X1 C.2.2.2.2.1 hK hP 0 rfl rfl 4 (by decide) (C.2.2.2.2.2.1 _ q172) (fun _ h9 => h9) rfl hdg k
theorem mg_order (C : CX p s m args meth c cc nL ret RX1) (hK : va_K D cl2 (mtys K) s) (hP : va_P D cl2 (mdW q K pr fc fl fp n fo fr ff fg) H) (hdg : decode cc pc = .ok (.getfield 23, 3))
    (k : W p l e R s m args below meth c H locs cells slots Q (F0 m (pc + 3) ls (.ref (q 5) :: rest))) : W p l e R s m args below meth c H locs cells slots Q (F0 m pc ls (.ref (q 0) :: rest)) :=
  va_get (D := D) (ci := 1) (v := .ref (q 5)) (C := RX1) (T := TX1) (N := 9) C.1 C.2.1 C.2.2.2.2.2.1 in_X1 C.2.2.2.2.1 hK hP 0 rfl rfl 5 (by decide) (C.2.2.2.2.2.1 _ q173) (fun _ h9 => h9) rfl hdg k
theorem mg_row (C : CX p s m args meth c cc nL ret RX1) (hK : va_K D cl2 (mtys K) s) (hP : va_P D cl2 (mdW q K pr fc fl fp n fo fr ff fg) H) (hdg : decode cc pc = .ok (.getfield 26, 3))
    (k : W p l e R s m args below meth c H locs cells slots Q (F0 m (pc + 3) ls (.ref (q 6) :: rest))) : W p l e R s m args below meth c H locs cells slots Q (F0 m pc ls (.ref (q 0) :: rest)) :=
  va_get (D := D) (ci := 1) (v := .ref (q 6)) (C := RX1) (T := TX1) (N := 9) C.1 C.2.1 C.2.2.2.2.2.1 in_X1 C.2.2.2.2.1 hK hP 0 rfl rfl 6 (by decide) (C.2.2.2.2.2.1 _ q174) (fun _ h9 => h9) rfl hdg k
theorem mg_left (C : CX p s m args meth c cc nL ret RX1) (hK : va_K D cl2 (mtys K) s) (hP : va_P D cl2 (mdW q K pr fc fl fp n fo fr ff fg) H) (hdg : decode cc pc = .ok (.getfield 29, 3))
    (k : W p l e R s m args below meth c H locs cells slots Q (F0 m (pc + 3) ls (.ref (q 7) :: rest))) : W p l e R s m args below meth c H locs cells slots Q (F0 m pc ls (.ref (q 0) :: rest)) :=
  va_get (D := D) (ci := 1) (v := .ref (q 7)) (C := RX1) (T := TX1) (N := 9) C.1 C.2.1 C.2.2.2.2.2.1 in_X1 C.2.2.2.2.1 hK hP 0 rfl rfl 7 (by decide) (C.2.2.2.2.2.1 _ q175) (fun _ h9 => h9) rfl hdg k
theorem mg_given (C : CX p s m args meth c cc nL ret RX1) (hK : va_K D cl2 (mtys K) s) (hP : va_P D cl2 (mdW q K pr fc fl fp n fo fr ff fg) H) (hdg : decode cc pc = .ok (.getfield 32, 3))
    (k : W p l e R s m args below meth c H locs cells slots Q (F0 m (pc + 3) ls (.ref (q 8) :: rest))) : W p l e R s m args below meth c H locs cells slots Q (F0 m pc ls (.ref (q 0) :: rest)) :=
  va_get (D := D) (ci := 1) (v := .ref (q 8)) (C := RX1) (T := TX1) (N := 9) C.1 C.2.1 C.2.2.2.2.2.1 in_X1 C.2.2.2.2.1 hK hP 0 rfl rfl 8 (by decide) (C.2.2.2.2.2.1 _ q176) (fun _ h9 => h9) rfl hdg k
theorem dp_present (C : CX p s m args meth c cc nL ret RX0) (hK : va_K D cl2 (dtys K) s) (hh : HH D (dkW q K pr n fc fl fp fo fb fa) A H0 H locs) {v : Nat} (hdg : decode cc pc = .ok (.putfield 29, 3))
    (k : ∀ (H1 : Heap) (locs1 : List Loc), HH D (dkW q K v n fc fl fp fo fb fa) A H0 H1 locs1 → W p l e R s m args below meth c H1 locs1 cells slots Q (F0 m (pc + 3) ls rest)) : W p l e R s m args below meth c H locs cells slots Q (F0 m pc ls (.int (nI v) :: .ref (q 0) :: rest)) :=
  va_put (D := D) (ci := 0) (v := .int (nI v)) (ty := .int) (C := RX0) (T := TX0) (N := 8) C.1 C.2.1 C.2.2.2.2.2.1 in_X0 tyX0 tyX0_ok nmX0 C.2.2.2.2.1 hK hh.1 hh.2.1 hh.2.2.1 0 rfl rfl 0 (by decide) (C.2.2.2.2.2.1 _ q32) (fun _ h9 => h9) rfl (by decide +kernel) rfl rfl (Nat.le_of_ble_eq_true rfl) hdg (fun H1 locs1 hP hD hS => k H1 locs1 ⟨hP, hD, hS, hh.2.2.2⟩)
theorem dp_count (C : CX p s m args meth c cc nL ret RX0) (hK : va_K D cl2 (dtys K) s) (hh : HH D (dkW q K pr n fc fl fp fo fb fa) A H0 H locs) {v : Nat} (hdg : decode cc pc = .ok (.putfield 41, 3))
    (k : ∀ (H1 : Heap) (locs1 : List Loc), HH D (dkW q K pr v fc fl fp fo fb fa) A H0 H1 locs1 → W p l e R s m args below meth c H1 locs1 cells slots Q (F0 m (pc + 3) ls rest)) : W p l e R s m args below meth c H locs cells slots Q (F0 m pc ls (.int (nI v) :: .ref (q 0) :: rest)) :=
  va_put (D := D) (ci := 0) (v := .int (nI v)) (ty := .int) (C := RX0) (T := TX0) (N := 8) C.1 C.2.1 C.2.2.2.2.2.1 in_X0 tyX0 tyX0_ok nmX0 C.2.2.2.2.1 hK hh.1 hh.2.1 hh.2.2.1 0 rfl rfl 5 (by decide) (C.2.2.2.2.2.1 _ q37) (fun _ h9 => h9) rfl (by decide +kernel) rfl rfl (Nat.le_of_ble_eq_true rfl) hdg (fun H1 locs1 hP hD hS => k H1 locs1 ⟨hP, hD, hS, hh.2.2.2⟩)
theorem mp_size (C : CX p s m args meth c cc nL ret RX1) (hK : va_K D cl2 (mtys K) s) (hh : HH D (mdW q K pr fc fl fp n fo fr ff fg) A H0 H locs) {v : Nat} (hdg : decode cc pc = .ok (.putfield 39, 3))
    (k : ∀ (H1 : Heap) (locs1 : List Loc), HH D (mdW q K pr fc fl fp v fo fr ff fg) A H0 H1 locs1 → W p l e R s m args below meth c H1 locs1 cells slots Q (F0 m (pc + 3) ls rest)) : W p l e R s m args below meth c H locs cells slots Q (F0 m pc ls (.int (nI v) :: .ref (q 0) :: rest)) :=
  va_put (D := D) (ci := 1) (v := .int (nI v)) (ty := .int) (C := RX1) (T := TX1) (N := 9) C.1 C.2.1 C.2.2.2.2.2.1 in_X1 tyX1 tyX1_ok nmX1 C.2.2.2.2.1 hK hh.1 hh.2.1 hh.2.2.1 0 rfl rfl 4 (by decide) (C.2.2.2.2.2.1 _ q172) (fun _ h9 => h9) rfl (by decide +kernel) rfl rfl (Nat.le_of_ble_eq_true rfl) hdg (fun H1 locs1 hP hD hS => k H1 locs1 ⟨hP, hD, hS, hh.2.2.2⟩)
theorem dl_costs (C : CX p s m args meth c cc nL ret RX0) (hK : va_K D cl2 (dtys K) s) (hP : va_P D cl2 (dkW q K pr n fc fl fp fo fb fa) H) {i : Nat} (hi : i < 5) (hdg : decode cc pc = .ok (.baload, 1))
    (k : W p l e R s m args below meth c H locs cells slots Q (F0 m (pc + 1) ls (.int (nI (fc i)) :: rest))) : W p l e R s m args below meth c H locs cells slots Q (F0 m pc ls (.int (nI i) :: .ref (q 1) :: rest)) := by
  refine va_bald C.1 C.2.1 hK hP 1 0 rfl rfl (vp_in_nI hi (by decide)) hdg ?_
  rw [nI_clamp (by omega)]
  exact k
theorem dl_limits (C : CX p s m args meth c cc nL ret RX0) (hK : va_K D cl2 (dtys K) s) (hP : va_P D cl2 (dkW q K pr n fc fl fp fo fb fa) H) {i : Nat} (hi : i < 5) (hdg : decode cc pc = .ok (.baload, 1))
    (k : W p l e R s m args below meth c H locs cells slots Q (F0 m (pc + 1) ls (.int (nI (fl i)) :: rest))) : W p l e R s m args below meth c H locs cells slots Q (F0 m pc ls (.int (nI i) :: .ref (q 2) :: rest)) := by
  refine va_bald C.1 C.2.1 hK hP 2 1 rfl rfl (vp_in_nI hi (by decide)) hdg ?_
  rw [nI_clamp (by omega)]
  exact k
theorem dl_periods (C : CX p s m args meth c cc nL ret RX0) (hK : va_K D cl2 (dtys K) s) (hP : va_P D cl2 (dkW q K pr n fc fl fp fo fb fa) H) {i : Nat} (hi : i < 5) (hdg : decode cc pc = .ok (.baload, 1))
    (k : W p l e R s m args below meth c H locs cells slots Q (F0 m (pc + 1) ls (.int (nI (fp i)) :: rest))) : W p l e R s m args below meth c H locs cells slots Q (F0 m pc ls (.int (nI i) :: .ref (q 3) :: rest)) := by
  refine va_bald C.1 C.2.1 hK hP 3 2 rfl rfl (vp_in_nI hi (by decide)) hdg ?_
  rw [nI_clamp (by omega)]
  exact k
theorem dl_order (C : CX p s m args meth c cc nL ret RX0) (hK : va_K D cl2 (dtys K) s) (hP : va_P D cl2 (dkW q K pr n fc fl fp fo fb fa) H) {i : Nat} (hi : i < 5) (hdg : decode cc pc = .ok (.baload, 1))
    (k : W p l e R s m args below meth c H locs cells slots Q (F0 m (pc + 1) ls (.int (nI (fo i)) :: rest))) : W p l e R s m args below meth c H locs cells slots Q (F0 m pc ls (.int (nI i) :: .ref (q 4) :: rest)) := by
  refine va_bald C.1 C.2.1 hK hP 4 3 rfl rfl (vp_in_nI hi (by decide)) hdg ?_
  rw [nI_clamp (by omega)]
  exact k
theorem dl_below (C : CX p s m args meth c cc nL ret RX0) (hK : va_K D cl2 (dtys K) s) (hP : va_P D cl2 (dkW q K pr n fc fl fp fo fb fa) H) {i : Nat} (hi : i < 32) (hdg : decode cc pc = .ok (.iaload, 1))
    (k : W p l e R s m args below meth c H locs cells slots Q (F0 m (pc + 1) ls (.int (fb i) :: rest))) : W p l e R s m args below meth c H locs cells slots Q (F0 m pc ls (.int (nI i) :: .ref (q 5) :: rest)) := by
  refine va_iald C.1 C.2.1 hK hP 5 4 rfl rfl (vp_in_nI hi (by decide)) hdg ?_
  rw [nI_clamp (by omega)]
  exact k
theorem dl_among (C : CX p s m args meth c cc nL ret RX0) (hK : va_K D cl2 (dtys K) s) (hP : va_P D cl2 (dkW q K pr n fc fl fp fo fb fa) H) {i : Nat} (hi : i < 32) (hdg : decode cc pc = .ok (.iaload, 1))
    (k : W p l e R s m args below meth c H locs cells slots Q (F0 m (pc + 1) ls (.int (fa i) :: rest))) : W p l e R s m args below meth c H locs cells slots Q (F0 m pc ls (.int (nI i) :: .ref (q 6) :: rest)) := by
  refine va_iald C.1 C.2.1 hK hP 6 5 rfl rfl (vp_in_nI hi (by decide)) hdg ?_
  rw [nI_clamp (by omega)]
  exact k
theorem ml_there (C : CX p s m args meth c cc nL ret RX1) (hK : va_K D cl2 (mtys K) s) (hP : va_P D cl2 (mdW q K pr fc fl fp n fo fr ff fg) H) {i : Nat} (hi : i < 5) (hdg : decode cc pc = .ok (.baload, 1))
    (k : W p l e R s m args below meth c H locs cells slots Q (F0 m (pc + 1) ls (.int (bI (pr.testBit i)) :: rest))) : W p l e R s m args below meth c H locs cells slots Q (F0 m pc ls (.int (nI i) :: .ref (q 1) :: rest)) := by
  refine va_zald C.1 C.2.1 hK hP 1 0 rfl rfl (vp_in_nI hi (by decide)) hdg ?_
  rw [nI_clamp (by omega)]
  exact k
theorem ml_costs (C : CX p s m args meth c cc nL ret RX1) (hK : va_K D cl2 (mtys K) s) (hP : va_P D cl2 (mdW q K pr fc fl fp n fo fr ff fg) H) {i : Nat} (hi : i < 5) (hdg : decode cc pc = .ok (.iaload, 1))
    (k : W p l e R s m args below meth c H locs cells slots Q (F0 m (pc + 1) ls (.int (nI (fc i)) :: rest))) : W p l e R s m args below meth c H locs cells slots Q (F0 m pc ls (.int (nI i) :: .ref (q 2) :: rest)) := by
  refine va_iald C.1 C.2.1 hK hP 2 1 rfl rfl (vp_in_nI hi (by decide)) hdg ?_
  rw [nI_clamp (by omega)]
  exact k
theorem ml_limits (C : CX p s m args meth c cc nL ret RX1) (hK : va_K D cl2 (mtys K) s) (hP : va_P D cl2 (mdW q K pr fc fl fp n fo fr ff fg) H) {i : Nat} (hi : i < 5) (hdg : decode cc pc = .ok (.iaload, 1))
    (k : W p l e R s m args below meth c H locs cells slots Q (F0 m (pc + 1) ls (.int (nI (fl i)) :: rest))) : W p l e R s m args below meth c H locs cells slots Q (F0 m pc ls (.int (nI i) :: .ref (q 3) :: rest)) := by
  refine va_iald C.1 C.2.1 hK hP 3 2 rfl rfl (vp_in_nI hi (by decide)) hdg ?_
  rw [nI_clamp (by omega)]
  exact k
theorem ml_periods (C : CX p s m args meth c cc nL ret RX1) (hK : va_K D cl2 (mtys K) s) (hP : va_P D cl2 (mdW q K pr fc fl fp n fo fr ff fg) H) {i : Nat} (hi : i < 5) (hdg : decode cc pc = .ok (.iaload, 1))
    (k : W p l e R s m args below meth c H locs cells slots Q (F0 m (pc + 1) ls (.int (nI (fp i)) :: rest))) : W p l e R s m args below meth c H locs cells slots Q (F0 m pc ls (.int (nI i) :: .ref (q 4) :: rest)) := by
  refine va_iald C.1 C.2.1 hK hP 4 3 rfl rfl (vp_in_nI hi (by decide)) hdg ?_
  rw [nI_clamp (by omega)]
  exact k
theorem ml_order (C : CX p s m args meth c cc nL ret RX1) (hK : va_K D cl2 (mtys K) s) (hP : va_P D cl2 (mdW q K pr fc fl fp n fo fr ff fg) H) {i : Nat} (hi : i < 5) (hdg : decode cc pc = .ok (.iaload, 1))
    (k : W p l e R s m args below meth c H locs cells slots Q (F0 m (pc + 1) ls (.int (nI (fo i)) :: rest))) : W p l e R s m args below meth c H locs cells slots Q (F0 m pc ls (.int (nI i) :: .ref (q 5) :: rest)) := by
  refine va_iald C.1 C.2.1 hK hP 5 4 rfl rfl (vp_in_nI hi (by decide)) hdg ?_
  rw [nI_clamp (by omega)]
  exact k
theorem ml_row (C : CX p s m args meth c cc nL ret RX1) (hK : va_K D cl2 (mtys K) s) (hP : va_P D cl2 (mdW q K pr fc fl fp n fo fr ff fg) H) {i : Nat} (hi : i < 5) (hdg : decode cc pc = .ok (.iaload, 1))
    (k : W p l e R s m args below meth c H locs cells slots Q (F0 m (pc + 1) ls (.int (nI (fr i)) :: rest))) : W p l e R s m args below meth c H locs cells slots Q (F0 m pc ls (.int (nI i) :: .ref (q 6) :: rest)) := by
  refine va_iald C.1 C.2.1 hK hP 6 5 rfl rfl (vp_in_nI hi (by decide)) hdg ?_
  rw [nI_clamp (by omega)]
  exact k
theorem ml_left (C : CX p s m args meth c cc nL ret RX1) (hK : va_K D cl2 (mtys K) s) (hP : va_P D cl2 (mdW q K pr fc fl fp n fo fr ff fg) H) {i : Nat} (hi : i < 5) (hdg : decode cc pc = .ok (.iaload, 1))
    (k : W p l e R s m args below meth c H locs cells slots Q (F0 m (pc + 1) ls (.int (nI (ff i)) :: rest))) : W p l e R s m args below meth c H locs cells slots Q (F0 m pc ls (.int (nI i) :: .ref (q 7) :: rest)) := by
  refine va_iald C.1 C.2.1 hK hP 7 6 rfl rfl (vp_in_nI hi (by decide)) hdg ?_
  rw [nI_clamp (by omega)]
  exact k
theorem ml_given (C : CX p s m args meth c cc nL ret RX1) (hK : va_K D cl2 (mtys K) s) (hP : va_P D cl2 (mdW q K pr fc fl fp n fo fr ff fg) H) {i : Nat} (hi : i < 5) (hdg : decode cc pc = .ok (.iaload, 1))
    (k : W p l e R s m args below meth c H locs cells slots Q (F0 m (pc + 1) ls (.int (nI (fg i)) :: rest))) : W p l e R s m args below meth c H locs cells slots Q (F0 m pc ls (.int (nI i) :: .ref (q 8) :: rest)) := by
  refine va_iald C.1 C.2.1 hK hP 8 7 rfl rfl (vp_in_nI hi (by decide)) hdg ?_
  rw [nI_clamp (by omega)]
  exact k
theorem ds_costs (C : CX p s m args meth c cc nL ret RX0) (hK : va_K D cl2 (dtys K) s) (hh : HH D (dkW q K pr n fc fl fp fo fb fa) A H0 H locs) {i : Nat} (hi : i < 5) {v : Nat} (hv : v < 128) (hdg : decode cc pc = .ok (.bastore, 1))
    (k : ∀ (H1 : Heap) (locs1 : List Loc), HH D (dkW q K pr n (va_up fc i v) fl fp fo fb fa) A H0 H1 locs1 → W p l e R s m args below meth c H1 locs1 cells slots Q (F0 m (pc + 1) ls rest)) : W p l e R s m args below meth c H locs cells slots Q (F0 m pc ls (.int (nI v) :: .int (nI i) :: .ref (q 1) :: rest)) := by
  refine va_bast C.1 C.2.1 hK hh.1 hh.2.1 hh.2.2.1 1 0 rfl rfl (vp_in_nI hi (by decide)) hdg (fun H1 locs1 hP hD hS => k H1 locs1 ?_)
  rw [nI_clamp (by omega), rd_nar8 hv, rd_upI] at hP hD
  exact ⟨hP, hD, hS, hh.2.2.2⟩
theorem ds_limits (C : CX p s m args meth c cc nL ret RX0) (hK : va_K D cl2 (dtys K) s) (hh : HH D (dkW q K pr n fc fl fp fo fb fa) A H0 H locs) {i : Nat} (hi : i < 5) {v : Nat} (hv : v < 128) (hdg : decode cc pc = .ok (.bastore, 1))
    (k : ∀ (H1 : Heap) (locs1 : List Loc), HH D (dkW q K pr n fc (va_up fl i v) fp fo fb fa) A H0 H1 locs1 → W p l e R s m args below meth c H1 locs1 cells slots Q (F0 m (pc + 1) ls rest)) : W p l e R s m args below meth c H locs cells slots Q (F0 m pc ls (.int (nI v) :: .int (nI i) :: .ref (q 2) :: rest)) := by
  refine va_bast C.1 C.2.1 hK hh.1 hh.2.1 hh.2.2.1 2 1 rfl rfl (vp_in_nI hi (by decide)) hdg (fun H1 locs1 hP hD hS => k H1 locs1 ?_)
  rw [nI_clamp (by omega), rd_nar8 hv, rd_upI] at hP hD
  exact ⟨hP, hD, hS, hh.2.2.2⟩
theorem ds_periods (C : CX p s m args meth c cc nL ret RX0) (hK : va_K D cl2 (dtys K) s) (hh : HH D (dkW q K pr n fc fl fp fo fb fa) A H0 H locs) {i : Nat} (hi : i < 5) {v : Nat} (hv : v < 128) (hdg : decode cc pc = .ok (.bastore, 1))
    (k : ∀ (H1 : Heap) (locs1 : List Loc), HH D (dkW q K pr n fc fl (va_up fp i v) fo fb fa) A H0 H1 locs1 → W p l e R s m args below meth c H1 locs1 cells slots Q (F0 m (pc + 1) ls rest)) : W p l e R s m args below meth c H locs cells slots Q (F0 m pc ls (.int (nI v) :: .int (nI i) :: .ref (q 3) :: rest)) := by
  refine va_bast C.1 C.2.1 hK hh.1 hh.2.1 hh.2.2.1 3 2 rfl rfl (vp_in_nI hi (by decide)) hdg (fun H1 locs1 hP hD hS => k H1 locs1 ?_)
  rw [nI_clamp (by omega), rd_nar8 hv, rd_upI] at hP hD
  exact ⟨hP, hD, hS, hh.2.2.2⟩
theorem ds_order (C : CX p s m args meth c cc nL ret RX0) (hK : va_K D cl2 (dtys K) s) (hh : HH D (dkW q K pr n fc fl fp fo fb fa) A H0 H locs) {i : Nat} (hi : i < 5) {v : Nat} (hv : v < 128) (hdg : decode cc pc = .ok (.bastore, 1))
    (k : ∀ (H1 : Heap) (locs1 : List Loc), HH D (dkW q K pr n fc fl fp (va_up fo i v) fb fa) A H0 H1 locs1 → W p l e R s m args below meth c H1 locs1 cells slots Q (F0 m (pc + 1) ls rest)) : W p l e R s m args below meth c H locs cells slots Q (F0 m pc ls (.int (nI v) :: .int (nI i) :: .ref (q 4) :: rest)) := by
  refine va_bast C.1 C.2.1 hK hh.1 hh.2.1 hh.2.2.1 4 3 rfl rfl (vp_in_nI hi (by decide)) hdg (fun H1 locs1 hP hD hS => k H1 locs1 ?_)
  rw [nI_clamp (by omega), rd_nar8 hv, rd_upI] at hP hD
  exact ⟨hP, hD, hS, hh.2.2.2⟩
theorem ds_below (C : CX p s m args meth c cc nL ret RX0) (hK : va_K D cl2 (dtys K) s) (hh : HH D (dkW q K pr n fc fl fp fo fb fa) A H0 H locs) {i : Nat} (hi : i < 32) {v : Int32} (hdg : decode cc pc = .ok (.iastore, 1))
    (k : ∀ (H1 : Heap) (locs1 : List Loc), HH D (dkW q K pr n fc fl fp fo (upd fb i v) fa) A H0 H1 locs1 → W p l e R s m args below meth c H1 locs1 cells slots Q (F0 m (pc + 1) ls rest)) : W p l e R s m args below meth c H locs cells slots Q (F0 m pc ls (.int (v) :: .int (nI i) :: .ref (q 5) :: rest)) := by
  refine va_iast C.1 C.2.1 hK hh.1 hh.2.1 hh.2.2.1 5 4 rfl rfl (vp_in_nI hi (by decide)) hdg (fun H1 locs1 hP hD hS => k H1 locs1 ?_)
  rw [nI_clamp (by omega)] at hP hD
  exact ⟨hP, hD, hS, hh.2.2.2⟩
theorem ds_among (C : CX p s m args meth c cc nL ret RX0) (hK : va_K D cl2 (dtys K) s) (hh : HH D (dkW q K pr n fc fl fp fo fb fa) A H0 H locs) {i : Nat} (hi : i < 32) {v : Int32} (hdg : decode cc pc = .ok (.iastore, 1))
    (k : ∀ (H1 : Heap) (locs1 : List Loc), HH D (dkW q K pr n fc fl fp fo fb (upd fa i v)) A H0 H1 locs1 → W p l e R s m args below meth c H1 locs1 cells slots Q (F0 m (pc + 1) ls rest)) : W p l e R s m args below meth c H locs cells slots Q (F0 m pc ls (.int (v) :: .int (nI i) :: .ref (q 6) :: rest)) := by
  refine va_iast C.1 C.2.1 hK hh.1 hh.2.1 hh.2.2.1 6 5 rfl rfl (vp_in_nI hi (by decide)) hdg (fun H1 locs1 hP hD hS => k H1 locs1 ?_)
  rw [nI_clamp (by omega)] at hP hD
  exact ⟨hP, hD, hS, hh.2.2.2⟩
theorem ms_costs (C : CX p s m args meth c cc nL ret RX1) (hK : va_K D cl2 (mtys K) s) (hh : HH D (mdW q K pr fc fl fp n fo fr ff fg) A H0 H locs) {i : Nat} (hi : i < 5) {v : Nat} (hdg : decode cc pc = .ok (.iastore, 1))
    (k : ∀ (H1 : Heap) (locs1 : List Loc), HH D (mdW q K pr (va_up fc i v) fl fp n fo fr ff fg) A H0 H1 locs1 → W p l e R s m args below meth c H1 locs1 cells slots Q (F0 m (pc + 1) ls rest)) : W p l e R s m args below meth c H locs cells slots Q (F0 m pc ls (.int (nI v) :: .int (nI i) :: .ref (q 2) :: rest)) := by
  refine va_iast C.1 C.2.1 hK hh.1 hh.2.1 hh.2.2.1 2 1 rfl rfl (vp_in_nI hi (by decide)) hdg (fun H1 locs1 hP hD hS => k H1 locs1 ?_)
  rw [nI_clamp (by omega), rd_upI] at hP hD
  exact ⟨hP, hD, hS, hh.2.2.2⟩
theorem ms_limits (C : CX p s m args meth c cc nL ret RX1) (hK : va_K D cl2 (mtys K) s) (hh : HH D (mdW q K pr fc fl fp n fo fr ff fg) A H0 H locs) {i : Nat} (hi : i < 5) {v : Nat} (hdg : decode cc pc = .ok (.iastore, 1))
    (k : ∀ (H1 : Heap) (locs1 : List Loc), HH D (mdW q K pr fc (va_up fl i v) fp n fo fr ff fg) A H0 H1 locs1 → W p l e R s m args below meth c H1 locs1 cells slots Q (F0 m (pc + 1) ls rest)) : W p l e R s m args below meth c H locs cells slots Q (F0 m pc ls (.int (nI v) :: .int (nI i) :: .ref (q 3) :: rest)) := by
  refine va_iast C.1 C.2.1 hK hh.1 hh.2.1 hh.2.2.1 3 2 rfl rfl (vp_in_nI hi (by decide)) hdg (fun H1 locs1 hP hD hS => k H1 locs1 ?_)
  rw [nI_clamp (by omega), rd_upI] at hP hD
  exact ⟨hP, hD, hS, hh.2.2.2⟩
theorem ms_periods (C : CX p s m args meth c cc nL ret RX1) (hK : va_K D cl2 (mtys K) s) (hh : HH D (mdW q K pr fc fl fp n fo fr ff fg) A H0 H locs) {i : Nat} (hi : i < 5) {v : Nat} (hdg : decode cc pc = .ok (.iastore, 1))
    (k : ∀ (H1 : Heap) (locs1 : List Loc), HH D (mdW q K pr fc fl (va_up fp i v) n fo fr ff fg) A H0 H1 locs1 → W p l e R s m args below meth c H1 locs1 cells slots Q (F0 m (pc + 1) ls rest)) : W p l e R s m args below meth c H locs cells slots Q (F0 m pc ls (.int (nI v) :: .int (nI i) :: .ref (q 4) :: rest)) := by
  refine va_iast C.1 C.2.1 hK hh.1 hh.2.1 hh.2.2.1 4 3 rfl rfl (vp_in_nI hi (by decide)) hdg (fun H1 locs1 hP hD hS => k H1 locs1 ?_)
  rw [nI_clamp (by omega), rd_upI] at hP hD
  exact ⟨hP, hD, hS, hh.2.2.2⟩
theorem ms_order (C : CX p s m args meth c cc nL ret RX1) (hK : va_K D cl2 (mtys K) s) (hh : HH D (mdW q K pr fc fl fp n fo fr ff fg) A H0 H locs) {i : Nat} (hi : i < 5) {v : Nat} (hdg : decode cc pc = .ok (.iastore, 1))
    (k : ∀ (H1 : Heap) (locs1 : List Loc), HH D (mdW q K pr fc fl fp n (va_up fo i v) fr ff fg) A H0 H1 locs1 → W p l e R s m args below meth c H1 locs1 cells slots Q (F0 m (pc + 1) ls rest)) : W p l e R s m args below meth c H locs cells slots Q (F0 m pc ls (.int (nI v) :: .int (nI i) :: .ref (q 5) :: rest)) := by
  refine va_iast C.1 C.2.1 hK hh.1 hh.2.1 hh.2.2.1 5 4 rfl rfl (vp_in_nI hi (by decide)) hdg (fun H1 locs1 hP hD hS => k H1 locs1 ?_)
  rw [nI_clamp (by omega), rd_upI] at hP hD
  exact ⟨hP, hD, hS, hh.2.2.2⟩
theorem ms_row (C : CX p s m args meth c cc nL ret RX1) (hK : va_K D cl2 (mtys K) s) (hh : HH D (mdW q K pr fc fl fp n fo fr ff fg) A H0 H locs) {i : Nat} (hi : i < 5) {v : Nat} (hdg : decode cc pc = .ok (.iastore, 1))
    (k : ∀ (H1 : Heap) (locs1 : List Loc), HH D (mdW q K pr fc fl fp n fo (va_up fr i v) ff fg) A H0 H1 locs1 → W p l e R s m args below meth c H1 locs1 cells slots Q (F0 m (pc + 1) ls rest)) : W p l e R s m args below meth c H locs cells slots Q (F0 m pc ls (.int (nI v) :: .int (nI i) :: .ref (q 6) :: rest)) := by
  refine va_iast C.1 C.2.1 hK hh.1 hh.2.1 hh.2.2.1 6 5 rfl rfl (vp_in_nI hi (by decide)) hdg (fun H1 locs1 hP hD hS => k H1 locs1 ?_)
  rw [nI_clamp (by omega), rd_upI] at hP hD
  exact ⟨hP, hD, hS, hh.2.2.2⟩
theorem ms_left (C : CX p s m args meth c cc nL ret RX1) (hK : va_K D cl2 (mtys K) s) (hh : HH D (mdW q K pr fc fl fp n fo fr ff fg) A H0 H locs) {i : Nat} (hi : i < 5) {v : Nat} (hdg : decode cc pc = .ok (.iastore, 1))
    (k : ∀ (H1 : Heap) (locs1 : List Loc), HH D (mdW q K pr fc fl fp n fo fr (va_up ff i v) fg) A H0 H1 locs1 → W p l e R s m args below meth c H1 locs1 cells slots Q (F0 m (pc + 1) ls rest)) : W p l e R s m args below meth c H locs cells slots Q (F0 m pc ls (.int (nI v) :: .int (nI i) :: .ref (q 7) :: rest)) := by
  refine va_iast C.1 C.2.1 hK hh.1 hh.2.1 hh.2.2.1 7 6 rfl rfl (vp_in_nI hi (by decide)) hdg (fun H1 locs1 hP hD hS => k H1 locs1 ?_)
  rw [nI_clamp (by omega), rd_upI] at hP hD
  exact ⟨hP, hD, hS, hh.2.2.2⟩
theorem ms_given (C : CX p s m args meth c cc nL ret RX1) (hK : va_K D cl2 (mtys K) s) (hh : HH D (mdW q K pr fc fl fp n fo fr ff fg) A H0 H locs) {i : Nat} (hi : i < 5) {v : Nat} (hdg : decode cc pc = .ok (.iastore, 1))
    (k : ∀ (H1 : Heap) (locs1 : List Loc), HH D (mdW q K pr fc fl fp n fo fr ff (va_up fg i v)) A H0 H1 locs1 → W p l e R s m args below meth c H1 locs1 cells slots Q (F0 m (pc + 1) ls rest)) : W p l e R s m args below meth c H locs cells slots Q (F0 m pc ls (.int (nI v) :: .int (nI i) :: .ref (q 8) :: rest)) := by
  refine va_iast C.1 C.2.1 hK hh.1 hh.2.1 hh.2.2.1 8 7 rfl rfl (vp_in_nI hi (by decide)) hdg (fun H1 locs1 hP hD hS => k H1 locs1 ?_)
  rw [nI_clamp (by omega), rd_upI] at hP hD
  exact ⟨hP, hD, hS, hh.2.2.2⟩
theorem ms_there (C : CX p s m args meth c cc nL ret RX1) (hK : va_K D cl2 (mtys K) s) (hh : HH D (mdW q K pr fc fl fp n fo fr ff fg) A H0 H locs) {i : Nat} (hi : i < 5) {v : Bool} {pr' : Nat} (hpr : ∀ j, pr'.testBit j = va_up (fun j => pr.testBit j) i v j) (hdg : decode cc pc = .ok (.bastore, 1))
    (k : ∀ (H1 : Heap) (locs1 : List Loc), HH D (mdW q K pr' fc fl fp n fo fr ff fg) A H0 H1 locs1 → W p l e R s m args below meth c H1 locs1 cells slots Q (F0 m (pc + 1) ls rest)) : W p l e R s m args below meth c H locs cells slots Q (F0 m pc ls (.int (bI v) :: .int (nI i) :: .ref (q 1) :: rest)) := by
  refine va_zast C.1 C.2.1 hK hh.1 hh.2.1 hh.2.2.1 1 0 rfl rfl (vp_in_nI hi (by decide)) hdg (fun H1 locs1 hP hD hS => k H1 locs1 ?_)
  rw [nI_clamp (by omega), rd_narB, rd_upB, ← (funext hpr : (fun j => pr'.testBit j) = _)] at hP hD
  exact ⟨hP, hD, hS, hh.2.2.2⟩
end FD
end
section
/-! plain words: what the desk's methods compute, on numbers -/
set_option maxRecDepth 100000
theorem rd_v1 : nI 1 = 1 := rfl
theorem rd_v0 : nI 0 = 0 := rfl
theorem rd_ne3 {t : Nat} (h : t < 2 ^ 31) : nI t ≠ -3 := fun q => by
  have := congrArg Int32.toInt q
  rw [nI_toInt h] at this
  have h3 : (-3 : Int32).toInt = -3 := by decide
  omega
theorem rd_ne1 {t : Nat} (h : t < 2 ^ 31) : nI t ≠ -1 := fun q => by
  have := congrArg Int32.toInt q
  rw [nI_toInt h] at this
  have h3 : (-1 : Int32).toInt = -1 := by decide
  omega
theorem rd_m1z : nI 0 + Int32.ofInt (-1) = -1 := by decide
theorem rd_31 : nI 31 = nI 32 + Int32.ofInt (-1) := by decide
/-- an index that is in range is a number -/
theorem rd_five {k : Int32} (h1 : ¬ k < 0) (h2 : ¬ nI 5 ≤ k) : ∃ j : Nat, j < 5 ∧ k = nI j := by
  rcases pk_ix k (n := 5) (by decide) with h | h | h
  · exact absurd h h1
  · exact absurd h h2
  · exact h
theorem rd_idx {k : Int32} {n : Nat} (hn : n < 2 ^ 31) (h1 : ¬ k < 0) (h2 : ¬ nI n ≤ k) : ∃ j : Nat, j < n ∧ k = nI j := by
  rcases pk_ix k hn with h | h | h
  · exact absurd h h1
  · exact absurd h h2
  · exact h
theorem rd_lt_of {k : Int32} {n : Nat} (h : k < nI n) : ¬ nI n ≤ k := fun q => by
  rw [Int32.le_iff_toInt_le] at q
  rw [Int32.lt_iff_toInt_lt] at h
  omega
/-- nI a - nI b against nI c -/
theorem rd_sub_le {a b c : Nat} (ha : a < 2 ^ 30) (hb : b < 2 ^ 30) (hc : c < 2 ^ 30) : nI a - nI b ≤ nI c ↔ a ≤ b + c := by
  rw [Int32.le_iff_toInt_le, pk_sub_toInt ha hb, nI_toInt (by omega)]
  omega
theorem rd_or_lt {a b : Nat} (ha : a < 32) (hb : b < 32) : a ||| b < 32 := Nat.or_lt_two_pow (n := 5) ha hb
theorem rd_and_lt {a b : Nat} (ha : a < 32) : a &&& b < 32 := Nat.lt_of_le_of_lt Nat.and_le_left ha
theorem rd_pow_lt {k : Nat} (h : k < 5) : 2 ^ k < 32 := Nat.pow_lt_pow_right (by decide) h
/-- the argument's check -/
def okN (x y z : Int32) : Bool := !decide (x < 1) && !decide (y < x) && !decide (z < y) && !decide (15 < z)
theorem okN_nat {x y z : Int32} (h : okN x y z = true) : ∃ a b c : Nat, x = nI a ∧ y = nI b ∧ z = nI c ∧ 1 ≤ a ∧ a ≤ b ∧ b ≤ c ∧ c ≤ 15 := by
  simp only [okN, Bool.and_eq_true, Bool.not_eq_true', decide_eq_false_iff_not, Int32.lt_iff_toInt_lt] at h
  obtain ⟨⟨⟨h1, h2⟩, h3⟩, h4⟩ := h
  have e1 : (1 : Int32).toInt = 1 := by decide
  have e2 : (15 : Int32).toInt = 15 := by decide
  have key : ∀ w : Int32, 0 ≤ w.toInt → w = nI w.toInt.toNat := fun w hw => by
    apply Int32.toInt_inj.mp
    have hlt : w.toInt < 2 ^ 31 := Int32.toInt_lt w
    rw [nI_toInt (by omega)]
    omega
  refine ⟨x.toInt.toNat, y.toInt.toNat, z.toInt.toNat, key x (by omega), key y (by omega), key z (by omega), ?_, ?_, ?_, ?_⟩ <;> omega
def hasB (pr : Nat) (k : Int32) : Bool := !decide (k < 0) && !decide (nI 5 ≤ k) && pr.testBit k.toNatClampNeg
theorem hasB_nI {pr k : Nat} (h : k < 5) : hasB pr (nI k) = pr.testBit k := by
  unfold hasB
  rw [nI_clamp (by omega)]
  have h1 : ¬ nI k < 0 := nI_pos (by omega)
  have h2 : ¬ nI 5 ≤ nI k := nI_ge h (by decide)
  simp [h1, h2]
theorem hasB_of {pr : Nat} {k : Int32} (h : hasB pr k = true) : ∃ j : Nat, j < 5 ∧ k = nI j ∧ pr.testBit j = true := by
  simp only [hasB, Bool.and_eq_true, Bool.not_eq_true', decide_eq_false_iff_not] at h
  obtain ⟨⟨h1, h2⟩, h3⟩ := h
  obtain ⟨j, hj, rfl⟩ := rd_five h1 h2
  rw [nI_clamp (by omega)] at h3
  exact ⟨j, hj, rfl, h3⟩
def atF (n : Nat) (o : Nat → Nat) (i : Int32) : Int32 := if i < 0 ∨ nI n ≤ i then -1 else nI (o i.toNatClampNeg)
/-- bounds of a state -/
def BD (pr n : Nat) (c l p o : Nat → Nat) : Prop := pr < 32 ∧ n ≤ 5 ∧ (∀ j, c j ≤ 15) ∧ (∀ j, l j ≤ 15) ∧ (∀ j, p j ≤ 15) ∧ ∀ j, o j < 5
/-- the work of a set of tasks in t units -/
def wkT (c p : Nat → Nat) (t k : Nat) : Nat := (t + (if 0 < p k then p k else 1) - 1) / (if 0 < p k then p k else 1) * c k
def wkL (c p : Nat → Nat) (S t : Nat) : Nat → Nat
  | 0 => 0
  | i + 1 => wkL c p S t i + (if S.testBit i then wkT c p t i else 0)
def wk (c p : Nat → Nat) (S t : Nat) : Nat := wkL c p S t 5
theorem wkT_le {c p : Nat → Nat} (hc : ∀ j, c j ≤ 15) (hp : ∀ j, p j ≤ 15) (t k : Nat) : wkT c p t k ≤ (t + 14) * 15 := by
  unfold wkT
  refine Nat.mul_le_mul ?_ (hc k)
  refine Nat.le_trans (Nat.div_le_self _ _) ?_
  have := hp k
  split <;> omega
theorem wkL_le {c p : Nat → Nat} (hc : ∀ j, c j ≤ 15) (hp : ∀ j, p j ≤ 15) (S t : Nat) : ∀ i, wkL c p S t i ≤ i * ((t + 14) * 15)
  | 0 => by simp [wkL]
  | i + 1 => by
    have h1 := wkL_le hc hp S t i
    have h2 := wkT_le hc hp t i
    simp only [wkL]
    rw [Nat.succ_mul]
    split <;> omega
theorem wk_le {c p : Nat → Nat} (hc : ∀ j, c j ≤ 15) (hp : ∀ j, p j ≤ 15) (S t : Nat) : wk c p S t ≤ 75 * (t + 14) := by
  have := wkL_le hc hp S t 5
  unfold wk
  omega
/-- the least length of time: f rounds from t on -/
def rspL (c p : Nat → Nat) (k S : Nat) : Nat → Nat → Option Nat
  | 0, _ => none
  | f + 1, t => if c k + wk c p S t = t then some t else if p k < c k + wk c p S t then none else rspL c p k S f (c k + wk c p S t)
def rsp (c p : Nat → Nat) (k S : Nat) : Option Nat := rspL c p k S 16 (c k)
def rI : Option Nat → Int32
  | none => -3
  | some t => nI t
theorem rspL_le {c p : Nat → Nat} (hp : ∀ j, p j ≤ 15) (k S : Nat) : ∀ (f t : Nat), t ≤ 15 → ∀ r, rspL c p k S f t = some r → r ≤ 15
  | 0, _, _, r, h => by simp [rspL] at h
  | f + 1, t, ht, r, h => by
    have := hp k
    simp only [rspL] at h
    split at h
    · cases h; exact ht
    · split at h
      · cases h
      · exact rspL_le hp k S f _ (by omega) r h
theorem rsp_le {c p : Nat → Nat} (hc : ∀ j, c j ≤ 15) (hp : ∀ j, p j ≤ 15) {k S r : Nat} (h : rsp c p k S = some r) : r ≤ 15 := rspL_le hp k S 16 _ (hc k) r h
/-- is task k in time under the set S of more urgent ones -/
def tm (c l p : Nat → Nat) (k S : Nat) : Bool := match rsp c p k S with
  | none => false
  | some t => decide (t ≤ l k)
/-- the set of the first i tasks of an order -/
def muL (o : Nat → Nat) : Nat → Nat
  | 0 => 0
  | i + 1 => muL o i ||| 2 ^ o i
theorem muL_lt {o : Nat → Nat} (h : ∀ j, o j < 5) : ∀ i, muL o i < 32
  | 0 => by simp [muL]
  | i + 1 => rd_or_lt (muL_lt h i) (rd_pow_lt (h i))
/-- the place of task k in the order -/
def ixL (o : Nat → Nat) (k : Nat) : Nat → Nat → Nat
  | 0, i => i
  | d + 1, i => if o i = k then i else ixL o k d (i + 1)
def ix (o : Nat → Nat) (n k : Nat) : Nat := ixL o k n 0
/-- the tasks above k -/
def ab (o : Nat → Nat) (n k : Nat) : Nat := muL o (ix o n k)
theorem ab_lt {o : Nat → Nat} (h : ∀ j, o j < 5) (n k : Nat) : ab o n k < 32 := muL_lt h _
/-- the order holds each task of the set once -/
def OrdOK (pr n : Nat) (o : Nat → Nat) : Prop := (∀ i, i < n → pr.testBit (o i) = true) ∧ (∀ i j, i < n → j < n → o i = o j → i = j) ∧ ∀ k, k < 5 → pr.testBit k = true → ∃ i, i < n ∧ o i = k
theorem ixL_spec {o : Nat → Nat} {k : Nat} : ∀ (d i : Nat), (∃ j, i ≤ j ∧ j < i + d ∧ o j = k) → i ≤ ixL o k d i ∧ ixL o k d i < i + d ∧ o (ixL o k d i) = k ∧ ∀ j, i ≤ j → j < ixL o k d i → o j ≠ k
  | 0, i, ⟨j, h1, h2, _⟩ => by omega
  | d + 1, i, ⟨j, h1, h2, h3⟩ => by
    unfold ixL
    by_cases h : o i = k
    · rw [if_pos h]
      exact ⟨Nat.le_refl _, by omega, h, fun j h1 h2 => by omega⟩
    · rw [if_neg h]
      have hj : i ≠ j := fun q => h (by rw [q]; exact h3)
      obtain ⟨a1, a2, a3, a4⟩ := ixL_spec d (i + 1) ⟨j, by omega, by omega, h3⟩
      refine ⟨by omega, by omega, a3, fun j' b1 b2 => ?_⟩
      rcases Nat.eq_or_lt_of_le b1 with q | q
      · rw [← q]; exact h
      · exact a4 j' q b2
theorem ix_spec {pr n : Nat} {o : Nat → Nat} (h : OrdOK pr n o) {k : Nat} (hk : k < 5) (hb : pr.testBit k = true) : ix o n k < n ∧ o (ix o n k) = k ∧ ∀ j, j < ix o n k → o j ≠ k := by
  obtain ⟨i, h1, h2⟩ := h.2.2 k hk hb
  obtain ⟨-, a2, a3, a4⟩ := ixL_spec (o := o) (k := k) n 0 ⟨i, Nat.zero_le _, by omega, h2⟩
  exact ⟨by unfold ix; omega, a3, fun j hj => a4 j (Nat.zero_le _) hj⟩
/-- the tasks in time: T k for those below i -/
def itL (T : Nat → Bool) (pr : Nat) : Nat → Nat
  | 0 => 0
  | k + 1 => if pr.testBit k && T k then itL T pr k ||| 2 ^ k else itL T pr k
theorem itL_lt (T : Nat → Bool) (pr : Nat) : ∀ k, k ≤ 5 → itL T pr k < 32
  | 0, _ => by simp [itL]
  | k + 1, h => by
    have h1 := itL_lt T pr k (by omega)
    simp only [itL]
    split
    · exact rd_or_lt h1 (rd_pow_lt (by omega))
    · exact h1
/-- task k's being in time in the order as it is -/
def tk (c l p o : Nat → Nat) (n k : Nat) : Bool := tm c l p k (ab o n k)
def itF (pr n : Nat) (c l p o : Nat → Nat) : Nat := itL (tk c l p o n) pr 5
def gdF (pr n : Nat) (c l p o : Nat → Nat) : Bool := decide (itF pr n c l p o = pr)
/-- the tables' own sums: below S up to task k, among S up to task k -/
def belS (T : Nat → Nat → Bool) (pr : Nat) (be : Nat → Nat) (S : Nat) : Nat → Nat
  | 0 => if S = pr then 1 else 0
  | k + 1 => belS T pr be S k + (if (pr &&& (31 ^^^ S)).testBit k && (decide (S &&& (31 ^^^ pr) = 0) && T k S) then be (S ||| 2 ^ k) else 0)
def amoS (T : Nat → Nat → Bool) (pr : Nat) (am : Nat → Nat) (S : Nat) : Nat → Nat
  | 0 => if S = 0 then 1 else 0
  | k + 1 => amoS T pr am S k + (if (S &&& pr).testBit k && T k ((S &&& (31 ^^^ 2 ^ k)) &&& pr) then am (S &&& (31 ^^^ 2 ^ k)) else 0)
/-- may task k follow the set S -/
def cfF (T : Nat → Nat → Bool) (pr : Nat) (be : Nat → Nat) (S k : Nat) : Bool := (pr &&& (31 ^^^ S)).testBit k && (decide (0 < be (S ||| 2 ^ k)) && T k S)
/-- the first task that may follow S -/
def nxL (T : Nat → Nat → Bool) (pr : Nat) (be : Nat → Nat) (S : Nat) : Nat → Nat → Nat
  | 0, k => k
  | d + 1, k => if cfF T pr be S k then k else nxL T pr be S d (k + 1)
def nx (T : Nat → Nat → Bool) (pr : Nat) (be : Nat → Nat) (S : Nat) : Nat := nxL T pr be S 4 0
theorem nxL_le (T : Nat → Nat → Bool) (pr : Nat) (be : Nat → Nat) (S : Nat) : ∀ d k, nxL T pr be S d k ≤ k + d
  | 0, k => Nat.le_refl _
  | d + 1, k => by
    have := nxL_le T pr be S d (k + 1)
    simp only [nxL]
    split <;> omega
theorem nx_lt (T : Nat → Nat → Bool) (pr : Nat) (be : Nat → Nat) (S : Nat) : nx T pr be S < 5 := by
  have := nxL_le T pr be S 4 0
  unfold nx
  omega
/-- the set that arrange has placed after i steps -/
def agS (T : Nat → Nat → Bool) (pr : Nat) (be : Nat → Nat) : Nat → Nat
  | 0 => 0
  | i + 1 => agS T pr be i ||| 2 ^ nx T pr be (agS T pr be i)
theorem agS_lt (T : Nat → Nat → Bool) (pr : Nat) (be : Nat → Nat) : ∀ i, agS T pr be i < 32
  | 0 => by simp [agS]
  | i + 1 => rd_or_lt (agS_lt T pr be i) (rd_pow_lt (nx_lt T pr be _))
def agO (T : Nat → Nat → Bool) (pr : Nat) (be : Nat → Nat) (o : Nat → Nat) (i : Nat) : Nat → Nat := fun j => if j < i then nx T pr be (agS T pr be j) else o j
/-- the tasks that may be last, up to k -/
def clL (T : Nat → Nat → Bool) (pr : Nat) (am : Nat → Nat) : Nat → Nat
  | 0 => 0
  | k + 1 => if pr.testBit k && (decide (0 < am (pr &&& (31 ^^^ 2 ^ k))) && T k (pr &&& (31 ^^^ 2 ^ k))) then clL T pr am k ||| 2 ^ k else clL T pr am k
/-- the last of 1..x with G -/
def gcL (G : Nat → Bool) : Nat → Nat
  | 0 => 0
  | x + 1 => if G (x + 1) then x + 1 else gcL G x
theorem gcL_le (G : Nat → Bool) : ∀ x, gcL G x ≤ x
  | 0 => Nat.le_refl _
  | x + 1 => by
    have := gcL_le G x
    simp only [gcL]
    split <;> omega
/-- the last of 15, 14 .. (d of them) with G -/
def lpL (G : Nat → Bool) : Nat → Nat
  | 0 => 0
  | d + 1 => if G (15 - d) then 15 - d else lpL G d
/-- the time ahead of the work -/
def idL (c p : Nat → Nat) (S : Nat) : Nat → Nat
  | 0 => 0
  | t + 1 => if wk c p S (t + 1) + idL c p S t < t + 1 then t + 1 - wk c p S (t + 1) else idL c p S t
theorem idL_le (c p : Nat → Nat) (S : Nat) : ∀ t, idL c p S t ≤ t
  | 0 => Nat.le_refl _
  | t + 1 => by
    have := idL_le c p S t
    simp only [idL]
    split <;> omega
def idN (n : Int32) : Nat := if n < 0 then 0 else min n.toNatClampNeg 60
/-- the first task that isn't there, from k on -/
def frL (pr : Nat) : Nat → Nat → Option Nat
  | 0, _ => none
  | d + 1, k => if pr.testBit k then frL pr d (k + 1) else some k
def fr (pr : Nat) : Option Nat := frL pr 5 0
/-- an order without its place a -/
def shO (o : Nat → Nat) (a n : Nat) : Nat → Nat := fun j => if a ≤ j ∧ j + 1 < n then o (j + 1) else o j
/-- task k taken from place a to place i -/
def mvO (o : Nat → Nat) (k a i : Nat) : Nat → Nat := fun j => if j = i then k else if a ≤ j ∧ j < i then o (j + 1) else if i < j ∧ j ≤ a then o (j - 1) else o j
theorem rd_up_same {α : Type} (f : Nat → α) (k : Nat) : va_up f k (f k) = f := by
  funext j
  by_cases h : j = k
  · rw [h, va_up_self]
  · rw [va_up_ne f _ h]
end
section
/-! the desk's methods that change nothing -/
theorem atF_in {n : Nat} {o : Nat → Nat} {j : Nat} (hj : j < n) (hn : n ≤ 5) : atF n o (nI j) = nI (o j) := by
  unfold atF
  rw [if_neg, nI_clamp (by omega)]
  intro h
  rcases h with h | h
  · exact nI_pos (by omega) h
  · exact nI_ge hj (by omega) h
set_option maxHeartbeats 4000000 in
set_option maxRecDepth 100000 in
theorem mD_in (l : Launch) (D : va_G) (a k : Nat) (ha : a < 2 ^ 31) (hk : k < 32) : CtP l yX0_in cX0_in 2 (some .boolean) { frames := 0, cells := 0, slots := 0, locals := 0 } D [] [] [.int (nI a), .int (nI k)] (fun r => r = bI (a.testBit k)) := by
  refine rd_startP (by decide) (Nat.le_of_ble_eq_true rfl) ?_
  intro p e s m below meth c ls Q hQe C hK hP hl
  have C : CX p s m [.int (nI a), .int (nI k)].toArray meth c cX0_in 2 (some .boolean) RX0 := C
  have hx := C.1
  have hb := C.2.1
  have hl : lv_has ls 2 [(0, .int (nI a)), (1, .int (nI k))] := hl
  refine lv_iload_n hx hb dX0_in_0 rfl (lv_at hl 0 rfl) ?_
  refine lv_iload_n hx hb dX0_in_1 rfl (lv_at hl 1 rfl) ?_
  refine rd_ishr hx hb (by omega) (by omega) dX0_in_2 ?_
  refine lv_iconst (v := nI 1) hx hb dX0_in_3 (by decide) ?_
  refine rd_iand hx hb dX0_in_4 ?_
  refine rd_ift_eq (tgt := 12) hx hb (by omega) dX0_in_5 (by decide) (fun h5 => ?_) (fun h5 => ?_)
  · refine lv_iconst (v := nI 0) hx hb dX0_in_12 (by decide) ?_
    subst hQe; exact rd_retPz C rfl (by rw [h5]; rfl) dX0_in_13
  · refine lv_iconst (v := nI 1) hx hb dX0_in_8 (by decide) ?_
    refine lv_goto (tgt := 13) hx hb dX0_in_9 (by decide) ?_
    subst hQe; exact rd_retPz C rfl (by rw [h5]; rfl) dX0_in_13
set_option maxHeartbeats 4000000 in
set_option maxRecDepth 100000 in
theorem mD_numbersOk (l : Launch) (D : va_G) (x y z : Int32) : CtP l yX0_numbersOk cX0_numbersOk 3 (some .boolean) { frames := 0, cells := 0, slots := 0, locals := 0 } D [] [] [.int x, .int y, .int z] (fun r => r = bI (okN x y z)) := by
  refine rd_startP (by decide) (Nat.le_of_ble_eq_true rfl) ?_
  intro p e s m below meth c ls Q hQe C hK hP hl
  have C : CX p s m [.int x, .int y, .int z].toArray meth c cX0_numbersOk 3 (some .boolean) RX0 := C
  have hx := C.1
  have hb := C.2.1
  have hl : lv_has ls 3 [(0, .int x), (1, .int y), (2, .int z)] := hl
  refine lv_iload_n hx hb dX0_numbersOk_0 rfl (lv_at hl 0 rfl) ?_
  refine lv_iconst (v := (1)) hx hb dX0_numbersOk_1 (by decide) ?_
  refine lv_icmp_lt (tgt := 25) hx hb dX0_numbersOk_2 (by decide) (fun h2 => ?_) (fun h2 => ?_)
  · refine lv_iconst (v := nI 0) hx hb dX0_numbersOk_25 (by decide) ?_
    subst hQe; exact rd_retPz C rfl (by simp [okN, bI, rd_v1, rd_v0, h2]) dX0_numbersOk_26
  · refine lv_iload_n hx hb dX0_numbersOk_5 rfl (lv_at hl 0 rfl) ?_
    refine lv_iload_n hx hb dX0_numbersOk_6 rfl (lv_at hl 1 rfl) ?_
    refine lv_icmp_gt (tgt := 25) hx hb dX0_numbersOk_7 (by decide) (fun h7 => ?_) (fun h7 => ?_)
    · refine lv_iconst (v := nI 0) hx hb dX0_numbersOk_25 (by decide) ?_
      subst hQe; exact rd_retPz C rfl (by simp [okN, bI, rd_v1, rd_v0, h2, h7]) dX0_numbersOk_26
    · refine lv_iload_n hx hb dX0_numbersOk_10 rfl (lv_at hl 1 rfl) ?_
      refine lv_iload_n hx hb dX0_numbersOk_11 rfl (lv_at hl 2 rfl) ?_
      refine lv_icmp_gt (tgt := 25) hx hb dX0_numbersOk_12 (by decide) (fun h12 => ?_) (fun h12 => ?_)
      · refine lv_iconst (v := nI 0) hx hb dX0_numbersOk_25 (by decide) ?_
        subst hQe; exact rd_retPz C rfl (by simp [okN, bI, rd_v1, rd_v0, h2, h7, h12]) dX0_numbersOk_26
      · refine lv_iload_n hx hb dX0_numbersOk_15 rfl (lv_at hl 2 rfl) ?_
        refine lv_bipush (v := (15)) hx hb dX0_numbersOk_16 (by decide) ?_
        refine lv_icmp_gt (tgt := 25) hx hb dX0_numbersOk_18 (by decide) (fun h18 => ?_) (fun h18 => ?_)
        · refine lv_iconst (v := nI 0) hx hb dX0_numbersOk_25 (by decide) ?_
          subst hQe; exact rd_retPz C rfl (by simp [okN, bI, rd_v1, rd_v0, h2, h7, h12, h18]) dX0_numbersOk_26
        · refine lv_iconst (v := nI 1) hx hb dX0_numbersOk_21 (by decide) ?_
          refine lv_goto (tgt := 26) hx hb dX0_numbersOk_22 (by decide) ?_
          subst hQe; exact rd_retPz C rfl (by simp [okN, bI, rd_v1, rd_v0, h2, h7, h12, h18]) dX0_numbersOk_26
set_option maxHeartbeats 4000000 in
set_option maxRecDepth 100000 in
theorem mD_has (l : Launch) (D : va_G) (q : Nat → Nat) (K : Nat → ClassId) (pr n : Nat) (fc fl fp fo : Nat → Nat) (fb fa : Nat → Int32) (hB : BD pr n fc fl fp fo) (k : Int32) : CtP l yX0_has cX0_has 2 (some .boolean) { frames := 0, cells := 0, slots := 0, locals := 0 } D (dtys K) (dkW q K pr n fc fl fp fo fb fa) [.ref (q 0), .int k] (fun r => r = bI (hasB pr k)) := by
  refine rd_startP (by decide) (Nat.le_of_ble_eq_true rfl) ?_
  intro p e s m below meth c ls Q hQe C hK hP hl
  have C : CX p s m [.ref (q 0), .int k].toArray meth c cX0_has 2 (some .boolean) RX0 := C
  have hx := C.1
  have hb := C.2.1
  have hl : lv_has ls 2 [(0, .ref (q 0)), (1, .int k)] := hl
  have hB0 := hB
  obtain ⟨hpr, hn, hbc, hbl, hbp, hbo⟩ := hB0
  refine lv_iload_n hx hb dX0_has_0 rfl (lv_at hl 1 rfl) ?_
  refine lv_if_lt (tgt := 24) hx hb dX0_has_1 (by decide) (fun h1 => ?_) (fun h1 => ?_)
  · refine lv_iconst (v := nI 0) hx hb dX0_has_24 (by decide) ?_
    subst hQe; exact rd_retPz C rfl (by simp [hasB, bI, rd_v0, h1]) dX0_has_25
  · refine lv_iload_n hx hb dX0_has_4 rfl (lv_at hl 1 rfl) ?_
    refine lv_iconst (v := nI 5) hx hb dX0_has_5 (by decide) ?_
    refine lv_icmp_ge (tgt := 24) hx hb dX0_has_6 (by decide) (fun h6 => ?_) (fun h6 => ?_)
    · refine lv_iconst (v := nI 0) hx hb dX0_has_24 (by decide) ?_
      subst hQe; exact rd_retPz C rfl (by simp [hasB, bI, rd_v0, h1, h6]) dX0_has_25
    · obtain ⟨j, hj, rfl⟩ := rd_five h1 h6
      refine lv_aload_n hx hb dX0_has_9 rfl (lv_at hl 0 rfl) ?_
      refine dg_present C hK hP dX0_has_10 ?_
      refine lv_iload_n hx hb dX0_has_13 rfl (lv_at hl 1 rfl) ?_
      refine rd_ishr hx hb (by omega) (by omega) dX0_has_14 ?_
      refine lv_iconst (v := nI 1) hx hb dX0_has_15 (by decide) ?_
      refine rd_iand hx hb dX0_has_16 ?_
      refine rd_ift_eq (tgt := 24) hx hb (by omega) dX0_has_17 (by decide) (fun h17 => ?_) (fun h17 => ?_)
      · refine lv_iconst (v := nI 0) hx hb dX0_has_24 (by decide) ?_
        subst hQe; exact rd_retPz C rfl (by rw [hasB_nI hj, h17]; rfl) dX0_has_25
      · refine lv_iconst (v := nI 1) hx hb dX0_has_20 (by decide) ?_
        refine lv_goto (tgt := 25) hx hb dX0_has_21 (by decide) ?_
        subst hQe; exact rd_retPz C rfl (by rw [hasB_nI hj, h17]; rfl) dX0_has_25
set_option maxHeartbeats 4000000 in
set_option maxRecDepth 100000 in
theorem mD_tasks (l : Launch) (D : va_G) (q : Nat → Nat) (K : Nat → ClassId) (pr n : Nat) (fc fl fp fo : Nat → Nat) (fb fa : Nat → Int32) (hB : BD pr n fc fl fp fo)  : CtP l yX0_tasks cX0_tasks 1 (some .int) { frames := 0, cells := 0, slots := 0, locals := 0 } D (dtys K) (dkW q K pr n fc fl fp fo fb fa) [.ref (q 0)] (fun r => r = nI pr) := by
  refine rd_startP (by decide) (Nat.le_of_ble_eq_true rfl) ?_
  intro p e s m below meth c ls Q hQe C hK hP hl
  have C : CX p s m [.ref (q 0)].toArray meth c cX0_tasks 1 (some .int) RX0 := C
  have hx := C.1
  have hb := C.2.1
  have hl : lv_has ls 1 [(0, .ref (q 0))] := hl
  have hB0 := hB
  obtain ⟨hpr, hn, hbc, hbl, hbp, hbo⟩ := hB0
  refine lv_aload_n hx hb dX0_tasks_0 rfl (lv_at hl 0 rfl) ?_
  refine dg_present C hK hP dX0_tasks_1 ?_
  subst hQe; exact rd_retP C (rfl) dX0_tasks_4
set_option maxHeartbeats 4000000 in
set_option maxRecDepth 100000 in
theorem mD_at (l : Launch) (D : va_G) (q : Nat → Nat) (K : Nat → ClassId) (pr n : Nat) (fc fl fp fo : Nat → Nat) (fb fa : Nat → Int32) (hB : BD pr n fc fl fp fo) (i : Int32) : CtP l yX0_at cX0_at 2 (some .int) { frames := 0, cells := 0, slots := 0, locals := 0 } D (dtys K) (dkW q K pr n fc fl fp fo fb fa) [.ref (q 0), .int i] (fun r => r = atF n fo i) := by
  refine rd_startP (by decide) (Nat.le_of_ble_eq_true rfl) ?_
  intro p e s m below meth c ls Q hQe C hK hP hl
  have C : CX p s m [.ref (q 0), .int i].toArray meth c cX0_at 2 (some .int) RX0 := C
  have hx := C.1
  have hb := C.2.1
  have hl : lv_has ls 2 [(0, .ref (q 0)), (1, .int i)] := hl
  have hB0 := hB
  obtain ⟨hpr, hn, hbc, hbl, hbp, hbo⟩ := hB0
  refine lv_iload_n hx hb dX0_at_0 rfl (lv_at hl 1 rfl) ?_
  refine lv_if_lt (tgt := 12) hx hb dX0_at_1 (by decide) (fun h1 => ?_) (fun h1 => ?_)
  · refine lv_iconst (v := (-1)) hx hb dX0_at_12 (by decide) ?_
    refine lv_goto (tgt := 22) hx hb dX0_at_13 (by decide) ?_
    subst hQe; exact rd_retP C (by simp [atF, h1]) dX0_at_22
  · refine lv_iload_n hx hb dX0_at_4 rfl (lv_at hl 1 rfl) ?_
    refine lv_aload_n hx hb dX0_at_5 rfl (lv_at hl 0 rfl) ?_
    refine dg_count C hK hP dX0_at_6 ?_
    refine lv_icmp_lt (tgt := 16) hx hb dX0_at_9 (by decide) (fun h9 => ?_) (fun h9 => ?_)
    · obtain ⟨j, hj, rfl⟩ := rd_idx (n := n) (by omega) h1 (rd_lt_of h9)
      refine lv_aload_n hx hb dX0_at_16 rfl (lv_at hl 0 rfl) ?_
      refine dg_order C hK hP dX0_at_17 ?_
      refine lv_iload_n hx hb dX0_at_20 rfl (lv_at hl 1 rfl) ?_
      refine dl_order C hK hP (by omega) dX0_at_21 ?_
      subst hQe; exact rd_retP C ((atF_in hj hn).symm) dX0_at_22
    · refine lv_iconst (v := (-1)) hx hb dX0_at_12 (by decide) ?_
      refine lv_goto (tgt := 22) hx hb dX0_at_13 (by decide) ?_
      subst hQe; exact rd_retP C (by simp [atF, Int32.not_lt.mp h9]) dX0_at_22
set_option maxHeartbeats 4000000 in
set_option maxRecDepth 100000 in
theorem mD_placeOf (l : Launch) (D : va_G) (q : Nat → Nat) (K : Nat → ClassId) (pr n : Nat) (fc fl fp fo : Nat → Nat) (fb fa : Nat → Int32) (hB : BD pr n fc fl fp fo) (k i0 : Nat) (hk : k < 5) (hi : i0 < n) (ho : fo i0 = k) (hj : ∀ j, j < i0 → fo j ≠ k) : CtP l yX0_placeOf cX0_placeOf 3 (some .int) { frames := 0, cells := 0, slots := 0, locals := 0 } D (dtys K) (dkW q K pr n fc fl fp fo fb fa) [.ref (q 0), .int (nI k)] (fun r => r = nI i0) := by
  refine rd_startP (by decide) (Nat.le_of_ble_eq_true rfl) ?_
  intro p e s m below meth c ls Q hQe C hK hP hl
  have C : CX p s m [.ref (q 0), .int (nI k)].toArray meth c cX0_placeOf 3 (some .int) RX0 := C
  have hx := C.1
  have hb := C.2.1
  have hl : lv_has ls 3 [(0, .ref (q 0)), (1, .int (nI k))] := hl
  have hB0 := hB
  obtain ⟨hpr, hn, hbc, hbl, hbp, hbo⟩ := hB0
  have loop : ∀ (d : Nat) (i : Nat), i0 < i + d → i ≤ i0 → ∀ (ls : Array Slot), lv_has ls 3 [(2, .int (nI i)), (0, .ref (q 0)), (1, .int (nI k))] → W p l e { frames := 0, cells := 0, slots := 0, locals := 0 } s m [.ref (q 0), .int (nI k)].toArray below meth c s.heap [] 0 0 Q (F0 m 2 ls []) := by
    intro d
    induction d with
    | zero => intro i hd hle ls hl; omega
    | succ d ih =>
      intro i hd hle ls hl
      refine lv_iload_n hx hb dX0_placeOf_2 rfl (lv_at hl 0 rfl) ?_
      refine lv_aload_n hx hb dX0_placeOf_3 rfl (lv_at hl 1 rfl) ?_
      refine dg_count C hK hP dX0_placeOf_4 ?_
      refine lv_iconst (v := nI 1) hx hb dX0_placeOf_7 (by decide) ?_
      refine rd_isub hx hb (by omega) dX0_placeOf_8 ?_
      refine rd_icmp_ge (tgt := 28) hx hb (by omega) (by omega) dX0_placeOf_9 (by decide) (fun h9 => ?_) (fun h9 => ?_)
      · have h2 : i = i0 := by omega
        subst h2
        refine lv_iload_n hx hb dX0_placeOf_28 rfl (lv_at hl 0 rfl) ?_
        subst hQe; exact rd_retP C (rfl) dX0_placeOf_29
      · refine lv_aload_n hx hb dX0_placeOf_12 rfl (lv_at hl 1 rfl) ?_
        refine dg_order C hK hP dX0_placeOf_13 ?_
        refine lv_iload_n hx hb dX0_placeOf_16 rfl (lv_at hl 0 rfl) ?_
        refine dl_order C hK hP (by omega) dX0_placeOf_17 ?_
        have hoi := hbo i
        refine lv_iload_n hx hb dX0_placeOf_18 rfl (lv_at hl 2 rfl) ?_
        refine rd_icmp_eq (tgt := 28) hx hb (by omega) (by omega) dX0_placeOf_19 (by decide) (fun h19 => ?_) (fun h19 => ?_)
        · have h2 : i = i0 := Nat.le_antisymm hle (Nat.le_of_not_lt fun q => hj i q h19)
          subst h2
          refine lv_iload_n hx hb dX0_placeOf_28 rfl (lv_at hl 0 rfl) ?_
          subst hQe; exact rd_retP C (rfl) dX0_placeOf_29
        · refine lv_iinc (v := nI (i + 1)) (lv' := [(2, .int (nI (i + 1))), (0, .ref (q 0)), (1, .int (nI k))]) hx hb dX0_placeOf_22 hl (k := 0) rfl (rd_inc1 _) (by decide) rfl (fun ls hl => ?_)
          refine lv_goto (tgt := 2) hx hb dX0_placeOf_25 (by decide) ?_
          have h2 : i ≠ i0 := fun q => h19 (by rw [q]; exact ho)
          exact ih (i + 1) (by omega) (by omega) ls (lv_sub hl [0, 1, 2] rfl)
  refine lv_iconst (v := nI 0) hx hb dX0_placeOf_0 (by decide) ?_
  refine lv_istore_n (lv' := [(2, .int (nI 0)), (0, .ref (q 0)), (1, .int (nI k))]) hx hb dX0_placeOf_1 rfl hl (by decide) rfl (fun ls hl => ?_)
  exact loop (i0 + 1) 0 (by omega) (by omega) ls (lv_sub hl [0, 1, 2] rfl)
set_option maxHeartbeats 4000000 in
set_option maxRecDepth 100000 in
theorem mD_workIn (l : Launch) (D : va_G) (q : Nat → Nat) (K : Nat → ClassId) (pr n : Nat) (fc fl fp fo : Nat → Nat) (fb fa : Nat → Int32) (hB : BD pr n fc fl fp fo) (S t : Nat) (hS : S < 2 ^ 31) (ht : t ≤ 1000) : CtP l yX0_workIn cX0_workIn 6 (some .int) { frames := 1, cells := 0, slots := 0, locals := 21 } D (dtys K) (dkW q K pr n fc fl fp fo fb fa) [.ref (q 0), .int (nI S), .int (nI t)] (fun r => r = nI (wk fc fp S t)) := by
  refine rd_startP (by decide) (Nat.le_of_ble_eq_true rfl) ?_
  intro p e s m below meth c ls Q hQe C hK hP hl
  have C : CX p s m [.ref (q 0), .int (nI S), .int (nI t)].toArray meth c cX0_workIn 6 (some .int) RX0 := C
  have hx := C.1
  have hb := C.2.1
  have hl : lv_has ls 6 [(0, .ref (q 0)), (1, .int (nI S)), (2, .int (nI t))] := hl
  have hB0 := hB
  obtain ⟨hpr, hn, hbc, hbl, hbp, hbo⟩ := hB0
  have loop : ∀ (d : Nat) (k : Nat), 5 < k + d → k ≤ 5 → ∀ (ls : Array Slot), lv_has ls 6 [(4, .int (nI k)), (3, .int (nI (wkL fc fp S t k))), (0, .ref (q 0)), (1, .int (nI S)), (2, .int (nI t))] → W p l e { frames := 1, cells := 0, slots := 0, locals := 21 } s m [.ref (q 0), .int (nI S), .int (nI t)].toArray below meth c s.heap [] 0 0 Q (F0 m 5 ls []) := by
    intro d
    induction d with
    | zero => intro k hd hk ls hl; omega
    | succ d ih =>
      intro k hd hk ls hl
      refine lv_iload hx hb dX0_workIn_5 (lv_at hl 0 rfl) ?_
      refine lv_iconst (v := nI 5) hx hb dX0_workIn_7 (by decide) ?_
      refine rd_icmp_ge (tgt := 69) hx hb (by omega) (by omega) dX0_workIn_8 (by decide) (fun h8 => ?_) (fun h8 => ?_)
      · refine lv_iload_n hx hb dX0_workIn_69 rfl (lv_at hl 1 rfl) ?_
        subst hQe; exact rd_retP C (by rw [show k = 5 by omega]; rfl) dX0_workIn_70
      · refine lv_iload_n hx hb dX0_workIn_11 rfl (lv_at hl 3 rfl) ?_
        refine lv_iload hx hb dX0_workIn_12 (lv_at hl 0 rfl) ?_
        refine rd_callS (n := 2) C (mD_in l D S k hS (by omega)) (hK.sub (tys' := []) [] rfl) (lw_S q106 q107 q22 q108) (by decide +kernel) rfl ⟨rfl, rfl⟩ ⟨Nat.le_of_ble_eq_true rfl, Nat.le_of_ble_eq_true rfl⟩ rfl hl.1 (Nat.le_of_ble_eq_true rfl) ⟨Nat.zero_le _, Nat.zero_le _⟩ dX0_workIn_14 (fun r hr => ?_)
        subst hr
        refine rd_ifb_eq (tgt := 63) hx hb dX0_workIn_17 (by decide) (fun h17 => ?_) (fun h17 => ?_)
        · refine lv_iinc (v := nI (k + 1)) (lv' := [(4, .int (nI (k + 1))), (3, .int (nI (wkL fc fp S t k))), (0, .ref (q 0)), (1, .int (nI S)), (2, .int (nI t))]) hx hb dX0_workIn_63 hl (k := 0) rfl (rd_inc1 _) (by decide) rfl (fun ls hl => ?_)
          refine lv_goto (tgt := 5) hx hb dX0_workIn_66 (by decide) ?_
          have e : wkL fc fp S t k = wkL fc fp S t (k + 1) := by simp [wkL, h17]
          rw [e] at hl
          exact ih (k + 1) (by omega) (by omega) ls (lv_sub hl [0, 1, 2, 3, 4] rfl)
        · refine lv_aload_n hx hb dX0_workIn_20 rfl (lv_at hl 2 rfl) ?_
          refine dg_periods C hK hP dX0_workIn_21 ?_
          refine lv_iload hx hb dX0_workIn_24 (lv_at hl 0 rfl) ?_
          refine dl_periods C hK hP (by omega) dX0_workIn_26 ?_
          have hpk := hbp k
          refine rd_if_le (tgt := 40) hx hb (by omega) dX0_workIn_27 (by decide) (fun h27 => ?_) (fun h27 => ?_)
          · refine lv_iconst (v := nI 1) hx hb dX0_workIn_40 (by decide) ?_
            refine lv_istore (lv' := [(5, .int (nI 1)), (4, .int (nI k)), (3, .int (nI (wkL fc fp S t k))), (0, .ref (q 0)), (1, .int (nI S)), (2, .int (nI t))]) hx hb dX0_workIn_41 hl (by decide) rfl (fun ls hl => ?_)
            refine lv_iload_n hx hb dX0_workIn_43 rfl (lv_at hl 2 rfl) ?_
            refine lv_iload_n hx hb dX0_workIn_44 rfl (lv_at hl 5 rfl) ?_
            refine lv_iload hx hb dX0_workIn_45 (lv_at hl 0 rfl) ?_
            refine rd_iadd hx hb dX0_workIn_47 ?_
            refine lv_iconst (v := nI 1) hx hb dX0_workIn_48 (by decide) ?_
            refine rd_isub hx hb (by omega) dX0_workIn_49 ?_
            refine lv_iload hx hb dX0_workIn_50 (lv_at hl 0 rfl) ?_
            refine rd_idiv hx hb (by have := hbp k; omega) (by omega) (by have := hbp k; omega) dX0_workIn_52 ?_
            refine lv_aload_n hx hb dX0_workIn_53 rfl (lv_at hl 3 rfl) ?_
            refine dg_costs C hK hP dX0_workIn_54 ?_
            refine lv_iload hx hb dX0_workIn_57 (lv_at hl 1 rfl) ?_
            refine dl_costs C hK hP (by omega) dX0_workIn_59 ?_
            refine rd_imul hx hb dX0_workIn_60 ?_
            refine rd_iadd hx hb dX0_workIn_61 ?_
            refine lv_istore_n (lv' := [(3, .int (nI ((wkL fc fp S t k) + ((((t + 1) - 1) / 1) * (fc k))))), (5, .int (nI 1)), (4, .int (nI k)), (0, .ref (q 0)), (1, .int (nI S)), (2, .int (nI t))]) hx hb dX0_workIn_62 rfl hl (by decide) rfl (fun ls hl => ?_)
            refine lv_iinc (v := nI (k + 1)) (lv' := [(4, .int (nI (k + 1))), (3, .int (nI ((wkL fc fp S t k) + ((((t + 1) - 1) / 1) * (fc k))))), (5, .int (nI 1)), (0, .ref (q 0)), (1, .int (nI S)), (2, .int (nI t))]) hx hb dX0_workIn_63 hl (k := 2) rfl (rd_inc1 _) (by decide) rfl (fun ls hl => ?_)
            refine lv_goto (tgt := 5) hx hb dX0_workIn_66 (by decide) ?_
            have e : (wkL fc fp S t k) + ((((t + 1) - 1) / 1) * (fc k)) = wkL fc fp S t (k + 1) := by simp [wkL, wkT, h17, h27]
            rw [e] at hl
            exact ih (k + 1) (by omega) (by omega) ls (lv_sub hl [0, 1, 3, 4, 5] rfl)
          · refine lv_aload_n hx hb dX0_workIn_30 rfl (lv_at hl 2 rfl) ?_
            refine dg_periods C hK hP dX0_workIn_31 ?_
            refine lv_iload hx hb dX0_workIn_34 (lv_at hl 0 rfl) ?_
            refine dl_periods C hK hP (by omega) dX0_workIn_36 ?_
            refine lv_goto (tgt := 41) hx hb dX0_workIn_37 (by decide) ?_
            refine lv_istore (lv' := [(5, .int (nI (fp k))), (4, .int (nI k)), (3, .int (nI (wkL fc fp S t k))), (0, .ref (q 0)), (1, .int (nI S)), (2, .int (nI t))]) hx hb dX0_workIn_41 hl (by decide) rfl (fun ls hl => ?_)
            refine lv_iload_n hx hb dX0_workIn_43 rfl (lv_at hl 2 rfl) ?_
            refine lv_iload_n hx hb dX0_workIn_44 rfl (lv_at hl 5 rfl) ?_
            refine lv_iload hx hb dX0_workIn_45 (lv_at hl 0 rfl) ?_
            refine rd_iadd hx hb dX0_workIn_47 ?_
            refine lv_iconst (v := nI 1) hx hb dX0_workIn_48 (by decide) ?_
            refine rd_isub hx hb (by omega) dX0_workIn_49 ?_
            refine lv_iload hx hb dX0_workIn_50 (lv_at hl 0 rfl) ?_
            refine rd_idiv hx hb (by have := hbp k; omega) (by omega) (by have := hbp k; omega) dX0_workIn_52 ?_
            refine lv_aload_n hx hb dX0_workIn_53 rfl (lv_at hl 3 rfl) ?_
            refine dg_costs C hK hP dX0_workIn_54 ?_
            refine lv_iload hx hb dX0_workIn_57 (lv_at hl 1 rfl) ?_
            refine dl_costs C hK hP (by omega) dX0_workIn_59 ?_
            refine rd_imul hx hb dX0_workIn_60 ?_
            refine rd_iadd hx hb dX0_workIn_61 ?_
            refine lv_istore_n (lv' := [(3, .int (nI ((wkL fc fp S t k) + ((((t + (fp k)) - 1) / (fp k)) * (fc k))))), (5, .int (nI (fp k))), (4, .int (nI k)), (0, .ref (q 0)), (1, .int (nI S)), (2, .int (nI t))]) hx hb dX0_workIn_62 rfl hl (by decide) rfl (fun ls hl => ?_)
            refine lv_iinc (v := nI (k + 1)) (lv' := [(4, .int (nI (k + 1))), (3, .int (nI ((wkL fc fp S t k) + ((((t + (fp k)) - 1) / (fp k)) * (fc k))))), (5, .int (nI (fp k))), (0, .ref (q 0)), (1, .int (nI S)), (2, .int (nI t))]) hx hb dX0_workIn_63 hl (k := 2) rfl (rd_inc1 _) (by decide) rfl (fun ls hl => ?_)
            refine lv_goto (tgt := 5) hx hb dX0_workIn_66 (by decide) ?_
            have e : (wkL fc fp S t k) + ((((t + (fp k)) - 1) / (fp k)) * (fc k)) = wkL fc fp S t (k + 1) := by simp [wkL, wkT, h17, h27]
            rw [e] at hl
            exact ih (k + 1) (by omega) (by omega) ls (lv_sub hl [0, 1, 3, 4, 5] rfl)
  refine lv_iconst (v := nI 0) hx hb dX0_workIn_0 (by decide) ?_
  refine lv_istore_n (lv' := [(3, .int (nI 0)), (0, .ref (q 0)), (1, .int (nI S)), (2, .int (nI t))]) hx hb dX0_workIn_1 rfl hl (by decide) rfl (fun ls hl => ?_)
  refine lv_iconst (v := nI 0) hx hb dX0_workIn_2 (by decide) ?_
  refine lv_istore (lv' := [(4, .int (nI 0)), (3, .int (nI 0)), (0, .ref (q 0)), (1, .int (nI S)), (2, .int (nI t))]) hx hb dX0_workIn_3 hl (by decide) rfl (fun ls hl => ?_)
  exact loop 6 0 (by omega) (by omega) ls (lv_sub hl [0, 1, 2, 3, 4] rfl)
set_option maxHeartbeats 4000000 in
set_option maxRecDepth 100000 in
theorem mD_responseUnder (l : Launch) (D : va_G) (q : Nat → Nat) (K : Nat → ClassId) (pr n : Nat) (fc fl fp fo : Nat → Nat) (fb fa : Nat → Int32) (hB : BD pr n fc fl fp fo) (k S : Nat) (hk : k < 5) (hS : S < 2 ^ 31) : CtP l yX0_responseUnder cX0_responseUnder 6 (some .int) { frames := 2, cells := 0, slots := 0, locals := 46 } D (dtys K) (dkW q K pr n fc fl fp fo fb fa) [.ref (q 0), .int (nI k), .int (nI S)] (fun r => r = rI (rsp fc fp k S)) := by
  refine rd_startP (by decide) (Nat.le_of_ble_eq_true rfl) ?_
  intro p e s m below meth c ls Q hQe C hK hP hl
  have C : CX p s m [.ref (q 0), .int (nI k), .int (nI S)].toArray meth c cX0_responseUnder 6 (some .int) RX0 := C
  have hx := C.1
  have hb := C.2.1
  have hl : lv_has ls 6 [(0, .ref (q 0)), (1, .int (nI k)), (2, .int (nI S))] := hl
  have hB0 := hB
  obtain ⟨hpr, hn, hbc, hbl, hbp, hbo⟩ := hB0
  have loop : ∀ (d : Nat) (f rd t : Nat), 16 < rd + d → rd + f = 16 → t ≤ 15 → rspL fc fp k S f t = rsp fc fp k S → ∀ (ls : Array Slot), lv_has ls 6 [(4, .int (nI rd)), (3, .int (nI t)), (0, .ref (q 0)), (1, .int (nI k)), (2, .int (nI S))] → W p l e { frames := 2, cells := 0, slots := 0, locals := 46 } s m [.ref (q 0), .int (nI k), .int (nI S)].toArray below meth c s.heap [] 0 0 Q (F0 m 10 ls []) := by
    intro d
    induction d with
    | zero => intro f rd t hd hfr ht hf ls hl; omega
    | succ d ih =>
      intro f rd t hd hfr ht hf ls hl
      refine lv_iload hx hb dX0_responseUnder_10 (lv_at hl 0 rfl) ?_
      refine lv_bipush (v := nI 15) hx hb dX0_responseUnder_12 (by decide) ?_
      refine rd_icmp_gt (tgt := 63) hx hb (by omega) (by omega) dX0_responseUnder_14 (by decide) (fun h14 => ?_) (fun h14 => ?_)
      · obtain rfl : f = 0 := by omega
        refine lv_bipush (v := (-3)) hx hb dX0_responseUnder_63 (by decide) ?_
        subst hQe; exact rd_retP C (by rw [← hf]; rfl) dX0_responseUnder_65
      · obtain ⟨f, rfl⟩ : ∃ g, f = g + 1 := ⟨f - 1, by omega⟩
        refine lv_aload_n hx hb dX0_responseUnder_17 rfl (lv_at hl 2 rfl) ?_
        refine dg_costs C hK hP dX0_responseUnder_18 ?_
        refine lv_iload_n hx hb dX0_responseUnder_21 rfl (lv_at hl 3 rfl) ?_
        refine dl_costs C hK hP (by omega) dX0_responseUnder_22 ?_
        refine lv_aload_n hx hb dX0_responseUnder_23 rfl (lv_at hl 2 rfl) ?_
        refine lv_iload_n hx hb dX0_responseUnder_24 rfl (lv_at hl 4 rfl) ?_
        refine lv_iload_n hx hb dX0_responseUnder_25 rfl (lv_at hl 1 rfl) ?_
        refine rd_callP (n := 2) (q := (RX0, TX0, 8)) C hK hP (mD_workIn l D q K pr n fc fl fp fo fb fa hB S t hS (by omega)) (lw_V q102 q104 qs4 q22 q105) (by decide +kernel) rfl ⟨rfl, rfl⟩ ⟨Nat.le_of_ble_eq_true rfl, Nat.le_of_ble_eq_true rfl⟩ 0 0 rfl rfl rfl hl.1 (Nat.le_of_ble_eq_true rfl) ⟨Nat.zero_le _, Nat.zero_le _⟩ dX0_responseUnder_26 (fun r hr => ?_)
        subst hr
        have hw := wk_le hbc hbp S t; have hck := hbc k; have hpk := hbp k
        refine rd_iadd hx hb dX0_responseUnder_29 ?_
        refine lv_istore (lv' := [(5, .int (nI ((fc k) + (wk fc fp S t)))), (4, .int (nI rd)), (3, .int (nI t)), (0, .ref (q 0)), (1, .int (nI k)), (2, .int (nI S))]) hx hb dX0_responseUnder_30 hl (by decide) rfl (fun ls hl => ?_)
        refine lv_iload hx hb dX0_responseUnder_32 (lv_at hl 0 rfl) ?_
        refine lv_iload_n hx hb dX0_responseUnder_34 rfl (lv_at hl 2 rfl) ?_
        refine rd_icmp_ne (tgt := 40) hx hb (by omega) (by omega) dX0_responseUnder_35 (by decide) (fun h35 => ?_) (fun h35 => ?_)
        · refine lv_iload hx hb dX0_responseUnder_40 (lv_at hl 0 rfl) ?_
          refine lv_aload_n hx hb dX0_responseUnder_42 rfl (lv_at hl 3 rfl) ?_
          refine dg_periods C hK hP dX0_responseUnder_43 ?_
          refine lv_iload_n hx hb dX0_responseUnder_46 rfl (lv_at hl 4 rfl) ?_
          refine dl_periods C hK hP (by omega) dX0_responseUnder_47 ?_
          refine rd_icmp_le (tgt := 54) hx hb (by omega) (by omega) dX0_responseUnder_48 (by decide) (fun h48 => ?_) (fun h48 => ?_)
          · refine lv_iload hx hb dX0_responseUnder_54 (lv_at hl 0 rfl) ?_
            refine lv_istore_n (lv' := [(3, .int (nI ((fc k) + (wk fc fp S t)))), (5, .int (nI ((fc k) + (wk fc fp S t)))), (4, .int (nI rd)), (0, .ref (q 0)), (1, .int (nI k)), (2, .int (nI S))]) hx hb dX0_responseUnder_56 rfl hl (by decide) rfl (fun ls hl => ?_)
            refine lv_iinc (v := nI (rd + 1)) (lv' := [(4, .int (nI (rd + 1))), (3, .int (nI ((fc k) + (wk fc fp S t)))), (5, .int (nI ((fc k) + (wk fc fp S t)))), (0, .ref (q 0)), (1, .int (nI k)), (2, .int (nI S))]) hx hb dX0_responseUnder_57 hl (k := 2) rfl (rd_inc1 _) (by decide) rfl (fun ls hl => ?_)
            refine lv_goto (tgt := 10) hx hb dX0_responseUnder_60 (by decide) ?_
            rw [rspL, if_neg h35, if_neg (by omega)] at hf
            exact ih f (rd + 1) (fc k + wk fc fp S t) (by omega) (by omega) (by omega) hf ls (lv_sub hl [0, 1, 3, 4, 5] rfl)
          · refine lv_bipush (v := (-3)) hx hb dX0_responseUnder_51 (by decide) ?_
            subst hQe; exact rd_retP C (by rw [← hf, rspL, if_neg h35, if_pos h48]; rfl) dX0_responseUnder_53
        · refine lv_iload_n hx hb dX0_responseUnder_38 rfl (lv_at hl 2 rfl) ?_
          subst hQe; exact rd_retP C (by rw [← hf, rspL, if_pos h35]; rfl) dX0_responseUnder_39
  refine lv_aload_n hx hb dX0_responseUnder_0 rfl (lv_at hl 0 rfl) ?_
  refine dg_costs C hK hP dX0_responseUnder_1 ?_
  refine lv_iload_n hx hb dX0_responseUnder_4 rfl (lv_at hl 1 rfl) ?_
  refine dl_costs C hK hP (by omega) dX0_responseUnder_5 ?_
  have hck := hbc k
  refine lv_istore_n (lv' := [(3, .int (nI (fc k))), (0, .ref (q 0)), (1, .int (nI k)), (2, .int (nI S))]) hx hb dX0_responseUnder_6 rfl hl (by decide) rfl (fun ls hl => ?_)
  refine lv_iconst (v := nI 0) hx hb dX0_responseUnder_7 (by decide) ?_
  refine lv_istore (lv' := [(4, .int (nI 0)), (3, .int (nI (fc k))), (0, .ref (q 0)), (1, .int (nI k)), (2, .int (nI S))]) hx hb dX0_responseUnder_8 hl (by decide) rfl (fun ls hl => ?_)
  exact loop 17 16 0 (fc k) (by omega) (by omega) (by omega) rfl ls (lv_sub hl [0, 1, 2, 3, 4] rfl)
set_option maxHeartbeats 4000000 in
set_option maxRecDepth 100000 in
theorem mD_inTimeUnder (l : Launch) (D : va_G) (q : Nat → Nat) (K : Nat → ClassId) (pr n : Nat) (fc fl fp fo : Nat → Nat) (fb fa : Nat → Int32) (hB : BD pr n fc fl fp fo) (k S : Nat) (hk : k < 5) (hS : S < 2 ^ 31) : CtP l yX0_inTimeUnder cX0_inTimeUnder 4 (some .boolean) { frames := 3, cells := 0, slots := 0, locals := 71 } D (dtys K) (dkW q K pr n fc fl fp fo fb fa) [.ref (q 0), .int (nI k), .int (nI S)] (fun r => r = bI (tm fc fl fp k S)) := by
  refine rd_startP (by decide) (Nat.le_of_ble_eq_true rfl) ?_
  intro p e s m below meth c ls Q hQe C hK hP hl
  have C : CX p s m [.ref (q 0), .int (nI k), .int (nI S)].toArray meth c cX0_inTimeUnder 4 (some .boolean) RX0 := C
  have hx := C.1
  have hb := C.2.1
  have hl : lv_has ls 4 [(0, .ref (q 0)), (1, .int (nI k)), (2, .int (nI S))] := hl
  have hB0 := hB
  obtain ⟨hpr, hn, hbc, hbl, hbp, hbo⟩ := hB0
  refine lv_aload_n hx hb dX0_inTimeUnder_0 rfl (lv_at hl 0 rfl) ?_
  refine lv_iload_n hx hb dX0_inTimeUnder_1 rfl (lv_at hl 1 rfl) ?_
  refine lv_iload_n hx hb dX0_inTimeUnder_2 rfl (lv_at hl 2 rfl) ?_
  refine rd_callP (n := 2) (q := (RX0, TX0, 8)) C hK hP (mD_responseUnder l D q K pr n fc fl fp fo fb fa hB k S hk hS) (lw_V q98 q100 qs3 q22 q101) (by decide +kernel) rfl ⟨rfl, rfl⟩ ⟨Nat.le_of_ble_eq_true rfl, Nat.le_of_ble_eq_true rfl⟩ 0 0 rfl rfl rfl hl.1 (Nat.le_of_ble_eq_true rfl) ⟨Nat.zero_le _, Nat.zero_le _⟩ dX0_inTimeUnder_3 (fun r hr => ?_)
  subst hr
  rcases hq : rsp fc fp k S with _ | t
  · show W p l e _ s m _ below meth c s.heap [] 0 0 Q (F0 m 6 ls [.int (-3)])
    refine lv_istore_n (lv' := [(3, .int ((-3))), (0, .ref (q 0)), (1, .int (nI k)), (2, .int (nI S))]) hx hb dX0_inTimeUnder_6 rfl hl (by decide) rfl (fun ls hl => ?_)
    refine lv_iload_n hx hb dX0_inTimeUnder_7 rfl (lv_at hl 0 rfl) ?_
    refine lv_bipush (v := (-3)) hx hb dX0_inTimeUnder_8 (by decide) ?_
    refine lv_icmp_eq (tgt := 27) hx hb dX0_inTimeUnder_10 (by decide) (fun h10 => ?_) (fun h10 => ?_)
    · refine lv_iconst (v := nI 0) hx hb dX0_inTimeUnder_27 (by decide) ?_
      subst hQe; exact rd_retPz C rfl (by simp [tm, hq, bI, rd_v0]) dX0_inTimeUnder_28
    · exact absurd rfl h10
  · have htt := rsp_le hbc hbp hq
    show W p l e _ s m _ below meth c s.heap [] 0 0 Q (F0 m 6 ls [.int (nI t)])
    refine lv_istore_n (lv' := [(3, .int (nI t)), (0, .ref (q 0)), (1, .int (nI k)), (2, .int (nI S))]) hx hb dX0_inTimeUnder_6 rfl hl (by decide) rfl (fun ls hl => ?_)
    refine lv_iload_n hx hb dX0_inTimeUnder_7 rfl (lv_at hl 0 rfl) ?_
    refine lv_bipush (v := (-3)) hx hb dX0_inTimeUnder_8 (by decide) ?_
    refine lv_icmp_eq (tgt := 27) hx hb dX0_inTimeUnder_10 (by decide) (fun h10 => ?_) (fun h10 => ?_)
    · exact absurd h10 (rd_ne3 (by omega))
    · refine lv_iload_n hx hb dX0_inTimeUnder_13 rfl (lv_at hl 0 rfl) ?_
      refine lv_aload_n hx hb dX0_inTimeUnder_14 rfl (lv_at hl 1 rfl) ?_
      refine dg_limits C hK hP dX0_inTimeUnder_15 ?_
      refine lv_iload_n hx hb dX0_inTimeUnder_18 rfl (lv_at hl 2 rfl) ?_
      refine dl_limits C hK hP (by omega) dX0_inTimeUnder_19 ?_
      have hlk := hbl k
      refine rd_icmp_gt (tgt := 27) hx hb (by omega) (by omega) dX0_inTimeUnder_20 (by decide) (fun h20 => ?_) (fun h20 => ?_)
      · refine lv_iconst (v := nI 0) hx hb dX0_inTimeUnder_27 (by decide) ?_
        subst hQe; exact rd_retPz C rfl (by simp [tm, hq, bI, rd_v0, Nat.not_le.mpr h20]) dX0_inTimeUnder_28
      · refine lv_iconst (v := nI 1) hx hb dX0_inTimeUnder_23 (by decide) ?_
        refine lv_goto (tgt := 28) hx hb dX0_inTimeUnder_24 (by decide) ?_
        subst hQe; exact rd_retPz C rfl (by simp [tm, hq, bI, rd_v1, h20]) dX0_inTimeUnder_28
set_option maxHeartbeats 4000000 in
set_option maxRecDepth 100000 in
theorem mD_moreUrgent (l : Launch) (D : va_G) (q : Nat → Nat) (K : Nat → ClassId) (pr n : Nat) (fc fl fp fo : Nat → Nat) (fb fa : Nat → Int32) (hB : BD pr n fc fl fp fo) (k i0 : Nat) (hk : k < 5) (hi : i0 < n) (ho : fo i0 = k) (hj : ∀ j, j < i0 → fo j ≠ k) : CtP l yX0_moreUrgent cX0_moreUrgent 5 (some .int) { frames := 1, cells := 0, slots := 0, locals := 22 } D (dtys K) (dkW q K pr n fc fl fp fo fb fa) [.ref (q 0), .int (nI k)] (fun r => r = nI (muL fo i0)) := by
  refine rd_startP (by decide) (Nat.le_of_ble_eq_true rfl) ?_
  intro p e s m below meth c ls Q hQe C hK hP hl
  have C : CX p s m [.ref (q 0), .int (nI k)].toArray meth c cX0_moreUrgent 5 (some .int) RX0 := C
  have hx := C.1
  have hb := C.2.1
  have hl : lv_has ls 5 [(0, .ref (q 0)), (1, .int (nI k))] := hl
  have hB0 := hB
  obtain ⟨hpr, hn, hbc, hbl, hbp, hbo⟩ := hB0
  have loop : ∀ (d : Nat) (i : Nat), i0 < i + d → i ≤ i0 → ∀ (ls : Array Slot), lv_has ls 5 [(4, .int (nI i)), (3, .int (nI i0)), (2, .int (nI (muL fo i))), (0, .ref (q 0)), (1, .int (nI k))] → W p l e { frames := 1, cells := 0, slots := 0, locals := 22 } s m [.ref (q 0), .int (nI k)].toArray below meth c s.heap [] 0 0 Q (F0 m 11 ls []) := by
    intro d
    induction d with
    | zero => intro i hd hle ls hl; omega
    | succ d ih =>
      intro i hd hle ls hl
      refine lv_iload hx hb dX0_moreUrgent_11 (lv_at hl 0 rfl) ?_
      refine lv_iload_n hx hb dX0_moreUrgent_13 rfl (lv_at hl 1 rfl) ?_
      refine rd_icmp_ge (tgt := 35) hx hb (by omega) (by omega) dX0_moreUrgent_14 (by decide) (fun h14 => ?_) (fun h14 => ?_)
      · refine lv_iload_n hx hb dX0_moreUrgent_35 rfl (lv_at hl 2 rfl) ?_
        subst hQe; exact rd_retP C (by rw [show i = i0 by omega]) dX0_moreUrgent_36
      · refine lv_iload_n hx hb dX0_moreUrgent_17 rfl (lv_at hl 2 rfl) ?_
        refine lv_iconst (v := nI 1) hx hb dX0_moreUrgent_18 (by decide) ?_
        refine lv_aload_n hx hb dX0_moreUrgent_19 rfl (lv_at hl 3 rfl) ?_
        refine dg_order C hK hP dX0_moreUrgent_20 ?_
        refine lv_iload hx hb dX0_moreUrgent_23 (lv_at hl 0 rfl) ?_
        refine dl_order C hK hP (by omega) dX0_moreUrgent_25 ?_
        have hoi := hbo i
        refine rd_ishl1 hx hb (by omega) dX0_moreUrgent_26 ?_
        refine rd_ior hx hb dX0_moreUrgent_27 ?_
        refine lv_istore_n (lv' := [(2, .int (nI ((muL fo i) ||| (2 ^ (fo i))))), (4, .int (nI i)), (3, .int (nI i0)), (0, .ref (q 0)), (1, .int (nI k))]) hx hb dX0_moreUrgent_28 rfl hl (by decide) rfl (fun ls hl => ?_)
        refine lv_iinc (v := nI (i + 1)) (lv' := [(4, .int (nI (i + 1))), (2, .int (nI ((muL fo i) ||| (2 ^ (fo i))))), (3, .int (nI i0)), (0, .ref (q 0)), (1, .int (nI k))]) hx hb dX0_moreUrgent_29 hl (k := 1) rfl (rd_inc1 _) (by decide) rfl (fun ls hl => ?_)
        refine lv_goto (tgt := 11) hx hb dX0_moreUrgent_32 (by decide) ?_
        exact ih (i + 1) (by omega) (by omega) ls (lv_sub hl [0, 2, 1, 3, 4] rfl)
  refine lv_iconst (v := nI 0) hx hb dX0_moreUrgent_0 (by decide) ?_
  refine lv_istore_n (lv' := [(2, .int (nI 0)), (0, .ref (q 0)), (1, .int (nI k))]) hx hb dX0_moreUrgent_1 rfl hl (by decide) rfl (fun ls hl => ?_)
  refine lv_aload_n hx hb dX0_moreUrgent_2 rfl (lv_at hl 1 rfl) ?_
  refine lv_iload_n hx hb dX0_moreUrgent_3 rfl (lv_at hl 2 rfl) ?_
  refine rd_callP (n := 1) (q := (RX0, TX0, 8)) C hK hP (mD_placeOf l D q K pr n fc fl fp fo fb fa hB k i0 hk hi ho hj) (lw_V q74 q76 qs1 q22 q77) (by decide +kernel) rfl ⟨rfl, rfl⟩ ⟨Nat.le_of_ble_eq_true rfl, Nat.le_of_ble_eq_true rfl⟩ 0 0 rfl rfl rfl hl.1 (Nat.le_of_ble_eq_true rfl) ⟨Nat.zero_le _, Nat.zero_le _⟩ dX0_moreUrgent_4 (fun r hr => ?_)
  subst hr
  refine lv_istore_n (lv' := [(3, .int (nI i0)), (2, .int (nI 0)), (0, .ref (q 0)), (1, .int (nI k))]) hx hb dX0_moreUrgent_7 rfl hl (by decide) rfl (fun ls hl => ?_)
  refine lv_iconst (v := nI 0) hx hb dX0_moreUrgent_8 (by decide) ?_
  refine lv_istore (lv' := [(4, .int (nI 0)), (3, .int (nI i0)), (2, .int (nI 0)), (0, .ref (q 0)), (1, .int (nI k))]) hx hb dX0_moreUrgent_9 hl (by decide) rfl (fun ls hl => ?_)
  exact loop (i0 + 1) 0 (by omega) (by omega) ls (lv_sub hl [0, 1, 2, 3, 4] rfl)
set_option maxHeartbeats 4000000 in
set_option maxRecDepth 100000 in
theorem mD_response (l : Launch) (D : va_G) (q : Nat → Nat) (K : Nat → ClassId) (pr n : Nat) (fc fl fp fo : Nat → Nat) (fb fa : Nat → Int32) (hB : BD pr n fc fl fp fo) (hO : OrdOK pr n fo) (k : Int32) : CtP l yX0_response cX0_response 3 (some .int) { frames := 3, cells := 0, slots := 0, locals := 71 } D (dtys K) (dkW q K pr n fc fl fp fo fb fa) [.ref (q 0), .int k] (fun r => r = if hasB pr k then rI (rsp fc fp k.toNatClampNeg (ab fo n k.toNatClampNeg)) else -1) := by
  refine rd_startP (by decide) (Nat.le_of_ble_eq_true rfl) ?_
  intro p e s m below meth c ls Q hQe C hK hP hl
  have C : CX p s m [.ref (q 0), .int k].toArray meth c cX0_response 3 (some .int) RX0 := C
  have hx := C.1
  have hb := C.2.1
  have hl : lv_has ls 3 [(0, .ref (q 0)), (1, .int k)] := hl
  have hB0 := hB
  obtain ⟨hpr, hn, hbc, hbl, hbp, hbo⟩ := hB0
  refine lv_aload_n hx hb dX0_response_0 rfl (lv_at hl 0 rfl) ?_
  refine lv_iload_n hx hb dX0_response_1 rfl (lv_at hl 1 rfl) ?_
  refine rd_callP (n := 1) (q := (RX0, TX0, 8)) C hK hP (mD_has l D q K pr n fc fl fp fo fb fa hB k) (lw_V q66 q68 qs0 q22 q69) (by decide +kernel) rfl ⟨rfl, rfl⟩ ⟨Nat.le_of_ble_eq_true rfl, Nat.le_of_ble_eq_true rfl⟩ 0 0 rfl rfl rfl hl.1 (Nat.le_of_ble_eq_true rfl) ⟨Nat.zero_le _, Nat.zero_le _⟩ dX0_response_2 (fun r hr => ?_)
  subst hr
  refine rd_ifb_ne (tgt := 10) hx hb dX0_response_5 (by decide) (fun h5 => ?_) (fun h5 => ?_)
  · obtain ⟨j, hj5, rfl, hjb⟩ := hasB_of h5
    obtain ⟨g1, g2, g3⟩ := ix_spec hO hj5 hjb
    have hab := ab_lt hbo n j
    refine lv_aload_n hx hb dX0_response_10 rfl (lv_at hl 0 rfl) ?_
    refine lv_iload_n hx hb dX0_response_11 rfl (lv_at hl 1 rfl) ?_
    refine rd_callP (n := 1) (q := (RX0, TX0, 8)) C hK hP (mD_moreUrgent l D q K pr n fc fl fp fo fb fa hB j (ix fo n j) hj5 g1 g2 g3) (lw_V q94 q96 qs2 q22 q97) (by decide +kernel) rfl ⟨rfl, rfl⟩ ⟨Nat.le_of_ble_eq_true rfl, Nat.le_of_ble_eq_true rfl⟩ 0 0 rfl rfl rfl hl.1 (Nat.le_of_ble_eq_true rfl) ⟨Nat.zero_le _, Nat.zero_le _⟩ dX0_response_12 (fun r hr => ?_)
    subst hr
    refine lv_istore_n (lv' := [(2, .int (nI (muL fo (ix fo n j)))), (0, .ref (q 0)), (1, .int (nI j))]) hx hb dX0_response_15 rfl hl (by decide) rfl (fun ls hl => ?_)
    refine lv_aload_n hx hb dX0_response_16 rfl (lv_at hl 1 rfl) ?_
    refine lv_iload_n hx hb dX0_response_17 rfl (lv_at hl 2 rfl) ?_
    refine lv_iload_n hx hb dX0_response_18 rfl (lv_at hl 0 rfl) ?_
    refine rd_callP (n := 2) (q := (RX0, TX0, 8)) C hK hP (mD_responseUnder l D q K pr n fc fl fp fo fb fa hB j (ab fo n j) hj5 (by omega)) (lw_V q98 q100 qs3 q22 q101) (by decide +kernel) rfl ⟨rfl, rfl⟩ ⟨Nat.le_of_ble_eq_true rfl, Nat.le_of_ble_eq_true rfl⟩ 0 0 rfl rfl rfl hl.1 (Nat.le_of_ble_eq_true rfl) ⟨Nat.zero_le _, Nat.zero_le _⟩ dX0_response_19 (fun r hr => ?_)
    subst hr
    subst hQe; exact rd_retP C (by rw [if_pos h5, nI_clamp (by omega)]) dX0_response_22
  · refine lv_iconst (v := (-1)) hx hb dX0_response_8 (by decide) ?_
    subst hQe; exact rd_retP C (by rw [if_neg (by rw [h5]; decide)]) dX0_response_9
set_option maxHeartbeats 4000000 in
set_option maxRecDepth 100000 in
theorem mD_inTime (l : Launch) (D : va_G) (q : Nat → Nat) (K : Nat → ClassId) (pr n : Nat) (fc fl fp fo : Nat → Nat) (fb fa : Nat → Int32) (hB : BD pr n fc fl fp fo) (hO : OrdOK pr n fo) : CtP l yX0_inTime cX0_inTime 4 (some .int) { frames := 4, cells := 0, slots := 0, locals := 94 } D (dtys K) (dkW q K pr n fc fl fp fo fb fa) [.ref (q 0)] (fun r => r = nI (itF pr n fc fl fp fo)) := by
  refine rd_startP (by decide) (Nat.le_of_ble_eq_true rfl) ?_
  intro p e s m below meth c ls Q hQe C hK hP hl
  have C : CX p s m [.ref (q 0)].toArray meth c cX0_inTime 4 (some .int) RX0 := C
  have hx := C.1
  have hb := C.2.1
  have hl : lv_has ls 4 [(0, .ref (q 0))] := hl
  have hB0 := hB
  obtain ⟨hpr, hn, hbc, hbl, hbp, hbo⟩ := hB0
  have loop : ∀ (d : Nat) (k : Nat), 5 < k + d → k ≤ 5 → ∀ (ls : Array Slot), lv_has ls 4 [(2, .int (nI k)), (1, .int (nI (itL (tk fc fl fp fo n) pr k))), (0, .ref (q 0))] → W p l e { frames := 4, cells := 0, slots := 0, locals := 94 } s m [.ref (q 0)].toArray below meth c s.heap [] 0 0 Q (F0 m 4 ls []) := by
    intro d
    induction d with
    | zero => intro k hd hk ls hl; omega
    | succ d ih =>
      intro k hd hk ls hl
      refine lv_iload_n hx hb dX0_inTime_4 rfl (lv_at hl 0 rfl) ?_
      refine lv_iconst (v := nI 5) hx hb dX0_inTime_5 (by decide) ?_
      refine rd_icmp_ge (tgt := 48) hx hb (by omega) (by omega) dX0_inTime_6 (by decide) (fun h6 => ?_) (fun h6 => ?_)
      · refine lv_iload_n hx hb dX0_inTime_48 rfl (lv_at hl 1 rfl) ?_
        subst hQe; exact rd_retP C (by rw [show k = 5 by omega]; rfl) dX0_inTime_49
      · refine lv_aload_n hx hb dX0_inTime_9 rfl (lv_at hl 2 rfl) ?_
        refine lv_iload_n hx hb dX0_inTime_10 rfl (lv_at hl 0 rfl) ?_
        refine rd_callP (n := 1) (q := (RX0, TX0, 8)) C hK hP (mD_has l D q K pr n fc fl fp fo fb fa hB (nI k)) (lw_V q66 q68 qs0 q22 q69) (by decide +kernel) rfl ⟨rfl, rfl⟩ ⟨Nat.le_of_ble_eq_true rfl, Nat.le_of_ble_eq_true rfl⟩ 0 0 rfl rfl rfl hl.1 (Nat.le_of_ble_eq_true rfl) ⟨Nat.zero_le _, Nat.zero_le _⟩ dX0_inTime_11 (fun r hr => ?_)
        subst hr
        refine rd_ifb_eq (tgt := 42) hx hb dX0_inTime_14 (by decide) (fun h14 => ?_) (fun h14 => ?_)
        · rw [hasB_nI (by omega)] at h14
          refine lv_iinc (v := nI (k + 1)) (lv' := [(2, .int (nI (k + 1))), (1, .int (nI (itL (tk fc fl fp fo n) pr k))), (0, .ref (q 0))]) hx hb dX0_inTime_42 hl (k := 0) rfl (rd_inc1 _) (by decide) rfl (fun ls hl => ?_)
          refine lv_goto (tgt := 4) hx hb dX0_inTime_45 (by decide) ?_
          have e : itL (tk fc fl fp fo n) pr k = itL (tk fc fl fp fo n) pr (k + 1) := by simp [itL, h14]
          rw [e] at hl
          exact ih (k + 1) (by omega) (by omega) ls (lv_sub hl [0, 1, 2] rfl)
        · rw [hasB_nI (by omega)] at h14
          obtain ⟨g1, g2, g3⟩ := ix_spec hO (by omega) h14
          have hab := ab_lt hbo n k
          refine lv_aload_n hx hb dX0_inTime_17 rfl (lv_at hl 2 rfl) ?_
          refine lv_iload_n hx hb dX0_inTime_18 rfl (lv_at hl 0 rfl) ?_
          refine rd_callP (n := 1) (q := (RX0, TX0, 8)) C hK hP (mD_moreUrgent l D q K pr n fc fl fp fo fb fa hB k (ix fo n k) (by omega) g1 g2 g3) (lw_V q94 q96 qs2 q22 q97) (by decide +kernel) rfl ⟨rfl, rfl⟩ ⟨Nat.le_of_ble_eq_true rfl, Nat.le_of_ble_eq_true rfl⟩ 0 0 rfl rfl rfl hl.1 (Nat.le_of_ble_eq_true rfl) ⟨Nat.zero_le _, Nat.zero_le _⟩ dX0_inTime_19 (fun r hr => ?_)
          subst hr
          refine lv_istore_n (lv' := [(3, .int (nI (muL fo (ix fo n k)))), (2, .int (nI k)), (1, .int (nI (itL (tk fc fl fp fo n) pr k))), (0, .ref (q 0))]) hx hb dX0_inTime_22 rfl hl (by decide) rfl (fun ls hl => ?_)
          refine lv_iload_n hx hb dX0_inTime_23 rfl (lv_at hl 2 rfl) ?_
          refine lv_aload_n hx hb dX0_inTime_24 rfl (lv_at hl 3 rfl) ?_
          refine lv_iload_n hx hb dX0_inTime_25 rfl (lv_at hl 1 rfl) ?_
          refine lv_iload_n hx hb dX0_inTime_26 rfl (lv_at hl 0 rfl) ?_
          refine rd_callP (n := 2) (q := (RX0, TX0, 8)) C hK hP (mD_inTimeUnder l D q K pr n fc fl fp fo fb fa hB k (ab fo n k) (by omega) (by omega)) (lw_V q117 q119 qs5 q22 q120) (by decide +kernel) rfl ⟨rfl, rfl⟩ ⟨Nat.le_of_ble_eq_true rfl, Nat.le_of_ble_eq_true rfl⟩ 0 0 rfl rfl rfl hl.1 (Nat.le_of_ble_eq_true rfl) ⟨Nat.zero_le _, Nat.zero_le _⟩ dX0_inTime_27 (fun r hr => ?_)
          subst hr
          refine rd_ifb_eq (tgt := 39) hx hb dX0_inTime_30 (by decide) (fun h30 => ?_) (fun h30 => ?_)
          · refine lv_iconst (v := nI 0) hx hb dX0_inTime_39 (by decide) ?_
            refine rd_ior hx hb dX0_inTime_40 ?_
            refine lv_istore_n (lv' := [(1, .int (nI ((itL (tk fc fl fp fo n) pr k) ||| 0))), (3, .int (nI (muL fo (ix fo n k)))), (2, .int (nI k)), (0, .ref (q 0))]) hx hb dX0_inTime_41 rfl hl (by decide) rfl (fun ls hl => ?_)
            refine lv_iinc (v := nI (k + 1)) (lv' := [(2, .int (nI (k + 1))), (1, .int (nI ((itL (tk fc fl fp fo n) pr k) ||| 0))), (3, .int (nI (muL fo (ix fo n k)))), (0, .ref (q 0))]) hx hb dX0_inTime_42 hl (k := 2) rfl (rd_inc1 _) (by decide) rfl (fun ls hl => ?_)
            refine lv_goto (tgt := 4) hx hb dX0_inTime_45 (by decide) ?_
            have e : (itL (tk fc fl fp fo n) pr k) ||| 0 = itL (tk fc fl fp fo n) pr (k + 1) := by simp [itL, h14, tk, h30]
            rw [e] at hl
            exact ih (k + 1) (by omega) (by omega) ls (lv_sub hl [0, 1, 3] rfl)
          · refine lv_iconst (v := nI 1) hx hb dX0_inTime_33 (by decide) ?_
            refine lv_iload_n hx hb dX0_inTime_34 rfl (lv_at hl 1 rfl) ?_
            refine rd_ishl1 hx hb (by omega) dX0_inTime_35 ?_
            refine lv_goto (tgt := 40) hx hb dX0_inTime_36 (by decide) ?_
            refine rd_ior hx hb dX0_inTime_40 ?_
            refine lv_istore_n (lv' := [(1, .int (nI ((itL (tk fc fl fp fo n) pr k) ||| (2 ^ k)))), (3, .int (nI (muL fo (ix fo n k)))), (2, .int (nI k)), (0, .ref (q 0))]) hx hb dX0_inTime_41 rfl hl (by decide) rfl (fun ls hl => ?_)
            refine lv_iinc (v := nI (k + 1)) (lv' := [(2, .int (nI (k + 1))), (1, .int (nI ((itL (tk fc fl fp fo n) pr k) ||| (2 ^ k)))), (3, .int (nI (muL fo (ix fo n k)))), (0, .ref (q 0))]) hx hb dX0_inTime_42 hl (k := 2) rfl (rd_inc1 _) (by decide) rfl (fun ls hl => ?_)
            refine lv_goto (tgt := 4) hx hb dX0_inTime_45 (by decide) ?_
            have e : (itL (tk fc fl fp fo n) pr k) ||| (2 ^ k) = itL (tk fc fl fp fo n) pr (k + 1) := by simp [itL, h14, tk, h30]
            rw [e] at hl
            exact ih (k + 1) (by omega) (by omega) ls (lv_sub hl [0, 1, 3] rfl)
  refine lv_iconst (v := nI 0) hx hb dX0_inTime_0 (by decide) ?_
  refine lv_istore_n (lv' := [(1, .int (nI 0)), (0, .ref (q 0))]) hx hb dX0_inTime_1 rfl hl (by decide) rfl (fun ls hl => ?_)
  refine lv_iconst (v := nI 0) hx hb dX0_inTime_2 (by decide) ?_
  refine lv_istore_n (lv' := [(2, .int (nI 0)), (1, .int (nI 0)), (0, .ref (q 0))]) hx hb dX0_inTime_3 rfl hl (by decide) rfl (fun ls hl => ?_)
  exact loop 6 0 (by omega) (by omega) ls (lv_sub hl [0, 1, 2] rfl)
set_option maxHeartbeats 4000000 in
set_option maxRecDepth 100000 in
theorem mD_good (l : Launch) (D : va_G) (q : Nat → Nat) (K : Nat → ClassId) (pr n : Nat) (fc fl fp fo : Nat → Nat) (fb fa : Nat → Int32) (hB : BD pr n fc fl fp fo) (hO : OrdOK pr n fo) : CtP l yX0_good cX0_good 1 (some .boolean) { frames := 5, cells := 0, slots := 0, locals := 117 } D (dtys K) (dkW q K pr n fc fl fp fo fb fa) [.ref (q 0)] (fun r => r = bI (gdF pr n fc fl fp fo)) := by
  refine rd_startP (by decide) (Nat.le_of_ble_eq_true rfl) ?_
  intro p e s m below meth c ls Q hQe C hK hP hl
  have C : CX p s m [.ref (q 0)].toArray meth c cX0_good 1 (some .boolean) RX0 := C
  have hx := C.1
  have hb := C.2.1
  have hl : lv_has ls 1 [(0, .ref (q 0))] := hl
  have hB0 := hB
  obtain ⟨hpr, hn, hbc, hbl, hbp, hbo⟩ := hB0
  refine lv_aload_n hx hb dX0_good_0 rfl (lv_at hl 0 rfl) ?_
  refine rd_callP (n := 0) (q := (RX0, TX0, 8)) C hK hP (mD_inTime l D q K pr n fc fl fp fo fb fa hB hO) (lw_V q113 q114 q115 q22 q116) (by decide +kernel) rfl ⟨rfl, rfl⟩ ⟨Nat.le_of_ble_eq_true rfl, Nat.le_of_ble_eq_true rfl⟩ 0 0 rfl rfl rfl hl.1 (Nat.le_of_ble_eq_true rfl) ⟨Nat.zero_le _, Nat.zero_le _⟩ dX0_good_1 (fun r hr => ?_)
  subst hr
  refine lv_aload_n hx hb dX0_good_4 rfl (lv_at hl 0 rfl) ?_
  refine dg_present C hK hP dX0_good_5 ?_
  refine rd_icmp_ne (tgt := 15) hx hb (by have := itL_lt (tk fc fl fp fo n) pr 5 (by omega); unfold itF; omega) (by omega) dX0_good_8 (by decide) (fun h8 => ?_) (fun h8 => ?_)
  · refine lv_iconst (v := nI 0) hx hb dX0_good_15 (by decide) ?_
    subst hQe; exact rd_retPz C rfl (by simp [gdF, bI, rd_v0, rd_v1, h8]) dX0_good_16
  · refine lv_iconst (v := nI 1) hx hb dX0_good_11 (by decide) ?_
    refine lv_goto (tgt := 16) hx hb dX0_good_12 (by decide) ?_
    subst hQe; exact rd_retPz C rfl (by simp [gdF, bI, rd_v0, rd_v1, h8]) dX0_good_16
set_option maxHeartbeats 4000000 in
set_option maxRecDepth 100000 in
theorem mD_canFollow (l : Launch) (D : va_G) (q : Nat → Nat) (K : Nat → ClassId) (pr n : Nat) (fc fl fp fo : Nat → Nat) (fb fa : Nat → Int32) (hB : BD pr n fc fl fp fo) (be : Nat → Nat) (hfb : ∀ S, S < 32 → fb S = nI (be S)) (hbe : ∀ S, be S < 2 ^ 31) (S k : Nat) (hS : S < 32) (hk : k < 5) : CtP l yX0_canFollow cX0_canFollow 3 (some .boolean) { frames := 4, cells := 0, slots := 0, locals := 94 } D (dtys K) (dkW q K pr n fc fl fp fo fb fa) [.ref (q 0), .int (nI S), .int (nI k)] (fun r => r = bI (cfF (tm fc fl fp) pr be S k)) := by
  refine rd_startP (by decide) (Nat.le_of_ble_eq_true rfl) ?_
  intro p e s m below meth c ls Q hQe C hK hP hl
  have C : CX p s m [.ref (q 0), .int (nI S), .int (nI k)].toArray meth c cX0_canFollow 3 (some .boolean) RX0 := C
  have hx := C.1
  have hb := C.2.1
  have hl : lv_has ls 3 [(0, .ref (q 0)), (1, .int (nI S)), (2, .int (nI k))] := hl
  have hB0 := hB
  obtain ⟨hpr, hn, hbc, hbl, hbp, hbo⟩ := hB0
  refine lv_aload_n hx hb dX0_canFollow_0 rfl (lv_at hl 0 rfl) ?_
  refine dg_present C hK hP dX0_canFollow_1 ?_
  refine lv_iload_n hx hb dX0_canFollow_4 rfl (lv_at hl 1 rfl) ?_
  refine lv_iconst (v := (-1)) hx hb dX0_canFollow_5 (by decide) ?_
  refine lv_ixor hx hb dX0_canFollow_6 ?_
  refine rd_iandn hx hb (by omega) (by omega) dX0_canFollow_7 ?_
  refine lv_iload_n hx hb dX0_canFollow_8 rfl (lv_at hl 2 rfl) ?_
  refine rd_callS (n := 2) C (mD_in l D (pr &&& (31 ^^^ S)) k (by have := rd_and_lt (b := 31 ^^^ S) hpr; omega) (by omega)) (hK.sub (tys' := []) [] rfl) (lw_S q106 q107 q22 q108) (by decide +kernel) rfl ⟨rfl, rfl⟩ ⟨Nat.le_of_ble_eq_true rfl, Nat.le_of_ble_eq_true rfl⟩ rfl hl.1 (Nat.le_of_ble_eq_true rfl) ⟨Nat.zero_le _, Nat.zero_le _⟩ dX0_canFollow_9 (fun r hr => ?_)
  subst hr
  refine rd_ifb_eq (tgt := 41) hx hb dX0_canFollow_12 (by decide) (fun h12 => ?_) (fun h12 => ?_)
  · refine lv_iconst (v := nI 0) hx hb dX0_canFollow_41 (by decide) ?_
    subst hQe; exact rd_retPz C rfl (by simp [cfF, bI, rd_v0, rd_v1, h12]) dX0_canFollow_42
  · refine lv_aload_n hx hb dX0_canFollow_15 rfl (lv_at hl 0 rfl) ?_
    refine dg_below C hK hP dX0_canFollow_16 ?_
    refine lv_iload_n hx hb dX0_canFollow_19 rfl (lv_at hl 1 rfl) ?_
    refine lv_iconst (v := nI 1) hx hb dX0_canFollow_20 (by decide) ?_
    refine lv_iload_n hx hb dX0_canFollow_21 rfl (lv_at hl 2 rfl) ?_
    refine rd_ishl1 hx hb (by omega) dX0_canFollow_22 ?_
    refine rd_ior hx hb dX0_canFollow_23 ?_
    refine dl_below C hK hP (rd_or_lt hS (rd_pow_lt hk)) dX0_canFollow_24 ?_
    refine rd_top (v' := nI (be (S ||| 2 ^ k))) (hfb _ (rd_or_lt hS (rd_pow_lt hk))) ?_
    refine rd_if_le (tgt := 41) hx hb (hbe _) dX0_canFollow_25 (by decide) (fun h25 => ?_) (fun h25 => ?_)
    · refine lv_iconst (v := nI 0) hx hb dX0_canFollow_41 (by decide) ?_
      subst hQe; exact rd_retPz C rfl (by simp [cfF, bI, rd_v0, rd_v1, h12, h25]) dX0_canFollow_42
    · refine lv_aload_n hx hb dX0_canFollow_28 rfl (lv_at hl 0 rfl) ?_
      refine lv_iload_n hx hb dX0_canFollow_29 rfl (lv_at hl 2 rfl) ?_
      refine lv_iload_n hx hb dX0_canFollow_30 rfl (lv_at hl 1 rfl) ?_
      refine rd_callP (n := 2) (q := (RX0, TX0, 8)) C hK hP (mD_inTimeUnder l D q K pr n fc fl fp fo fb fa hB k S hk (by omega)) (lw_V q117 q119 qs5 q22 q120) (by decide +kernel) rfl ⟨rfl, rfl⟩ ⟨Nat.le_of_ble_eq_true rfl, Nat.le_of_ble_eq_true rfl⟩ 0 0 rfl rfl rfl hl.1 (Nat.le_of_ble_eq_true rfl) ⟨Nat.zero_le _, Nat.zero_le _⟩ dX0_canFollow_31 (fun r hr => ?_)
      subst hr
      refine rd_ifb_eq (tgt := 41) hx hb dX0_canFollow_34 (by decide) (fun h34 => ?_) (fun h34 => ?_)
      · refine lv_iconst (v := nI 0) hx hb dX0_canFollow_41 (by decide) ?_
        subst hQe; exact rd_retPz C rfl (by simp [cfF, bI, rd_v0, rd_v1, h12, h25, h34]) dX0_canFollow_42
      · refine lv_iconst (v := nI 1) hx hb dX0_canFollow_37 (by decide) ?_
        refine lv_goto (tgt := 42) hx hb dX0_canFollow_38 (by decide) ?_
        subst hQe; exact rd_retPz C rfl (by simp [cfF, bI, rd_v0, rd_v1, h12, h25, h34]) dX0_canFollow_42
theorem idN_le (x : Int32) : idN x ≤ 60 := by
  unfold idN
  split
  · omega
  · exact Nat.min_le_right _ _
theorem idN_step {x : Int32} {t : Nat} (h : ¬ x < nI (t + 1)) (h2 : t + 1 ≤ 60) : t + 1 ≤ idN x := by
  rw [Int32.lt_iff_toInt_lt, nI_toInt (by omega)] at h
  have h0 : ¬ x < 0 := by rw [Int32.lt_iff_toInt_lt]; have : (0 : Int32).toInt = 0 := by decide
                          omega
  unfold idN
  rw [if_neg h0]
  have : (x.toNatClampNeg : Int) = x.toInt := by rw [Int32.toNatClampNeg]; omega
  omega
theorem idN_end {x : Int32} {t : Nat} (h : x < nI (t + 1)) (ht : t ≤ 60) (hl : t ≤ idN x) : idN x = t := by
  rw [Int32.lt_iff_toInt_lt, nI_toInt (by omega)] at h
  unfold idN at hl ⊢
  by_cases h0 : x < 0
  · rw [if_pos h0] at hl ⊢
    omega
  · rw [if_neg h0] at hl ⊢
    have h1 : ¬ x.toInt < 0 := by rw [Int32.lt_iff_toInt_lt] at h0; exact h0
    have : (x.toNatClampNeg : Int) = x.toInt := by rw [Int32.toNatClampNeg]; omega
    omega
set_option maxHeartbeats 4000000 in
set_option maxRecDepth 100000 in
theorem mD_idle (l : Launch) (D : va_G) (q : Nat → Nat) (K : Nat → ClassId) (pr n : Nat) (fc fl fp fo : Nat → Nat) (fb fa : Nat → Int32) (hB : BD pr n fc fl fp fo) (x : Int32) : CtP l yX0_idle cX0_idle 5 (some .int) { frames := 2, cells := 0, slots := 0, locals := 46 } D (dtys K) (dkW q K pr n fc fl fp fo fb fa) [.ref (q 0), .int x] (fun r => r = nI (idL fc fp pr (idN x))) := by
  refine rd_startP (by decide) (Nat.le_of_ble_eq_true rfl) ?_
  intro p e s m below meth c ls Q hQe C hK hP hl
  have C : CX p s m [.ref (q 0), .int x].toArray meth c cX0_idle 5 (some .int) RX0 := C
  have hx := C.1
  have hb := C.2.1
  have hl : lv_has ls 5 [(0, .ref (q 0)), (1, .int x)] := hl
  have hB0 := hB
  obtain ⟨hpr, hn, hbc, hbl, hbp, hbo⟩ := hB0
  have loop : ∀ (d : Nat) (t : Nat), 60 < t + d → t ≤ idN x → ∀ (ls : Array Slot), lv_has ls 5 [(3, .int (nI (t + 1))), (2, .int (nI (idL fc fp pr t))), (0, .ref (q 0)), (1, .int x)] → W p l e { frames := 2, cells := 0, slots := 0, locals := 46 } s m [.ref (q 0), .int x].toArray below meth c s.heap [] 0 0 Q (F0 m 4 ls []) := by
    intro d
    induction d with
    | zero => intro t hd hle ls hl; have := idN_le x; omega
    | succ d ih =>
      intro t hd hle ls hl
      have h60 := idN_le x
      refine lv_iload_n hx hb dX0_idle_4 rfl (lv_at hl 0 rfl) ?_
      refine lv_iload_n hx hb dX0_idle_5 rfl (lv_at hl 3 rfl) ?_
      refine lv_icmp_gt (tgt := 47) hx hb dX0_idle_6 (by decide) (fun h6 => ?_) (fun h6 => ?_)
      · refine lv_iload_n hx hb dX0_idle_47 rfl (lv_at hl 1 rfl) ?_
        subst hQe; exact rd_retP C (by rw [idN_end h6 (by omega) hle]) dX0_idle_48
      · refine lv_iload_n hx hb dX0_idle_9 rfl (lv_at hl 0 rfl) ?_
        refine lv_bipush (v := nI 60) hx hb dX0_idle_10 (by decide) ?_
        refine rd_icmp_gt (tgt := 47) hx hb (by omega) (by omega) dX0_idle_12 (by decide) (fun h12 => ?_) (fun h12 => ?_)
        · refine lv_iload_n hx hb dX0_idle_47 rfl (lv_at hl 1 rfl) ?_
          subst hQe; exact rd_retP C (by rw [show idN x = t by have := idN_le x; omega]) dX0_idle_48
        · refine lv_iload_n hx hb dX0_idle_15 rfl (lv_at hl 0 rfl) ?_
          refine lv_aload_n hx hb dX0_idle_16 rfl (lv_at hl 2 rfl) ?_
          refine lv_aload_n hx hb dX0_idle_17 rfl (lv_at hl 2 rfl) ?_
          refine dg_present C hK hP dX0_idle_18 ?_
          refine lv_iload_n hx hb dX0_idle_21 rfl (lv_at hl 0 rfl) ?_
          refine rd_callP (n := 2) (q := (RX0, TX0, 8)) C hK hP (mD_workIn l D q K pr n fc fl fp fo fb fa hB pr (t + 1) (by omega) (by omega)) (lw_V q102 q104 qs4 q22 q105) (by decide +kernel) rfl ⟨rfl, rfl⟩ ⟨Nat.le_of_ble_eq_true rfl, Nat.le_of_ble_eq_true rfl⟩ 0 0 rfl rfl rfl hl.1 (Nat.le_of_ble_eq_true rfl) ⟨Nat.zero_le _, Nat.zero_le _⟩ dX0_idle_22 (fun r hr => ?_)
          subst hr
          have hw := wk_le hbc hbp pr (t + 1); have hil := idL_le fc fp pr t
          refine lv_isub hx hb dX0_idle_25 ?_
          refine lv_istore (lv' := [(4, .int (nI (t + 1) - nI (wk fc fp pr (t + 1)))), (3, .int (nI (t + 1))), (2, .int (nI (idL fc fp pr t))), (0, .ref (q 0)), (1, .int x)]) hx hb dX0_idle_26 hl (by decide) rfl (fun ls hl => ?_)
          refine lv_iload hx hb dX0_idle_28 (lv_at hl 0 rfl) ?_
          refine lv_iload_n hx hb dX0_idle_30 rfl (lv_at hl 2 rfl) ?_
          refine lv_icmp_le (tgt := 39) hx hb dX0_idle_31 (by decide) (fun h31 => ?_) (fun h31 => ?_)
          · rw [rd_sub_le (by omega) (by omega) (by omega)] at h31
            refine lv_iload_n hx hb dX0_idle_39 rfl (lv_at hl 2 rfl) ?_
            refine lv_istore_n (lv' := [(2, .int (nI (idL fc fp pr t))), (4, .int (nI (t + 1) - nI (wk fc fp pr (t + 1)))), (3, .int (nI (t + 1))), (0, .ref (q 0)), (1, .int x)]) hx hb dX0_idle_40 rfl hl (by decide) rfl (fun ls hl => ?_)
            refine lv_iinc (v := nI (t + 1 + 1)) (lv' := [(3, .int (nI (t + 1 + 1))), (2, .int (nI (idL fc fp pr t))), (4, .int (nI (t + 1) - nI (wk fc fp pr (t + 1)))), (0, .ref (q 0)), (1, .int x)]) hx hb dX0_idle_41 hl (k := 2) rfl (rd_inc1 _) (by decide) rfl (fun ls hl => ?_)
            refine lv_goto (tgt := 4) hx hb dX0_idle_44 (by decide) ?_
            have e : idL fc fp pr t = idL fc fp pr (t + 1) := by rw [idL, if_neg (by omega)]
            rw [e] at hl
            exact ih (t + 1) (by omega) (idN_step h6 h12) ls (lv_sub hl [0, 1, 3, 4] rfl)
          · rw [rd_sub_le (by omega) (by omega) (by omega)] at h31
            have e2 : nI (t + 1) - nI (wk fc fp pr (t + 1)) = nI (t + 1 - wk fc fp pr (t + 1)) := pk_sub (by omega)
            rw [e2] at hl
            refine lv_iload hx hb dX0_idle_34 (lv_at hl 0 rfl) ?_
            refine lv_goto (tgt := 40) hx hb dX0_idle_36 (by decide) ?_
            refine lv_istore_n (lv' := [(2, .int (nI (t + 1 - wk fc fp pr (t + 1)))), (4, .int (nI (t + 1 - wk fc fp pr (t + 1)))), (3, .int (nI (t + 1))), (0, .ref (q 0)), (1, .int x)]) hx hb dX0_idle_40 rfl hl (by decide) rfl (fun ls hl => ?_)
            refine lv_iinc (v := nI (t + 1 + 1)) (lv' := [(3, .int (nI (t + 1 + 1))), (2, .int (nI (t + 1 - wk fc fp pr (t + 1)))), (4, .int (nI (t + 1 - wk fc fp pr (t + 1)))), (0, .ref (q 0)), (1, .int x)]) hx hb dX0_idle_41 hl (k := 2) rfl (rd_inc1 _) (by decide) rfl (fun ls hl => ?_)
            refine lv_goto (tgt := 4) hx hb dX0_idle_44 (by decide) ?_
            have e : t + 1 - wk fc fp pr (t + 1) = idL fc fp pr (t + 1) := by rw [idL, if_pos (by omega)]
            rw [e] at hl
            exact ih (t + 1) (by omega) (idN_step h6 h12) ls (lv_sub hl [0, 1, 3, 4] rfl)
  refine lv_iconst (v := nI 0) hx hb dX0_idle_0 (by decide) ?_
  refine lv_istore_n (lv' := [(2, .int (nI 0)), (0, .ref (q 0)), (1, .int x)]) hx hb dX0_idle_1 rfl hl (by decide) rfl (fun ls hl => ?_)
  refine lv_iconst (v := nI 1) hx hb dX0_idle_2 (by decide) ?_
  refine lv_istore_n (lv' := [(3, .int (nI 1)), (2, .int (nI 0)), (0, .ref (q 0)), (1, .int x)]) hx hb dX0_idle_3 rfl hl (by decide) rfl (fun ls hl => ?_)
  exact loop 61 0 (by omega) (by omega) ls (lv_sub hl [0, 1, 2, 3] rfl)
end
section
/-! plain words for the methods that change something -/
set_option maxRecDepth 100000
/-- what the two tables hold -/
def TB (T : Nat → Nat → Bool) (pr : Nat) (be am : Nat → Nat) : Prop := (∀ S, S < 32 → be S = belS T pr be S 5) ∧ (∀ S, S < 32 → am S = amoS T pr am S 5) ∧ (∀ S, be S < 2 ^ 31) ∧ ∀ S, am S < 2 ^ 31
theorem rd_up_lt : ∀ S, S < 32 → ∀ pr, pr < 32 → ∀ k, k < 5 → (pr &&& (31 ^^^ S)).testBit k = true → S < S ||| 2 ^ k := by decide +kernel
theorem rd_rest_lt : ∀ S, S < 32 → ∀ k, k < 5 → S.testBit k = true → S &&& (31 ^^^ 2 ^ k) < S := by decide +kernel
theorem rd_and_bit {a b k : Nat} (h : (a &&& b).testBit k = true) : a.testBit k = true := by
  rw [Nat.testBit_and, Bool.and_eq_true] at h
  exact h.1
theorem agO_0 (T : Nat → Nat → Bool) (pr : Nat) (be o : Nat → Nat) : agO T pr be o 0 = o := by
  funext j
  simp [agO]
theorem agO_up (T : Nat → Nat → Bool) (pr : Nat) (be o : Nat → Nat) (i : Nat) : va_up (agO T pr be o i) i (nx T pr be (agS T pr be i)) = agO T pr be o (i + 1) := by
  funext j
  by_cases h : j = i
  · subst h
    simp [va_up, agO]
  · simp only [va_up, if_neg h, agO]
    by_cases h2 : j < i
    · rw [if_pos h2, if_pos (by omega)]
    · rw [if_neg h2, if_neg (by omega)]
theorem agO_lt {T : Nat → Nat → Bool} {pr : Nat} {be o : Nat → Nat} (h : ∀ j, o j < 5) (i j : Nat) : agO T pr be o i j < 5 := by
  unfold agO
  split
  · exact nx_lt T pr be _
  · exact h j
theorem rd_up_le {f : Nat → Nat} {b : Nat} (h : ∀ j, f j ≤ b) {k v : Nat} (hv : v ≤ b) (j : Nat) : va_up f k v j ≤ b := by
  unfold va_up
  split
  · exact hv
  · exact h j
theorem rd_up_ltt {f : Nat → Nat} {b : Nat} (h : ∀ j, f j < b) {k v : Nat} (hv : v < b) (j : Nat) : va_up f k v j < b := by
  unfold va_up
  split
  · exact hv
  · exact h j
theorem BD_c {pr n : Nat} {c l p o : Nat → Nat} (h : BD pr n c l p o) (k : Nat) {v : Nat} (hv : v ≤ 15) : BD pr n (va_up c k v) l p o := ⟨h.1, h.2.1, rd_up_le h.2.2.1 hv, h.2.2.2⟩
theorem BD_p {pr n : Nat} {c l p o : Nat → Nat} (h : BD pr n c l p o) (k : Nat) {v : Nat} (hv : v ≤ 15) : BD pr n c l (va_up p k v) o := ⟨h.1, h.2.1, h.2.2.1, h.2.2.2.1, rd_up_le h.2.2.2.2.1 hv, h.2.2.2.2.2⟩
theorem BD_o {pr n : Nat} {c l p o o' : Nat → Nat} (h : BD pr n c l p o) (ho : ∀ j, o' j < 5) : BD pr n c l p o' := ⟨h.1, h.2.1, h.2.2.1, h.2.2.2.1, h.2.2.2.2.1, ho⟩
theorem rd_upup {α : Type} (f : Nat → α) (k : Nat) (v w : α) : va_up (va_up f k v) k w = va_up f k w := by
  funext j
  by_cases h : j = k
  · rw [h, va_up_self, va_up_self]
  · rw [va_up_ne _ _ h, va_up_ne _ _ h, va_up_ne _ _ h]
/-- an order without its place a, as far as it is done -/
theorem shO_0 (o : Nat → Nat) (a : Nat) : shO o a (a + 1) = o := by
  funext j
  unfold shO
  rw [if_neg (by omega)]
theorem shO_step (o : Nat → Nat) {a i : Nat} (h : a ≤ i) : va_up (shO o a (i + 1)) i (shO o a (i + 1) (i + 1)) = shO o a (i + 1 + 1) := by
  funext j
  by_cases hj : j = i
  · subst hj
    rw [va_up_self]
    unfold shO
    rw [if_neg (by omega), if_pos (by omega)]
  · rw [va_up_ne _ _ hj]
    unfold shO
    by_cases h2 : a ≤ j ∧ j + 1 < i + 1
    · rw [if_pos h2, if_pos (by omega)]
    · rw [if_neg h2, if_neg (by omega)]
theorem shO_lt {o : Nat → Nat} (h : ∀ j, o j < 5) (a n j : Nat) : shO o a n j < 5 := by
  unfold shO
  split <;> exact h _
/-- an order with the places from b to a moved up -/
def shU (o : Nat → Nat) (b a : Nat) : Nat → Nat := fun j => if b < j ∧ j ≤ a then o (j - 1) else o j
theorem shU_0 (o : Nat → Nat) (a : Nat) : shU o a a = o := by
  funext j
  unfold shU
  rw [if_neg (by omega)]
theorem shU_step (o : Nat → Nat) {a b : Nat} (h : b + 1 ≤ a) : va_up (shU o (b + 1) a) (b + 1) (shU o (b + 1) a (b + 1 - 1)) = shU o b a := by
  funext j
  by_cases hj : j = b + 1
  · subst hj
    rw [va_up_self]
    unfold shU
    rw [if_neg (by omega), if_pos (by omega)]
  · rw [va_up_ne _ _ hj]
    unfold shU
    by_cases h2 : b + 1 < j ∧ j ≤ a
    · rw [if_pos h2, if_pos (by omega)]
    · rw [if_neg h2, if_neg (by omega)]
theorem shU_lt {o : Nat → Nat} (h : ∀ j, o j < 5) (a n j : Nat) : shU o a n j < 5 := by
  unfold shU
  split <;> exact h _
theorem mvO_lo (o : Nat → Nat) (k : Nat) {a i : Nat} (h : a ≤ i) : va_up (shO o a (i + 1)) i k = mvO o k a i := by
  funext j
  by_cases hj : j = i
  · subst hj
    rw [va_up_self]
    unfold mvO
    rw [if_pos rfl]
  · rw [va_up_ne _ _ hj]
    unfold shO mvO
    rw [if_neg hj]
    by_cases h2 : a ≤ j ∧ j < i
    · rw [if_pos (by omega), if_pos h2]
    · rw [if_neg (by omega), if_neg h2, if_neg (by omega)]
theorem mvO_hi (o : Nat → Nat) (k : Nat) {a i : Nat} (h : i ≤ a) : va_up (shU o i a) i k = mvO o k a i := by
  funext j
  by_cases hj : j = i
  · subst hj
    rw [va_up_self]
    unfold mvO
    rw [if_pos rfl]
  · rw [va_up_ne _ _ hj]
    unfold shU mvO
    rw [if_neg hj, if_neg (show ¬ (a ≤ j ∧ j < i) by omega)]
theorem mvO_lt {o : Nat → Nat} (h : ∀ j, o j < 5) {k : Nat} (hk : k < 5) (a i j : Nat) : mvO o k a i j < 5 := by
  unfold mvO
  split
  · exact hk
  · split
    · exact h _
    · split <;> exact h _
/-- what add, remove and place answer, and the state behind them -/
abbrev SA : Type := Nat × Nat × (Nat → Nat) × (Nat → Nat) × (Nat → Nat) × (Nat → Nat)
def addR (pr n : Nat) (c l p o : Nat → Nat) (x y z : Int32) : Int32 × SA :=
  if okN x y z then
    match fr pr with
    | some k => (nI k, pr ||| 2 ^ k, n + 1, va_up c k x.toNatClampNeg, va_up l k y.toNatClampNeg, va_up p k z.toNatClampNeg, va_up o n k)
    | none => (-2, pr, n, c, l, p, o)
  else (-1, pr, n, c, l, p, o)
def remR (pr n : Nat) (o : Nat → Nat) (k : Int32) : Int32 × Nat × Nat × (Nat → Nat) :=
  if hasB pr k then (1, pr &&& (31 ^^^ 2 ^ k.toNatClampNeg), n - 1, shO o (ix o n k.toNatClampNeg) n) else (0, pr, n, o)
def plcR (pr n : Nat) (o : Nat → Nat) (k i : Int32) : Int32 × (Nat → Nat) :=
  if hasB pr k && (!decide (i < 0) && !decide (nI n ≤ i)) then (1, mvO o k.toNatClampNeg (ix o n k.toNatClampNeg) i.toNatClampNeg) else (0, o)
/-- fits: be holds the numbers of good orders of the sets behind add -/
def fitR (pr n : Nat) (c l p o : Nat → Nat) (be : Nat → Nat) (x y z : Int32) : Int32 × SA :=
  if okN x y z then
    match fr pr with
    | some k => (bI (decide (0 < be 0)), (remR (pr ||| 2 ^ k) (n + 1) (va_up o n k) (nI k)).2.1, (remR (pr ||| 2 ^ k) (n + 1) (va_up o n k) (nI k)).2.2.1, va_up c k x.toNatClampNeg, va_up l k y.toNatClampNeg, va_up p k z.toNatClampNeg, (remR (pr ||| 2 ^ k) (n + 1) (va_up o n k) (nI k)).2.2.2)
    | none => (0, pr, n, c, l, p, o)
  else (0, pr, n, c, l, p, o)
theorem frL_spec {pr : Nat} : ∀ (d k r : Nat), frL pr d k = some r → k ≤ r ∧ r < k + d ∧ pr.testBit r = false
  | 0, k, r, h => by simp [frL] at h
  | d + 1, k, r, h => by
    simp only [frL] at h
    split at h
    · obtain ⟨h1, h2, h3⟩ := frL_spec d (k + 1) r h
      exact ⟨by omega, by omega, h3⟩
    · rename_i hb
      cases h
      exact ⟨Nat.le_refl _, by omega, by simpa using hb⟩
theorem fr_spec {pr r : Nat} (h : fr pr = some r) : r < 5 ∧ pr.testBit r = false := by
  obtain ⟨-, h2, h3⟩ := frL_spec 5 0 r h
  exact ⟨by omega, h3⟩
end
section
/-! the desk's tables: fill, goodOrders, arrange, canBeLast -/
set_option maxHeartbeats 4000000 in
set_option maxRecDepth 100000 in
theorem mD_fill (l : Launch) (D : va_G) (q : Nat → Nat) (K : Nat → ClassId) (pr n : Nat) (fc fl fp fo : Nat → Nat) (fb fa : Nat → Int32) (hB : BD pr n fc fl fp fo) (be am : Nat → Nat) (hT : TB (tm fc fl fp) pr be am) : CtV l yX0_fill cX0_fill 4 { frames := 4, cells := 0, slots := 0, locals := 94 } D (dtys K) (dkW q K pr n fc fl fp fo fb fa) [.ref (q 0)] (fun u : (Nat → Int32) × (Nat → Int32) => (∀ S, S < 32 → u.1 S = nI (be S)) ∧ ∀ S, S < 32 → u.2 S = nI (am S)) (fun u => dkW q K pr n fc fl fp fo u.1 u.2) := by
  refine rd_startV (by decide) (Nat.le_of_ble_eq_true rfl) ?_
  intro p e s m below meth c ls A Q hQe C hK hh hl
  have C : CX p s m [.ref (q 0)].toArray meth c cX0_fill 4 none RX0 := C
  have hx := C.1
  have hb := C.2.1
  have hl : lv_has ls 4 [(0, .ref (q 0))] := hl
  have hB0 := hB
  obtain ⟨hpr, hn, hbc, hbl, hbp, hbo⟩ := hB0
  obtain ⟨hbe, ham, hbe31, ham31⟩ := hT
  have lo2 : ∀ (fb1 : Nat → Int32) (d : Nat) (S : Nat) (fa : Nat → Int32), (32 < S + d) → (S ≤ 32) → (∀ S, S < 32 → fb1 S = nI (be S)) → (∀ S2, S2 < S → fa S2 = nI (am S2)) → ∀ (H : Heap) (locs : List Loc), HH D (dkW q K pr n fc fl fp fo fb1 fa) A s.heap H locs → ∀ (ls : Array Slot), lv_has ls 4 [(1, .int (nI S)), (0, .ref (q 0))] → W p l e { frames := 4, cells := 0, slots := 0, locals := 94 } s m [.ref (q 0)].toArray below meth c H locs 0 0 Q (F0 m 101 ls []) := by
    intro fb1 d
    induction d with
    | zero => intro S fa hd hS hfb hlo H locs hh ls hl; omega
    | succ d ih =>
      intro S fa hd hS hfb hlo H locs hh ls hl
      by_cases hS32 : S < 32
      · skip
        have in2 : ∀ (d : Nat) (k : Nat) (fa : Nat → Int32), (5 < k + d) → (k ≤ 5) → (∀ S2, S2 < S → fa S2 = nI (am S2)) → (fa S = nI (amoS (tm fc fl fp) pr am S k)) → ∀ (H : Heap) (locs : List Loc), HH D (dkW q K pr n fc fl fp fo fb1 fa) A s.heap H locs → ∀ (ls : Array Slot), lv_has ls 4 [(2, .int (nI k)), (1, .int (nI S)), (0, .ref (q 0))] → W p l e { frames := 4, cells := 0, slots := 0, locals := 94 } s m [.ref (q 0)].toArray below meth c H locs 0 0 Q (F0 m 124 ls []) := by
          intro d
          induction d with
          | zero => intro k fa hd hk hlo hat H locs hh ls hl; omega
          | succ d ih2 =>
            intro k fa hd hk hlo hat H locs hh ls hl
            refine lv_iload_n hx hb dX0_fill_124 rfl (lv_at hl 0 rfl) ?_
            refine lv_iconst (v := nI 5) hx hb dX0_fill_125 (by decide) ?_
            refine rd_icmp_ge (tgt := 185) hx hb (by omega) (by omega) dX0_fill_126 (by decide) (fun h126 => ?_) (fun h126 => ?_)
            · refine lv_iinc (v := nI (S + 1)) (lv' := [(1, .int (nI (S + 1))), (2, .int (nI k)), (0, .ref (q 0))]) hx hb dX0_fill_185 hl (k := 1) rfl (rd_inc1 _) (by decide) rfl (fun ls hl => ?_)
              refine lv_goto (tgt := 101) hx hb dX0_fill_188 (by decide) ?_
              exact ih (S + 1) fa (by omega) (by omega) hfb (fun S2 h => by rcases Nat.lt_or_eq_of_le (Nat.le_of_lt_succ h) with q | q; exact hlo S2 q; rw [q, hat, ham S hS32, show k = 5 by omega]) H locs hh ls (lv_sub hl [0, 2] rfl)
            · refine lv_iload_n hx hb dX0_fill_129 rfl (lv_at hl 1 rfl) ?_
              refine lv_iconst (v := nI 1) hx hb dX0_fill_130 (by decide) ?_
              refine lv_iload_n hx hb dX0_fill_131 rfl (lv_at hl 0 rfl) ?_
              refine rd_ishl1 hx hb (by omega) dX0_fill_132 ?_
              refine lv_iconst (v := (-1)) hx hb dX0_fill_133 (by decide) ?_
              refine lv_ixor hx hb dX0_fill_134 ?_
              refine rd_iandn hx hb (hS32) (rd_pow_lt (by omega)) dX0_fill_135 ?_
              refine lv_istore_n (lv' := [(3, .int (nI (S &&& (31 ^^^ (2 ^ k))))), (2, .int (nI k)), (1, .int (nI S)), (0, .ref (q 0))]) hx hb dX0_fill_136 rfl hl (by decide) rfl (fun ls hl => ?_)
              refine lv_iload_n hx hb dX0_fill_137 rfl (lv_at hl 2 rfl) ?_
              refine lv_aload_n hx hb dX0_fill_138 rfl (lv_at hl 3 rfl) ?_
              refine dg_present C hK hh.1 dX0_fill_139 ?_
              refine rd_iand hx hb dX0_fill_142 ?_
              refine lv_iload_n hx hb dX0_fill_143 rfl (lv_at hl 1 rfl) ?_
              refine rd_callS (n := 2) C (mD_in l D (S &&& pr) k (by have := rd_and_lt (b := pr) hS32; omega) (by omega)) (hK.sub (tys' := []) [] rfl) (lw_S q106 q107 q22 q108) (by decide +kernel) rfl ⟨rfl, rfl⟩ ⟨Nat.le_of_ble_eq_true rfl, Nat.le_of_ble_eq_true rfl⟩ rfl hl.1 (Nat.le_of_ble_eq_true rfl) ⟨Nat.zero_le _, Nat.zero_le _⟩ dX0_fill_144 (fun r hr => ?_)
              subst hr
              refine rd_ifb_eq (tgt := 179) hx hb dX0_fill_147 (by decide) (fun h147 => ?_) (fun h147 => ?_)
              · refine lv_iinc (v := nI (k + 1)) (lv' := [(2, .int (nI (k + 1))), (3, .int (nI (S &&& (31 ^^^ (2 ^ k))))), (1, .int (nI S)), (0, .ref (q 0))]) hx hb dX0_fill_179 hl (k := 1) rfl (rd_inc1 _) (by decide) rfl (fun ls hl => ?_)
                refine lv_goto (tgt := 124) hx hb dX0_fill_182 (by decide) ?_
                exact ih2 (k + 1) fa (by omega) (by omega) hlo (by rw [hat]; simp [amoS, h147]) H locs hh ls (lv_sub hl [0, 2, 3] rfl)
              · refine lv_aload_n hx hb dX0_fill_150 rfl (lv_at hl 3 rfl) ?_
                refine lv_iload_n hx hb dX0_fill_151 rfl (lv_at hl 1 rfl) ?_
                refine lv_iload_n hx hb dX0_fill_152 rfl (lv_at hl 0 rfl) ?_
                refine lv_aload_n hx hb dX0_fill_153 rfl (lv_at hl 3 rfl) ?_
                refine dg_present C hK hh.1 dX0_fill_154 ?_
                refine rd_iand hx hb dX0_fill_157 ?_
                refine rd_callP (n := 2) (q := (RX0, TX0, 8)) C hK hh.1 (mD_inTimeUnder l D q K pr n fc fl fp fo fb1 fa hB k ((S &&& (31 ^^^ 2 ^ k)) &&& pr) (by omega) (by have := rd_and_lt (b := pr) (rd_and_lt (b := 31 ^^^ 2 ^ k) hS32); omega)) (lw_V q117 q119 qs5 q22 q120) (by decide +kernel) rfl ⟨rfl, rfl⟩ ⟨Nat.le_of_ble_eq_true rfl, Nat.le_of_ble_eq_true rfl⟩ 0 0 rfl rfl rfl hl.1 (Nat.le_of_ble_eq_true rfl) ⟨Nat.zero_le _, Nat.zero_le _⟩ dX0_fill_158 (fun r hr => ?_)
                subst hr
                refine rd_ifb_eq (tgt := 179) hx hb dX0_fill_161 (by decide) (fun h161 => ?_) (fun h161 => ?_)
                · refine lv_iinc (v := nI (k + 1)) (lv' := [(2, .int (nI (k + 1))), (3, .int (nI (S &&& (31 ^^^ (2 ^ k))))), (1, .int (nI S)), (0, .ref (q 0))]) hx hb dX0_fill_179 hl (k := 1) rfl (rd_inc1 _) (by decide) rfl (fun ls hl => ?_)
                  refine lv_goto (tgt := 124) hx hb dX0_fill_182 (by decide) ?_
                  exact ih2 (k + 1) fa (by omega) (by omega) hlo (by rw [hat]; simp [amoS, h147, h161]) H locs hh ls (lv_sub hl [0, 2, 3] rfl)
                · refine lv_aload_n hx hb dX0_fill_164 rfl (lv_at hl 3 rfl) ?_
                  refine dg_among C hK hh.1 dX0_fill_165 ?_
                  refine lv_iload_n hx hb dX0_fill_168 rfl (lv_at hl 2 rfl) ?_
                  refine lv_dup2_11 hx hb dX0_fill_169 rfl rfl ?_
                  refine dl_among C hK hh.1 (by omega) dX0_fill_170 ?_
                  refine rd_top (v' := nI (amoS (tm fc fl fp) pr am S k)) (hat) ?_
                  refine lv_aload_n hx hb dX0_fill_171 rfl (lv_at hl 3 rfl) ?_
                  refine dg_among C hK hh.1 dX0_fill_172 ?_
                  refine lv_iload_n hx hb dX0_fill_175 rfl (lv_at hl 0 rfl) ?_
                  refine dl_among C hK hh.1 (rd_and_lt hS32) dX0_fill_176 ?_
                  refine rd_top (v' := nI (am (S &&& (31 ^^^ 2 ^ k)))) (hlo _ (rd_rest_lt S hS32 k (by omega) (rd_and_bit h147))) ?_
                  refine rd_iadd hx hb dX0_fill_177 ?_
                  refine ds_among C hK hh (by omega) dX0_fill_178 (fun H locs hh => ?_)
                  refine lv_iinc (v := nI (k + 1)) (lv' := [(2, .int (nI (k + 1))), (3, .int (nI (S &&& (31 ^^^ (2 ^ k))))), (1, .int (nI S)), (0, .ref (q 0))]) hx hb dX0_fill_179 hl (k := 1) rfl (rd_inc1 _) (by decide) rfl (fun ls hl => ?_)
                  refine lv_goto (tgt := 124) hx hb dX0_fill_182 (by decide) ?_
                  exact ih2 (k + 1) (upd fa S (nI ((amoS (tm fc fl fp) pr am S k) + (am (S &&& (31 ^^^ 2 ^ k)))))) (by omega) (by omega) (fun S2 h => by rw [pk_un (by omega)]; exact hlo S2 h) (by rw [pk_us]; simp [amoS, h147, h161]) H locs hh ls (lv_sub hl [0, 2, 3] rfl)
        refine lv_iload_n hx hb dX0_fill_101 rfl (lv_at hl 0 rfl) ?_
        refine lv_bipush (v := nI 32) hx hb dX0_fill_102 (by decide) ?_
        refine rd_icmp_ge (tgt := 191) hx hb (by omega) (by omega) dX0_fill_104 (by decide) (fun h104 => ?_) (fun h104 => ?_)
        · omega
        · refine lv_aload_n hx hb dX0_fill_107 rfl (lv_at hl 1 rfl) ?_
          refine dg_among C hK hh.1 dX0_fill_108 ?_
          refine lv_iload_n hx hb dX0_fill_111 rfl (lv_at hl 0 rfl) ?_
          refine lv_iload_n hx hb dX0_fill_112 rfl (lv_at hl 0 rfl) ?_
          refine rd_if_ne (tgt := 120) hx hb (by omega) dX0_fill_113 (by decide) (fun h113 => ?_) (fun h113 => ?_)
          · refine lv_iconst (v := nI 0) hx hb dX0_fill_120 (by decide) ?_
            refine ds_among C hK hh (by omega) dX0_fill_121 (fun H locs hh => ?_)
            refine lv_iconst (v := nI 0) hx hb dX0_fill_122 (by decide) ?_
            refine lv_istore_n (lv' := [(2, .int (nI 0)), (1, .int (nI S)), (0, .ref (q 0))]) hx hb dX0_fill_123 rfl hl (by decide) rfl (fun ls hl => ?_)
            exact in2 6 0 (upd fa S (nI 0)) (by omega) (by omega) (fun S2 h => by rw [pk_un (by omega)]; exact hlo S2 h) (by rw [pk_us]; simp [amoS, Nat.pos_iff_ne_zero.mp h113]) H locs hh ls (lv_sub hl [0, 1, 2] rfl)
          · refine lv_iconst (v := nI 1) hx hb dX0_fill_116 (by decide) ?_
            refine lv_goto (tgt := 121) hx hb dX0_fill_117 (by decide) ?_
            refine ds_among C hK hh (by omega) dX0_fill_121 (fun H locs hh => ?_)
            refine lv_iconst (v := nI 0) hx hb dX0_fill_122 (by decide) ?_
            refine lv_istore_n (lv' := [(2, .int (nI 0)), (1, .int (nI S)), (0, .ref (q 0))]) hx hb dX0_fill_123 rfl hl (by decide) rfl (fun ls hl => ?_)
            exact in2 6 0 (upd fa S (nI 1)) (by omega) (by omega) (fun S2 h => by rw [pk_un (by omega)]; exact hlo S2 h) (by rw [pk_us]; simp [amoS, h113]) H locs hh ls (lv_sub hl [0, 1, 2] rfl)
      · skip
        refine lv_iload_n hx hb dX0_fill_101 rfl (lv_at hl 0 rfl) ?_
        refine lv_bipush (v := nI 32) hx hb dX0_fill_102 (by decide) ?_
        refine rd_icmp_ge (tgt := 191) hx hb (by omega) (by omega) dX0_fill_104 (by decide) (fun h104 => ?_) (fun h104 => ?_)
        · subst hQe; exact rd_retV ((fb1, fa)) C hK hh (⟨hfb, fun S h => hlo S (by omega)⟩) dX0_fill_191
        · omega
  have lo1 : ∀ (d : Nat) (j : Nat) (fb : Nat → Int32), (j < d) → (j ≤ 32) → (∀ S, j ≤ S → S < 32 → fb S = nI (be S)) → ∀ (H : Heap) (locs : List Loc), HH D (dkW q K pr n fc fl fp fo fb fa) A s.heap H locs → ∀ (ls : Array Slot), lv_has ls 4 [(1, .int (nI j + Int32.ofInt (-1))), (0, .ref (q 0))] → W p l e { frames := 4, cells := 0, slots := 0, locals := 94 } s m [.ref (q 0)].toArray below meth c H locs 0 0 Q (F0 m 3 ls []) := by
    intro d
    induction d with
    | zero => intro j fb hd hj hup H locs hh ls hl; omega
    | succ d ih =>
      intro j fb hd hj hup H locs hh ls hl
      rcases j with _ | j
      · rw [rd_m1z] at hl
        refine lv_iload_n hx hb dX0_fill_3 rfl (lv_at hl 0 rfl) ?_
        refine lv_if_lt (tgt := 99) hx hb dX0_fill_4 (by decide) (fun h4 => ?_) (fun h4 => ?_)
        · refine lv_iconst (v := nI 0) hx hb dX0_fill_99 (by decide) ?_
          refine lv_istore_n (lv' := [(1, .int (nI 0)), (0, .ref (q 0))]) hx hb dX0_fill_100 rfl hl (by decide) rfl (fun ls hl => ?_)
          exact lo2 fb 33 0 fa (by omega) (by omega) (fun S h => hup S (by omega) h) (fun S h => by omega) H locs hh ls (lv_sub hl [0, 1] rfl)
        · exact absurd (by decide) h4
      · rw [rd_dec1] at hl
        have in1 : ∀ (d : Nat) (k : Nat) (fb : Nat → Int32), (5 < k + d) → (k ≤ 5) → (∀ S, j < S → S < 32 → fb S = nI (be S)) → (fb j = nI (belS (tm fc fl fp) pr be j k)) → ∀ (H : Heap) (locs : List Loc), HH D (dkW q K pr n fc fl fp fo fb fa) A s.heap H locs → ∀ (ls : Array Slot), lv_has ls 4 [(2, .int (nI k)), (1, .int (nI j)), (0, .ref (q 0))] → W p l e { frames := 4, cells := 0, slots := 0, locals := 94 } s m [.ref (q 0)].toArray below meth c H locs 0 0 Q (F0 m 28 ls []) := by
          intro d
          induction d with
          | zero => intro k fb hd hk hup hat H locs hh ls hl; omega
          | succ d ih2 =>
            intro k fb hd hk hup hat H locs hh ls hl
            refine lv_iload_n hx hb dX0_fill_28 rfl (lv_at hl 0 rfl) ?_
            refine lv_iconst (v := nI 5) hx hb dX0_fill_29 (by decide) ?_
            refine rd_icmp_ge (tgt := 93) hx hb (by omega) (by omega) dX0_fill_30 (by decide) (fun h30 => ?_) (fun h30 => ?_)
            · refine lv_iinc (v := nI j + Int32.ofInt (-1)) (lv' := [(1, .int (nI j + Int32.ofInt (-1))), (2, .int (nI k)), (0, .ref (q 0))]) hx hb dX0_fill_93 hl (k := 1) rfl (rfl) (by decide) rfl (fun ls hl => ?_)
              refine lv_goto (tgt := 3) hx hb dX0_fill_96 (by decide) ?_
              exact ih j fb (by omega) (by omega) (fun S h h2 => by rcases Nat.lt_or_eq_of_le h with q | q; exact hup S q h2; rw [← q, hat, hbe j (by omega), show k = 5 by omega]) H locs hh ls (lv_sub hl [0, 2] rfl)
            · refine lv_aload_n hx hb dX0_fill_33 rfl (lv_at hl 2 rfl) ?_
              refine dg_present C hK hh.1 dX0_fill_34 ?_
              refine lv_iload_n hx hb dX0_fill_37 rfl (lv_at hl 1 rfl) ?_
              refine lv_iconst (v := (-1)) hx hb dX0_fill_38 (by decide) ?_
              refine lv_ixor hx hb dX0_fill_39 ?_
              refine rd_iandn hx hb (by omega) (by omega) dX0_fill_40 ?_
              refine lv_iload_n hx hb dX0_fill_41 rfl (lv_at hl 0 rfl) ?_
              refine rd_callS (n := 2) C (mD_in l D (pr &&& (31 ^^^ j)) k (by have := rd_and_lt (b := 31 ^^^ j) hpr; omega) (by omega)) (hK.sub (tys' := []) [] rfl) (lw_S q106 q107 q22 q108) (by decide +kernel) rfl ⟨rfl, rfl⟩ ⟨Nat.le_of_ble_eq_true rfl, Nat.le_of_ble_eq_true rfl⟩ rfl hl.1 (Nat.le_of_ble_eq_true rfl) ⟨Nat.zero_le _, Nat.zero_le _⟩ dX0_fill_42 (fun r hr => ?_)
              subst hr
              refine rd_ifb_eq (tgt := 87) hx hb dX0_fill_45 (by decide) (fun h45 => ?_) (fun h45 => ?_)
              · refine lv_iinc (v := nI (k + 1)) (lv' := [(2, .int (nI (k + 1))), (1, .int (nI j)), (0, .ref (q 0))]) hx hb dX0_fill_87 hl (k := 0) rfl (rd_inc1 _) (by decide) rfl (fun ls hl => ?_)
                refine lv_goto (tgt := 28) hx hb dX0_fill_90 (by decide) ?_
                exact ih2 (k + 1) fb (by omega) (by omega) hup (by rw [hat]; simp [belS, h45]) H locs hh ls (lv_sub hl [0, 1, 2] rfl)
              · refine lv_iload_n hx hb dX0_fill_48 rfl (lv_at hl 1 rfl) ?_
                refine lv_aload_n hx hb dX0_fill_49 rfl (lv_at hl 2 rfl) ?_
                refine dg_present C hK hh.1 dX0_fill_50 ?_
                refine lv_iconst (v := (-1)) hx hb dX0_fill_53 (by decide) ?_
                refine lv_ixor hx hb dX0_fill_54 ?_
                refine rd_iandn hx hb (by omega) (by omega) dX0_fill_55 ?_
                refine rd_if_ne (tgt := 87) hx hb (by have := rd_and_lt (a := j) (b := 31 ^^^ pr) (by omega); omega) dX0_fill_56 (by decide) (fun h56 => ?_) (fun h56 => ?_)
                · refine lv_iinc (v := nI (k + 1)) (lv' := [(2, .int (nI (k + 1))), (1, .int (nI j)), (0, .ref (q 0))]) hx hb dX0_fill_87 hl (k := 0) rfl (rd_inc1 _) (by decide) rfl (fun ls hl => ?_)
                  refine lv_goto (tgt := 28) hx hb dX0_fill_90 (by decide) ?_
                  exact ih2 (k + 1) fb (by omega) (by omega) hup (by rw [hat]; simp [belS, h45, Nat.pos_iff_ne_zero.mp h56]) H locs hh ls (lv_sub hl [0, 1, 2] rfl)
                · refine lv_aload_n hx hb dX0_fill_59 rfl (lv_at hl 2 rfl) ?_
                  refine lv_iload_n hx hb dX0_fill_60 rfl (lv_at hl 0 rfl) ?_
                  refine lv_iload_n hx hb dX0_fill_61 rfl (lv_at hl 1 rfl) ?_
                  refine rd_callP (n := 2) (q := (RX0, TX0, 8)) C hK hh.1 (mD_inTimeUnder l D q K pr n fc fl fp fo fb fa hB k j (by omega) (by omega)) (lw_V q117 q119 qs5 q22 q120) (by decide +kernel) rfl ⟨rfl, rfl⟩ ⟨Nat.le_of_ble_eq_true rfl, Nat.le_of_ble_eq_true rfl⟩ 0 0 rfl rfl rfl hl.1 (Nat.le_of_ble_eq_true rfl) ⟨Nat.zero_le _, Nat.zero_le _⟩ dX0_fill_62 (fun r hr => ?_)
                  subst hr
                  refine rd_ifb_eq (tgt := 87) hx hb dX0_fill_65 (by decide) (fun h65 => ?_) (fun h65 => ?_)
                  · refine lv_iinc (v := nI (k + 1)) (lv' := [(2, .int (nI (k + 1))), (1, .int (nI j)), (0, .ref (q 0))]) hx hb dX0_fill_87 hl (k := 0) rfl (rd_inc1 _) (by decide) rfl (fun ls hl => ?_)
                    refine lv_goto (tgt := 28) hx hb dX0_fill_90 (by decide) ?_
                    exact ih2 (k + 1) fb (by omega) (by omega) hup (by rw [hat]; simp [belS, h45, h56, h65]) H locs hh ls (lv_sub hl [0, 1, 2] rfl)
                  · refine lv_aload_n hx hb dX0_fill_68 rfl (lv_at hl 2 rfl) ?_
                    refine dg_below C hK hh.1 dX0_fill_69 ?_
                    refine lv_iload_n hx hb dX0_fill_72 rfl (lv_at hl 1 rfl) ?_
                    refine lv_dup2_11 hx hb dX0_fill_73 rfl rfl ?_
                    refine dl_below C hK hh.1 (by omega) dX0_fill_74 ?_
                    refine rd_top (v' := nI (belS (tm fc fl fp) pr be j k)) (hat) ?_
                    refine lv_aload_n hx hb dX0_fill_75 rfl (lv_at hl 2 rfl) ?_
                    refine dg_below C hK hh.1 dX0_fill_76 ?_
                    refine lv_iload_n hx hb dX0_fill_79 rfl (lv_at hl 1 rfl) ?_
                    refine lv_iconst (v := nI 1) hx hb dX0_fill_80 (by decide) ?_
                    refine lv_iload_n hx hb dX0_fill_81 rfl (lv_at hl 0 rfl) ?_
                    refine rd_ishl1 hx hb (by omega) dX0_fill_82 ?_
                    refine rd_ior hx hb dX0_fill_83 ?_
                    refine dl_below C hK hh.1 (rd_or_lt (by omega) (rd_pow_lt (by omega))) dX0_fill_84 ?_
                    refine rd_top (v' := nI (be (j ||| 2 ^ k))) (hup _ (rd_up_lt j (by omega) pr hpr k (by omega) h45) (rd_or_lt (by omega) (rd_pow_lt (by omega)))) ?_
                    refine rd_iadd hx hb dX0_fill_85 ?_
                    refine ds_below C hK hh (by omega) dX0_fill_86 (fun H locs hh => ?_)
                    refine lv_iinc (v := nI (k + 1)) (lv' := [(2, .int (nI (k + 1))), (1, .int (nI j)), (0, .ref (q 0))]) hx hb dX0_fill_87 hl (k := 0) rfl (rd_inc1 _) (by decide) rfl (fun ls hl => ?_)
                    refine lv_goto (tgt := 28) hx hb dX0_fill_90 (by decide) ?_
                    exact ih2 (k + 1) (upd fb j (nI ((belS (tm fc fl fp) pr be j k) + (be (j ||| 2 ^ k))))) (by omega) (by omega) (fun S2 h => by rw [pk_un (by omega)]; exact hup S2 h) (by rw [pk_us]; simp [belS, h45, h56, h65]) H locs hh ls (lv_sub hl [0, 1, 2] rfl)
        refine lv_iload_n hx hb dX0_fill_3 rfl (lv_at hl 0 rfl) ?_
        refine lv_if_lt (tgt := 99) hx hb dX0_fill_4 (by decide) (fun h4 => ?_) (fun h4 => ?_)
        · exact absurd h4 (nI_pos (by omega))
        · refine lv_aload_n hx hb dX0_fill_7 rfl (lv_at hl 1 rfl) ?_
          refine dg_below C hK hh.1 dX0_fill_8 ?_
          refine lv_iload_n hx hb dX0_fill_11 rfl (lv_at hl 0 rfl) ?_
          refine lv_iload_n hx hb dX0_fill_12 rfl (lv_at hl 0 rfl) ?_
          refine lv_aload_n hx hb dX0_fill_13 rfl (lv_at hl 1 rfl) ?_
          refine dg_present C hK hh.1 dX0_fill_14 ?_
          refine rd_icmp_ne (tgt := 24) hx hb (by omega) (by omega) dX0_fill_17 (by decide) (fun h17 => ?_) (fun h17 => ?_)
          · refine lv_iconst (v := nI 0) hx hb dX0_fill_24 (by decide) ?_
            refine ds_below C hK hh (by omega) dX0_fill_25 (fun H locs hh => ?_)
            refine lv_iconst (v := nI 0) hx hb dX0_fill_26 (by decide) ?_
            refine lv_istore_n (lv' := [(2, .int (nI 0)), (1, .int (nI j)), (0, .ref (q 0))]) hx hb dX0_fill_27 rfl hl (by decide) rfl (fun ls hl => ?_)
            exact in1 6 0 (upd fb j (nI 0)) (by omega) (by omega) (fun S2 h h2 => by rw [pk_un (by omega)]; exact hup S2 (by omega) h2) (by rw [pk_us]; simp [belS, h17]) H locs hh ls (lv_sub hl [0, 1, 2] rfl)
          · refine lv_iconst (v := nI 1) hx hb dX0_fill_20 (by decide) ?_
            refine lv_goto (tgt := 25) hx hb dX0_fill_21 (by decide) ?_
            refine ds_below C hK hh (by omega) dX0_fill_25 (fun H locs hh => ?_)
            refine lv_iconst (v := nI 0) hx hb dX0_fill_26 (by decide) ?_
            refine lv_istore_n (lv' := [(2, .int (nI 0)), (1, .int (nI j)), (0, .ref (q 0))]) hx hb dX0_fill_27 rfl hl (by decide) rfl (fun ls hl => ?_)
            exact in1 6 0 (upd fb j (nI 1)) (by omega) (by omega) (fun S2 h h2 => by rw [pk_un (by omega)]; exact hup S2 (by omega) h2) (by rw [pk_us]; simp [belS, h17]) H locs hh ls (lv_sub hl [0, 1, 2] rfl)
  refine lv_bipush (v := nI 31) hx hb dX0_fill_0 (by decide) ?_
  refine lv_istore_n (lv' := [(1, .int (nI 31)), (0, .ref (q 0))]) hx hb dX0_fill_2 rfl hl (by decide) rfl (fun ls hl => ?_)
  rw [rd_31] at hl; exact lo1 33 32 fb (by omega) (by omega) (fun S h h2 => by omega) _ _ hh ls (lv_sub hl [0, 1] rfl)
set_option maxHeartbeats 4000000 in
set_option maxRecDepth 100000 in
theorem mD_goodOrders (l : Launch) (D : va_G) (q : Nat → Nat) (K : Nat → ClassId) (pr n : Nat) (fc fl fp fo : Nat → Nat) (fb fa : Nat → Int32) (hB : BD pr n fc fl fp fo) (be am : Nat → Nat) (hT : TB (tm fc fl fp) pr be am) : CtI l yX0_goodOrders cX0_goodOrders 1 (some .int) { frames := 5, cells := 0, slots := 0, locals := 117 } D (dtys K) (dkW q K pr n fc fl fp fo fb fa) [.ref (q 0)] (fun (r : Int32) (_ : (Nat → Int32) × (Nat → Int32)) => r = nI (be 0)) (fun u => dkW q K pr n fc fl fp fo u.1 u.2) := by
  refine rd_startI (by decide) (Nat.le_of_ble_eq_true rfl) ?_
  intro p e s m below meth c ls A Q hQe C hK hh hl
  have C : CX p s m [.ref (q 0)].toArray meth c cX0_goodOrders 1 (some .int) RX0 := C
  have hx := C.1
  have hb := C.2.1
  have hl : lv_has ls 1 [(0, .ref (q 0))] := hl
  have hB0 := hB
  obtain ⟨hpr, hn, hbc, hbl, hbp, hbo⟩ := hB0
  refine lv_aload_n hx hb dX0_goodOrders_0 rfl (lv_at hl 0 rfl) ?_
  refine rd_callIv (n := 0) (q := (RX0, TX0, 8)) C hK hh (mD_fill l D q K pr n fc fl fp fo fb fa hB be am hT) (lw_V q126 q128 qs6 q22 q129) (by decide +kernel) rfl ⟨rfl, rfl⟩ ⟨Nat.le_of_ble_eq_true rfl, Nat.le_of_ble_eq_true rfl⟩ 0 0 rfl rfl rfl hl.1 (Nat.le_of_ble_eq_true rfl) ⟨Nat.zero_le _, Nat.zero_le _⟩ dX0_goodOrders_1 (fun u H locs hr hh => ?_)
  obtain ⟨fb1, fa1⟩ := u
  obtain ⟨hfb, hfa⟩ := hr
  have hfb : ∀ S, S < 32 → fb1 S = nI (be S) := hfb
  have hfa : ∀ S, S < 32 → fa1 S = nI (am S) := hfa
  have hh : HH D (dkW q K pr n fc fl fp fo fb1 fa1) A s.heap H locs := hh
  refine lv_aload_n hx hb dX0_goodOrders_4 rfl (lv_at hl 0 rfl) ?_
  refine dg_below C hK hh.1 dX0_goodOrders_5 ?_
  refine lv_iconst (v := nI 0) hx hb dX0_goodOrders_8 (by decide) ?_
  refine dl_below C hK hh.1 (by omega) dX0_goodOrders_9 ?_
  refine rd_top (v' := nI (be 0)) (hfb 0 (by decide)) ?_
  subst hQe; exact rd_retI ((fb1, fa1)) C hK hh (rfl) dX0_goodOrders_10
set_option maxHeartbeats 4000000 in
set_option maxRecDepth 100000 in
theorem mD_arrange (l : Launch) (D : va_G) (q : Nat → Nat) (K : Nat → ClassId) (pr n : Nat) (fc fl fp fo : Nat → Nat) (fb fa : Nat → Int32) (hB : BD pr n fc fl fp fo) (be am : Nat → Nat) (hT : TB (tm fc fl fp) pr be am) : CtI l yX0_arrange cX0_arrange 4 (some .boolean) { frames := 5, cells := 0, slots := 0, locals := 117 } D (dtys K) (dkW q K pr n fc fl fp fo fb fa) [.ref (q 0)] (fun (r : Int32) (u : (Nat → Nat) × (Nat → Int32) × (Nat → Int32)) => if be 0 = 0 then r = 0 ∧ u.1 = fo else r = 1 ∧ u.1 = agO (tm fc fl fp) pr be fo n) (fun u => dkW q K pr n fc fl fp u.1 u.2.1 u.2.2) := by
  refine rd_startI (by decide) (Nat.le_of_ble_eq_true rfl) ?_
  intro p e s m below meth c ls A Q hQe C hK hh hl
  have C : CX p s m [.ref (q 0)].toArray meth c cX0_arrange 4 (some .boolean) RX0 := C
  have hx := C.1
  have hb := C.2.1
  have hl : lv_has ls 4 [(0, .ref (q 0))] := hl
  have hB0 := hB
  obtain ⟨hpr, hn, hbc, hbl, hbp, hbo⟩ := hB0
  refine lv_aload_n hx hb dX0_arrange_0 rfl (lv_at hl 0 rfl) ?_
  refine rd_callIv (n := 0) (q := (RX0, TX0, 8)) C hK hh (mD_fill l D q K pr n fc fl fp fo fb fa hB be am hT) (lw_V q126 q128 qs6 q22 q129) (by decide +kernel) rfl ⟨rfl, rfl⟩ ⟨Nat.le_of_ble_eq_true rfl, Nat.le_of_ble_eq_true rfl⟩ 0 0 rfl rfl rfl hl.1 (Nat.le_of_ble_eq_true rfl) ⟨Nat.zero_le _, Nat.zero_le _⟩ dX0_arrange_1 (fun u H locs hr hh => ?_)
  obtain ⟨fb1, fa1⟩ := u
  obtain ⟨hfb, hfa⟩ := hr
  have hfb : ∀ S, S < 32 → fb1 S = nI (be S) := hfb
  have hfa : ∀ S, S < 32 → fa1 S = nI (am S) := hfa
  have hh : HH D (dkW q K pr n fc fl fp fo fb1 fa1) A s.heap H locs := hh
  refine lv_aload_n hx hb dX0_arrange_4 rfl (lv_at hl 0 rfl) ?_
  refine dg_below C hK hh.1 dX0_arrange_5 ?_
  refine lv_iconst (v := nI 0) hx hb dX0_arrange_8 (by decide) ?_
  refine dl_below C hK hh.1 (by omega) dX0_arrange_9 ?_
  refine rd_top (v' := nI (be 0)) (hfb 0 (by decide)) ?_
  refine rd_if_ne (tgt := 15) hx hb (hT.2.2.1 0) dX0_arrange_10 (by decide) (fun h10 => ?_) (fun h10 => ?_)
  · have lo : ∀ (d : Nat) (i : Nat), (n < i + d) → (i ≤ n) → ∀ (H : Heap) (locs : List Loc), HH D (dkW q K pr n fc fl fp (agO (tm fc fl fp) pr be fo i) fb1 fa1) A s.heap H locs → ∀ (ls : Array Slot), lv_has ls 4 [(2, .int (nI i)), (1, .int (nI (agS (tm fc fl fp) pr be i))), (0, .ref (q 0))] → W p l e { frames := 5, cells := 0, slots := 0, locals := 117 } s m [.ref (q 0)].toArray below meth c H locs 0 0 Q (F0 m 19 ls []) := by
      intro d
      induction d with
      | zero => intro i hd hi H locs hh ls hl; omega
      | succ d ih =>
        intro i hd hi H locs hh ls hl
        have hsi := agS_lt (tm fc fl fp) pr be i
        have inn : ∀ (d : Nat) (k : Nat), (i < n) → (4 < k + d) → (k ≤ 4) → (nxL (tm fc fl fp) pr be (agS (tm fc fl fp) pr be i) (4 - k) k = nx (tm fc fl fp) pr be (agS (tm fc fl fp) pr be i)) → ∀ (ls : Array Slot), lv_has ls 4 [(3, .int (nI k)), (2, .int (nI i)), (1, .int (nI (agS (tm fc fl fp) pr be i))), (0, .ref (q 0))] → W p l e { frames := 5, cells := 0, slots := 0, locals := 117 } s m [.ref (q 0)].toArray below meth c H locs 0 0 Q (F0 m 29 ls []) := by
          intro d
          induction d with
          | zero => intro k hin hd hk hnx ls hl; omega
          | succ d ih2 =>
            intro k hin hd hk hnx ls hl
            refine lv_iload_n hx hb dX0_arrange_29 rfl (lv_at hl 0 rfl) ?_
            refine lv_iconst (v := nI 4) hx hb dX0_arrange_30 (by decide) ?_
            refine rd_icmp_ge (tgt := 49) hx hb (by omega) (by omega) dX0_arrange_31 (by decide) (fun h31 => ?_) (fun h31 => ?_)
            · have hk2 : k = 4 := by omega
              have e : k = nx (tm fc fl fp) pr be (agS (tm fc fl fp) pr be i) := by rw [← hnx, hk2]; rfl
              refine lv_aload_n hx hb dX0_arrange_49 rfl (lv_at hl 3 rfl) ?_
              refine dg_order C hK hh.1 dX0_arrange_50 ?_
              refine lv_iload_n hx hb dX0_arrange_53 rfl (lv_at hl 1 rfl) ?_
              refine lv_iload_n hx hb dX0_arrange_54 rfl (lv_at hl 0 rfl) ?_
              refine rd_i2b hx hb (by omega) dX0_arrange_55 ?_
              refine ds_order C hK hh (by omega) (by omega) dX0_arrange_56 (fun H locs hh => ?_)
              refine lv_iload_n hx hb dX0_arrange_57 rfl (lv_at hl 2 rfl) ?_
              refine lv_iconst (v := nI 1) hx hb dX0_arrange_58 (by decide) ?_
              refine lv_iload_n hx hb dX0_arrange_59 rfl (lv_at hl 0 rfl) ?_
              refine rd_ishl1 hx hb (by omega) dX0_arrange_60 ?_
              refine rd_ior hx hb dX0_arrange_61 ?_
              refine lv_istore_n (lv' := [(1, .int (nI ((agS (tm fc fl fp) pr be i) ||| (2 ^ k)))), (3, .int (nI k)), (2, .int (nI i)), (0, .ref (q 0))]) hx hb dX0_arrange_62 rfl hl (by decide) rfl (fun ls hl => ?_)
              refine lv_iinc (v := nI (i + 1)) (lv' := [(2, .int (nI (i + 1))), (1, .int (nI ((agS (tm fc fl fp) pr be i) ||| (2 ^ k)))), (3, .int (nI k)), (0, .ref (q 0))]) hx hb dX0_arrange_63 hl (k := 2) rfl (rd_inc1 _) (by decide) rfl (fun ls hl => ?_)
              refine lv_goto (tgt := 19) hx hb dX0_arrange_66 (by decide) ?_
              rw [e, agO_up] at hh
              rw [e] at hl
              exact ih (i + 1) (by omega) (by omega) H locs hh ls (lv_sub hl [0, 1, 3] rfl)
            · refine lv_aload_n hx hb dX0_arrange_34 rfl (lv_at hl 3 rfl) ?_
              refine lv_iload_n hx hb dX0_arrange_35 rfl (lv_at hl 2 rfl) ?_
              refine lv_iload_n hx hb dX0_arrange_36 rfl (lv_at hl 0 rfl) ?_
              refine rd_callP (n := 2) (q := (RX0, TX0, 8)) C hK hh.1 (mD_canFollow l D q K pr n fc fl fp (agO (tm fc fl fp) pr be fo i) fb1 fa1 (BD_o hB (agO_lt hbo i)) be hfb hT.2.2.1 (agS (tm fc fl fp) pr be i) k hsi (by omega)) (lw_V q134 q136 qs7 q22 q137) (by decide +kernel) rfl ⟨rfl, rfl⟩ ⟨Nat.le_of_ble_eq_true rfl, Nat.le_of_ble_eq_true rfl⟩ 0 0 rfl rfl rfl hl.1 (Nat.le_of_ble_eq_true rfl) ⟨Nat.zero_le _, Nat.zero_le _⟩ dX0_arrange_37 (fun r hr => ?_)
              subst hr
              refine rd_ifb_ne (tgt := 49) hx hb dX0_arrange_40 (by decide) (fun h40 => ?_) (fun h40 => ?_)
              · have e : k = nx (tm fc fl fp) pr be (agS (tm fc fl fp) pr be i) := by rw [← hnx, show 4 - k = (4 - (k + 1)) + 1 by omega, nxL, if_pos h40]
                refine lv_aload_n hx hb dX0_arrange_49 rfl (lv_at hl 3 rfl) ?_
                refine dg_order C hK hh.1 dX0_arrange_50 ?_
                refine lv_iload_n hx hb dX0_arrange_53 rfl (lv_at hl 1 rfl) ?_
                refine lv_iload_n hx hb dX0_arrange_54 rfl (lv_at hl 0 rfl) ?_
                refine rd_i2b hx hb (by omega) dX0_arrange_55 ?_
                refine ds_order C hK hh (by omega) (by omega) dX0_arrange_56 (fun H locs hh => ?_)
                refine lv_iload_n hx hb dX0_arrange_57 rfl (lv_at hl 2 rfl) ?_
                refine lv_iconst (v := nI 1) hx hb dX0_arrange_58 (by decide) ?_
                refine lv_iload_n hx hb dX0_arrange_59 rfl (lv_at hl 0 rfl) ?_
                refine rd_ishl1 hx hb (by omega) dX0_arrange_60 ?_
                refine rd_ior hx hb dX0_arrange_61 ?_
                refine lv_istore_n (lv' := [(1, .int (nI ((agS (tm fc fl fp) pr be i) ||| (2 ^ k)))), (3, .int (nI k)), (2, .int (nI i)), (0, .ref (q 0))]) hx hb dX0_arrange_62 rfl hl (by decide) rfl (fun ls hl => ?_)
                refine lv_iinc (v := nI (i + 1)) (lv' := [(2, .int (nI (i + 1))), (1, .int (nI ((agS (tm fc fl fp) pr be i) ||| (2 ^ k)))), (3, .int (nI k)), (0, .ref (q 0))]) hx hb dX0_arrange_63 hl (k := 2) rfl (rd_inc1 _) (by decide) rfl (fun ls hl => ?_)
                refine lv_goto (tgt := 19) hx hb dX0_arrange_66 (by decide) ?_
                rw [e, agO_up] at hh
                rw [e] at hl
                exact ih (i + 1) (by omega) (by omega) H locs hh ls (lv_sub hl [0, 1, 3] rfl)
              · refine lv_iinc (v := nI (k + 1)) (lv' := [(3, .int (nI (k + 1))), (2, .int (nI i)), (1, .int (nI (agS (tm fc fl fp) pr be i))), (0, .ref (q 0))]) hx hb dX0_arrange_43 hl (k := 0) rfl (rd_inc1 _) (by decide) rfl (fun ls hl => ?_)
                refine lv_goto (tgt := 29) hx hb dX0_arrange_46 (by decide) ?_
                exact ih2 (k + 1) hin (by omega) (by omega) (by rw [← hnx, show 4 - k = (4 - (k + 1)) + 1 by omega, nxL, if_neg (by rw [h40]; decide)]) ls (lv_sub hl [0, 1, 2, 3] rfl)
        refine lv_iload_n hx hb dX0_arrange_19 rfl (lv_at hl 0 rfl) ?_
        refine lv_aload_n hx hb dX0_arrange_20 rfl (lv_at hl 2 rfl) ?_
        refine dg_count C hK hh.1 dX0_arrange_21 ?_
        refine rd_icmp_ge (tgt := 69) hx hb (by omega) (by omega) dX0_arrange_24 (by decide) (fun h24 => ?_) (fun h24 => ?_)
        · obtain rfl : n = i := by omega
          refine lv_iconst (v := nI 1) hx hb dX0_arrange_69 (by decide) ?_
          subst hQe; exact rd_retIz ((agO (tm fc fl fp) pr be fo n, fb1, fa1)) C hK hh rfl (by rw [if_neg (by omega)]; exact ⟨rfl, rfl⟩) dX0_arrange_70
        · refine lv_iconst (v := nI 0) hx hb dX0_arrange_27 (by decide) ?_
          refine lv_istore_n (lv' := [(3, .int (nI 0)), (2, .int (nI i)), (1, .int (nI (agS (tm fc fl fp) pr be i))), (0, .ref (q 0))]) hx hb dX0_arrange_28 rfl hl (by decide) rfl (fun ls hl => ?_)
          exact inn 5 0 (by omega) (by omega) (by omega) rfl ls (lv_sub hl [0, 1, 2, 3] rfl)
    rw [← agO_0 (tm fc fl fp) pr be fo] at hh
    refine lv_iconst (v := nI 0) hx hb dX0_arrange_15 (by decide) ?_
    refine lv_istore_n (lv' := [(1, .int (nI 0)), (0, .ref (q 0))]) hx hb dX0_arrange_16 rfl hl (by decide) rfl (fun ls hl => ?_)
    refine lv_iconst (v := nI 0) hx hb dX0_arrange_17 (by decide) ?_
    refine lv_istore_n (lv' := [(2, .int (nI 0)), (1, .int (nI 0)), (0, .ref (q 0))]) hx hb dX0_arrange_18 rfl hl (by decide) rfl (fun ls hl => ?_)
    exact lo (n + 1) 0 (by omega) (by omega) _ _ hh ls (lv_sub hl [0, 1, 2] rfl)
  · refine lv_iconst (v := nI 0) hx hb dX0_arrange_13 (by decide) ?_
    subst hQe; exact rd_retIz ((fo, fb1, fa1)) C hK hh rfl (by rw [if_pos h10]; exact ⟨rfl, rfl⟩) dX0_arrange_14
set_option maxHeartbeats 4000000 in
set_option maxRecDepth 100000 in
theorem mD_canBeLast (l : Launch) (D : va_G) (q : Nat → Nat) (K : Nat → ClassId) (pr n : Nat) (fc fl fp fo : Nat → Nat) (fb fa : Nat → Int32) (hB : BD pr n fc fl fp fo) (be am : Nat → Nat) (hT : TB (tm fc fl fp) pr be am) : CtI l yX0_canBeLast cX0_canBeLast 4 (some .int) { frames := 5, cells := 0, slots := 0, locals := 117 } D (dtys K) (dkW q K pr n fc fl fp fo fb fa) [.ref (q 0)] (fun (r : Int32) (_ : (Nat → Int32) × (Nat → Int32)) => r = nI (clL (tm fc fl fp) pr am 5)) (fun u => dkW q K pr n fc fl fp fo u.1 u.2) := by
  refine rd_startI (by decide) (Nat.le_of_ble_eq_true rfl) ?_
  intro p e s m below meth c ls A Q hQe C hK hh hl
  have C : CX p s m [.ref (q 0)].toArray meth c cX0_canBeLast 4 (some .int) RX0 := C
  have hx := C.1
  have hb := C.2.1
  have hl : lv_has ls 4 [(0, .ref (q 0))] := hl
  have hB0 := hB
  obtain ⟨hpr, hn, hbc, hbl, hbp, hbo⟩ := hB0
  refine lv_aload_n hx hb dX0_canBeLast_0 rfl (lv_at hl 0 rfl) ?_
  refine rd_callIv (n := 0) (q := (RX0, TX0, 8)) C hK hh (mD_fill l D q K pr n fc fl fp fo fb fa hB be am hT) (lw_V q126 q128 qs6 q22 q129) (by decide +kernel) rfl ⟨rfl, rfl⟩ ⟨Nat.le_of_ble_eq_true rfl, Nat.le_of_ble_eq_true rfl⟩ 0 0 rfl rfl rfl hl.1 (Nat.le_of_ble_eq_true rfl) ⟨Nat.zero_le _, Nat.zero_le _⟩ dX0_canBeLast_1 (fun u H locs hr hh => ?_)
  obtain ⟨fb1, fa1⟩ := u
  obtain ⟨hfb, hfa⟩ := hr
  have hfb : ∀ S, S < 32 → fb1 S = nI (be S) := hfb
  have hfa : ∀ S, S < 32 → fa1 S = nI (am S) := hfa
  have hh : HH D (dkW q K pr n fc fl fp fo fb1 fa1) A s.heap H locs := hh
  have lo : ∀ (d : Nat) (k : Nat), (5 < k + d) → (k ≤ 5) → ∀ (ls : Array Slot), lv_has ls 4 [(2, .int (nI k)), (1, .int (nI (clL (tm fc fl fp) pr am k))), (0, .ref (q 0))] → W p l e { frames := 5, cells := 0, slots := 0, locals := 117 } s m [.ref (q 0)].toArray below meth c H locs 0 0 Q (F0 m 8 ls []) := by
    intro d
    induction d with
    | zero => intro k hd hk ls hl; omega
    | succ d ih =>
      intro k hd hk ls hl
      refine lv_iload_n hx hb dX0_canBeLast_8 rfl (lv_at hl 0 rfl) ?_
      refine lv_iconst (v := nI 5) hx hb dX0_canBeLast_9 (by decide) ?_
      refine rd_icmp_ge (tgt := 66) hx hb (by omega) (by omega) dX0_canBeLast_10 (by decide) (fun h10 => ?_) (fun h10 => ?_)
      · refine lv_iload_n hx hb dX0_canBeLast_66 rfl (lv_at hl 1 rfl) ?_
        subst hQe; exact rd_retI ((fb1, fa1)) C hK hh (by rw [show k = 5 by omega]) dX0_canBeLast_67
      · refine lv_aload_n hx hb dX0_canBeLast_13 rfl (lv_at hl 2 rfl) ?_
        refine dg_present C hK hh.1 dX0_canBeLast_14 ?_
        refine lv_iconst (v := nI 1) hx hb dX0_canBeLast_17 (by decide) ?_
        refine lv_iload_n hx hb dX0_canBeLast_18 rfl (lv_at hl 0 rfl) ?_
        refine rd_ishl1 hx hb (by omega) dX0_canBeLast_19 ?_
        refine lv_iconst (v := (-1)) hx hb dX0_canBeLast_20 (by decide) ?_
        refine lv_ixor hx hb dX0_canBeLast_21 ?_
        refine rd_iandn hx hb (hpr) (rd_pow_lt (by omega)) dX0_canBeLast_22 ?_
        refine lv_istore_n (lv' := [(3, .int (nI (pr &&& (31 ^^^ (2 ^ k))))), (2, .int (nI k)), (1, .int (nI (clL (tm fc fl fp) pr am k))), (0, .ref (q 0))]) hx hb dX0_canBeLast_23 rfl hl (by decide) rfl (fun ls hl => ?_)
        refine lv_iload_n hx hb dX0_canBeLast_24 rfl (lv_at hl 2 rfl) ?_
        refine lv_aload_n hx hb dX0_canBeLast_25 rfl (lv_at hl 3 rfl) ?_
        refine lv_iload_n hx hb dX0_canBeLast_26 rfl (lv_at hl 1 rfl) ?_
        refine rd_callP (n := 1) (q := (RX0, TX0, 8)) C hK hh.1 (mD_has l D q K pr n fc fl fp fo fb1 fa1 hB (nI k)) (lw_V q66 q68 qs0 q22 q69) (by decide +kernel) rfl ⟨rfl, rfl⟩ ⟨Nat.le_of_ble_eq_true rfl, Nat.le_of_ble_eq_true rfl⟩ 0 0 rfl rfl rfl hl.1 (Nat.le_of_ble_eq_true rfl) ⟨Nat.zero_le _, Nat.zero_le _⟩ dX0_canBeLast_27 (fun r hr => ?_)
        subst hr
        refine rd_ifb_eq (tgt := 57) hx hb dX0_canBeLast_30 (by decide) (fun h30 => ?_) (fun h30 => ?_)
        · rw [hasB_nI (by omega)] at h30
          refine lv_iconst (v := nI 0) hx hb dX0_canBeLast_57 (by decide) ?_
          refine rd_ior hx hb dX0_canBeLast_58 ?_
          refine lv_istore_n (lv' := [(1, .int (nI ((clL (tm fc fl fp) pr am k) ||| 0))), (3, .int (nI (pr &&& (31 ^^^ (2 ^ k))))), (2, .int (nI k)), (0, .ref (q 0))]) hx hb dX0_canBeLast_59 rfl hl (by decide) rfl (fun ls hl => ?_)
          refine lv_iinc (v := nI (k + 1)) (lv' := [(2, .int (nI (k + 1))), (1, .int (nI ((clL (tm fc fl fp) pr am k) ||| 0))), (3, .int (nI (pr &&& (31 ^^^ (2 ^ k))))), (0, .ref (q 0))]) hx hb dX0_canBeLast_60 hl (k := 2) rfl (rd_inc1 _) (by decide) rfl (fun ls hl => ?_)
          refine lv_goto (tgt := 8) hx hb dX0_canBeLast_63 (by decide) ?_
          have e : (clL (tm fc fl fp) pr am k) ||| 0 = clL (tm fc fl fp) pr am (k + 1) := by simp [clL, h30]
          rw [e] at hl
          exact ih (k + 1) (by omega) (by omega) ls (lv_sub hl [0, 1, 3] rfl)
        · rw [hasB_nI (by omega)] at h30
          refine lv_aload_n hx hb dX0_canBeLast_33 rfl (lv_at hl 3 rfl) ?_
          refine dg_among C hK hh.1 dX0_canBeLast_34 ?_
          refine lv_iload_n hx hb dX0_canBeLast_37 rfl (lv_at hl 0 rfl) ?_
          refine dl_among C hK hh.1 (rd_and_lt hpr) dX0_canBeLast_38 ?_
          refine rd_top (v' := nI (am (pr &&& (31 ^^^ 2 ^ k)))) (hfa _ (rd_and_lt hpr)) ?_
          refine rd_if_le (tgt := 57) hx hb (hT.2.2.2 _) dX0_canBeLast_39 (by decide) (fun h39 => ?_) (fun h39 => ?_)
          · refine lv_iconst (v := nI 0) hx hb dX0_canBeLast_57 (by decide) ?_
            refine rd_ior hx hb dX0_canBeLast_58 ?_
            refine lv_istore_n (lv' := [(1, .int (nI ((clL (tm fc fl fp) pr am k) ||| 0))), (3, .int (nI (pr &&& (31 ^^^ (2 ^ k))))), (2, .int (nI k)), (0, .ref (q 0))]) hx hb dX0_canBeLast_59 rfl hl (by decide) rfl (fun ls hl => ?_)
            refine lv_iinc (v := nI (k + 1)) (lv' := [(2, .int (nI (k + 1))), (1, .int (nI ((clL (tm fc fl fp) pr am k) ||| 0))), (3, .int (nI (pr &&& (31 ^^^ (2 ^ k))))), (0, .ref (q 0))]) hx hb dX0_canBeLast_60 hl (k := 2) rfl (rd_inc1 _) (by decide) rfl (fun ls hl => ?_)
            refine lv_goto (tgt := 8) hx hb dX0_canBeLast_63 (by decide) ?_
            have e : (clL (tm fc fl fp) pr am k) ||| 0 = clL (tm fc fl fp) pr am (k + 1) := by simp [clL, h30, h39]
            rw [e] at hl
            exact ih (k + 1) (by omega) (by omega) ls (lv_sub hl [0, 1, 3] rfl)
          · refine lv_aload_n hx hb dX0_canBeLast_42 rfl (lv_at hl 3 rfl) ?_
            refine lv_iload_n hx hb dX0_canBeLast_43 rfl (lv_at hl 1 rfl) ?_
            refine lv_iload_n hx hb dX0_canBeLast_44 rfl (lv_at hl 0 rfl) ?_
            refine rd_callP (n := 2) (q := (RX0, TX0, 8)) C hK hh.1 (mD_inTimeUnder l D q K pr n fc fl fp fo fb1 fa1 hB k (pr &&& (31 ^^^ 2 ^ k)) (by omega) (by have := rd_and_lt (b := 31 ^^^ 2 ^ k) hpr; omega)) (lw_V q117 q119 qs5 q22 q120) (by decide +kernel) rfl ⟨rfl, rfl⟩ ⟨Nat.le_of_ble_eq_true rfl, Nat.le_of_ble_eq_true rfl⟩ 0 0 rfl rfl rfl hl.1 (Nat.le_of_ble_eq_true rfl) ⟨Nat.zero_le _, Nat.zero_le _⟩ dX0_canBeLast_45 (fun r hr => ?_)
            subst hr
            refine rd_ifb_eq (tgt := 57) hx hb dX0_canBeLast_48 (by decide) (fun h48 => ?_) (fun h48 => ?_)
            · refine lv_iconst (v := nI 0) hx hb dX0_canBeLast_57 (by decide) ?_
              refine rd_ior hx hb dX0_canBeLast_58 ?_
              refine lv_istore_n (lv' := [(1, .int (nI ((clL (tm fc fl fp) pr am k) ||| 0))), (3, .int (nI (pr &&& (31 ^^^ (2 ^ k))))), (2, .int (nI k)), (0, .ref (q 0))]) hx hb dX0_canBeLast_59 rfl hl (by decide) rfl (fun ls hl => ?_)
              refine lv_iinc (v := nI (k + 1)) (lv' := [(2, .int (nI (k + 1))), (1, .int (nI ((clL (tm fc fl fp) pr am k) ||| 0))), (3, .int (nI (pr &&& (31 ^^^ (2 ^ k))))), (0, .ref (q 0))]) hx hb dX0_canBeLast_60 hl (k := 2) rfl (rd_inc1 _) (by decide) rfl (fun ls hl => ?_)
              refine lv_goto (tgt := 8) hx hb dX0_canBeLast_63 (by decide) ?_
              have e : (clL (tm fc fl fp) pr am k) ||| 0 = clL (tm fc fl fp) pr am (k + 1) := by simp [clL, h30, h39, h48]
              rw [e] at hl
              exact ih (k + 1) (by omega) (by omega) ls (lv_sub hl [0, 1, 3] rfl)
            · refine lv_iconst (v := nI 1) hx hb dX0_canBeLast_51 (by decide) ?_
              refine lv_iload_n hx hb dX0_canBeLast_52 rfl (lv_at hl 1 rfl) ?_
              refine rd_ishl1 hx hb (by omega) dX0_canBeLast_53 ?_
              refine lv_goto (tgt := 58) hx hb dX0_canBeLast_54 (by decide) ?_
              refine rd_ior hx hb dX0_canBeLast_58 ?_
              refine lv_istore_n (lv' := [(1, .int (nI ((clL (tm fc fl fp) pr am k) ||| (2 ^ k)))), (3, .int (nI (pr &&& (31 ^^^ (2 ^ k))))), (2, .int (nI k)), (0, .ref (q 0))]) hx hb dX0_canBeLast_59 rfl hl (by decide) rfl (fun ls hl => ?_)
              refine lv_iinc (v := nI (k + 1)) (lv' := [(2, .int (nI (k + 1))), (1, .int (nI ((clL (tm fc fl fp) pr am k) ||| (2 ^ k)))), (3, .int (nI (pr &&& (31 ^^^ (2 ^ k))))), (0, .ref (q 0))]) hx hb dX0_canBeLast_60 hl (k := 2) rfl (rd_inc1 _) (by decide) rfl (fun ls hl => ?_)
              refine lv_goto (tgt := 8) hx hb dX0_canBeLast_63 (by decide) ?_
              have e : (clL (tm fc fl fp) pr am k) ||| (2 ^ k) = clL (tm fc fl fp) pr am (k + 1) := by simp [clL, h30, h39, h48]
              rw [e] at hl
              exact ih (k + 1) (by omega) (by omega) ls (lv_sub hl [0, 1, 3] rfl)
  refine lv_iconst (v := nI 0) hx hb dX0_canBeLast_4 (by decide) ?_
  refine lv_istore_n (lv' := [(1, .int (nI 0)), (0, .ref (q 0))]) hx hb dX0_canBeLast_5 rfl hl (by decide) rfl (fun ls hl => ?_)
  refine lv_iconst (v := nI 0) hx hb dX0_canBeLast_6 (by decide) ?_
  refine lv_istore_n (lv' := [(2, .int (nI 0)), (1, .int (nI 0)), (0, .ref (q 0))]) hx hb dX0_canBeLast_7 rfl hl (by decide) rfl (fun ls hl => ?_)
  exact lo 6 0 (by omega) (by omega) ls (lv_sub hl [0, 1, 2] rfl)
end
section
/-! the desk's methods that change its tasks -/
set_option maxHeartbeats 4000000 in
set_option maxRecDepth 100000 in
theorem mD_greatestCost (l : Launch) (D : va_G) (q : Nat → Nat) (K : Nat → ClassId) (pr n : Nat) (fc fl fp fo : Nat → Nat) (fb fa : Nat → Int32) (hB : BD pr n fc fl fp fo) (hO : OrdOK pr n fo) (k : Int32) : CtI l yX0_greatestCost cX0_greatestCost 5 (some .int) { frames := 6, cells := 0, slots := 0, locals := 137 } D (dtys K) (dkW q K pr n fc fl fp fo fb fa) [.ref (q 0), .int k] (fun (r : Int32) (_ : Unit) => r = if hasB pr k then nI (gcL (fun x => gdF pr n (va_up fc k.toNatClampNeg x) fl fp fo) (fl k.toNatClampNeg)) else -1) (fun _ => dkW q K pr n fc fl fp fo fb fa) := by
  refine rd_startI (by decide) (Nat.le_of_ble_eq_true rfl) ?_
  intro p e s m below meth c ls A Q hQe C hK hh hl
  have C : CX p s m [.ref (q 0), .int k].toArray meth c cX0_greatestCost 5 (some .int) RX0 := C
  have hx := C.1
  have hb := C.2.1
  have hl : lv_has ls 5 [(0, .ref (q 0)), (1, .int k)] := hl
  have hB0 := hB
  obtain ⟨hpr, hn, hbc, hbl, hbp, hbo⟩ := hB0
  refine lv_aload_n hx hb dX0_greatestCost_0 rfl (lv_at hl 0 rfl) ?_
  refine lv_iload_n hx hb dX0_greatestCost_1 rfl (lv_at hl 1 rfl) ?_
  refine rd_callP (n := 1) (q := (RX0, TX0, 8)) C hK hh.1 (mD_has l D q K pr n fc fl fp fo fb fa hB k) (lw_V q66 q68 qs0 q22 q69) (by decide +kernel) rfl ⟨rfl, rfl⟩ ⟨Nat.le_of_ble_eq_true rfl, Nat.le_of_ble_eq_true rfl⟩ 0 0 rfl rfl rfl hl.1 (Nat.le_of_ble_eq_true rfl) ⟨Nat.zero_le _, Nat.zero_le _⟩ dX0_greatestCost_2 (fun r hr => ?_)
  subst hr
  refine rd_ifb_ne (tgt := 10) hx hb dX0_greatestCost_5 (by decide) (fun h5 => ?_) (fun h5 => ?_)
  · obtain ⟨j, hj5, rfl, hjb⟩ := hasB_of h5
    obtain ⟨G, hG⟩ : ∃ G : Nat → Bool, G = fun x => gdF pr n (va_up fc j x) fl fp fo := ⟨_, rfl⟩
    have hcj := hbc j; have hlj := hbl j
    have lo : ∀ (d : Nat) (x : Nat) (cur : Nat → Nat), (fl j < x + d) → (x ≤ fl j) → (∀ v, va_up cur j v = va_up fc j v) → ∀ (H : Heap) (locs : List Loc), HH D (dkW q K pr n cur fl fp fo fb fa) A s.heap H locs → ∀ (ls : Array Slot), lv_has ls 5 [(4, .int (nI (x + 1))), (3, .int (nI (gcL G x))), (2, .int (nI (fc j))), (0, .ref (q 0)), (1, .int (nI j))] → W p l e { frames := 6, cells := 0, slots := 0, locals := 137 } s m [.ref (q 0), .int (nI j)].toArray below meth c H locs 0 0 Q (F0 m 22 ls []) := by
      intro d
      induction d with
      | zero => intro x cur hd hxl hcur H locs hh ls hl; omega
      | succ d ih =>
        intro x cur hd hxl hcur H locs hh ls hl
        refine lv_iload hx hb dX0_greatestCost_22 (lv_at hl 0 rfl) ?_
        refine lv_aload_n hx hb dX0_greatestCost_24 rfl (lv_at hl 3 rfl) ?_
        refine dg_limits C hK hh.1 dX0_greatestCost_25 ?_
        refine lv_iload_n hx hb dX0_greatestCost_28 rfl (lv_at hl 4 rfl) ?_
        refine dl_limits C hK hh.1 (by omega) dX0_greatestCost_29 ?_
        refine rd_icmp_gt (tgt := 62) hx hb (by omega) (by omega) dX0_greatestCost_30 (by decide) (fun h30 => ?_) (fun h30 => ?_)
        · refine lv_aload_n hx hb dX0_greatestCost_62 rfl (lv_at hl 3 rfl) ?_
          refine dg_costs C hK hh.1 dX0_greatestCost_63 ?_
          refine lv_iload_n hx hb dX0_greatestCost_66 rfl (lv_at hl 4 rfl) ?_
          refine lv_iload_n hx hb dX0_greatestCost_67 rfl (lv_at hl 2 rfl) ?_
          refine ds_costs C hK hh (by omega) (by omega) dX0_greatestCost_68 (fun H locs hh => ?_)
          rw [hcur, rd_up_same] at hh
          refine lv_iload_n hx hb dX0_greatestCost_69 rfl (lv_at hl 1 rfl) ?_
          subst hQe; exact rd_retI (()) C hK hh (by rw [if_pos h5, nI_clamp (by omega), ← hG, show fl j = x by omega]) dX0_greatestCost_70
        · refine lv_aload_n hx hb dX0_greatestCost_33 rfl (lv_at hl 3 rfl) ?_
          refine dg_costs C hK hh.1 dX0_greatestCost_34 ?_
          refine lv_iload_n hx hb dX0_greatestCost_37 rfl (lv_at hl 4 rfl) ?_
          refine lv_iload hx hb dX0_greatestCost_38 (lv_at hl 0 rfl) ?_
          refine rd_i2b hx hb (by omega) dX0_greatestCost_40 ?_
          refine ds_costs C hK hh (by omega) (by omega) dX0_greatestCost_41 (fun H locs hh => ?_)
          refine lv_aload_n hx hb dX0_greatestCost_42 rfl (lv_at hl 3 rfl) ?_
          refine rd_callP (n := 0) (q := (RX0, TX0, 8)) C hK hh.1 (mD_good l D q K pr n (va_up cur j (x + 1)) fl fp fo fb fa (by rw [hcur]; exact BD_c hB j (by omega)) hO) (lw_V q146 q110 q111 q22 q112) (by decide +kernel) rfl ⟨rfl, rfl⟩ ⟨Nat.le_of_ble_eq_true rfl, Nat.le_of_ble_eq_true rfl⟩ 0 0 rfl rfl rfl hl.1 (Nat.le_of_ble_eq_true rfl) ⟨Nat.zero_le _, Nat.zero_le _⟩ dX0_greatestCost_43 (fun r hr => ?_)
          subst hr
          refine rd_ifb_eq (tgt := 54) hx hb dX0_greatestCost_46 (by decide) (fun h46 => ?_) (fun h46 => ?_)
          · refine lv_iload_n hx hb dX0_greatestCost_54 rfl (lv_at hl 1 rfl) ?_
            refine lv_istore_n (lv' := [(3, .int (nI (gcL G x))), (4, .int (nI (x + 1))), (2, .int (nI (fc j))), (0, .ref (q 0)), (1, .int (nI j))]) hx hb dX0_greatestCost_55 rfl hl (by decide) rfl (fun ls hl => ?_)
            refine lv_iinc (v := nI (x + 1 + 1)) (lv' := [(4, .int (nI (x + 1 + 1))), (3, .int (nI (gcL G x))), (2, .int (nI (fc j))), (0, .ref (q 0)), (1, .int (nI j))]) hx hb dX0_greatestCost_56 hl (k := 1) rfl (rd_inc1 _) (by decide) rfl (fun ls hl => ?_)
            refine lv_goto (tgt := 22) hx hb dX0_greatestCost_59 (by decide) ?_
            have e : gcL G x = gcL G (x + 1) := by rw [gcL, if_neg (by rw [hG]; simp only []; rw [← hcur, h46]; decide)]
            have hl : lv_has ls 5 [(4, .int (nI (x + 1 + 1))), (3, .int (nI (gcL G (x + 1)))), (2, .int (nI (fc j))), (0, .ref (q 0)), (1, .int (nI j))] := by rw [← e]; exact hl
            exact ih (x + 1) (va_up cur j (x + 1)) (by omega) (by omega) (fun v => by rw [rd_upup, hcur]) H locs hh ls (lv_sub hl [0, 1, 2, 3, 4] rfl)
          · refine lv_iload hx hb dX0_greatestCost_49 (lv_at hl 0 rfl) ?_
            refine lv_goto (tgt := 55) hx hb dX0_greatestCost_51 (by decide) ?_
            refine lv_istore_n (lv' := [(3, .int (nI (x + 1))), (4, .int (nI (x + 1))), (2, .int (nI (fc j))), (0, .ref (q 0)), (1, .int (nI j))]) hx hb dX0_greatestCost_55 rfl hl (by decide) rfl (fun ls hl => ?_)
            refine lv_iinc (v := nI (x + 1 + 1)) (lv' := [(4, .int (nI (x + 1 + 1))), (3, .int (nI (x + 1))), (2, .int (nI (fc j))), (0, .ref (q 0)), (1, .int (nI j))]) hx hb dX0_greatestCost_56 hl (k := 1) rfl (rd_inc1 _) (by decide) rfl (fun ls hl => ?_)
            refine lv_goto (tgt := 22) hx hb dX0_greatestCost_59 (by decide) ?_
            have e : x + 1 = gcL G (x + 1) := by rw [gcL, if_pos (by rw [hG]; simp only []; rw [← hcur, h46])]
            have hl : lv_has ls 5 [(4, .int (nI (x + 1 + 1))), (3, .int (nI (gcL G (x + 1)))), (2, .int (nI (fc j))), (0, .ref (q 0)), (1, .int (nI j))] := by rw [← e]; exact hl
            exact ih (x + 1) (va_up cur j (x + 1)) (by omega) (by omega) (fun v => by rw [rd_upup, hcur]) H locs hh ls (lv_sub hl [0, 1, 2, 3, 4] rfl)
    refine lv_aload_n hx hb dX0_greatestCost_10 rfl (lv_at hl 0 rfl) ?_
    refine dg_costs C hK hh.1 dX0_greatestCost_11 ?_
    refine lv_iload_n hx hb dX0_greatestCost_14 rfl (lv_at hl 1 rfl) ?_
    refine dl_costs C hK hh.1 (by omega) dX0_greatestCost_15 ?_
    refine lv_istore_n (lv' := [(2, .int (nI (fc j))), (0, .ref (q 0)), (1, .int (nI j))]) hx hb dX0_greatestCost_16 rfl hl (by decide) rfl (fun ls hl => ?_)
    refine lv_iconst (v := nI 0) hx hb dX0_greatestCost_17 (by decide) ?_
    refine lv_istore_n (lv' := [(3, .int (nI 0)), (2, .int (nI (fc j))), (0, .ref (q 0)), (1, .int (nI j))]) hx hb dX0_greatestCost_18 rfl hl (by decide) rfl (fun ls hl => ?_)
    refine lv_iconst (v := nI 1) hx hb dX0_greatestCost_19 (by decide) ?_
    refine lv_istore (lv' := [(4, .int (nI 1)), (3, .int (nI 0)), (2, .int (nI (fc j))), (0, .ref (q 0)), (1, .int (nI j))]) hx hb dX0_greatestCost_20 hl (by decide) rfl (fun ls hl => ?_)
    exact lo (fl j + 1) 0 fc (by omega) (by omega) (fun v => rfl) _ _ hh ls (lv_sub hl [0, 1, 2, 3, 4] rfl)
  · refine lv_iconst (v := (-1)) hx hb dX0_greatestCost_8 (by decide) ?_
    subst hQe; exact rd_retI (()) C hK hh (by rw [if_neg (by rw [h5]; decide)]) dX0_greatestCost_9
set_option maxHeartbeats 4000000 in
set_option maxRecDepth 100000 in
theorem mD_leastPeriod (l : Launch) (D : va_G) (q : Nat → Nat) (K : Nat → ClassId) (pr n : Nat) (fc fl fp fo : Nat → Nat) (fb fa : Nat → Int32) (hB : BD pr n fc fl fp fo) (hO : OrdOK pr n fo) (hl1 : ∀ j, j < 5 → pr.testBit j = true → 1 ≤ fl j) (k : Int32) : CtI l yX0_leastPeriod cX0_leastPeriod 5 (some .int) { frames := 6, cells := 0, slots := 0, locals := 137 } D (dtys K) (dkW q K pr n fc fl fp fo fb fa) [.ref (q 0), .int k] (fun (r : Int32) (_ : Unit) => r = if hasB pr k then nI (lpL (fun x => gdF pr n fc fl (va_up fp k.toNatClampNeg x) fo) (16 - fl k.toNatClampNeg)) else -1) (fun _ => dkW q K pr n fc fl fp fo fb fa) := by
  refine rd_startI (by decide) (Nat.le_of_ble_eq_true rfl) ?_
  intro p e s m below meth c ls A Q hQe C hK hh hl
  have C : CX p s m [.ref (q 0), .int k].toArray meth c cX0_leastPeriod 5 (some .int) RX0 := C
  have hx := C.1
  have hb := C.2.1
  have hl : lv_has ls 5 [(0, .ref (q 0)), (1, .int k)] := hl
  have hB0 := hB
  obtain ⟨hpr, hn, hbc, hbl, hbp, hbo⟩ := hB0
  refine lv_aload_n hx hb dX0_leastPeriod_0 rfl (lv_at hl 0 rfl) ?_
  refine lv_iload_n hx hb dX0_leastPeriod_1 rfl (lv_at hl 1 rfl) ?_
  refine rd_callP (n := 1) (q := (RX0, TX0, 8)) C hK hh.1 (mD_has l D q K pr n fc fl fp fo fb fa hB k) (lw_V q66 q68 qs0 q22 q69) (by decide +kernel) rfl ⟨rfl, rfl⟩ ⟨Nat.le_of_ble_eq_true rfl, Nat.le_of_ble_eq_true rfl⟩ 0 0 rfl rfl rfl hl.1 (Nat.le_of_ble_eq_true rfl) ⟨Nat.zero_le _, Nat.zero_le _⟩ dX0_leastPeriod_2 (fun r hr => ?_)
  subst hr
  refine rd_ifb_ne (tgt := 10) hx hb dX0_leastPeriod_5 (by decide) (fun h5 => ?_) (fun h5 => ?_)
  · obtain ⟨j, hj5, rfl, hjb⟩ := hasB_of h5
    obtain ⟨G, hG⟩ : ∃ G : Nat → Bool, G = fun x => gdF pr n fc fl (va_up fp j x) fo := ⟨_, rfl⟩
    have hcj := hbp j; have hlj := hbl j; have hl1j := hl1 j hj5 hjb
    have lo : ∀ (d : Nat) (x : Nat) (cur : Nat → Nat), (16 - fl j < x + d) → (x ≤ 16 - fl j) → (∀ v, va_up cur j v = va_up fp j v) → ∀ (H : Heap) (locs : List Loc), HH D (dkW q K pr n fc fl cur fo fb fa) A s.heap H locs → ∀ (ls : Array Slot), lv_has ls 5 [(4, .int (nI (15 - x))), (3, .int (nI (lpL G x))), (2, .int (nI (fp j))), (0, .ref (q 0)), (1, .int (nI j))] → W p l e { frames := 6, cells := 0, slots := 0, locals := 137 } s m [.ref (q 0), .int (nI j)].toArray below meth c H locs 0 0 Q (F0 m 23 ls []) := by
      intro d
      induction d with
      | zero => intro x cur hd hxl hcur H locs hh ls hl; omega
      | succ d ih =>
        intro x cur hd hxl hcur H locs hh ls hl
        refine lv_iload hx hb dX0_leastPeriod_23 (lv_at hl 0 rfl) ?_
        refine lv_aload_n hx hb dX0_leastPeriod_25 rfl (lv_at hl 3 rfl) ?_
        refine dg_limits C hK hh.1 dX0_leastPeriod_26 ?_
        refine lv_iload_n hx hb dX0_leastPeriod_29 rfl (lv_at hl 4 rfl) ?_
        refine dl_limits C hK hh.1 (by omega) dX0_leastPeriod_30 ?_
        refine rd_icmp_lt (tgt := 63) hx hb (by omega) (by omega) dX0_leastPeriod_31 (by decide) (fun h31 => ?_) (fun h31 => ?_)
        · refine lv_aload_n hx hb dX0_leastPeriod_63 rfl (lv_at hl 3 rfl) ?_
          refine dg_periods C hK hh.1 dX0_leastPeriod_64 ?_
          refine lv_iload_n hx hb dX0_leastPeriod_67 rfl (lv_at hl 4 rfl) ?_
          refine lv_iload_n hx hb dX0_leastPeriod_68 rfl (lv_at hl 2 rfl) ?_
          refine ds_periods C hK hh (by omega) (by omega) dX0_leastPeriod_69 (fun H locs hh => ?_)
          rw [hcur, rd_up_same] at hh
          refine lv_iload_n hx hb dX0_leastPeriod_70 rfl (lv_at hl 1 rfl) ?_
          subst hQe; exact rd_retI (()) C hK hh (by rw [if_pos h5, nI_clamp (by omega), ← hG, show 16 - fl j = x by omega]) dX0_leastPeriod_71
        · refine lv_aload_n hx hb dX0_leastPeriod_34 rfl (lv_at hl 3 rfl) ?_
          refine dg_periods C hK hh.1 dX0_leastPeriod_35 ?_
          refine lv_iload_n hx hb dX0_leastPeriod_38 rfl (lv_at hl 4 rfl) ?_
          refine lv_iload hx hb dX0_leastPeriod_39 (lv_at hl 0 rfl) ?_
          refine rd_i2b hx hb (by omega) dX0_leastPeriod_41 ?_
          refine ds_periods C hK hh (by omega) (by omega) dX0_leastPeriod_42 (fun H locs hh => ?_)
          refine lv_aload_n hx hb dX0_leastPeriod_43 rfl (lv_at hl 3 rfl) ?_
          refine rd_callP (n := 0) (q := (RX0, TX0, 8)) C hK hh.1 (mD_good l D q K pr n fc fl (va_up cur j (15 - x)) fo fb fa (by rw [hcur]; exact BD_p hB j (by omega)) hO) (lw_V q146 q110 q111 q22 q112) (by decide +kernel) rfl ⟨rfl, rfl⟩ ⟨Nat.le_of_ble_eq_true rfl, Nat.le_of_ble_eq_true rfl⟩ 0 0 rfl rfl rfl hl.1 (Nat.le_of_ble_eq_true rfl) ⟨Nat.zero_le _, Nat.zero_le _⟩ dX0_leastPeriod_44 (fun r hr => ?_)
          subst hr
          refine rd_ifb_eq (tgt := 55) hx hb dX0_leastPeriod_47 (by decide) (fun h47 => ?_) (fun h47 => ?_)
          · refine lv_iload_n hx hb dX0_leastPeriod_55 rfl (lv_at hl 1 rfl) ?_
            refine lv_istore_n (lv' := [(3, .int (nI (lpL G x))), (4, .int (nI (15 - x))), (2, .int (nI (fp j))), (0, .ref (q 0)), (1, .int (nI j))]) hx hb dX0_leastPeriod_56 rfl hl (by decide) rfl (fun ls hl => ?_)
            refine lv_iinc (v := nI (15 - (x + 1))) (lv' := [(4, .int (nI (15 - (x + 1)))), (3, .int (nI (lpL G x))), (2, .int (nI (fp j))), (0, .ref (q 0)), (1, .int (nI j))]) hx hb dX0_leastPeriod_57 hl (k := 1) rfl (by rw [show 15 - x = (15 - (x + 1)) + 1 by omega]; exact rd_dec1 _) (by decide) rfl (fun ls hl => ?_)
            refine lv_goto (tgt := 23) hx hb dX0_leastPeriod_60 (by decide) ?_
            have e : lpL G x = lpL G (x + 1) := by rw [lpL, if_neg (by rw [hG]; simp only []; rw [← hcur, h47]; decide)]
            have hl : lv_has ls 5 [(4, .int (nI (15 - (x + 1)))), (3, .int (nI (lpL G (x + 1)))), (2, .int (nI (fp j))), (0, .ref (q 0)), (1, .int (nI j))] := by rw [← e]; exact hl
            exact ih (x + 1) (va_up cur j (15 - x)) (by omega) (by omega) (fun v => by rw [rd_upup, hcur]) H locs hh ls (lv_sub hl [0, 1, 2, 3, 4] rfl)
          · refine lv_iload hx hb dX0_leastPeriod_50 (lv_at hl 0 rfl) ?_
            refine lv_goto (tgt := 56) hx hb dX0_leastPeriod_52 (by decide) ?_
            refine lv_istore_n (lv' := [(3, .int (nI (15 - x))), (4, .int (nI (15 - x))), (2, .int (nI (fp j))), (0, .ref (q 0)), (1, .int (nI j))]) hx hb dX0_leastPeriod_56 rfl hl (by decide) rfl (fun ls hl => ?_)
            refine lv_iinc (v := nI (15 - (x + 1))) (lv' := [(4, .int (nI (15 - (x + 1)))), (3, .int (nI (15 - x))), (2, .int (nI (fp j))), (0, .ref (q 0)), (1, .int (nI j))]) hx hb dX0_leastPeriod_57 hl (k := 1) rfl (by rw [show 15 - x = (15 - (x + 1)) + 1 by omega]; exact rd_dec1 _) (by decide) rfl (fun ls hl => ?_)
            refine lv_goto (tgt := 23) hx hb dX0_leastPeriod_60 (by decide) ?_
            have e : 15 - x = lpL G (x + 1) := by rw [lpL, if_pos (by rw [hG]; simp only []; rw [← hcur, h47])]
            have hl : lv_has ls 5 [(4, .int (nI (15 - (x + 1)))), (3, .int (nI (lpL G (x + 1)))), (2, .int (nI (fp j))), (0, .ref (q 0)), (1, .int (nI j))] := by rw [← e]; exact hl
            exact ih (x + 1) (va_up cur j (15 - x)) (by omega) (by omega) (fun v => by rw [rd_upup, hcur]) H locs hh ls (lv_sub hl [0, 1, 2, 3, 4] rfl)
    refine lv_aload_n hx hb dX0_leastPeriod_10 rfl (lv_at hl 0 rfl) ?_
    refine dg_periods C hK hh.1 dX0_leastPeriod_11 ?_
    refine lv_iload_n hx hb dX0_leastPeriod_14 rfl (lv_at hl 1 rfl) ?_
    refine dl_periods C hK hh.1 (by omega) dX0_leastPeriod_15 ?_
    refine lv_istore_n (lv' := [(2, .int (nI (fp j))), (0, .ref (q 0)), (1, .int (nI j))]) hx hb dX0_leastPeriod_16 rfl hl (by decide) rfl (fun ls hl => ?_)
    refine lv_iconst (v := nI 0) hx hb dX0_leastPeriod_17 (by decide) ?_
    refine lv_istore_n (lv' := [(3, .int (nI 0)), (2, .int (nI (fp j))), (0, .ref (q 0)), (1, .int (nI j))]) hx hb dX0_leastPeriod_18 rfl hl (by decide) rfl (fun ls hl => ?_)
    refine lv_bipush (v := nI 15) hx hb dX0_leastPeriod_19 (by decide) ?_
    refine lv_istore (lv' := [(4, .int (nI 15)), (3, .int (nI 0)), (2, .int (nI (fp j))), (0, .ref (q 0)), (1, .int (nI j))]) hx hb dX0_leastPeriod_21 hl (by decide) rfl (fun ls hl => ?_)
    exact lo (17 - fl j) 0 fp (by omega) (by omega) (fun v => rfl) _ _ hh ls (lv_sub hl [0, 1, 2, 3, 4] rfl)
  · refine lv_iconst (v := (-1)) hx hb dX0_leastPeriod_8 (by decide) ?_
    subst hQe; exact rd_retI (()) C hK hh (by rw [if_neg (by rw [h5]; decide)]) dX0_leastPeriod_9
set_option maxHeartbeats 4000000 in
set_option maxRecDepth 100000 in
theorem mD_add (l : Launch) (D : va_G) (q : Nat → Nat) (K : Nat → ClassId) (pr n : Nat) (fc fl fp fo : Nat → Nat) (fb fa : Nat → Int32) (hB : BD pr n fc fl fp fo) (hcap : ∀ k, k < 5 → pr.testBit k = false → n < 5) (x y z : Int32) : CtI l yX0_add cX0_add 5 (some .int) { frames := 1, cells := 0, slots := 0, locals := 22 } D (dtys K) (dkW q K pr n fc fl fp fo fb fa) [.ref (q 0), .int x, .int y, .int z] (fun (r : Int32) (u : SA) => (r, u) = addR pr n fc fl fp fo x y z) (fun u => dkW q K u.1 u.2.1 u.2.2.1 u.2.2.2.1 u.2.2.2.2.1 u.2.2.2.2.2 fb fa) := by
  refine rd_startI (by decide) (Nat.le_of_ble_eq_true rfl) ?_
  intro p e s m below meth c ls A Q hQe C hK hh hl
  have C : CX p s m [.ref (q 0), .int x, .int y, .int z].toArray meth c cX0_add 5 (some .int) RX0 := C
  have hx := C.1
  have hb := C.2.1
  have hl : lv_has ls 5 [(0, .ref (q 0)), (1, .int x), (2, .int y), (3, .int z)] := hl
  have hB0 := hB
  obtain ⟨hpr, hn, hbc, hbl, hbp, hbo⟩ := hB0
  refine lv_iload_n hx hb dX0_add_0 rfl (lv_at hl 1 rfl) ?_
  refine lv_iload_n hx hb dX0_add_1 rfl (lv_at hl 2 rfl) ?_
  refine lv_iload_n hx hb dX0_add_2 rfl (lv_at hl 3 rfl) ?_
  refine rd_callS (n := 3) C (mD_numbersOk l D x y z) (hK.sub (tys' := []) [] rfl) (lw_S q63 q64 q22 q65) (by decide +kernel) rfl ⟨rfl, rfl⟩ ⟨Nat.le_of_ble_eq_true rfl, Nat.le_of_ble_eq_true rfl⟩ rfl hl.1 (Nat.le_of_ble_eq_true rfl) ⟨Nat.zero_le _, Nat.zero_le _⟩ dX0_add_3 (fun r hr => ?_)
  subst hr
  refine rd_ifb_ne (tgt := 11) hx hb dX0_add_6 (by decide) (fun h6 => ?_) (fun h6 => ?_)
  · obtain ⟨xa, ya, za, rfl, rfl, rfl, o1, o2, o3, o4⟩ := okN_nat h6
    have lo : ∀ (d : Nat) (k : Nat), (5 < k + d) → (k ≤ 5) → (frL pr (5 - k) k = fr pr) → ∀ (ls : Array Slot), lv_has ls 5 [(4, .int (nI k)), (0, .ref (q 0)), (1, .int (nI xa)), (2, .int (nI ya)), (3, .int (nI za))] → W p l e { frames := 1, cells := 0, slots := 0, locals := 22 } s m [.ref (q 0), .int (nI xa), .int (nI ya), .int (nI za)].toArray below meth c s.heap [] 0 0 Q (F0 m 14 ls []) := by
      intro d
      induction d with
      | zero => intro k hd hk hf ls hl; omega
      | succ d ih =>
        intro k hd hk hf ls hl
        refine lv_iload hx hb dX0_add_14 (lv_at hl 0 rfl) ?_
        refine lv_iconst (v := nI 5) hx hb dX0_add_16 (by decide) ?_
        refine rd_icmp_ge (tgt := 100) hx hb (by omega) (by omega) dX0_add_17 (by decide) (fun h17 => ?_) (fun h17 => ?_)
        · refine lv_bipush (v := (-2)) hx hb dX0_add_100 (by decide) ?_
          subst hQe; exact rd_retI ((pr, n, fc, fl, fp, fo)) C hK hh (by rw [addR, if_pos h6, ← hf, show 5 - k = 0 by omega]; rfl) dX0_add_102
        · refine lv_aload_n hx hb dX0_add_20 rfl (lv_at hl 1 rfl) ?_
          refine lv_iload hx hb dX0_add_21 (lv_at hl 0 rfl) ?_
          refine rd_callP (n := 1) (q := (RX0, TX0, 8)) C hK hh.1 (mD_has l D q K pr n fc fl fp fo fb fa hB (nI k)) (lw_V q66 q68 qs0 q22 q69) (by decide +kernel) rfl ⟨rfl, rfl⟩ ⟨Nat.le_of_ble_eq_true rfl, Nat.le_of_ble_eq_true rfl⟩ 0 0 rfl rfl rfl hl.1 (Nat.le_of_ble_eq_true rfl) ⟨Nat.zero_le _, Nat.zero_le _⟩ dX0_add_23 (fun r hr => ?_)
          subst hr
          refine rd_ifb_ne (tgt := 94) hx hb dX0_add_26 (by decide) (fun h26 => ?_) (fun h26 => ?_)
          · rw [hasB_nI (by omega)] at h26
            refine lv_iinc (v := nI (k + 1)) (lv' := [(4, .int (nI (k + 1))), (0, .ref (q 0)), (1, .int (nI xa)), (2, .int (nI ya)), (3, .int (nI za))]) hx hb dX0_add_94 hl (k := 0) rfl (rd_inc1 _) (by decide) rfl (fun ls hl => ?_)
            refine lv_goto (tgt := 14) hx hb dX0_add_97 (by decide) ?_
            exact ih (k + 1) (by omega) (by omega) (by rw [← hf, show 5 - k = (5 - (k + 1)) + 1 by omega, frL, if_pos h26]) ls (lv_sub hl [0, 1, 2, 3, 4] rfl)
          · rw [hasB_nI (by omega)] at h26
            have hn5 := hcap k (by omega) h26
            have hfk : fr pr = some k := by rw [← hf, show 5 - k = (5 - (k + 1)) + 1 by omega, frL, if_neg (by rw [h26]; decide)]
            refine lv_aload_n hx hb dX0_add_29 rfl (lv_at hl 1 rfl) ?_
            refine lv_dup hx hb dX0_add_30 rfl ?_
            refine dg_present C hK hh.1 dX0_add_31 ?_
            refine lv_iconst (v := nI 1) hx hb dX0_add_34 (by decide) ?_
            refine lv_iload hx hb dX0_add_35 (lv_at hl 0 rfl) ?_
            refine rd_ishl1 hx hb (by omega) dX0_add_37 ?_
            refine rd_ior hx hb dX0_add_38 ?_
            refine dp_present C hK hh dX0_add_39 (fun H locs hh => ?_)
            refine lv_aload_n hx hb dX0_add_42 rfl (lv_at hl 1 rfl) ?_
            refine dg_costs C hK hh.1 dX0_add_43 ?_
            refine lv_iload hx hb dX0_add_46 (lv_at hl 0 rfl) ?_
            refine lv_iload_n hx hb dX0_add_48 rfl (lv_at hl 2 rfl) ?_
            refine rd_i2b hx hb (by omega) dX0_add_49 ?_
            refine ds_costs C hK hh (by omega) (by omega) dX0_add_50 (fun H locs hh => ?_)
            refine lv_aload_n hx hb dX0_add_51 rfl (lv_at hl 1 rfl) ?_
            refine dg_limits C hK hh.1 dX0_add_52 ?_
            refine lv_iload hx hb dX0_add_55 (lv_at hl 0 rfl) ?_
            refine lv_iload_n hx hb dX0_add_57 rfl (lv_at hl 3 rfl) ?_
            refine rd_i2b hx hb (by omega) dX0_add_58 ?_
            refine ds_limits C hK hh (by omega) (by omega) dX0_add_59 (fun H locs hh => ?_)
            refine lv_aload_n hx hb dX0_add_60 rfl (lv_at hl 1 rfl) ?_
            refine dg_periods C hK hh.1 dX0_add_61 ?_
            refine lv_iload hx hb dX0_add_64 (lv_at hl 0 rfl) ?_
            refine lv_iload_n hx hb dX0_add_66 rfl (lv_at hl 4 rfl) ?_
            refine rd_i2b hx hb (by omega) dX0_add_67 ?_
            refine ds_periods C hK hh (by omega) (by omega) dX0_add_68 (fun H locs hh => ?_)
            refine lv_aload_n hx hb dX0_add_69 rfl (lv_at hl 1 rfl) ?_
            refine dg_order C hK hh.1 dX0_add_70 ?_
            refine lv_aload_n hx hb dX0_add_73 rfl (lv_at hl 1 rfl) ?_
            refine dg_count C hK hh.1 dX0_add_74 ?_
            refine lv_iload hx hb dX0_add_77 (lv_at hl 0 rfl) ?_
            refine rd_i2b hx hb (by omega) dX0_add_79 ?_
            refine ds_order C hK hh (by omega) (by omega) dX0_add_80 (fun H locs hh => ?_)
            refine lv_aload_n hx hb dX0_add_81 rfl (lv_at hl 1 rfl) ?_
            refine lv_dup hx hb dX0_add_82 rfl ?_
            refine dg_count C hK hh.1 dX0_add_83 ?_
            refine lv_iconst (v := nI 1) hx hb dX0_add_86 (by decide) ?_
            refine rd_iadd hx hb dX0_add_87 ?_
            refine dp_count C hK hh dX0_add_88 (fun H locs hh => ?_)
            refine lv_iload hx hb dX0_add_91 (lv_at hl 0 rfl) ?_
            subst hQe; exact rd_retI ((pr ||| 2 ^ k, n + 1, va_up fc k xa, va_up fl k ya, va_up fp k za, va_up fo n k)) C hK hh (by rw [addR, if_pos h6, hfk, nI_clamp (by omega), nI_clamp (by omega), nI_clamp (by omega)]) dX0_add_93
    refine lv_iconst (v := nI 0) hx hb dX0_add_11 (by decide) ?_
    refine lv_istore (lv' := [(4, .int (nI 0)), (0, .ref (q 0)), (1, .int (nI xa)), (2, .int (nI ya)), (3, .int (nI za))]) hx hb dX0_add_12 hl (by decide) rfl (fun ls hl => ?_)
    exact lo 6 0 (by omega) (by omega) rfl ls (lv_sub hl [0, 1, 2, 3, 4] rfl)
  · refine lv_iconst (v := (-1)) hx hb dX0_add_9 (by decide) ?_
    subst hQe; exact rd_retI ((pr, n, fc, fl, fp, fo)) C hK hh (by rw [addR, if_neg (by rw [h6]; decide)]) dX0_add_10
set_option maxHeartbeats 4000000 in
set_option maxRecDepth 100000 in
theorem mD_remove (l : Launch) (D : va_G) (q : Nat → Nat) (K : Nat → ClassId) (pr n : Nat) (fc fl fp fo : Nat → Nat) (fb fa : Nat → Int32) (hB : BD pr n fc fl fp fo) (hO : OrdOK pr n fo) (k : Int32) : CtI l yX0_remove cX0_remove 4 (some .boolean) { frames := 1, cells := 0, slots := 0, locals := 22 } D (dtys K) (dkW q K pr n fc fl fp fo fb fa) [.ref (q 0), .int k] (fun (r : Int32) (u : Nat × Nat × (Nat → Nat)) => (r, u) = remR pr n fo k) (fun u => dkW q K u.1 u.2.1 fc fl fp u.2.2 fb fa) := by
  refine rd_startI (by decide) (Nat.le_of_ble_eq_true rfl) ?_
  intro p e s m below meth c ls A Q hQe C hK hh hl
  have C : CX p s m [.ref (q 0), .int k].toArray meth c cX0_remove 4 (some .boolean) RX0 := C
  have hx := C.1
  have hb := C.2.1
  have hl : lv_has ls 4 [(0, .ref (q 0)), (1, .int k)] := hl
  have hB0 := hB
  obtain ⟨hpr, hn, hbc, hbl, hbp, hbo⟩ := hB0
  refine lv_aload_n hx hb dX0_remove_0 rfl (lv_at hl 0 rfl) ?_
  refine lv_iload_n hx hb dX0_remove_1 rfl (lv_at hl 1 rfl) ?_
  refine rd_callP (n := 1) (q := (RX0, TX0, 8)) C hK hh.1 (mD_has l D q K pr n fc fl fp fo fb fa hB k) (lw_V q66 q68 qs0 q22 q69) (by decide +kernel) rfl ⟨rfl, rfl⟩ ⟨Nat.le_of_ble_eq_true rfl, Nat.le_of_ble_eq_true rfl⟩ 0 0 rfl rfl rfl hl.1 (Nat.le_of_ble_eq_true rfl) ⟨Nat.zero_le _, Nat.zero_le _⟩ dX0_remove_2 (fun r hr => ?_)
  subst hr
  refine rd_ifb_ne (tgt := 10) hx hb dX0_remove_5 (by decide) (fun h5 => ?_) (fun h5 => ?_)
  · obtain ⟨j, hj5, rfl, hjb⟩ := hasB_of h5
    obtain ⟨g1, g2, g3⟩ := ix_spec hO hj5 hjb
    generalize hai : ix fo n j = a at g1 g2 g3
    refine lv_aload_n hx hb dX0_remove_10 rfl (lv_at hl 0 rfl) ?_
    refine lv_iload_n hx hb dX0_remove_11 rfl (lv_at hl 1 rfl) ?_
    refine rd_callP (n := 1) (q := (RX0, TX0, 8)) C hK hh.1 (mD_placeOf l D q K pr n fc fl fp fo fb fa hB j a hj5 g1 g2 g3) (lw_V q74 q76 qs1 q22 q77) (by decide +kernel) rfl ⟨rfl, rfl⟩ ⟨Nat.le_of_ble_eq_true rfl, Nat.le_of_ble_eq_true rfl⟩ 0 0 rfl rfl rfl hl.1 (Nat.le_of_ble_eq_true rfl) ⟨Nat.zero_le _, Nat.zero_le _⟩ dX0_remove_12 (fun r hr => ?_)
    subst hr
    refine lv_istore_n (lv' := [(2, .int (nI a)), (0, .ref (q 0)), (1, .int (nI j))]) hx hb dX0_remove_15 rfl hl (by decide) rfl (fun ls hl => ?_)
    refine lv_aload_n hx hb dX0_remove_16 rfl (lv_at hl 1 rfl) ?_
    refine lv_dup hx hb dX0_remove_17 rfl ?_
    refine dg_count C hK hh.1 dX0_remove_18 ?_
    refine lv_iconst (v := nI 1) hx hb dX0_remove_21 (by decide) ?_
    refine rd_isub hx hb (by omega) dX0_remove_22 ?_
    refine dp_count C hK hh dX0_remove_23 (fun H locs hh => ?_)
    have lo : ∀ (d : Nat) (i : Nat), (n - 1 < i + d) → (a ≤ i) → (i ≤ n - 1) → ∀ (H : Heap) (locs : List Loc), HH D (dkW q K pr (n - 1) fc fl fp (shO fo a (i + 1)) fb fa) A s.heap H locs → ∀ (ls : Array Slot), lv_has ls 4 [(3, .int (nI i)), (2, .int (nI a)), (0, .ref (q 0)), (1, .int (nI j))] → W p l e { frames := 1, cells := 0, slots := 0, locals := 22 } s m [.ref (q 0), .int (nI j)].toArray below meth c H locs 0 0 Q (F0 m 28 ls []) := by
      intro d
      induction d with
      | zero => intro i hd hi hi2 H locs hh ls hl; omega
      | succ d ih =>
        intro i hd hi hi2 H locs hh ls hl
        refine lv_iload_n hx hb dX0_remove_28 rfl (lv_at hl 0 rfl) ?_
        refine lv_aload_n hx hb dX0_remove_29 rfl (lv_at hl 2 rfl) ?_
        refine dg_count C hK hh.1 dX0_remove_30 ?_
        refine rd_icmp_ge (tgt := 56) hx hb (by omega) (by omega) dX0_remove_33 (by decide) (fun h33 => ?_) (fun h33 => ?_)
        · refine lv_aload_n hx hb dX0_remove_56 rfl (lv_at hl 2 rfl) ?_
          refine lv_dup hx hb dX0_remove_57 rfl ?_
          refine dg_present C hK hh.1 dX0_remove_58 ?_
          refine lv_iconst (v := nI 1) hx hb dX0_remove_61 (by decide) ?_
          refine lv_iload_n hx hb dX0_remove_62 rfl (lv_at hl 3 rfl) ?_
          refine rd_ishl1 hx hb (by omega) dX0_remove_63 ?_
          refine lv_iconst (v := (-1)) hx hb dX0_remove_64 (by decide) ?_
          refine lv_ixor hx hb dX0_remove_65 ?_
          refine rd_iandn hx hb (hpr) (rd_pow_lt hj5) dX0_remove_66 ?_
          refine dp_present C hK hh dX0_remove_67 (fun H locs hh => ?_)
          refine lv_iconst (v := nI 1) hx hb dX0_remove_70 (by decide) ?_
          subst hQe; exact rd_retIz ((pr &&& (31 ^^^ 2 ^ j), n - 1, shO fo a (i + 1))) C hK hh rfl (by rw [remR, if_pos h5, nI_clamp (by omega), hai, show n = i + 1 by omega]; rfl) dX0_remove_71
        · refine lv_aload_n hx hb dX0_remove_36 rfl (lv_at hl 2 rfl) ?_
          refine dg_order C hK hh.1 dX0_remove_37 ?_
          refine lv_iload_n hx hb dX0_remove_40 rfl (lv_at hl 0 rfl) ?_
          refine lv_aload_n hx hb dX0_remove_41 rfl (lv_at hl 2 rfl) ?_
          refine dg_order C hK hh.1 dX0_remove_42 ?_
          refine lv_iload_n hx hb dX0_remove_45 rfl (lv_at hl 0 rfl) ?_
          refine lv_iconst (v := nI 1) hx hb dX0_remove_46 (by decide) ?_
          refine rd_iadd hx hb dX0_remove_47 ?_
          refine dl_order C hK hh.1 (by omega) dX0_remove_48 ?_
          refine ds_order C hK hh (by omega) (Nat.lt_trans (shO_lt hbo a (i + 1) (i + 1)) (by decide)) dX0_remove_49 (fun H locs hh => ?_)
          refine lv_iinc (v := nI (i + 1)) (lv' := [(3, .int (nI (i + 1))), (2, .int (nI a)), (0, .ref (q 0)), (1, .int (nI j))]) hx hb dX0_remove_50 hl (k := 0) rfl (rd_inc1 _) (by decide) rfl (fun ls hl => ?_)
          refine lv_goto (tgt := 28) hx hb dX0_remove_53 (by decide) ?_
          rw [shO_step fo (by omega)] at hh
          exact ih (i + 1) (by omega) (by omega) (by omega) H locs hh ls (lv_sub hl [0, 1, 2, 3] rfl)
    rw [← shO_0 fo a] at hh
    refine lv_iload_n hx hb dX0_remove_26 rfl (lv_at hl 0 rfl) ?_
    refine lv_istore_n (lv' := [(3, .int (nI a)), (2, .int (nI a)), (0, .ref (q 0)), (1, .int (nI j))]) hx hb dX0_remove_27 rfl hl (by decide) rfl (fun ls hl => ?_)
    exact lo (n - a) a (by omega) (by omega) (by omega) _ _ hh ls (lv_sub hl [0, 1, 2, 3] rfl)
  · refine lv_iconst (v := nI 0) hx hb dX0_remove_8 (by decide) ?_
    subst hQe; exact rd_retIz ((pr, n, fo)) C hK hh rfl (by rw [remR, if_neg (by rw [h5]; decide)]; rfl) dX0_remove_9
set_option maxHeartbeats 4000000 in
set_option maxRecDepth 100000 in
theorem mD_place (l : Launch) (D : va_G) (q : Nat → Nat) (K : Nat → ClassId) (pr n : Nat) (fc fl fp fo : Nat → Nat) (fb fa : Nat → Int32) (hB : BD pr n fc fl fp fo) (hO : OrdOK pr n fo) (k i : Int32) : CtI l yX0_place cX0_place 4 (some .boolean) { frames := 1, cells := 0, slots := 0, locals := 22 } D (dtys K) (dkW q K pr n fc fl fp fo fb fa) [.ref (q 0), .int k, .int i] (fun (r : Int32) (u : Nat → Nat) => (r, u) = plcR pr n fo k i) (fun u => dkW q K pr n fc fl fp u fb fa) := by
  refine rd_startI (by decide) (Nat.le_of_ble_eq_true rfl) ?_
  intro p e s m below meth c ls A Q hQe C hK hh hl
  have C : CX p s m [.ref (q 0), .int k, .int i].toArray meth c cX0_place 4 (some .boolean) RX0 := C
  have hx := C.1
  have hb := C.2.1
  have hl : lv_has ls 4 [(0, .ref (q 0)), (1, .int k), (2, .int i)] := hl
  have hB0 := hB
  obtain ⟨hpr, hn, hbc, hbl, hbp, hbo⟩ := hB0
  refine lv_aload_n hx hb dX0_place_0 rfl (lv_at hl 0 rfl) ?_
  refine lv_iload_n hx hb dX0_place_1 rfl (lv_at hl 1 rfl) ?_
  refine rd_callP (n := 1) (q := (RX0, TX0, 8)) C hK hh.1 (mD_has l D q K pr n fc fl fp fo fb fa hB k) (lw_V q66 q68 qs0 q22 q69) (by decide +kernel) rfl ⟨rfl, rfl⟩ ⟨Nat.le_of_ble_eq_true rfl, Nat.le_of_ble_eq_true rfl⟩ 0 0 rfl rfl rfl hl.1 (Nat.le_of_ble_eq_true rfl) ⟨Nat.zero_le _, Nat.zero_le _⟩ dX0_place_2 (fun r hr => ?_)
  subst hr
  refine rd_ifb_eq (tgt := 20) hx hb dX0_place_5 (by decide) (fun h5 => ?_) (fun h5 => ?_)
  · refine lv_iconst (v := nI 0) hx hb dX0_place_20 (by decide) ?_
    subst hQe; exact rd_retIz (fo) C hK hh rfl (by simp [plcR, h5, rd_v0]) dX0_place_21
  · refine lv_iload_n hx hb dX0_place_8 rfl (lv_at hl 2 rfl) ?_
    refine lv_if_lt (tgt := 20) hx hb dX0_place_9 (by decide) (fun h9 => ?_) (fun h9 => ?_)
    · refine lv_iconst (v := nI 0) hx hb dX0_place_20 (by decide) ?_
      subst hQe; exact rd_retIz (fo) C hK hh rfl (by simp [plcR, h9, rd_v0]) dX0_place_21
    · refine lv_iload_n hx hb dX0_place_12 rfl (lv_at hl 2 rfl) ?_
      refine lv_aload_n hx hb dX0_place_13 rfl (lv_at hl 0 rfl) ?_
      refine dg_count C hK hh.1 dX0_place_14 ?_
      refine lv_icmp_lt (tgt := 22) hx hb dX0_place_17 (by decide) (fun h17 => ?_) (fun h17 => ?_)
      · have hcond : (hasB pr k && (!decide (i < 0) && !decide (nI n ≤ i))) = true := by simp [h5, h9, rd_lt_of h17]
        obtain ⟨j, hj5, rfl, hjb⟩ := hasB_of h5
        obtain ⟨t, ht, rfl⟩ := rd_idx (n := n) (by omega) h9 (rd_lt_of h17)
        obtain ⟨g1, g2, g3⟩ := ix_spec hO hj5 hjb
        generalize hai : ix fo n j = a at g1 g2 g3
        refine lv_aload_n hx hb dX0_place_22 rfl (lv_at hl 0 rfl) ?_
        refine lv_iload_n hx hb dX0_place_23 rfl (lv_at hl 1 rfl) ?_
        refine rd_callP (n := 1) (q := (RX0, TX0, 8)) C hK hh.1 (mD_placeOf l D q K pr n fc fl fp fo fb fa hB j a hj5 g1 g2 g3) (lw_V q74 q76 qs1 q22 q77) (by decide +kernel) rfl ⟨rfl, rfl⟩ ⟨Nat.le_of_ble_eq_true rfl, Nat.le_of_ble_eq_true rfl⟩ 0 0 rfl rfl rfl hl.1 (Nat.le_of_ble_eq_true rfl) ⟨Nat.zero_le _, Nat.zero_le _⟩ dX0_place_24 (fun r hr => ?_)
        subst hr
        refine lv_istore_n (lv' := [(3, .int (nI a)), (0, .ref (q 0)), (1, .int (nI j)), (2, .int (nI t))]) hx hb dX0_place_27 rfl hl (by decide) rfl (fun ls hl => ?_)
        have tl : ∀ (g : Nat → Nat), (va_up g t j = mvO fo j a t) → ∀ (H : Heap) (locs : List Loc), HH D (dkW q K pr n fc fl fp g fb fa) A s.heap H locs → ∀ (ls : Array Slot), lv_has ls 4 [(0, .ref (q 0)), (1, .int (nI j)), (2, .int (nI t))] → W p l e { frames := 1, cells := 0, slots := 0, locals := 22 } s m [.ref (q 0), .int (nI j), .int (nI t)].toArray below meth c H locs 0 0 Q (F0 m 78 ls []) := by
          intro g hg H locs hh ls hl
          refine lv_aload_n hx hb dX0_place_78 rfl (lv_at hl 0 rfl) ?_
          refine dg_order C hK hh.1 dX0_place_79 ?_
          refine lv_iload_n hx hb dX0_place_82 rfl (lv_at hl 2 rfl) ?_
          refine lv_iload_n hx hb dX0_place_83 rfl (lv_at hl 1 rfl) ?_
          refine rd_i2b hx hb (by omega) dX0_place_84 ?_
          refine ds_order C hK hh (by omega) (by omega) dX0_place_85 (fun H locs hh => ?_)
          rw [hg] at hh
          refine lv_iconst (v := nI 1) hx hb dX0_place_86 (by decide) ?_
          subst hQe; exact rd_retIz (mvO fo j a t) C hK hh rfl (by rw [plcR, if_pos hcond, nI_clamp (by omega), nI_clamp (by omega), hai]; rfl) dX0_place_87
        have dn : ∀ (d : Nat) (b : Nat), (b < t + d) → (t ≤ b) → (b ≤ a) → ∀ (H : Heap) (locs : List Loc), HH D (dkW q K pr n fc fl fp (shU fo b a) fb fa) A s.heap H locs → ∀ (ls : Array Slot), lv_has ls 4 [(3, .int (nI b)), (0, .ref (q 0)), (1, .int (nI j)), (2, .int (nI t))] → W p l e { frames := 1, cells := 0, slots := 0, locals := 22 } s m [.ref (q 0), .int (nI j), .int (nI t)].toArray below meth c H locs 0 0 Q (F0 m 53 ls []) := by
          intro d
          induction d with
          | zero => intro b hd hb1 hb2 H locs hh ls hl; omega
          | succ d ih =>
            intro b hd hb1 hb2 H locs hh ls hl
            refine lv_iload_n hx hb dX0_place_53 rfl (lv_at hl 0 rfl) ?_
            refine lv_iload_n hx hb dX0_place_54 rfl (lv_at hl 3 rfl) ?_
            refine rd_icmp_le (tgt := 78) hx hb (by omega) (by omega) dX0_place_55 (by decide) (fun h55 => ?_) (fun h55 => ?_)
            · exact tl (shU fo b a) (by rw [show b = t by omega]; exact mvO_hi fo j (by omega)) H locs hh ls (lv_sub hl [1, 2, 3] rfl)
            · refine lv_aload_n hx hb dX0_place_58 rfl (lv_at hl 1 rfl) ?_
              refine dg_order C hK hh.1 dX0_place_59 ?_
              refine lv_iload_n hx hb dX0_place_62 rfl (lv_at hl 0 rfl) ?_
              refine lv_aload_n hx hb dX0_place_63 rfl (lv_at hl 1 rfl) ?_
              refine dg_order C hK hh.1 dX0_place_64 ?_
              refine lv_iload_n hx hb dX0_place_67 rfl (lv_at hl 0 rfl) ?_
              refine lv_iconst (v := nI 1) hx hb dX0_place_68 (by decide) ?_
              refine rd_isub hx hb (by omega) dX0_place_69 ?_
              refine dl_order C hK hh.1 (by omega) dX0_place_70 ?_
              refine ds_order C hK hh (by omega) (Nat.lt_trans (shU_lt hbo b a (b - 1)) (by decide)) dX0_place_71 (fun H locs hh => ?_)
              refine lv_iinc (v := nI b + Int32.ofInt (-1)) (lv' := [(3, .int (nI b + Int32.ofInt (-1))), (0, .ref (q 0)), (1, .int (nI j)), (2, .int (nI t))]) hx hb dX0_place_72 hl (k := 0) rfl (rfl) (by decide) rfl (fun ls hl => ?_)
              refine lv_goto (tgt := 53) hx hb dX0_place_75 (by decide) ?_
              obtain ⟨b, rfl⟩ : ∃ z, b = z + 1 := ⟨b - 1, by omega⟩
              rw [shU_step fo (by omega)] at hh
              have hl : lv_has ls 4 [(3, .int (nI b)), (0, .ref (q 0)), (1, .int (nI j)), (2, .int (nI t))] := by rw [rd_dec1] at hl; exact hl
              exact ih b (by omega) (by omega) (by omega) H locs hh ls (lv_sub hl [0, 1, 2, 3] rfl)
        have up : ∀ (d : Nat) (b : Nat), (t < b + d) → (a ≤ b) → (b ≤ t) → ∀ (H : Heap) (locs : List Loc), HH D (dkW q K pr n fc fl fp (shO fo a (b + 1)) fb fa) A s.heap H locs → ∀ (ls : Array Slot), lv_has ls 4 [(3, .int (nI b)), (0, .ref (q 0)), (1, .int (nI j)), (2, .int (nI t))] → W p l e { frames := 1, cells := 0, slots := 0, locals := 22 } s m [.ref (q 0), .int (nI j), .int (nI t)].toArray below meth c H locs 0 0 Q (F0 m 28 ls []) := by
          intro d
          induction d with
          | zero => intro b hd hb1 hb2 H locs hh ls hl; omega
          | succ d ih =>
            intro b hd hb1 hb2 H locs hh ls hl
            refine lv_iload_n hx hb dX0_place_28 rfl (lv_at hl 0 rfl) ?_
            refine lv_iload_n hx hb dX0_place_29 rfl (lv_at hl 3 rfl) ?_
            refine rd_icmp_ge (tgt := 53) hx hb (by omega) (by omega) dX0_place_30 (by decide) (fun h30 => ?_) (fun h30 => ?_)
            · refine lv_iload_n hx hb dX0_place_53 rfl (lv_at hl 0 rfl) ?_
              refine lv_iload_n hx hb dX0_place_54 rfl (lv_at hl 3 rfl) ?_
              refine rd_icmp_le (tgt := 78) hx hb (by omega) (by omega) dX0_place_55 (by decide) (fun h55 => ?_) (fun h55 => ?_)
              · exact tl (shO fo a (b + 1)) (by rw [show b = t by omega]; exact mvO_lo fo j (by omega)) H locs hh ls (lv_sub hl [1, 2, 3] rfl)
              · omega
            · refine lv_aload_n hx hb dX0_place_33 rfl (lv_at hl 1 rfl) ?_
              refine dg_order C hK hh.1 dX0_place_34 ?_
              refine lv_iload_n hx hb dX0_place_37 rfl (lv_at hl 0 rfl) ?_
              refine lv_aload_n hx hb dX0_place_38 rfl (lv_at hl 1 rfl) ?_
              refine dg_order C hK hh.1 dX0_place_39 ?_
              refine lv_iload_n hx hb dX0_place_42 rfl (lv_at hl 0 rfl) ?_
              refine lv_iconst (v := nI 1) hx hb dX0_place_43 (by decide) ?_
              refine rd_iadd hx hb dX0_place_44 ?_
              refine dl_order C hK hh.1 (by omega) dX0_place_45 ?_
              refine ds_order C hK hh (by omega) (Nat.lt_trans (shO_lt hbo a (b + 1) (b + 1)) (by decide)) dX0_place_46 (fun H locs hh => ?_)
              refine lv_iinc (v := nI (b + 1)) (lv' := [(3, .int (nI (b + 1))), (0, .ref (q 0)), (1, .int (nI j)), (2, .int (nI t))]) hx hb dX0_place_47 hl (k := 0) rfl (rd_inc1 _) (by decide) rfl (fun ls hl => ?_)
              refine lv_goto (tgt := 28) hx hb dX0_place_50 (by decide) ?_
              rw [shO_step fo (by omega)] at hh
              exact ih (b + 1) (by omega) (by omega) (by omega) H locs hh ls (lv_sub hl [0, 1, 2, 3] rfl)
        rcases Nat.lt_or_ge t a with hta | hta
        · rw [← shU_0 fo a] at hh
          refine lv_iload_n hx hb dX0_place_28 rfl (lv_at hl 0 rfl) ?_
          refine lv_iload_n hx hb dX0_place_29 rfl (lv_at hl 3 rfl) ?_
          refine rd_icmp_ge (tgt := 53) hx hb (by omega) (by omega) dX0_place_30 (by decide) (fun h30 => ?_) (fun h30 => ?_)
          · exact dn (a + 1) a (by omega) (by omega) (by omega) _ _ hh ls (lv_sub hl [0, 1, 2, 3] rfl)
          · omega
        · rw [← shO_0 fo a] at hh
          exact up (t + 1) a (by omega) (by omega) (by omega) _ _ hh ls (lv_sub hl [0, 1, 2, 3] rfl)
      · refine lv_iconst (v := nI 0) hx hb dX0_place_20 (by decide) ?_
        subst hQe; exact rd_retIz (fo) C hK hh rfl (by simp [plcR, Int32.not_lt.mp h17, rd_v0]) dX0_place_21
set_option maxHeartbeats 4000000 in
set_option maxRecDepth 100000 in
theorem mD_fits (l : Launch) (D : va_G) (q : Nat → Nat) (K : Nat → ClassId) (pr n : Nat) (fc fl fp fo : Nat → Nat) (fb fa : Nat → Int32) (hB : BD pr n fc fl fp fo) (hO : OrdOK pr n fo) (hcap : ∀ k, k < 5 → pr.testBit k = false → n < 5) (be am : Nat → Nat) (x y z : Int32) (hO2 : ∀ k, fr pr = some k → OrdOK (pr ||| 2 ^ k) (n + 1) (va_up fo n k)) (hT : ∀ k, fr pr = some k → okN x y z = true → TB (tm (va_up fc k x.toNatClampNeg) (va_up fl k y.toNatClampNeg) (va_up fp k z.toNatClampNeg)) (pr ||| 2 ^ k) be am) : CtI l yX0_fits cX0_fits 6 (some .boolean) { frames := 6, cells := 0, slots := 0, locals := 137 } D (dtys K) (dkW q K pr n fc fl fp fo fb fa) [.ref (q 0), .int x, .int y, .int z] (fun (r : Int32) (u : SA × (Nat → Int32) × (Nat → Int32)) => (r, u.1) = fitR pr n fc fl fp fo be x y z) (fun u => dkW q K u.1.1 u.1.2.1 u.1.2.2.1 u.1.2.2.2.1 u.1.2.2.2.2.1 u.1.2.2.2.2.2 u.2.1 u.2.2) := by
  refine rd_startI (by decide) (Nat.le_of_ble_eq_true rfl) ?_
  intro p e s m below meth c ls A Q hQe C hK hh hl
  have C : CX p s m [.ref (q 0), .int x, .int y, .int z].toArray meth c cX0_fits 6 (some .boolean) RX0 := C
  have hx := C.1
  have hb := C.2.1
  have hl : lv_has ls 6 [(0, .ref (q 0)), (1, .int x), (2, .int y), (3, .int z)] := hl
  have hB0 := hB
  obtain ⟨hpr, hn, hbc, hbl, hbp, hbo⟩ := hB0
  refine lv_aload_n hx hb dX0_fits_0 rfl (lv_at hl 0 rfl) ?_
  refine lv_iload_n hx hb dX0_fits_1 rfl (lv_at hl 1 rfl) ?_
  refine lv_iload_n hx hb dX0_fits_2 rfl (lv_at hl 2 rfl) ?_
  refine lv_iload_n hx hb dX0_fits_3 rfl (lv_at hl 3 rfl) ?_
  refine rd_callI (n := 3) (q := (RX0, TX0, 8)) C hK hh (mD_add l D q K pr n fc fl fp fo fb fa hB hcap x y z) (lw_V q159 q60 q61 q22 q62) (by decide +kernel) rfl ⟨rfl, rfl⟩ ⟨Nat.le_of_ble_eq_true rfl, Nat.le_of_ble_eq_true rfl⟩ 0 0 rfl rfl rfl hl.1 (Nat.le_of_ble_eq_true rfl) ⟨Nat.zero_le _, Nat.zero_le _⟩ dX0_fits_4 (fun r u H locs hr hh => ?_)
  have hr : (r, u) = addR pr n fc fl fp fo x y z := hr
  by_cases hok : okN x y z = true
  · rcases hfk : fr pr with _ | k
    · rw [addR, if_pos hok, hfk] at hr
      obtain ⟨rfl, rfl⟩ := Prod.mk.inj hr
      have hh : HH D (dkW q K pr n fc fl fp fo fb fa) A s.heap H locs := hh
      refine lv_istore (lv' := [(4, .int ((-2))), (0, .ref (q 0)), (1, .int x), (2, .int y), (3, .int z)]) hx hb dX0_fits_7 hl (by decide) rfl (fun ls hl => ?_)
      refine lv_iload hx hb dX0_fits_9 (lv_at hl 0 rfl) ?_
      refine lv_if_ge (tgt := 16) hx hb dX0_fits_11 (by decide) (fun h11 => ?_) (fun h11 => ?_)
      · exact absurd h11 (by decide)
      · refine lv_iconst (v := nI 0) hx hb dX0_fits_14 (by decide) ?_
        subst hQe; exact rd_retIz (((pr, n, fc, fl, fp, fo), fb, fa)) C hK hh rfl (by rw [fitR, if_pos hok, hfk]; rfl) dX0_fits_15
    · obtain ⟨xa, ya, za, rfl, rfl, rfl, o1, o2, o3, o4⟩ := okN_nat hok
      rw [addR, if_pos hok, hfk] at hr
      rw [nI_clamp (n := xa) (by omega), nI_clamp (n := ya) (by omega), nI_clamp (n := za) (by omega)] at hr
      have hT2 := hT k hfk hok
      rw [nI_clamp (n := xa) (by omega), nI_clamp (n := ya) (by omega), nI_clamp (n := za) (by omega)] at hT2
      obtain ⟨rfl, rfl⟩ := Prod.mk.inj hr
      have hh : HH D (dkW q K (pr ||| 2 ^ k) (n + 1) (va_up fc k xa) (va_up fl k ya) (va_up fp k za) (va_up fo n k) fb fa) A s.heap H locs := hh
      obtain ⟨hk5, hkb⟩ := fr_spec hfk
      have hn5 := hcap k hk5 hkb
      have hB2 : BD (pr ||| 2 ^ k) (n + 1) (va_up fc k xa) (va_up fl k ya) (va_up fp k za) (va_up fo n k) := ⟨rd_or_lt hpr (rd_pow_lt hk5), by omega, rd_up_le hbc (by omega), rd_up_le hbl (by omega), rd_up_le hbp (by omega), rd_up_ltt hbo hk5⟩
      refine lv_istore (lv' := [(4, .int (nI k)), (0, .ref (q 0)), (1, .int (nI xa)), (2, .int (nI ya)), (3, .int (nI za))]) hx hb dX0_fits_7 hl (by decide) rfl (fun ls hl => ?_)
      refine lv_iload hx hb dX0_fits_9 (lv_at hl 0 rfl) ?_
      refine lv_if_ge (tgt := 16) hx hb dX0_fits_11 (by decide) (fun h11 => ?_) (fun h11 => ?_)
      · refine lv_aload_n hx hb dX0_fits_16 rfl (lv_at hl 1 rfl) ?_
        refine rd_callI (n := 0) (q := (RX0, TX0, 8)) C hK hh (mD_goodOrders l D q K (pr ||| 2 ^ k) (n + 1) (va_up fc k xa) (va_up fl k ya) (va_up fp k za) (va_up fo n k) fb fa hB2 be am hT2) (lw_V q160 q123 q124 q22 q125) (by decide +kernel) rfl ⟨rfl, rfl⟩ ⟨Nat.le_of_ble_eq_true rfl, Nat.le_of_ble_eq_true rfl⟩ 0 0 rfl rfl rfl hl.1 (Nat.le_of_ble_eq_true rfl) ⟨Nat.zero_le _, Nat.zero_le _⟩ dX0_fits_17 (fun r u H locs hr hh => ?_)
        obtain ⟨fb1, fa1⟩ := u
        have hr : r = nI (be 0) := hr
        subst hr
        have hh : HH D (dkW q K (pr ||| 2 ^ k) (n + 1) (va_up fc k xa) (va_up fl k ya) (va_up fp k za) (va_up fo n k) fb1 fa1) A s.heap H locs := hh
        refine lv_istore (lv' := [(5, .int (nI (be 0))), (4, .int (nI k)), (0, .ref (q 0)), (1, .int (nI xa)), (2, .int (nI ya)), (3, .int (nI za))]) hx hb dX0_fits_20 hl (by decide) rfl (fun ls hl => ?_)
        refine lv_aload_n hx hb dX0_fits_22 rfl (lv_at hl 2 rfl) ?_
        refine lv_iload hx hb dX0_fits_23 (lv_at hl 1 rfl) ?_
        refine rd_callI (n := 1) (q := (RX0, TX0, 8)) C hK hh (mD_remove l D q K (pr ||| 2 ^ k) (n + 1) (va_up fc k xa) (va_up fl k ya) (va_up fp k za) (va_up fo n k) fb1 fa1 hB2 (hO2 k hfk) (nI k)) (lw_V q161 q71 q72 q22 q73) (by decide +kernel) rfl ⟨rfl, rfl⟩ ⟨Nat.le_of_ble_eq_true rfl, Nat.le_of_ble_eq_true rfl⟩ 0 0 rfl rfl rfl hl.1 (Nat.le_of_ble_eq_true rfl) ⟨Nat.zero_le _, Nat.zero_le _⟩ dX0_fits_25 (fun r u H locs hr hh => ?_)
        obtain ⟨pr2, n2, fo2⟩ := u
        have hr : (r, pr2, n2, fo2) = remR (pr ||| 2 ^ k) (n + 1) (va_up fo n k) (nI k) := hr
        have hh : HH D (dkW q K pr2 n2 (va_up fc k xa) (va_up fl k ya) (va_up fp k za) fo2 fb1 fa1) A s.heap H locs := hh
        refine lv_pop hx hb dX0_fits_28 rfl ?_
        refine lv_iload hx hb dX0_fits_29 (lv_at hl 0 rfl) ?_
        refine rd_if_le (tgt := 38) hx hb (hT2.2.2.1 0) dX0_fits_31 (by decide) (fun h31 => ?_) (fun h31 => ?_)
        · refine lv_iconst (v := nI 0) hx hb dX0_fits_38 (by decide) ?_
          subst hQe; exact rd_retIz (((pr2, n2, va_up fc k xa, va_up fl k ya, va_up fp k za, fo2), fb1, fa1)) C hK hh rfl (by rw [fitR, if_pos hok, hfk, nI_clamp (by omega), nI_clamp (by omega), nI_clamp (by omega)]; simp only []; rw [← hr]; simp [h31, bI, rd_v0, rd_v1]) dX0_fits_39
        · refine lv_iconst (v := nI 1) hx hb dX0_fits_34 (by decide) ?_
          refine lv_goto (tgt := 39) hx hb dX0_fits_35 (by decide) ?_
          subst hQe; exact rd_retIz (((pr2, n2, va_up fc k xa, va_up fl k ya, va_up fp k za, fo2), fb1, fa1)) C hK hh rfl (by rw [fitR, if_pos hok, hfk, nI_clamp (by omega), nI_clamp (by omega), nI_clamp (by omega)]; simp only []; rw [← hr]; simp [h31, bI, rd_v0, rd_v1]) dX0_fits_39
      · exact absurd (nI_pos' (by omega)) h11
  · rw [addR, if_neg hok] at hr
    obtain ⟨rfl, rfl⟩ := Prod.mk.inj hr
    have hh : HH D (dkW q K pr n fc fl fp fo fb fa) A s.heap H locs := hh
    refine lv_istore (lv' := [(4, .int ((-1))), (0, .ref (q 0)), (1, .int x), (2, .int y), (3, .int z)]) hx hb dX0_fits_7 hl (by decide) rfl (fun ls hl => ?_)
    refine lv_iload hx hb dX0_fits_9 (lv_at hl 0 rfl) ?_
    refine lv_if_ge (tgt := 16) hx hb dX0_fits_11 (by decide) (fun h11 => ?_) (fun h11 => ?_)
    · exact absurd h11 (by decide)
    · refine lv_iconst (v := nI 0) hx hb dX0_fits_14 (by decide) ?_
      subst hQe; exact rd_retIz (((pr, n, fc, fl, fp, fo), fb, fa)) C hK hh rfl (by rw [fitR, if_neg hok]; rfl) dX0_fits_15
end
section
/-! plain words: what the model's methods compute -/
set_option maxRecDepth 100000
theorem rd_sub1 (n : Nat) : nI n - nI 1 = nI n + Int32.ofInt (-1) := by rw [Int32.sub_eq_add_neg]; rfl
theorem rd_bt : nI 1 = bI true := rfl
theorem rd_bf : nI 0 = bI false := rfl
def BM (pr n : Nat) (c l p o w : Nat → Nat) : Prop := BD pr n c l p o ∧ ∀ j, w j < 5
def oI : Option Nat → Int32
  | none => -1
  | some k => nI k
theorem oI_eq {o : Option Nat} {k : Nat} (h : ∀ j, o = some j → j < 5) (hk : k < 5) : oI o = nI k ↔ o = some k := by
  cases o with
  | none => exact ⟨fun q => absurd q.symm (rd_ne1 (by omega)), fun q => by cases q⟩
  | some j =>
    have hj := h j rfl
    constructor
    · intro q
      rw [(nI_eq (by omega) (by omega)).mp q]
    · intro q
      cases q
      rfl
/-- one unit: what is ready is added, the most urgent task that has something left gets the unit -/
def uV (c p f : Nat → Nat) (t k : Nat) : Nat := if 0 < p k ∧ t % p k = 0 then f k + c k else f k
def uL (c p w : Nat → Nat) (t : Nat) : Nat → (Nat → Nat) → Option Nat → (Nat → Nat) × Option Nat
  | 0, f, b => (f, b)
  | m + 1, f, b => uL c p w t m (va_up f (w m) (uV c p f t (w m))) (if 0 < uV c p f t (w m) then some (w m) else b)
def unF (c p w : Nat → Nat) (n t : Nat) (f g : Nat → Nat) : Option Nat × (Nat → Nat) × (Nat → Nat) := match uL c p w t n f none with
  | (f', none) => (none, f', g)
  | (f', some k) => (some k, va_up f' k (f' k - 1), va_up g k (g k + 1))
theorem uL_bd {c p w : Nat → Nat} (hc : ∀ j, c j ≤ 15) (hw : ∀ j, w j < 5) {t : Nat} : ∀ (m : Nat) (f : Nat → Nat) (b : Option Nat) (B : Nat), (∀ j, f j ≤ B) → (∀ k, b = some k → k < 5) →
    (∀ j, (uL c p w t m f b).1 j ≤ B + 15 * m) ∧ ∀ k, (uL c p w t m f b).2 = some k → k < 5
  | 0, f, b, B, h1, h2 => ⟨fun j => by simpa [uL] using h1 j, fun k h => h2 k h⟩
  | m + 1, f, b, B, h1, h2 => by
    have hv : uV c p f t (w m) ≤ B + 15 := by
      have := hc (w m)
      have := h1 (w m)
      unfold uV
      split <;> omega
    obtain ⟨a1, a2⟩ := uL_bd hc hw m (va_up f (w m) (uV c p f t (w m))) (if 0 < uV c p f t (w m) then some (w m) else b) (B + 15) (rd_up_le (fun j => by have := h1 j; omega) hv) (fun k h => by
      split at h
      · cases h; exact hw m
      · exact h2 k h)
    exact ⟨fun j => by have := a1 j; simp only [uL]; omega, a2⟩
theorem unF_bd {c p w : Nat → Nat} (hc : ∀ j, c j ≤ 15) (hw : ∀ j, w j < 5) {n t : Nat} (hn : n ≤ 5) {f g : Nat → Nat} {B E : Nat} (h1 : ∀ j, f j ≤ B) (h2 : ∀ j, g j ≤ E) {o : Option Nat} {f' g' : Nat → Nat} (h : unF c p w n t f g = (o, f', g')) :
    (∀ j, f' j ≤ B + 75) ∧ (∀ j, g' j ≤ E + 1) ∧ ∀ k, o = some k → k < 5 := by
  obtain ⟨a1, a2⟩ := uL_bd (p := p) hc hw (t := t) n f none B h1 (fun k q => by cases q)
  unfold unF at h
  rcases hu : uL c p w t n f none with ⟨f1, b1⟩
  rw [hu] at h a1 a2
  cases b1 with
  | none =>
    simp only [Prod.mk.injEq] at h
    obtain ⟨rfl, rfl, rfl⟩ := h
    exact ⟨fun j => by have := a1 j; simp only at this; omega, fun j => by have := h2 j; omega, fun k q => by cases q⟩
  | some k =>
    simp only [Prod.mk.injEq] at h
    obtain ⟨rfl, rfl, rfl⟩ := h
    refine ⟨rd_up_le (fun j => by have := a1 j; simp only at this; omega) (by have := a1 k; simp only at this; omega), rd_up_le (fun j => by have := h2 j; omega) (by have := h2 k; omega), fun k' q => by cases q; exact a2 k rfl⟩
/-- the response by going through the units -/
def roL (c p w : Nat → Nat) (n k : Nat) : Nat → Nat → (Nat → Nat) → (Nat → Nat) → Option Nat
  | 0, _, _, _ => none
  | d + 1, t, f, g => if t < p k then (match unF c p w n t f g with
      | (o, f', g') => if o = some k ∧ g' k = c k then some (t + 1) else roL c p w n k d (t + 1) f' g') else none
def roF (c p w : Nat → Nat) (n k : Nat) : Option Nat := roL c p w n k 16 0 (fun _ => 0) (fun _ => 0)
theorem roL_le {c p w : Nat → Nat} {n k : Nat} : ∀ (d t : Nat) (f g : Nat → Nat) (r : Nat), roL c p w n k d t f g = some r → r ≤ p k
  | 0, t, f, g, r, h => by simp [roL] at h
  | d + 1, t, f, g, r, h => by
    simp only [roL] at h
    split at h
    · split at h
      · cases h; omega
      · exact roL_le d _ _ _ r h
    · cases h
def puF (c l p w : Nat → Nat) (n k : Nat) : Bool := match roF c p w n k with
  | none => false
  | some t => decide (t ≤ l k)
def apL (P : Nat → Bool) (pr : Nat) : Nat → Bool
  | 0 => true
  | k + 1 => apL P pr k && (!pr.testBit k || P k)
def apF (c l p w : Nat → Nat) (pr n : Nat) : Bool := apL (puF c l p w n) pr 5
/-- a row filled from the order -/
def cpO (r o : Nat → Nat) (n : Nat) : Nat → Nat := fun j => if j < n then r j else o j
theorem cpO_0 (r o : Nat → Nat) : cpO r o 0 = o := by funext j; simp [cpO]
theorem cpO_up (r o : Nat → Nat) (i : Nat) : va_up (cpO r o i) i (r i) = cpO r o (i + 1) := by
  funext j
  by_cases h : j = i
  · subst h
    rw [va_up_self]
    simp [cpO]
  · rw [va_up_ne _ _ h]
    unfold cpO
    by_cases h2 : j < i
    · rw [if_pos h2, if_pos (by omega)]
    · rw [if_neg h2, if_neg (by omega)]
theorem cpO_lt {r o : Nat → Nat} (h1 : ∀ j, r j < 5) (h2 : ∀ j, o j < 5) (n j : Nat) : cpO r o n j < 5 := by
  unfold cpO
  split
  · exact h1 j
  · exact h2 j
def fac : Nat → Nat
  | 0 => 1
  | i + 1 => fac i * (i + 1)
theorem fac_lt : ∀ n, n ≤ 5 → fac n ≤ 120 ∧ 0 < fac n := by decide +kernel
/-- the task that is there, not used, with exactly s lesser such ones -/
def usL (pr us s : Nat) : Nat → Nat → Nat → Nat
  | 0, _, _ => 0
  | d + 1, k, c => if pr.testBit k && !us.testBit k then (if c = s then k else usL pr us s d (k + 1) (c + 1)) else usL pr us s d (k + 1) c
def usF (pr us s : Nat) : Nat := usL pr us s 5 0 0
theorem usL_lt (pr us s : Nat) : ∀ d k c, k + d ≤ 5 → usL pr us s d k c < 5
  | 0, k, c, _ => by simp [usL]
  | d + 1, k, c, h => by
    simp only [usL]
    split
    · split
      · omega
      · exact usL_lt pr us s d _ _ (by omega)
    · exact usL_lt pr us s d _ _ (by omega)
theorem usF_lt (pr us s : Nat) : usF pr us s < 5 := usL_lt pr us s 5 0 0 (by omega)
/-- the row of an order's number -/
def spL (pr n : Nat) : Nat → Nat → Nat → Nat → Nat → (Nat → Nat) → (Nat → Nat)
  | 0, _, _, _, _, w => w
  | d + 1, i, bl, re, us, w => spL pr n d (i + 1) (bl / (n - i)) (if 0 < bl / (n - i) then re % (bl / (n - i)) else 0)
      (us ||| 2 ^ usF pr us (if 0 < bl / (n - i) then re / (bl / (n - i)) else 0)) (va_up w i (usF pr us (if 0 < bl / (n - i) then re / (bl / (n - i)) else 0)))
def spF (pr n code : Nat) (w : Nat → Nat) : Nat → Nat := spL pr n n 0 (fac n) code 0 w
theorem spL_lt (pr n : Nat) : ∀ (d i bl re us : Nat) (w : Nat → Nat), (∀ j, w j < 5) → ∀ j, spL pr n d i bl re us w j < 5
  | 0, i, bl, re, us, w, h, j => h j
  | d + 1, i, bl, re, us, w, h, j => spL_lt pr n d _ _ _ _ _ (rd_up_ltt h (usF_lt _ _ _)) j
theorem spL_in (pr n : Nat) : ∀ (d i bl re us : Nat) (w v : Nat → Nat), (∀ j, j < i → w j = v j) → ∀ j, j < i + d → spL pr n d i bl re us w j = spL pr n d i bl re us v j
  | 0, i, bl, re, us, w, v, h, j, hj => h j hj
  | d + 1, i, bl, re, us, w, v, h, j, hj => by
    simp only [spL]
    refine spL_in pr n d (i + 1) _ _ _ _ _ (fun j2 h2 => ?_) j (by omega)
    by_cases q : j2 = i
    · rw [q, va_up_self, va_up_self]
    · rw [va_up_ne _ _ q, va_up_ne _ _ q]
      exact h j2 (by omega)
theorem spF_in (pr n code : Nat) (w v : Nat → Nat) {j : Nat} (hj : j < n) : spF pr n code w j = spF pr n code v j := spL_in pr n n 0 _ _ _ w v (fun j h => by omega) j (by omega)
theorem uL_congr {c p w v : Nat → Nat} {t : Nat} : ∀ (m : Nat) (f : Nat → Nat) (b : Option Nat), (∀ j, j < m → w j = v j) → uL c p w t m f b = uL c p v t m f b
  | 0, f, b, _ => rfl
  | m + 1, f, b, h => by
    simp only [uL]
    rw [h m (by omega)]
    exact uL_congr m _ _ (fun j hj => h j (by omega))
theorem unF_congr {c p w v : Nat → Nat} {n t : Nat} {f g : Nat → Nat} (h : ∀ j, j < n → w j = v j) : unF c p w n t f g = unF c p v n t f g := by
  unfold unF
  rw [uL_congr n f none h]
theorem roL_congr {c p w v : Nat → Nat} {n k : Nat} (h : ∀ j, j < n → w j = v j) : ∀ (d t : Nat) (f g : Nat → Nat), roL c p w n k d t f g = roL c p v n k d t f g
  | 0, _, _, _ => rfl
  | d + 1, t, f, g => by
    simp only [roL]
    rw [unF_congr h]
    simp only [roL_congr h d]
theorem apF_congr {c l p w v : Nat → Nat} {pr n : Nat} (h : ∀ j, j < n → w j = v j) : apF c l p w pr n = apF c l p v pr n := by
  have : puF c l p w n = puF c l p v n := by
    funext k
    unfold puF roF
    rw [roL_congr h]
  unfold apF
  rw [this]
abbrev zz : Nat → Nat := fun _ => 0
/-- the orders by their numbers: is order number c good -/
def goP (c l p : Nat → Nat) (pr n x : Nat) : Bool := apF c l p (spF pr n x zz) pr n
def goL (P : Nat → Bool) : Nat → Nat
  | 0 => 0
  | x + 1 => if P x then goL P x + 1 else goL P x
theorem goL_le (P : Nat → Bool) : ∀ x, goL P x ≤ x
  | 0 => Nat.le_refl _
  | x + 1 => by
    have := goL_le P x
    simp only [goL]
    split <;> omega
/-- the first number from x on (d of them) with P -/
def fiL (P : Nat → Bool) : Nat → Nat → Option Nat
  | 0, _ => none
  | d + 1, x => if P x then some x else fiL P d (x + 1)
def lsL (P : Nat → Bool) (K : Nat → Nat) : Nat → Nat
  | 0 => 0
  | x + 1 => if P x then lsL P K x ||| 2 ^ K x else lsL P K x
/-- idle: how many units went to nobody, and the state behind them -/
def imS (c p w : Nat → Nat) (n : Nat) : Nat → Nat × (Nat → Nat) × (Nat → Nat)
  | 0 => (0, zz, zz)
  | t + 1 => match unF c p w n t (imS c p w n t).2.1 (imS c p w n t).2.2 with
    | (o, f', g') => ((if o = none then (imS c p w n t).1 + 1 else (imS c p w n t).1), f', g')
/-- an array's contents count only in its range -/
theorem rd_arr {cA : ClassId} {N : Nat} {f g : Nat → Nat} (h : ∀ j, j < N → f j = g j) : vp_cell cA (N, .inl (fun j => nI (f j))) = vp_cell cA (N, .inl (fun j => nI (g j))) := by
  rw [vp_cell_i, vp_cell_i]
  unfold arrV
  congr 1
  apply Array.ext
  · simp
  · intro i h1 h2
    simp only [Array.size_ofFn] at h1
    simp [h i h1]
theorem rd_ext {D : va_G} {q : Nat → Nat} {K : Nat → ClassId} {pr n : Nat} {fc fl fp fo fw ff fg ff' fg' : Nat → Nat} {A : Nat → Prop} {H0 H : Heap} {locs : List Loc} (h1 : ∀ j, j < 5 → ff j = ff' j) (h2 : ∀ j, j < 5 → fg j = fg' j) (hh : HH D (mdW q K pr fc fl fp n fo fw ff fg) A H0 H locs) : HH D (mdW q K pr fc fl fp n fo fw ff' fg') A H0 H locs := by
  obtain ⟨hP, hD, hS, hA⟩ := hh
  have key : ∀ (k : Nat) (x : Nat × va_E), (mdW q K pr fc fl fp n fo fw ff' fg')[k]? = some x → ∃ y : Nat × va_E, (mdW q K pr fc fl fp n fo fw ff fg)[k]? = some y ∧ y.1 = x.1 ∧ (va_at D cl2 y H → va_at D cl2 x H) := by
    intro k x hx
    match k, hx with
    | 0, hx => exact ⟨_, rfl, by cases hx; rfl, fun z => by cases hx; exact z⟩
    | 1, hx => exact ⟨_, rfl, by cases hx; rfl, fun z => by cases hx; exact z⟩
    | 2, hx => exact ⟨_, rfl, by cases hx; rfl, fun z => by cases hx; exact z⟩
    | 3, hx => exact ⟨_, rfl, by cases hx; rfl, fun z => by cases hx; exact z⟩
    | 4, hx => exact ⟨_, rfl, by cases hx; rfl, fun z => by cases hx; exact z⟩
    | 5, hx => exact ⟨_, rfl, by cases hx; rfl, fun z => by cases hx; exact z⟩
    | 6, hx => exact ⟨_, rfl, by cases hx; rfl, fun z => by cases hx; exact z⟩
    | 7, hx => exact ⟨_, rfl, by cases hx; rfl, fun z => by cases hx; exact Eq.trans z (congrArg some (rd_arr h1))⟩
    | 8, hx => exact ⟨_, rfl, by cases hx; rfl, fun z => by cases hx; exact Eq.trans z (congrArg some (rd_arr h2))⟩
    | k + 9, hx => simp [mdW] at hx
  refine ⟨fun k x hx => ?_, ⟨fun i j x y hi hj hxy => ?_, fun k x hx => ?_⟩, hS, hA⟩
  · obtain ⟨y, h1, -, h3⟩ := key k x hx
    exact h3 (hP k y h1)
  · obtain ⟨x', a1, a2, -⟩ := key i x hi
    obtain ⟨y', b1, b2, -⟩ := key j y hj
    exact hD.1 i j x' y' a1 b1 (by rw [a2, b2]; exact hxy)
  · obtain ⟨y, h1, h2, -⟩ := key k x hx
    rw [← h2]
    exact hD.2 k y h1
end
section
/-! the model's simple methods -/
theorem rd_set (pr k : Nat) : ∀ i, (pr ||| 2 ^ k).testBit i = va_up (fun i => pr.testBit i) k true i := by
  intro i
  rw [Nat.testBit_or, Nat.testBit_two_pow]
  by_cases h : i = k
  · subst h
    simp [va_up]
  · rw [va_up_ne _ _ h]
    simp [Ne.symm h]
theorem rd_clr5 : ∀ pr, pr < 32 → ∀ k, k < 5 → ∀ i, i < 5 → (pr &&& (31 ^^^ 2 ^ k)).testBit i = if i = k then false else pr.testBit i := by decide +kernel
theorem rd_clr {pr k : Nat} (hpr : pr < 32) (hk : k < 5) : ∀ i, (pr &&& (31 ^^^ 2 ^ k)).testBit i = va_up (fun i => pr.testBit i) k false i := by
  intro i
  by_cases h : i < 5
  · rw [rd_clr5 pr hpr k hk i h]
    rfl
  · rw [va_up_ne _ _ (by omega), Nat.testBit_and, Nat.testBit_lt_two_pow (Nat.lt_of_lt_of_le hpr (show 2 ^ 5 ≤ 2 ^ i from Nat.pow_le_pow_right (by decide) (by omega)))]
    rfl
theorem itL_all : ∀ pr, pr < 32 → itL (fun _ => true) pr 5 = pr := by decide +kernel
theorem mvO_md (o : Nat → Nat) (k : Nat) {a t n : Nat} (ha : a < n) (ht : t < n) : va_up (shU (shO o a n) t (n - 1)) t k = mvO o k a t := by
  funext j
  by_cases hj : j = t
  · subst hj
    rw [va_up_self]
    unfold mvO
    rw [if_pos rfl]
  · rw [va_up_ne _ _ hj]
    unfold shU shO mvO
    rw [if_neg hj]
    by_cases h1 : t < j ∧ j ≤ n - 1
    · rw [if_pos h1]
      by_cases h2 : j ≤ a
      · rw [if_neg (by omega), if_neg (by omega), if_pos (by omega)]
      · rw [if_pos (by omega), if_neg (by omega), if_neg (by omega)]
        congr 1
        omega
    · rw [if_neg h1]
      by_cases h2 : a ≤ j ∧ j < t
      · rw [if_pos (by omega), if_pos h2]
      · rw [if_neg (by omega), if_neg h2, if_neg (by omega)]
set_option maxHeartbeats 4000000 in
set_option maxRecDepth 100000 in
theorem mM_fine (l : Launch) (D : va_G) (q : Nat → Nat) (K : Nat → ClassId) (pr n : Nat) (fc fl fp fo fw ff fg : Nat → Nat) (hB : BM pr n fc fl fp fo fw) (x y z : Int32) : CtP l yX1_fine cX1_fine 4 (some .boolean) { frames := 0, cells := 0, slots := 0, locals := 0 } D (mtys K) (mdW q K pr fc fl fp n fo fw ff fg) [.ref (q 0), .int x, .int y, .int z] (fun r => r = bI (okN x y z)) := by
  refine rd_startP (by decide) (Nat.le_of_ble_eq_true rfl) ?_
  intro p e s m below meth c ls Q hQe C hK hP hl
  have C : CX p s m [.ref (q 0), .int x, .int y, .int z].toArray meth c cX1_fine 4 (some .boolean) RX1 := C
  have hx := C.1
  have hb := C.2.1
  have hl : lv_has ls 4 [(0, .ref (q 0)), (1, .int x), (2, .int y), (3, .int z)] := hl
  have hB0 := hB
  obtain ⟨⟨hpr, hn, hbc, hbl, hbp, hbo⟩, hbw⟩ := hB0
  refine lv_iload_n hx hb dX1_fine_0 rfl (lv_at hl 1 rfl) ?_
  refine lv_iconst (v := (1)) hx hb dX1_fine_1 (by decide) ?_
  refine lv_icmp_lt (tgt := 25) hx hb dX1_fine_2 (by decide) (fun h2 => ?_) (fun h2 => ?_)
  · refine lv_iconst (v := nI 0) hx hb dX1_fine_25 (by decide) ?_
    subst hQe; exact rd_retPz C rfl (by simp [okN, bI, rd_v1, rd_v0, h2]) dX1_fine_26
  · refine lv_iload_n hx hb dX1_fine_5 rfl (lv_at hl 1 rfl) ?_
    refine lv_iload_n hx hb dX1_fine_6 rfl (lv_at hl 2 rfl) ?_
    refine lv_icmp_gt (tgt := 25) hx hb dX1_fine_7 (by decide) (fun h7 => ?_) (fun h7 => ?_)
    · refine lv_iconst (v := nI 0) hx hb dX1_fine_25 (by decide) ?_
      subst hQe; exact rd_retPz C rfl (by simp [okN, bI, rd_v1, rd_v0, h2, h7]) dX1_fine_26
    · refine lv_iload_n hx hb dX1_fine_10 rfl (lv_at hl 2 rfl) ?_
      refine lv_iload_n hx hb dX1_fine_11 rfl (lv_at hl 3 rfl) ?_
      refine lv_icmp_gt (tgt := 25) hx hb dX1_fine_12 (by decide) (fun h12 => ?_) (fun h12 => ?_)
      · refine lv_iconst (v := nI 0) hx hb dX1_fine_25 (by decide) ?_
        subst hQe; exact rd_retPz C rfl (by simp [okN, bI, rd_v1, rd_v0, h2, h7, h12]) dX1_fine_26
      · refine lv_iload_n hx hb dX1_fine_15 rfl (lv_at hl 3 rfl) ?_
        refine lv_bipush (v := (15)) hx hb dX1_fine_16 (by decide) ?_
        refine lv_icmp_gt (tgt := 25) hx hb dX1_fine_18 (by decide) (fun h18 => ?_) (fun h18 => ?_)
        · refine lv_iconst (v := nI 0) hx hb dX1_fine_25 (by decide) ?_
          subst hQe; exact rd_retPz C rfl (by simp [okN, bI, rd_v1, rd_v0, h2, h7, h12, h18]) dX1_fine_26
        · refine lv_iconst (v := nI 1) hx hb dX1_fine_21 (by decide) ?_
          refine lv_goto (tgt := 26) hx hb dX1_fine_22 (by decide) ?_
          subst hQe; exact rd_retPz C rfl (by simp [okN, bI, rd_v1, rd_v0, h2, h7, h12, h18]) dX1_fine_26
set_option maxHeartbeats 4000000 in
set_option maxRecDepth 100000 in
theorem mM_is (l : Launch) (D : va_G) (q : Nat → Nat) (K : Nat → ClassId) (pr n : Nat) (fc fl fp fo fw ff fg : Nat → Nat) (hB : BM pr n fc fl fp fo fw) (k : Int32) : CtP l yX1_is cX1_is 2 (some .boolean) { frames := 0, cells := 0, slots := 0, locals := 0 } D (mtys K) (mdW q K pr fc fl fp n fo fw ff fg) [.ref (q 0), .int k] (fun r => r = bI (hasB pr k)) := by
  refine rd_startP (by decide) (Nat.le_of_ble_eq_true rfl) ?_
  intro p e s m below meth c ls Q hQe C hK hP hl
  have C : CX p s m [.ref (q 0), .int k].toArray meth c cX1_is 2 (some .boolean) RX1 := C
  have hx := C.1
  have hb := C.2.1
  have hl : lv_has ls 2 [(0, .ref (q 0)), (1, .int k)] := hl
  have hB0 := hB
  obtain ⟨⟨hpr, hn, hbc, hbl, hbp, hbo⟩, hbw⟩ := hB0
  refine lv_iload_n hx hb dX1_is_0 rfl (lv_at hl 1 rfl) ?_
  refine lv_if_lt (tgt := 22) hx hb dX1_is_1 (by decide) (fun h1 => ?_) (fun h1 => ?_)
  · refine lv_iconst (v := nI 0) hx hb dX1_is_22 (by decide) ?_
    subst hQe; exact rd_retPz C rfl (by simp [hasB, bI, rd_v0, h1]) dX1_is_23
  · refine lv_iload_n hx hb dX1_is_4 rfl (lv_at hl 1 rfl) ?_
    refine lv_iconst (v := nI 5) hx hb dX1_is_5 (by decide) ?_
    refine lv_icmp_ge (tgt := 22) hx hb dX1_is_6 (by decide) (fun h6 => ?_) (fun h6 => ?_)
    · refine lv_iconst (v := nI 0) hx hb dX1_is_22 (by decide) ?_
      subst hQe; exact rd_retPz C rfl (by simp [hasB, bI, rd_v0, h1, h6]) dX1_is_23
    · obtain ⟨j, hj, rfl⟩ := rd_five h1 h6
      refine lv_aload_n hx hb dX1_is_9 rfl (lv_at hl 0 rfl) ?_
      refine mg_there C hK hP dX1_is_10 ?_
      refine lv_iload_n hx hb dX1_is_13 rfl (lv_at hl 1 rfl) ?_
      refine ml_there C hK hP (by omega) dX1_is_14 ?_
      refine rd_ifb_eq (tgt := 22) hx hb dX1_is_15 (by decide) (fun h15 => ?_) (fun h15 => ?_)
      · refine lv_iconst (v := nI 0) hx hb dX1_is_22 (by decide) ?_
        subst hQe; exact rd_retPz C rfl (by rw [hasB_nI hj, h15]; rfl) dX1_is_23
      · refine lv_iconst (v := nI 1) hx hb dX1_is_18 (by decide) ?_
        refine lv_goto (tgt := 23) hx hb dX1_is_19 (by decide) ?_
        subst hQe; exact rd_retPz C rfl (by rw [hasB_nI hj, h15]; rfl) dX1_is_23
set_option maxHeartbeats 4000000 in
set_option maxRecDepth 100000 in
theorem mM_find (l : Launch) (D : va_G) (q : Nat → Nat) (K : Nat → ClassId) (pr n : Nat) (fc fl fp fo fw ff fg : Nat → Nat) (hB : BM pr n fc fl fp fo fw) (k i0 : Nat) (hk : k < 5) (hi : i0 < n) (ho : fo i0 = k) (hj : ∀ j, j < i0 → fo j ≠ k) : CtP l yX1_find cX1_find 3 (some .int) { frames := 0, cells := 0, slots := 0, locals := 0 } D (mtys K) (mdW q K pr fc fl fp n fo fw ff fg) [.ref (q 0), .int (nI k)] (fun r => r = nI i0) := by
  refine rd_startP (by decide) (Nat.le_of_ble_eq_true rfl) ?_
  intro p e s m below meth c ls Q hQe C hK hP hl
  have C : CX p s m [.ref (q 0), .int (nI k)].toArray meth c cX1_find 3 (some .int) RX1 := C
  have hx := C.1
  have hb := C.2.1
  have hl : lv_has ls 3 [(0, .ref (q 0)), (1, .int (nI k))] := hl
  have hB0 := hB
  obtain ⟨⟨hpr, hn, hbc, hbl, hbp, hbo⟩, hbw⟩ := hB0
  have loop : ∀ (d : Nat) (i : Nat), (i0 < i + d) → (i ≤ i0) → ∀ (ls : Array Slot), lv_has ls 3 [(2, .int (nI i)), (0, .ref (q 0)), (1, .int (nI k))] → W p l e { frames := 0, cells := 0, slots := 0, locals := 0 } s m [.ref (q 0), .int (nI k)].toArray below meth c s.heap [] 0 0 Q (F0 m 2 ls []) := by
    intro d
    induction d with
    | zero => intro i hd hle ls hl; omega
    | succ d ih =>
      intro i hd hle ls hl
      refine lv_iload_n hx hb dX1_find_2 rfl (lv_at hl 0 rfl) ?_
      refine lv_aload_n hx hb dX1_find_3 rfl (lv_at hl 1 rfl) ?_
      refine mg_size C hK hP dX1_find_4 ?_
      refine rd_icmp_ge (tgt := 28) hx hb (by omega) (by omega) dX1_find_7 (by decide) (fun h7 => ?_) (fun h7 => ?_)
      · omega
      · refine lv_aload_n hx hb dX1_find_10 rfl (lv_at hl 1 rfl) ?_
        refine mg_order C hK hP dX1_find_11 ?_
        refine lv_iload_n hx hb dX1_find_14 rfl (lv_at hl 0 rfl) ?_
        refine ml_order C hK hP (by omega) dX1_find_15 ?_
        have hoi := hbo i
        refine lv_iload_n hx hb dX1_find_16 rfl (lv_at hl 2 rfl) ?_
        refine rd_icmp_ne (tgt := 22) hx hb (by omega) (by omega) dX1_find_17 (by decide) (fun h17 => ?_) (fun h17 => ?_)
        · refine lv_iinc (v := nI (i + 1)) (lv' := [(2, .int (nI (i + 1))), (0, .ref (q 0)), (1, .int (nI k))]) hx hb dX1_find_22 hl (k := 0) rfl (rd_inc1 _) (by decide) rfl (fun ls hl => ?_)
          refine lv_goto (tgt := 2) hx hb dX1_find_25 (by decide) ?_
          have h2 : i ≠ i0 := fun q => h17 (by rw [q]; exact ho)
          exact ih (i + 1) (by omega) (by omega) ls (lv_sub hl [0, 1, 2] rfl)
        · refine lv_iload_n hx hb dX1_find_20 rfl (lv_at hl 0 rfl) ?_
          subst hQe; exact rd_retP C (by rw [Nat.le_antisymm hle (Nat.le_of_not_lt fun q => hj i q h17)]) dX1_find_21
  refine lv_iconst (v := nI 0) hx hb dX1_find_0 (by decide) ?_
  refine lv_istore_n (lv' := [(2, .int (nI 0)), (0, .ref (q 0)), (1, .int (nI k))]) hx hb dX1_find_1 rfl hl (by decide) rfl (fun ls hl => ?_)
  exact loop (i0 + 1) 0 (by omega) (by omega) ls (lv_sub hl [0, 1, 2] rfl)
set_option maxHeartbeats 4000000 in
set_option maxRecDepth 100000 in
theorem mM_takeOut (l : Launch) (D : va_G) (q : Nat → Nat) (K : Nat → ClassId) (pr n : Nat) (fc fl fp fo fw ff fg : Nat → Nat) (hB : BM pr n fc fl fp fo fw) (a : Nat) (ha : a < n) : CtV l yX1_takeOut cX1_takeOut 3 { frames := 0, cells := 0, slots := 0, locals := 0 } D (mtys K) (mdW q K pr fc fl fp n fo fw ff fg) [.ref (q 0), .int (nI a)] (fun _ : Unit => True) (fun _ => mdW q K pr fc fl fp (n - 1) (shO fo a n) fw ff fg) := by
  refine rd_startV (by decide) (Nat.le_of_ble_eq_true rfl) ?_
  intro p e s m below meth c ls A Q hQe C hK hh hl
  have C : CX p s m [.ref (q 0), .int (nI a)].toArray meth c cX1_takeOut 3 none RX1 := C
  have hx := C.1
  have hb := C.2.1
  have hl : lv_has ls 3 [(0, .ref (q 0)), (1, .int (nI a))] := hl
  have hB0 := hB
  obtain ⟨⟨hpr, hn, hbc, hbl, hbp, hbo⟩, hbw⟩ := hB0
  have lo : ∀ (d : Nat) (j : Nat), (n < j + 1 + d) → (a ≤ j) → (j < n) → ∀ (H : Heap) (locs : List Loc), HH D (mdW q K pr fc fl fp n (shO fo a (j + 1)) fw ff fg) A s.heap H locs → ∀ (ls : Array Slot), lv_has ls 3 [(2, .int (nI j)), (0, .ref (q 0)), (1, .int (nI a))] → W p l e { frames := 0, cells := 0, slots := 0, locals := 0 } s m [.ref (q 0), .int (nI a)].toArray below meth c H locs 0 0 Q (F0 m 2 ls []) := by
    intro d
    induction d with
    | zero => intro j hd hj hj2 H locs hh ls hl; omega
    | succ d ih =>
      intro j hd hj hj2 H locs hh ls hl
      refine lv_iload_n hx hb dX1_takeOut_2 rfl (lv_at hl 0 rfl) ?_
      refine lv_iconst (v := nI 1) hx hb dX1_takeOut_3 (by decide) ?_
      refine rd_iadd hx hb dX1_takeOut_4 ?_
      refine lv_aload_n hx hb dX1_takeOut_5 rfl (lv_at hl 1 rfl) ?_
      refine mg_size C hK hh.1 dX1_takeOut_6 ?_
      refine rd_icmp_ge (tgt := 32) hx hb (by omega) (by omega) dX1_takeOut_9 (by decide) (fun h9 => ?_) (fun h9 => ?_)
      · refine lv_aload_n hx hb dX1_takeOut_32 rfl (lv_at hl 1 rfl) ?_
        refine lv_dup hx hb dX1_takeOut_33 rfl ?_
        refine mg_size C hK hh.1 dX1_takeOut_34 ?_
        refine lv_iconst (v := nI 1) hx hb dX1_takeOut_37 (by decide) ?_
        refine rd_isub hx hb (by omega) dX1_takeOut_38 ?_
        refine mp_size C hK hh dX1_takeOut_39 (fun H locs hh => ?_)
        rw [show j + 1 = n by omega] at hh
        subst hQe; exact rd_retV (()) C hK hh (trivial) dX1_takeOut_42
      · refine lv_aload_n hx hb dX1_takeOut_12 rfl (lv_at hl 1 rfl) ?_
        refine mg_order C hK hh.1 dX1_takeOut_13 ?_
        refine lv_iload_n hx hb dX1_takeOut_16 rfl (lv_at hl 0 rfl) ?_
        refine lv_aload_n hx hb dX1_takeOut_17 rfl (lv_at hl 1 rfl) ?_
        refine mg_order C hK hh.1 dX1_takeOut_18 ?_
        refine lv_iload_n hx hb dX1_takeOut_21 rfl (lv_at hl 0 rfl) ?_
        refine lv_iconst (v := nI 1) hx hb dX1_takeOut_22 (by decide) ?_
        refine rd_iadd hx hb dX1_takeOut_23 ?_
        refine ml_order C hK hh.1 (by omega) dX1_takeOut_24 ?_
        refine ms_order C hK hh (by omega) dX1_takeOut_25 (fun H locs hh => ?_)
        refine lv_iinc (v := nI (j + 1)) (lv' := [(2, .int (nI (j + 1))), (0, .ref (q 0)), (1, .int (nI a))]) hx hb dX1_takeOut_26 hl (k := 0) rfl (rd_inc1 _) (by decide) rfl (fun ls hl => ?_)
        refine lv_goto (tgt := 2) hx hb dX1_takeOut_29 (by decide) ?_
        rw [shO_step fo (by omega)] at hh
        exact ih (j + 1) (by omega) (by omega) (by omega) H locs hh ls (lv_sub hl [0, 1, 2] rfl)
  rw [← shO_0 fo a] at hh
  refine lv_iload_n hx hb dX1_takeOut_0 rfl (lv_at hl 1 rfl) ?_
  refine lv_istore_n (lv' := [(2, .int (nI a)), (0, .ref (q 0)), (1, .int (nI a))]) hx hb dX1_takeOut_1 rfl hl (by decide) rfl (fun ls hl => ?_)
  exact lo n a (by omega) (by omega) (by omega) _ _ hh ls (lv_sub hl [0, 1, 2] rfl)
set_option maxHeartbeats 4000000 in
set_option maxRecDepth 100000 in
theorem mM_remove (l : Launch) (D : va_G) (q : Nat → Nat) (K : Nat → ClassId) (pr n : Nat) (fc fl fp fo fw ff fg : Nat → Nat) (hB : BM pr n fc fl fp fo fw) (hO : OrdOK pr n fo) (k : Int32) : CtI l yX1_remove cX1_remove 3 (some .boolean) { frames := 1, cells := 0, slots := 0, locals := 22 } D (mtys K) (mdW q K pr fc fl fp n fo fw ff fg) [.ref (q 0), .int k] (fun (r : Int32) (u : Nat × Nat × (Nat → Nat)) => (r, u) = remR pr n fo k) (fun u => mdW q K u.1 fc fl fp u.2.1 u.2.2 fw ff fg) := by
  refine rd_startI (by decide) (Nat.le_of_ble_eq_true rfl) ?_
  intro p e s m below meth c ls A Q hQe C hK hh hl
  have C : CX p s m [.ref (q 0), .int k].toArray meth c cX1_remove 3 (some .boolean) RX1 := C
  have hx := C.1
  have hb := C.2.1
  have hl : lv_has ls 3 [(0, .ref (q 0)), (1, .int k)] := hl
  have hB0 := hB
  obtain ⟨⟨hpr, hn, hbc, hbl, hbp, hbo⟩, hbw⟩ := hB0
  refine lv_aload_n hx hb dX1_remove_0 rfl (lv_at hl 0 rfl) ?_
  refine lv_iload_n hx hb dX1_remove_1 rfl (lv_at hl 1 rfl) ?_
  refine rd_callP (n := 1) (q := (RX1, TX1, 9)) C hK hh.1 (mM_is l D q K pr n fc fl fp fo fw ff fg hB k) (lw_V q209 q211 qs9 q23 q212) (by decide +kernel) rfl ⟨rfl, rfl⟩ ⟨Nat.le_of_ble_eq_true rfl, Nat.le_of_ble_eq_true rfl⟩ 1 0 rfl rfl rfl hl.1 (Nat.le_of_ble_eq_true rfl) ⟨Nat.zero_le _, Nat.zero_le _⟩ dX1_remove_2 (fun r hr => ?_)
  subst hr
  refine rd_ifb_ne (tgt := 10) hx hb dX1_remove_5 (by decide) (fun h5 => ?_) (fun h5 => ?_)
  · obtain ⟨j, hj5, rfl, hjb⟩ := hasB_of h5
    obtain ⟨g1, g2, g3⟩ := ix_spec hO hj5 hjb
    generalize hai : ix fo n j = a at g1 g2 g3
    refine lv_aload_n hx hb dX1_remove_10 rfl (lv_at hl 0 rfl) ?_
    refine lv_iload_n hx hb dX1_remove_11 rfl (lv_at hl 1 rfl) ?_
    refine rd_callP (n := 1) (q := (RX1, TX1, 9)) C hK hh.1 (mM_find l D q K pr n fc fl fp fo fw ff fg hB j a hj5 g1 g2 g3) (lw_V q213 q215 qs10 q23 q216) (by decide +kernel) rfl ⟨rfl, rfl⟩ ⟨Nat.le_of_ble_eq_true rfl, Nat.le_of_ble_eq_true rfl⟩ 1 0 rfl rfl rfl hl.1 (Nat.le_of_ble_eq_true rfl) ⟨Nat.zero_le _, Nat.zero_le _⟩ dX1_remove_12 (fun r hr => ?_)
    subst hr
    refine lv_istore_n (lv' := [(2, .int (nI a)), (0, .ref (q 0)), (1, .int (nI j))]) hx hb dX1_remove_15 rfl hl (by decide) rfl (fun ls hl => ?_)
    refine lv_aload_n hx hb dX1_remove_16 rfl (lv_at hl 1 rfl) ?_
    refine lv_iload_n hx hb dX1_remove_17 rfl (lv_at hl 0 rfl) ?_
    refine rd_callIv (n := 1) (q := (RX1, TX1, 9)) C hK hh (mM_takeOut l D q K pr n fc fl fp fo fw ff fg hB a g1) (lw_V q217 q219 qs11 q23 q220) (by decide +kernel) rfl ⟨rfl, rfl⟩ ⟨Nat.le_of_ble_eq_true rfl, Nat.le_of_ble_eq_true rfl⟩ 1 0 rfl rfl rfl hl.1 (Nat.le_of_ble_eq_true rfl) ⟨Nat.zero_le _, Nat.zero_le _⟩ dX1_remove_18 (fun u H locs hr hh => ?_)
    have hh : HH D (mdW q K pr fc fl fp (n - 1) (shO fo a n) fw ff fg) A s.heap H locs := hh
    refine lv_aload_n hx hb dX1_remove_21 rfl (lv_at hl 1 rfl) ?_
    refine mg_there C hK hh.1 dX1_remove_22 ?_
    refine lv_iload_n hx hb dX1_remove_25 rfl (lv_at hl 2 rfl) ?_
    refine lv_iconst (v := nI 0) hx hb dX1_remove_26 (by decide) ?_
    refine ms_there (v := false) (pr' := pr &&& (31 ^^^ 2 ^ j)) C hK hh (by omega) (rd_clr hpr hj5) dX1_remove_27 (fun H locs hh => ?_)
    refine lv_iconst (v := nI 1) hx hb dX1_remove_28 (by decide) ?_
    subst hQe; exact rd_retIz ((pr &&& (31 ^^^ 2 ^ j), n - 1, shO fo a n)) C hK hh rfl (by rw [remR, if_pos h5, nI_clamp (by omega), hai]; rfl) dX1_remove_29
  · refine lv_iconst (v := nI 0) hx hb dX1_remove_8 (by decide) ?_
    subst hQe; exact rd_retIz ((pr, n, fo)) C hK hh rfl (by rw [remR, if_neg (by rw [h5]; decide)]; rfl) dX1_remove_9
set_option maxHeartbeats 4000000 in
set_option maxRecDepth 100000 in
theorem mM_place (l : Launch) (D : va_G) (q : Nat → Nat) (K : Nat → ClassId) (pr n : Nat) (fc fl fp fo fw ff fg : Nat → Nat) (hB : BM pr n fc fl fp fo fw) (hO : OrdOK pr n fo) (k i : Int32) : CtI l yX1_place cX1_place 5 (some .boolean) { frames := 1, cells := 0, slots := 0, locals := 22 } D (mtys K) (mdW q K pr fc fl fp n fo fw ff fg) [.ref (q 0), .int k, .int i] (fun (r : Int32) (u : Nat → Nat) => (r, u) = plcR pr n fo k i) (fun u => mdW q K pr fc fl fp n u fw ff fg) := by
  refine rd_startI (by decide) (Nat.le_of_ble_eq_true rfl) ?_
  intro p e s m below meth c ls A Q hQe C hK hh hl
  have C : CX p s m [.ref (q 0), .int k, .int i].toArray meth c cX1_place 5 (some .boolean) RX1 := C
  have hx := C.1
  have hb := C.2.1
  have hl : lv_has ls 5 [(0, .ref (q 0)), (1, .int k), (2, .int i)] := hl
  have hB0 := hB
  obtain ⟨⟨hpr, hn, hbc, hbl, hbp, hbo⟩, hbw⟩ := hB0
  refine lv_aload_n hx hb dX1_place_0 rfl (lv_at hl 0 rfl) ?_
  refine lv_iload_n hx hb dX1_place_1 rfl (lv_at hl 1 rfl) ?_
  refine rd_callP (n := 1) (q := (RX1, TX1, 9)) C hK hh.1 (mM_is l D q K pr n fc fl fp fo fw ff fg hB k) (lw_V q209 q211 qs9 q23 q212) (by decide +kernel) rfl ⟨rfl, rfl⟩ ⟨Nat.le_of_ble_eq_true rfl, Nat.le_of_ble_eq_true rfl⟩ 1 0 rfl rfl rfl hl.1 (Nat.le_of_ble_eq_true rfl) ⟨Nat.zero_le _, Nat.zero_le _⟩ dX1_place_2 (fun r hr => ?_)
  subst hr
  refine rd_ifb_eq (tgt := 20) hx hb dX1_place_5 (by decide) (fun h5 => ?_) (fun h5 => ?_)
  · refine lv_iconst (v := nI 0) hx hb dX1_place_20 (by decide) ?_
    subst hQe; exact rd_retIz (fo) C hK hh rfl (by simp [plcR, h5, rd_v0]) dX1_place_21
  · refine lv_iload_n hx hb dX1_place_8 rfl (lv_at hl 2 rfl) ?_
    refine lv_if_lt (tgt := 20) hx hb dX1_place_9 (by decide) (fun h9 => ?_) (fun h9 => ?_)
    · refine lv_iconst (v := nI 0) hx hb dX1_place_20 (by decide) ?_
      subst hQe; exact rd_retIz (fo) C hK hh rfl (by simp [plcR, h9, rd_v0]) dX1_place_21
    · refine lv_iload_n hx hb dX1_place_12 rfl (lv_at hl 2 rfl) ?_
      refine lv_aload_n hx hb dX1_place_13 rfl (lv_at hl 0 rfl) ?_
      refine mg_size C hK hh.1 dX1_place_14 ?_
      refine lv_icmp_lt (tgt := 22) hx hb dX1_place_17 (by decide) (fun h17 => ?_) (fun h17 => ?_)
      · have hcond : (hasB pr k && (!decide (i < 0) && !decide (nI n ≤ i))) = true := by simp [h5, h9, rd_lt_of h17]
        obtain ⟨j, hj5, rfl, hjb⟩ := hasB_of h5
        obtain ⟨t, ht, rfl⟩ := rd_idx (n := n) (by omega) h9 (rd_lt_of h17)
        obtain ⟨g1, g2, g3⟩ := ix_spec hO hj5 hjb
        generalize hai : ix fo n j = a at g1 g2 g3
        refine lv_aload_n hx hb dX1_place_22 rfl (lv_at hl 0 rfl) ?_
        refine lv_iload_n hx hb dX1_place_23 rfl (lv_at hl 1 rfl) ?_
        refine rd_callP (n := 1) (q := (RX1, TX1, 9)) C hK hh.1 (mM_find l D q K pr n fc fl fp fo fw ff fg hB j a hj5 g1 g2 g3) (lw_V q213 q215 qs10 q23 q216) (by decide +kernel) rfl ⟨rfl, rfl⟩ ⟨Nat.le_of_ble_eq_true rfl, Nat.le_of_ble_eq_true rfl⟩ 1 0 rfl rfl rfl hl.1 (Nat.le_of_ble_eq_true rfl) ⟨Nat.zero_le _, Nat.zero_le _⟩ dX1_place_24 (fun r hr => ?_)
        subst hr
        refine lv_istore_n (lv' := [(3, .int (nI a)), (0, .ref (q 0)), (1, .int (nI j)), (2, .int (nI t))]) hx hb dX1_place_27 rfl hl (by decide) rfl (fun ls hl => ?_)
        refine lv_aload_n hx hb dX1_place_28 rfl (lv_at hl 1 rfl) ?_
        refine lv_iload_n hx hb dX1_place_29 rfl (lv_at hl 0 rfl) ?_
        refine rd_callIv (n := 1) (q := (RX1, TX1, 9)) C hK hh (mM_takeOut l D q K pr n fc fl fp fo fw ff fg hB a g1) (lw_V q217 q219 qs11 q23 q220) (by decide +kernel) rfl ⟨rfl, rfl⟩ ⟨Nat.le_of_ble_eq_true rfl, Nat.le_of_ble_eq_true rfl⟩ 1 0 rfl rfl rfl hl.1 (Nat.le_of_ble_eq_true rfl) ⟨Nat.zero_le _, Nat.zero_le _⟩ dX1_place_30 (fun u H locs hr hh => ?_)
        have hh : HH D (mdW q K pr fc fl fp (n - 1) (shO fo a n) fw ff fg) A s.heap H locs := hh
        have dn : ∀ (d : Nat) (b : Nat), (b < t + d) → (t ≤ b) → (b ≤ n - 1) → ∀ (H : Heap) (locs : List Loc), HH D (mdW q K pr fc fl fp (n - 1) (shU (shO fo a n) b (n - 1)) fw ff fg) A s.heap H locs → ∀ (ls : Array Slot), lv_has ls 5 [(4, .int (nI b)), (3, .int (nI a)), (0, .ref (q 0)), (1, .int (nI j)), (2, .int (nI t))] → W p l e { frames := 1, cells := 0, slots := 0, locals := 22 } s m [.ref (q 0), .int (nI j), .int (nI t)].toArray below meth c H locs 0 0 Q (F0 m 39 ls []) := by
          intro d
          induction d with
          | zero => intro b hd hb1 hb2 H locs hh ls hl; omega
          | succ d ih =>
            intro b hd hb1 hb2 H locs hh ls hl
            refine lv_iload hx hb dX1_place_39 (lv_at hl 0 rfl) ?_
            refine lv_iload_n hx hb dX1_place_41 rfl (lv_at hl 4 rfl) ?_
            refine rd_icmp_le (tgt := 67) hx hb (by omega) (by omega) dX1_place_42 (by decide) (fun h42 => ?_) (fun h42 => ?_)
            · refine lv_aload_n hx hb dX1_place_67 rfl (lv_at hl 2 rfl) ?_
              refine mg_order C hK hh.1 dX1_place_68 ?_
              refine lv_iload_n hx hb dX1_place_71 rfl (lv_at hl 4 rfl) ?_
              refine lv_iload_n hx hb dX1_place_72 rfl (lv_at hl 3 rfl) ?_
              refine ms_order C hK hh (by omega) dX1_place_73 (fun H locs hh => ?_)
              refine lv_aload_n hx hb dX1_place_74 rfl (lv_at hl 2 rfl) ?_
              refine lv_dup hx hb dX1_place_75 rfl ?_
              refine mg_size C hK hh.1 dX1_place_76 ?_
              refine lv_iconst (v := nI 1) hx hb dX1_place_79 (by decide) ?_
              refine rd_iadd hx hb dX1_place_80 ?_
              refine mp_size C hK hh dX1_place_81 (fun H locs hh => ?_)
              rw [show b = t by omega, mvO_md fo j g1 ht, show n - 1 + 1 = n by omega] at hh
              refine lv_iconst (v := nI 1) hx hb dX1_place_84 (by decide) ?_
              subst hQe; exact rd_retIz (mvO fo j a t) C hK hh rfl (by rw [plcR, if_pos hcond, nI_clamp (by omega), nI_clamp (by omega), hai]; rfl) dX1_place_85
            · refine lv_aload_n hx hb dX1_place_45 rfl (lv_at hl 2 rfl) ?_
              refine mg_order C hK hh.1 dX1_place_46 ?_
              refine lv_iload hx hb dX1_place_49 (lv_at hl 0 rfl) ?_
              refine lv_aload_n hx hb dX1_place_51 rfl (lv_at hl 2 rfl) ?_
              refine mg_order C hK hh.1 dX1_place_52 ?_
              refine lv_iload hx hb dX1_place_55 (lv_at hl 0 rfl) ?_
              refine lv_iconst (v := nI 1) hx hb dX1_place_57 (by decide) ?_
              refine rd_isub hx hb (by omega) dX1_place_58 ?_
              refine ml_order C hK hh.1 (by omega) dX1_place_59 ?_
              refine ms_order C hK hh (by omega) dX1_place_60 (fun H locs hh => ?_)
              refine lv_iinc (v := nI b + Int32.ofInt (-1)) (lv' := [(4, .int (nI b + Int32.ofInt (-1))), (3, .int (nI a)), (0, .ref (q 0)), (1, .int (nI j)), (2, .int (nI t))]) hx hb dX1_place_61 hl (k := 0) rfl (rfl) (by decide) rfl (fun ls hl => ?_)
              refine lv_goto (tgt := 39) hx hb dX1_place_64 (by decide) ?_
              obtain ⟨b, rfl⟩ : ∃ z, b = z + 1 := ⟨b - 1, by omega⟩
              rw [shU_step (shO fo a n) (by omega)] at hh
              have hl : lv_has ls 5 [(4, .int (nI b)), (3, .int (nI a)), (0, .ref (q 0)), (1, .int (nI j)), (2, .int (nI t))] := by rw [rd_dec1] at hl; exact hl
              exact ih b (by omega) (by omega) (by omega) H locs hh ls (lv_sub hl [0, 1, 2, 3, 4] rfl)
        rw [← shU_0 (shO fo a n) (n - 1)] at hh
        refine lv_aload_n hx hb dX1_place_33 rfl (lv_at hl 1 rfl) ?_
        refine mg_size C hK hh.1 dX1_place_34 ?_
        refine lv_istore (lv' := [(4, .int (nI (n - 1))), (3, .int (nI a)), (0, .ref (q 0)), (1, .int (nI j)), (2, .int (nI t))]) hx hb dX1_place_37 hl (by decide) rfl (fun ls hl => ?_)
        exact dn n (n - 1) (by omega) (by omega) (by omega) _ _ hh ls (lv_sub hl [0, 1, 2, 3, 4] rfl)
      · refine lv_iconst (v := nI 0) hx hb dX1_place_20 (by decide) ?_
        subst hQe; exact rd_retIz (fo) C hK hh rfl (by simp [plcR, Int32.not_lt.mp h17, rd_v0]) dX1_place_21
set_option maxHeartbeats 4000000 in
set_option maxRecDepth 100000 in
theorem mM_tasks (l : Launch) (D : va_G) (q : Nat → Nat) (K : Nat → ClassId) (pr n : Nat) (fc fl fp fo fw ff fg : Nat → Nat) (hB : BM pr n fc fl fp fo fw)  : CtP l yX1_tasks cX1_tasks 3 (some .int) { frames := 0, cells := 0, slots := 0, locals := 0 } D (mtys K) (mdW q K pr fc fl fp n fo fw ff fg) [.ref (q 0)] (fun r => r = nI pr) := by
  refine rd_startP (by decide) (Nat.le_of_ble_eq_true rfl) ?_
  intro p e s m below meth c ls Q hQe C hK hP hl
  have C : CX p s m [.ref (q 0)].toArray meth c cX1_tasks 3 (some .int) RX1 := C
  have hx := C.1
  have hb := C.2.1
  have hl : lv_has ls 3 [(0, .ref (q 0))] := hl
  have hB0 := hB
  obtain ⟨⟨hpr, hn, hbc, hbl, hbp, hbo⟩, hbw⟩ := hB0
  have loop : ∀ (d : Nat) (k : Nat), (5 < k + d) → (k ≤ 5) → ∀ (ls : Array Slot), lv_has ls 3 [(2, .int (nI k)), (1, .int (nI (itL (fun _ => true) pr k))), (0, .ref (q 0))] → W p l e { frames := 0, cells := 0, slots := 0, locals := 0 } s m [.ref (q 0)].toArray below meth c s.heap [] 0 0 Q (F0 m 4 ls []) := by
    intro d
    induction d with
    | zero => intro k hd hk ls hl; omega
    | succ d ih =>
      intro k hd hk ls hl
      refine lv_iload_n hx hb dX1_tasks_4 rfl (lv_at hl 0 rfl) ?_
      refine lv_iconst (v := nI 5) hx hb dX1_tasks_5 (by decide) ?_
      refine rd_icmp_ge (tgt := 34) hx hb (by omega) (by omega) dX1_tasks_6 (by decide) (fun h6 => ?_) (fun h6 => ?_)
      · refine lv_iload_n hx hb dX1_tasks_34 rfl (lv_at hl 1 rfl) ?_
        subst hQe; exact rd_retP C (by rw [show k = 5 by omega, itL_all pr hpr]) dX1_tasks_35
      · refine lv_aload_n hx hb dX1_tasks_9 rfl (lv_at hl 2 rfl) ?_
        refine mg_there C hK hP dX1_tasks_10 ?_
        refine lv_iload_n hx hb dX1_tasks_13 rfl (lv_at hl 0 rfl) ?_
        refine ml_there C hK hP (by omega) dX1_tasks_14 ?_
        refine rd_ifb_eq (tgt := 26) hx hb dX1_tasks_15 (by decide) (fun h15 => ?_) (fun h15 => ?_)
        · refine lv_iload_n hx hb dX1_tasks_26 rfl (lv_at hl 1 rfl) ?_
          refine lv_istore_n (lv' := [(1, .int (nI (itL (fun _ => true) pr k))), (2, .int (nI k)), (0, .ref (q 0))]) hx hb dX1_tasks_27 rfl hl (by decide) rfl (fun ls hl => ?_)
          refine lv_iinc (v := nI (k + 1)) (lv' := [(2, .int (nI (k + 1))), (1, .int (nI (itL (fun _ => true) pr k))), (0, .ref (q 0))]) hx hb dX1_tasks_28 hl (k := 1) rfl (rd_inc1 _) (by decide) rfl (fun ls hl => ?_)
          refine lv_goto (tgt := 4) hx hb dX1_tasks_31 (by decide) ?_
          have e : itL (fun _ => true) pr k = itL (fun _ => true) pr (k + 1) := by simp [itL, h15]
          rw [e] at hl
          exact ih (k + 1) (by omega) (by omega) ls (lv_sub hl [0, 1, 2] rfl)
        · refine lv_iload_n hx hb dX1_tasks_18 rfl (lv_at hl 1 rfl) ?_
          refine lv_iconst (v := nI 1) hx hb dX1_tasks_19 (by decide) ?_
          refine lv_iload_n hx hb dX1_tasks_20 rfl (lv_at hl 0 rfl) ?_
          refine rd_ishl1 hx hb (by omega) dX1_tasks_21 ?_
          refine rd_ior hx hb dX1_tasks_22 ?_
          refine lv_goto (tgt := 27) hx hb dX1_tasks_23 (by decide) ?_
          refine lv_istore_n (lv' := [(1, .int (nI ((itL (fun _ => true) pr k) ||| (2 ^ k)))), (2, .int (nI k)), (0, .ref (q 0))]) hx hb dX1_tasks_27 rfl hl (by decide) rfl (fun ls hl => ?_)
          refine lv_iinc (v := nI (k + 1)) (lv' := [(2, .int (nI (k + 1))), (1, .int (nI ((itL (fun _ => true) pr k) ||| (2 ^ k)))), (0, .ref (q 0))]) hx hb dX1_tasks_28 hl (k := 1) rfl (rd_inc1 _) (by decide) rfl (fun ls hl => ?_)
          refine lv_goto (tgt := 4) hx hb dX1_tasks_31 (by decide) ?_
          have e : (itL (fun _ => true) pr k) ||| (2 ^ k) = itL (fun _ => true) pr (k + 1) := by simp [itL, h15]
          rw [e] at hl
          exact ih (k + 1) (by omega) (by omega) ls (lv_sub hl [0, 1, 2] rfl)
  refine lv_iconst (v := nI 0) hx hb dX1_tasks_0 (by decide) ?_
  refine lv_istore_n (lv' := [(1, .int (nI 0)), (0, .ref (q 0))]) hx hb dX1_tasks_1 rfl hl (by decide) rfl (fun ls hl => ?_)
  refine lv_iconst (v := nI 0) hx hb dX1_tasks_2 (by decide) ?_
  refine lv_istore_n (lv' := [(2, .int (nI 0)), (1, .int (nI 0)), (0, .ref (q 0))]) hx hb dX1_tasks_3 rfl hl (by decide) rfl (fun ls hl => ?_)
  exact loop 6 0 (by omega) (by omega) ls (lv_sub hl [0, 1, 2] rfl)
set_option maxHeartbeats 4000000 in
set_option maxRecDepth 100000 in
theorem mM_at (l : Launch) (D : va_G) (q : Nat → Nat) (K : Nat → ClassId) (pr n : Nat) (fc fl fp fo fw ff fg : Nat → Nat) (hB : BM pr n fc fl fp fo fw) (i : Int32) : CtP l yX1_at cX1_at 2 (some .int) { frames := 0, cells := 0, slots := 0, locals := 0 } D (mtys K) (mdW q K pr fc fl fp n fo fw ff fg) [.ref (q 0), .int i] (fun r => r = atF n fo i) := by
  refine rd_startP (by decide) (Nat.le_of_ble_eq_true rfl) ?_
  intro p e s m below meth c ls Q hQe C hK hP hl
  have C : CX p s m [.ref (q 0), .int i].toArray meth c cX1_at 2 (some .int) RX1 := C
  have hx := C.1
  have hb := C.2.1
  have hl : lv_has ls 2 [(0, .ref (q 0)), (1, .int i)] := hl
  have hB0 := hB
  obtain ⟨⟨hpr, hn, hbc, hbl, hbp, hbo⟩, hbw⟩ := hB0
  refine lv_iload_n hx hb dX1_at_0 rfl (lv_at hl 1 rfl) ?_
  refine lv_if_lt (tgt := 21) hx hb dX1_at_1 (by decide) (fun h1 => ?_) (fun h1 => ?_)
  · refine lv_iconst (v := (-1)) hx hb dX1_at_21 (by decide) ?_
    subst hQe; exact rd_retP C (by simp [atF, h1]) dX1_at_22
  · refine lv_iload_n hx hb dX1_at_4 rfl (lv_at hl 1 rfl) ?_
    refine lv_aload_n hx hb dX1_at_5 rfl (lv_at hl 0 rfl) ?_
    refine mg_size C hK hP dX1_at_6 ?_
    refine lv_icmp_ge (tgt := 21) hx hb dX1_at_9 (by decide) (fun h9 => ?_) (fun h9 => ?_)
    · refine lv_iconst (v := (-1)) hx hb dX1_at_21 (by decide) ?_
      subst hQe; exact rd_retP C (by simp [atF, h9]) dX1_at_22
    · obtain ⟨j, hj, rfl⟩ := rd_idx (n := n) (by omega) h1 h9
      refine lv_aload_n hx hb dX1_at_12 rfl (lv_at hl 0 rfl) ?_
      refine mg_order C hK hP dX1_at_13 ?_
      refine lv_iload_n hx hb dX1_at_16 rfl (lv_at hl 1 rfl) ?_
      refine ml_order C hK hP (by omega) dX1_at_17 ?_
      refine lv_goto (tgt := 22) hx hb dX1_at_18 (by decide) ?_
      subst hQe; exact rd_retP C ((atF_in hj hn).symm) dX1_at_22
set_option maxHeartbeats 4000000 in
set_option maxRecDepth 100000 in
theorem mM_add (l : Launch) (D : va_G) (q : Nat → Nat) (K : Nat → ClassId) (pr n : Nat) (fc fl fp fo fw ff fg : Nat → Nat) (hB : BM pr n fc fl fp fo fw) (hcap : ∀ k, k < 5 → pr.testBit k = false → n < 5) (x y z : Int32) : CtI l yX1_add cX1_add 5 (some .int) { frames := 1, cells := 0, slots := 0, locals := 23 } D (mtys K) (mdW q K pr fc fl fp n fo fw ff fg) [.ref (q 0), .int x, .int y, .int z] (fun (r : Int32) (u : SA) => (r, u) = addR pr n fc fl fp fo x y z) (fun u => mdW q K u.1 u.2.2.1 u.2.2.2.1 u.2.2.2.2.1 u.2.1 u.2.2.2.2.2 fw ff fg) := by
  refine rd_startI (by decide) (Nat.le_of_ble_eq_true rfl) ?_
  intro p e s m below meth c ls A Q hQe C hK hh hl
  have C : CX p s m [.ref (q 0), .int x, .int y, .int z].toArray meth c cX1_add 5 (some .int) RX1 := C
  have hx := C.1
  have hb := C.2.1
  have hl : lv_has ls 5 [(0, .ref (q 0)), (1, .int x), (2, .int y), (3, .int z)] := hl
  have hB0 := hB
  obtain ⟨⟨hpr, hn, hbc, hbl, hbp, hbo⟩, hbw⟩ := hB0
  refine lv_aload_n hx hb dX1_add_0 rfl (lv_at hl 0 rfl) ?_
  refine lv_iload_n hx hb dX1_add_1 rfl (lv_at hl 1 rfl) ?_
  refine lv_iload_n hx hb dX1_add_2 rfl (lv_at hl 2 rfl) ?_
  refine lv_iload_n hx hb dX1_add_3 rfl (lv_at hl 3 rfl) ?_
  refine rd_callP (n := 3) (q := (RX1, TX1, 9)) C hK hh.1 (mM_fine l D q K pr n fc fl fp fo fw ff fg hB x y z) (lw_V q201 q203 qs8 q23 q204) (by decide +kernel) rfl ⟨rfl, rfl⟩ ⟨Nat.le_of_ble_eq_true rfl, Nat.le_of_ble_eq_true rfl⟩ 1 0 rfl rfl rfl hl.1 (Nat.le_of_ble_eq_true rfl) ⟨Nat.zero_le _, Nat.zero_le _⟩ dX1_add_4 (fun r hr => ?_)
  subst hr
  refine rd_ifb_ne (tgt := 12) hx hb dX1_add_7 (by decide) (fun h7 => ?_) (fun h7 => ?_)
  · obtain ⟨xa, ya, za, rfl, rfl, rfl, o1, o2, o3, o4⟩ := okN_nat h7
    have lo : ∀ (d : Nat) (k : Nat), (5 < k + d) → (k ≤ 5) → (frL pr (5 - k) k = fr pr) → ∀ (ls : Array Slot), lv_has ls 5 [(4, .int (nI k)), (0, .ref (q 0)), (1, .int (nI xa)), (2, .int (nI ya)), (3, .int (nI za))] → W p l e { frames := 1, cells := 0, slots := 0, locals := 23 } s m [.ref (q 0), .int (nI xa), .int (nI ya), .int (nI za)].toArray below meth c s.heap [] 0 0 Q (F0 m 15 ls []) := by
      intro d
      induction d with
      | zero => intro k hd hk hf ls hl; omega
      | succ d ih =>
        intro k hd hk hf ls hl
        refine lv_iload hx hb dX1_add_15 (lv_at hl 0 rfl) ?_
        refine lv_iconst (v := nI 5) hx hb dX1_add_17 (by decide) ?_
        refine rd_icmp_ge (tgt := 93) hx hb (by omega) (by omega) dX1_add_18 (by decide) (fun h18 => ?_) (fun h18 => ?_)
        · refine lv_bipush (v := (-2)) hx hb dX1_add_93 (by decide) ?_
          subst hQe; exact rd_retI ((pr, n, fc, fl, fp, fo)) C hK hh (by rw [addR, if_pos h7, ← hf, show 5 - k = 0 by omega]; rfl) dX1_add_95
        · refine lv_aload_n hx hb dX1_add_21 rfl (lv_at hl 1 rfl) ?_
          refine mg_there C hK hh.1 dX1_add_22 ?_
          refine lv_iload hx hb dX1_add_25 (lv_at hl 0 rfl) ?_
          refine ml_there C hK hh.1 (by omega) dX1_add_27 ?_
          refine rd_ifb_ne (tgt := 87) hx hb dX1_add_28 (by decide) (fun h28 => ?_) (fun h28 => ?_)
          · refine lv_iinc (v := nI (k + 1)) (lv' := [(4, .int (nI (k + 1))), (0, .ref (q 0)), (1, .int (nI xa)), (2, .int (nI ya)), (3, .int (nI za))]) hx hb dX1_add_87 hl (k := 0) rfl (rd_inc1 _) (by decide) rfl (fun ls hl => ?_)
            refine lv_goto (tgt := 15) hx hb dX1_add_90 (by decide) ?_
            exact ih (k + 1) (by omega) (by omega) (by rw [← hf, show 5 - k = (5 - (k + 1)) + 1 by omega, frL, if_pos h28]) ls (lv_sub hl [0, 1, 2, 3, 4] rfl)
          · have hn5 := hcap k (by omega) h28
            have hfk : fr pr = some k := by rw [← hf, show 5 - k = (5 - (k + 1)) + 1 by omega, frL, if_neg (by rw [h28]; decide)]
            refine lv_aload_n hx hb dX1_add_31 rfl (lv_at hl 1 rfl) ?_
            refine mg_there C hK hh.1 dX1_add_32 ?_
            refine lv_iload hx hb dX1_add_35 (lv_at hl 0 rfl) ?_
            refine lv_iconst (v := nI 1) hx hb dX1_add_37 (by decide) ?_
            refine ms_there (v := true) (pr' := pr ||| 2 ^ k) C hK hh (by omega) (rd_set pr k) dX1_add_38 (fun H locs hh => ?_)
            refine lv_aload_n hx hb dX1_add_39 rfl (lv_at hl 1 rfl) ?_
            refine mg_costs C hK hh.1 dX1_add_40 ?_
            refine lv_iload hx hb dX1_add_43 (lv_at hl 0 rfl) ?_
            refine lv_iload_n hx hb dX1_add_45 rfl (lv_at hl 2 rfl) ?_
            refine ms_costs C hK hh (by omega) dX1_add_46 (fun H locs hh => ?_)
            refine lv_aload_n hx hb dX1_add_47 rfl (lv_at hl 1 rfl) ?_
            refine mg_limits C hK hh.1 dX1_add_48 ?_
            refine lv_iload hx hb dX1_add_51 (lv_at hl 0 rfl) ?_
            refine lv_iload_n hx hb dX1_add_53 rfl (lv_at hl 3 rfl) ?_
            refine ms_limits C hK hh (by omega) dX1_add_54 (fun H locs hh => ?_)
            refine lv_aload_n hx hb dX1_add_55 rfl (lv_at hl 1 rfl) ?_
            refine mg_periods C hK hh.1 dX1_add_56 ?_
            refine lv_iload hx hb dX1_add_59 (lv_at hl 0 rfl) ?_
            refine lv_iload_n hx hb dX1_add_61 rfl (lv_at hl 4 rfl) ?_
            refine ms_periods C hK hh (by omega) dX1_add_62 (fun H locs hh => ?_)
            refine lv_aload_n hx hb dX1_add_63 rfl (lv_at hl 1 rfl) ?_
            refine mg_order C hK hh.1 dX1_add_64 ?_
            refine lv_aload_n hx hb dX1_add_67 rfl (lv_at hl 1 rfl) ?_
            refine mg_size C hK hh.1 dX1_add_68 ?_
            refine lv_iload hx hb dX1_add_71 (lv_at hl 0 rfl) ?_
            refine ms_order C hK hh (by omega) dX1_add_73 (fun H locs hh => ?_)
            refine lv_aload_n hx hb dX1_add_74 rfl (lv_at hl 1 rfl) ?_
            refine lv_dup hx hb dX1_add_75 rfl ?_
            refine mg_size C hK hh.1 dX1_add_76 ?_
            refine lv_iconst (v := nI 1) hx hb dX1_add_79 (by decide) ?_
            refine rd_iadd hx hb dX1_add_80 ?_
            refine mp_size C hK hh dX1_add_81 (fun H locs hh => ?_)
            refine lv_iload hx hb dX1_add_84 (lv_at hl 0 rfl) ?_
            subst hQe; exact rd_retI ((pr ||| 2 ^ k, n + 1, va_up fc k xa, va_up fl k ya, va_up fp k za, va_up fo n k)) C hK hh (by rw [addR, if_pos h7, hfk, nI_clamp (by omega), nI_clamp (by omega), nI_clamp (by omega)]) dX1_add_86
    refine lv_iconst (v := nI 0) hx hb dX1_add_12 (by decide) ?_
    refine lv_istore (lv' := [(4, .int (nI 0)), (0, .ref (q 0)), (1, .int (nI xa)), (2, .int (nI ya)), (3, .int (nI za))]) hx hb dX1_add_13 hl (by decide) rfl (fun ls hl => ?_)
    exact lo 6 0 (by omega) (by omega) rfl ls (lv_sub hl [0, 1, 2, 3, 4] rfl)
  · refine lv_iconst (v := (-1)) hx hb dX1_add_10 (by decide) ?_
    subst hQe; exact rd_retI ((pr, n, fc, fl, fp, fo)) C hK hh (by rw [addR, if_neg (by rw [h7]; decide)]) dX1_add_11
set_option maxHeartbeats 4000000 in
set_option maxRecDepth 100000 in
theorem mM_useOrder (l : Launch) (D : va_G) (q : Nat → Nat) (K : Nat → ClassId) (pr n : Nat) (fc fl fp fo fw ff fg : Nat → Nat) (hB : BM pr n fc fl fp fo fw)  : CtV l yX1_useOrder cX1_useOrder 2 { frames := 0, cells := 0, slots := 0, locals := 0 } D (mtys K) (mdW q K pr fc fl fp n fo fw ff fg) [.ref (q 0)] (fun _ : Unit => True) (fun _ => mdW q K pr fc fl fp n fo (cpO fo fw n) ff fg) := by
  refine rd_startV (by decide) (Nat.le_of_ble_eq_true rfl) ?_
  intro p e s m below meth c ls A Q hQe C hK hh hl
  have C : CX p s m [.ref (q 0)].toArray meth c cX1_useOrder 2 none RX1 := C
  have hx := C.1
  have hb := C.2.1
  have hl : lv_has ls 2 [(0, .ref (q 0))] := hl
  have hB0 := hB
  obtain ⟨⟨hpr, hn, hbc, hbl, hbp, hbo⟩, hbw⟩ := hB0
  have lo : ∀ (d : Nat) (i : Nat), (n < i + d) → (i ≤ n) → ∀ (H : Heap) (locs : List Loc), HH D (mdW q K pr fc fl fp n fo (cpO fo fw i) ff fg) A s.heap H locs → ∀ (ls : Array Slot), lv_has ls 2 [(1, .int (nI i)), (0, .ref (q 0))] → W p l e { frames := 0, cells := 0, slots := 0, locals := 0 } s m [.ref (q 0)].toArray below meth c H locs 0 0 Q (F0 m 2 ls []) := by
    intro d
    induction d with
    | zero => intro i hd hi H locs hh ls hl; omega
    | succ d ih =>
      intro i hd hi H locs hh ls hl
      refine lv_iload_n hx hb dX1_useOrder_2 rfl (lv_at hl 0 rfl) ?_
      refine lv_aload_n hx hb dX1_useOrder_3 rfl (lv_at hl 1 rfl) ?_
      refine mg_size C hK hh.1 dX1_useOrder_4 ?_
      refine rd_icmp_ge (tgt := 28) hx hb (by omega) (by omega) dX1_useOrder_7 (by decide) (fun h7 => ?_) (fun h7 => ?_)
      · rw [show i = n by omega] at hh
        subst hQe; exact rd_retV (()) C hK hh (trivial) dX1_useOrder_28
      · refine lv_aload_n hx hb dX1_useOrder_10 rfl (lv_at hl 1 rfl) ?_
        refine mg_row C hK hh.1 dX1_useOrder_11 ?_
        refine lv_iload_n hx hb dX1_useOrder_14 rfl (lv_at hl 0 rfl) ?_
        refine lv_aload_n hx hb dX1_useOrder_15 rfl (lv_at hl 1 rfl) ?_
        refine mg_order C hK hh.1 dX1_useOrder_16 ?_
        refine lv_iload_n hx hb dX1_useOrder_19 rfl (lv_at hl 0 rfl) ?_
        refine ml_order C hK hh.1 (by omega) dX1_useOrder_20 ?_
        refine ms_row C hK hh (by omega) dX1_useOrder_21 (fun H locs hh => ?_)
        refine lv_iinc (v := nI (i + 1)) (lv' := [(1, .int (nI (i + 1))), (0, .ref (q 0))]) hx hb dX1_useOrder_22 hl (k := 0) rfl (rd_inc1 _) (by decide) rfl (fun ls hl => ?_)
        refine lv_goto (tgt := 2) hx hb dX1_useOrder_25 (by decide) ?_
        rw [cpO_up] at hh
        exact ih (i + 1) (by omega) (by omega) H locs hh ls (lv_sub hl [0, 1] rfl)
  rw [← cpO_0 fo fw] at hh
  refine lv_iconst (v := nI 0) hx hb dX1_useOrder_0 (by decide) ?_
  refine lv_istore_n (lv' := [(1, .int (nI 0)), (0, .ref (q 0))]) hx hb dX1_useOrder_1 rfl hl (by decide) rfl (fun ls hl => ?_)
  exact lo (n + 1) 0 (by omega) (by omega) _ _ hh ls (lv_sub hl [0, 1] rfl)
set_option maxHeartbeats 4000000 in
set_option maxRecDepth 100000 in
theorem mM_start (l : Launch) (D : va_G) (q : Nat → Nat) (K : Nat → ClassId) (pr n : Nat) (fc fl fp fo fw ff fg : Nat → Nat) (hB : BM pr n fc fl fp fo fw)  : CtV l yX1_start cX1_start 2 { frames := 0, cells := 0, slots := 0, locals := 0 } D (mtys K) (mdW q K pr fc fl fp n fo fw ff fg) [.ref (q 0)] (fun _ : Unit => True) (fun _ => mdW q K pr fc fl fp n fo fw zz zz) := by
  refine rd_startV (by decide) (Nat.le_of_ble_eq_true rfl) ?_
  intro p e s m below meth c ls A Q hQe C hK hh hl
  have C : CX p s m [.ref (q 0)].toArray meth c cX1_start 2 none RX1 := C
  have hx := C.1
  have hb := C.2.1
  have hl : lv_has ls 2 [(0, .ref (q 0))] := hl
  have hB0 := hB
  obtain ⟨⟨hpr, hn, hbc, hbl, hbp, hbo⟩, hbw⟩ := hB0
  have lo : ∀ (d : Nat) (k : Nat) (f g : Nat → Nat), (5 < k + d) → (k ≤ 5) → (∀ j, j < k → f j = 0) → (∀ j, j < k → g j = 0) → ∀ (H : Heap) (locs : List Loc), HH D (mdW q K pr fc fl fp n fo fw f g) A s.heap H locs → ∀ (ls : Array Slot), lv_has ls 2 [(1, .int (nI k)), (0, .ref (q 0))] → W p l e { frames := 0, cells := 0, slots := 0, locals := 0 } s m [.ref (q 0)].toArray below meth c H locs 0 0 Q (F0 m 2 ls []) := by
    intro d
    induction d with
    | zero => intro k f g hd hk hf hg H locs hh ls hl; omega
    | succ d ih =>
      intro k f g hd hk hf hg H locs hh ls hl
      refine lv_iload_n hx hb dX1_start_2 rfl (lv_at hl 0 rfl) ?_
      refine lv_iconst (v := nI 5) hx hb dX1_start_3 (by decide) ?_
      refine rd_icmp_ge (tgt := 27) hx hb (by omega) (by omega) dX1_start_4 (by decide) (fun h4 => ?_) (fun h4 => ?_)
      · have hh := rd_ext (ff' := zz) (fg' := zz) (fun j hj => hf j (by omega)) (fun j hj => hg j (by omega)) hh
        subst hQe; exact rd_retV (()) C hK hh (trivial) dX1_start_27
      · refine lv_aload_n hx hb dX1_start_7 rfl (lv_at hl 1 rfl) ?_
        refine mg_left C hK hh.1 dX1_start_8 ?_
        refine lv_iload_n hx hb dX1_start_11 rfl (lv_at hl 0 rfl) ?_
        refine lv_iconst (v := nI 0) hx hb dX1_start_12 (by decide) ?_
        refine ms_left C hK hh (by omega) dX1_start_13 (fun H locs hh => ?_)
        refine lv_aload_n hx hb dX1_start_14 rfl (lv_at hl 1 rfl) ?_
        refine mg_given C hK hh.1 dX1_start_15 ?_
        refine lv_iload_n hx hb dX1_start_18 rfl (lv_at hl 0 rfl) ?_
        refine lv_iconst (v := nI 0) hx hb dX1_start_19 (by decide) ?_
        refine ms_given C hK hh (by omega) dX1_start_20 (fun H locs hh => ?_)
        refine lv_iinc (v := nI (k + 1)) (lv' := [(1, .int (nI (k + 1))), (0, .ref (q 0))]) hx hb dX1_start_21 hl (k := 0) rfl (rd_inc1 _) (by decide) rfl (fun ls hl => ?_)
        refine lv_goto (tgt := 2) hx hb dX1_start_24 (by decide) ?_
        exact ih (k + 1) (va_up f k 0) (va_up g k 0) (by omega) (by omega) (fun j hj => by by_cases e : j = k; rw [e, va_up_self]; rw [va_up_ne _ _ e]; exact hf j (by omega)) (fun j hj => by by_cases e : j = k; rw [e, va_up_self]; rw [va_up_ne _ _ e]; exact hg j (by omega)) H locs hh ls (lv_sub hl [0, 1] rfl)
  refine lv_iconst (v := nI 0) hx hb dX1_start_0 (by decide) ?_
  refine lv_istore_n (lv' := [(1, .int (nI 0)), (0, .ref (q 0))]) hx hb dX1_start_1 rfl hl (by decide) rfl (fun ls hl => ?_)
  exact lo 6 0 ff fg (by omega) (by omega) (fun j hj => by omega) (fun j hj => by omega) _ _ hh ls (lv_sub hl [0, 1] rfl)
end
section
/-! the model's simulation, its orders, and what rests on them -/
set_option maxHeartbeats 4000000 in
set_option maxRecDepth 100000 in
theorem mM_unit (l : Launch) (D : va_G) (q : Nat → Nat) (K : Nat → ClassId) (pr n : Nat) (fc fl fp fo fw ff fg : Nat → Nat) (hB : BM pr n fc fl fp fo fw) (t : Nat) (ht : t ≤ 1000) (hff : ∀ j, ff j ≤ 1000000) (hfg : ∀ j, fg j ≤ 1000000) : CtI l yX1_unit cX1_unit 6 (some .int) { frames := 0, cells := 0, slots := 0, locals := 0 } D (mtys K) (mdW q K pr fc fl fp n fo fw ff fg) [.ref (q 0), .int (nI t)] (fun (r : Int32) (u : (Nat → Nat) × (Nat → Nat)) => r = oI (unF fc fp fw n t ff fg).1 ∧ u = (unF fc fp fw n t ff fg).2) (fun u => mdW q K pr fc fl fp n fo fw u.1 u.2) := by
  refine rd_startI (by decide) (Nat.le_of_ble_eq_true rfl) ?_
  intro p e s m below meth c ls A Q hQe C hK hh hl
  have C : CX p s m [.ref (q 0), .int (nI t)].toArray meth c cX1_unit 6 (some .int) RX1 := C
  have hx := C.1
  have hb := C.2.1
  have hl : lv_has ls 6 [(0, .ref (q 0)), (1, .int (nI t))] := hl
  have hB0 := hB
  obtain ⟨⟨hpr, hn, hbc, hbl, hbp, hbo⟩, hbw⟩ := hB0
  have lo : ∀ (d : Nat) (mm : Nat) (f : Nat → Nat) (b : Option Nat), (mm < d) → (mm ≤ n) → (uL fc fp fw t mm f b = uL fc fp fw t n ff none) → (∀ k, b = some k → k < 5 ∧ 0 < f k) → (∀ j, f j ≤ 1000000 + 15 * (5 - mm)) → ∀ (H : Heap) (locs : List Loc), HH D (mdW q K pr fc fl fp n fo fw f fg) A s.heap H locs → ∀ (ls : Array Slot), lv_has ls 6 [(3, .int (nI mm + Int32.ofInt (-1))), (2, .int (oI b)), (0, .ref (q 0)), (1, .int (nI t))] → W p l e { frames := 0, cells := 0, slots := 0, locals := 0 } s m [.ref (q 0), .int (nI t)].toArray below meth c H locs 0 0 Q (F0 m 9 ls []) := by
    intro d
    induction d with
    | zero => intro mm f b hd hm hu hb5 hf H locs hh ls hl; omega
    | succ d ih =>
      intro mm f b hd hm hu hb5 hf H locs hh ls hl
      rcases mm with _ | mm
      · rw [rd_m1z] at hl
        have hu0 : uL fc fp fw t n ff none = (f, b) := hu.symm
        rcases b with _ | k
        · skip
          refine lv_iload_n hx hb dX1_unit_9 rfl (lv_at hl 0 rfl) ?_
          refine lv_if_lt (tgt := 97) hx hb dX1_unit_10 (by decide) (fun h10 => ?_) (fun h10 => ?_)
          · refine lv_iload_n hx hb dX1_unit_97 rfl (lv_at hl 1 rfl) ?_
            refine lv_if_lt (tgt := 121) hx hb dX1_unit_98 (by decide) (fun h98 => ?_) (fun h98 => ?_)
            · refine lv_iload_n hx hb dX1_unit_121 rfl (lv_at hl 1 rfl) ?_
              subst hQe; exact rd_retI ((f, fg)) C hK hh (by rw [unF, hu0]; exact ⟨rfl, rfl⟩) dX1_unit_122
            · exact absurd (by decide) h98
          · exact absurd (by decide) h10
        · obtain ⟨hk5, hkp⟩ := hb5 k rfl
          have hfk := hf k; have hgk := hfg k
          have hl : lv_has ls 6 [(3, .int (-1)), (2, .int (nI k)), (0, .ref (q 0)), (1, .int (nI t))] := hl
          refine lv_iload_n hx hb dX1_unit_9 rfl (lv_at hl 0 rfl) ?_
          refine lv_if_lt (tgt := 97) hx hb dX1_unit_10 (by decide) (fun h10 => ?_) (fun h10 => ?_)
          · refine lv_iload_n hx hb dX1_unit_97 rfl (lv_at hl 1 rfl) ?_
            refine lv_if_lt (tgt := 121) hx hb dX1_unit_98 (by decide) (fun h98 => ?_) (fun h98 => ?_)
            · exact absurd h98 (nI_pos (by omega))
            · refine lv_aload_n hx hb dX1_unit_101 rfl (lv_at hl 2 rfl) ?_
              refine mg_left C hK hh.1 dX1_unit_102 ?_
              refine lv_iload_n hx hb dX1_unit_105 rfl (lv_at hl 1 rfl) ?_
              refine lv_dup2_11 hx hb dX1_unit_106 rfl rfl ?_
              refine ml_left C hK hh.1 (by omega) dX1_unit_107 ?_
              refine lv_iconst (v := nI 1) hx hb dX1_unit_108 (by decide) ?_
              refine rd_isub hx hb (by omega) dX1_unit_109 ?_
              refine ms_left C hK hh (by omega) dX1_unit_110 (fun H locs hh => ?_)
              refine lv_aload_n hx hb dX1_unit_111 rfl (lv_at hl 2 rfl) ?_
              refine mg_given C hK hh.1 dX1_unit_112 ?_
              refine lv_iload_n hx hb dX1_unit_115 rfl (lv_at hl 1 rfl) ?_
              refine lv_dup2_11 hx hb dX1_unit_116 rfl rfl ?_
              refine ml_given C hK hh.1 (by omega) dX1_unit_117 ?_
              refine lv_iconst (v := nI 1) hx hb dX1_unit_118 (by decide) ?_
              refine rd_iadd hx hb dX1_unit_119 ?_
              refine ms_given C hK hh (by omega) dX1_unit_120 (fun H locs hh => ?_)
              refine lv_iload_n hx hb dX1_unit_121 rfl (lv_at hl 1 rfl) ?_
              subst hQe; exact rd_retI ((va_up f k (f k - 1), va_up fg k (fg k + 1))) C hK hh (by rw [unF, hu0]; exact ⟨rfl, rfl⟩) dX1_unit_122
          · exact absurd (by decide) h10
      · rw [rd_dec1] at hl
        have hwm := hbw mm; have hfm := hf (fw mm); have hcm := hbc (fw mm); have hpm := hbp (fw mm)
        refine lv_iload_n hx hb dX1_unit_9 rfl (lv_at hl 0 rfl) ?_
        refine lv_if_lt (tgt := 97) hx hb dX1_unit_10 (by decide) (fun h10 => ?_) (fun h10 => ?_)
        · exact absurd h10 (nI_pos (by omega))
        · refine lv_aload_n hx hb dX1_unit_13 rfl (lv_at hl 2 rfl) ?_
          refine mg_row C hK hh.1 dX1_unit_14 ?_
          refine lv_iload_n hx hb dX1_unit_17 rfl (lv_at hl 0 rfl) ?_
          refine ml_row C hK hh.1 (by omega) dX1_unit_18 ?_
          refine lv_istore (lv' := [(4, .int (nI (fw mm))), (3, .int (nI mm)), (2, .int (oI b)), (0, .ref (q 0)), (1, .int (nI t))]) hx hb dX1_unit_19 hl (by decide) rfl (fun ls hl => ?_)
          refine lv_aload_n hx hb dX1_unit_21 rfl (lv_at hl 3 rfl) ?_
          refine mg_periods C hK hh.1 dX1_unit_22 ?_
          refine lv_iload hx hb dX1_unit_25 (lv_at hl 0 rfl) ?_
          refine ml_periods C hK hh.1 (by omega) dX1_unit_27 ?_
          refine lv_istore (lv' := [(5, .int (nI (fp (fw mm)))), (4, .int (nI (fw mm))), (3, .int (nI mm)), (2, .int (oI b)), (0, .ref (q 0)), (1, .int (nI t))]) hx hb dX1_unit_28 hl (by decide) rfl (fun ls hl => ?_)
          refine lv_aload_n hx hb dX1_unit_30 rfl (lv_at hl 4 rfl) ?_
          refine mg_left C hK hh.1 dX1_unit_31 ?_
          refine lv_iload hx hb dX1_unit_34 (lv_at hl 1 rfl) ?_
          refine lv_iload hx hb dX1_unit_36 (lv_at hl 0 rfl) ?_
          refine rd_if_le (tgt := 66) hx hb (by omega) dX1_unit_38 (by decide) (fun h38 => ?_) (fun h38 => ?_)
          · refine lv_aload_n hx hb dX1_unit_66 rfl (lv_at hl 4 rfl) ?_
            refine mg_left C hK hh.1 dX1_unit_67 ?_
            refine lv_iload hx hb dX1_unit_70 (lv_at hl 1 rfl) ?_
            refine ml_left C hK hh.1 (by omega) dX1_unit_72 ?_
            refine ms_left C hK hh (by omega) dX1_unit_73 (fun H locs hh => ?_)
            refine lv_aload_n hx hb dX1_unit_74 rfl (lv_at hl 4 rfl) ?_
            refine mg_left C hK hh.1 dX1_unit_75 ?_
            refine lv_iload hx hb dX1_unit_78 (lv_at hl 1 rfl) ?_
            refine ml_left C hK hh.1 (by omega) dX1_unit_80 ?_
            refine rd_top (v' := nI (f (fw mm))) (congrArg nI (va_up_self _ _ _)) ?_
            refine rd_if_le (tgt := 89) hx hb (by omega) dX1_unit_81 (by decide) (fun h81 => ?_) (fun h81 => ?_)
            · refine lv_iload_n hx hb dX1_unit_89 rfl (lv_at hl 3 rfl) ?_
              refine lv_istore_n (lv' := [(2, .int (oI b)), (5, .int (nI (fp (fw mm)))), (4, .int (nI (fw mm))), (3, .int (nI mm)), (0, .ref (q 0)), (1, .int (nI t))]) hx hb dX1_unit_90 rfl hl (by decide) rfl (fun ls hl => ?_)
              refine lv_iinc (v := nI mm + Int32.ofInt (-1)) (lv' := [(3, .int (nI mm + Int32.ofInt (-1))), (2, .int (oI b)), (5, .int (nI (fp (fw mm)))), (4, .int (nI (fw mm))), (0, .ref (q 0)), (1, .int (nI t))]) hx hb dX1_unit_91 hl (k := 3) rfl (rfl) (by decide) rfl (fun ls hl => ?_)
              refine lv_goto (tgt := 9) hx hb dX1_unit_94 (by decide) ?_
              have e : uV fc fp f t (fw mm) = f (fw mm) := by simp [uV, h38]
              rw [uL, e, if_neg (by omega)] at hu
              exact ih mm (va_up f (fw mm) (f (fw mm))) b (by omega) (by omega) hu (fun k hk => by have hk2 := hb5 k hk; refine ⟨hk2.1, ?_⟩; by_cases q : k = fw mm; (rw [q] at hk2; omega); rw [va_up_ne _ _ q]; exact hk2.2) (rd_up_le (fun j => by have := hf j; omega) (by omega)) H locs hh ls (lv_sub hl [0, 1, 4, 5] rfl)
            · refine lv_iload hx hb dX1_unit_84 (lv_at hl 1 rfl) ?_
              refine lv_goto (tgt := 90) hx hb dX1_unit_86 (by decide) ?_
              refine lv_istore_n (lv' := [(2, .int (nI (fw mm))), (5, .int (nI (fp (fw mm)))), (4, .int (nI (fw mm))), (3, .int (nI mm)), (0, .ref (q 0)), (1, .int (nI t))]) hx hb dX1_unit_90 rfl hl (by decide) rfl (fun ls hl => ?_)
              refine lv_iinc (v := nI mm + Int32.ofInt (-1)) (lv' := [(3, .int (nI mm + Int32.ofInt (-1))), (2, .int (nI (fw mm))), (5, .int (nI (fp (fw mm)))), (4, .int (nI (fw mm))), (0, .ref (q 0)), (1, .int (nI t))]) hx hb dX1_unit_91 hl (k := 3) rfl (rfl) (by decide) rfl (fun ls hl => ?_)
              refine lv_goto (tgt := 9) hx hb dX1_unit_94 (by decide) ?_
              have e : uV fc fp f t (fw mm) = f (fw mm) := by simp [uV, h38]
              rw [uL, e, if_pos h81] at hu
              exact ih mm (va_up f (fw mm) (f (fw mm))) (some (fw mm)) (by omega) (by omega) hu (fun k hk => by cases hk; exact ⟨hwm, by rw [va_up_self]; exact h81⟩) (rd_up_le (fun j => by have := hf j; omega) (by omega)) H locs hh ls (lv_sub hl [0, 1, 4, 5] rfl)
          · refine lv_iload_n hx hb dX1_unit_41 rfl (lv_at hl 5 rfl) ?_
            refine lv_iload hx hb dX1_unit_42 (lv_at hl 0 rfl) ?_
            refine rd_irem hx hb (by omega) (by omega) (by omega) dX1_unit_44 ?_
            refine rd_if_ne (tgt := 66) hx hb (Nat.lt_of_le_of_lt (Nat.mod_le _ _) (by omega)) dX1_unit_45 (by decide) (fun h45 => ?_) (fun h45 => ?_)
            · refine lv_aload_n hx hb dX1_unit_66 rfl (lv_at hl 4 rfl) ?_
              refine mg_left C hK hh.1 dX1_unit_67 ?_
              refine lv_iload hx hb dX1_unit_70 (lv_at hl 1 rfl) ?_
              refine ml_left C hK hh.1 (by omega) dX1_unit_72 ?_
              refine ms_left C hK hh (by omega) dX1_unit_73 (fun H locs hh => ?_)
              refine lv_aload_n hx hb dX1_unit_74 rfl (lv_at hl 4 rfl) ?_
              refine mg_left C hK hh.1 dX1_unit_75 ?_
              refine lv_iload hx hb dX1_unit_78 (lv_at hl 1 rfl) ?_
              refine ml_left C hK hh.1 (by omega) dX1_unit_80 ?_
              refine rd_top (v' := nI (f (fw mm))) (congrArg nI (va_up_self _ _ _)) ?_
              refine rd_if_le (tgt := 89) hx hb (by omega) dX1_unit_81 (by decide) (fun h81 => ?_) (fun h81 => ?_)
              · refine lv_iload_n hx hb dX1_unit_89 rfl (lv_at hl 3 rfl) ?_
                refine lv_istore_n (lv' := [(2, .int (oI b)), (5, .int (nI (fp (fw mm)))), (4, .int (nI (fw mm))), (3, .int (nI mm)), (0, .ref (q 0)), (1, .int (nI t))]) hx hb dX1_unit_90 rfl hl (by decide) rfl (fun ls hl => ?_)
                refine lv_iinc (v := nI mm + Int32.ofInt (-1)) (lv' := [(3, .int (nI mm + Int32.ofInt (-1))), (2, .int (oI b)), (5, .int (nI (fp (fw mm)))), (4, .int (nI (fw mm))), (0, .ref (q 0)), (1, .int (nI t))]) hx hb dX1_unit_91 hl (k := 3) rfl (rfl) (by decide) rfl (fun ls hl => ?_)
                refine lv_goto (tgt := 9) hx hb dX1_unit_94 (by decide) ?_
                have e : uV fc fp f t (fw mm) = f (fw mm) := by simp [uV, h38, Nat.pos_iff_ne_zero.mp h45]
                rw [uL, e, if_neg (by omega)] at hu
                exact ih mm (va_up f (fw mm) (f (fw mm))) b (by omega) (by omega) hu (fun k hk => by have hk2 := hb5 k hk; refine ⟨hk2.1, ?_⟩; by_cases q : k = fw mm; (rw [q] at hk2; omega); rw [va_up_ne _ _ q]; exact hk2.2) (rd_up_le (fun j => by have := hf j; omega) (by omega)) H locs hh ls (lv_sub hl [0, 1, 4, 5] rfl)
              · refine lv_iload hx hb dX1_unit_84 (lv_at hl 1 rfl) ?_
                refine lv_goto (tgt := 90) hx hb dX1_unit_86 (by decide) ?_
                refine lv_istore_n (lv' := [(2, .int (nI (fw mm))), (5, .int (nI (fp (fw mm)))), (4, .int (nI (fw mm))), (3, .int (nI mm)), (0, .ref (q 0)), (1, .int (nI t))]) hx hb dX1_unit_90 rfl hl (by decide) rfl (fun ls hl => ?_)
                refine lv_iinc (v := nI mm + Int32.ofInt (-1)) (lv' := [(3, .int (nI mm + Int32.ofInt (-1))), (2, .int (nI (fw mm))), (5, .int (nI (fp (fw mm)))), (4, .int (nI (fw mm))), (0, .ref (q 0)), (1, .int (nI t))]) hx hb dX1_unit_91 hl (k := 3) rfl (rfl) (by decide) rfl (fun ls hl => ?_)
                refine lv_goto (tgt := 9) hx hb dX1_unit_94 (by decide) ?_
                have e : uV fc fp f t (fw mm) = f (fw mm) := by simp [uV, h38, Nat.pos_iff_ne_zero.mp h45]
                rw [uL, e, if_pos h81] at hu
                exact ih mm (va_up f (fw mm) (f (fw mm))) (some (fw mm)) (by omega) (by omega) hu (fun k hk => by cases hk; exact ⟨hwm, by rw [va_up_self]; exact h81⟩) (rd_up_le (fun j => by have := hf j; omega) (by omega)) H locs hh ls (lv_sub hl [0, 1, 4, 5] rfl)
            · refine lv_aload_n hx hb dX1_unit_48 rfl (lv_at hl 4 rfl) ?_
              refine mg_left C hK hh.1 dX1_unit_49 ?_
              refine lv_iload hx hb dX1_unit_52 (lv_at hl 1 rfl) ?_
              refine ml_left C hK hh.1 (by omega) dX1_unit_54 ?_
              refine lv_aload_n hx hb dX1_unit_55 rfl (lv_at hl 4 rfl) ?_
              refine mg_costs C hK hh.1 dX1_unit_56 ?_
              refine lv_iload hx hb dX1_unit_59 (lv_at hl 1 rfl) ?_
              refine ml_costs C hK hh.1 (by omega) dX1_unit_61 ?_
              refine rd_iadd hx hb dX1_unit_62 ?_
              refine lv_goto (tgt := 73) hx hb dX1_unit_63 (by decide) ?_
              refine ms_left C hK hh (by omega) dX1_unit_73 (fun H locs hh => ?_)
              refine lv_aload_n hx hb dX1_unit_74 rfl (lv_at hl 4 rfl) ?_
              refine mg_left C hK hh.1 dX1_unit_75 ?_
              refine lv_iload hx hb dX1_unit_78 (lv_at hl 1 rfl) ?_
              refine ml_left C hK hh.1 (by omega) dX1_unit_80 ?_
              refine rd_top (v' := nI (f (fw mm) + fc (fw mm))) (congrArg nI (va_up_self _ _ _)) ?_
              refine rd_if_le (tgt := 89) hx hb (by omega) dX1_unit_81 (by decide) (fun h81 => ?_) (fun h81 => ?_)
              · refine lv_iload_n hx hb dX1_unit_89 rfl (lv_at hl 3 rfl) ?_
                refine lv_istore_n (lv' := [(2, .int (oI b)), (5, .int (nI (fp (fw mm)))), (4, .int (nI (fw mm))), (3, .int (nI mm)), (0, .ref (q 0)), (1, .int (nI t))]) hx hb dX1_unit_90 rfl hl (by decide) rfl (fun ls hl => ?_)
                refine lv_iinc (v := nI mm + Int32.ofInt (-1)) (lv' := [(3, .int (nI mm + Int32.ofInt (-1))), (2, .int (oI b)), (5, .int (nI (fp (fw mm)))), (4, .int (nI (fw mm))), (0, .ref (q 0)), (1, .int (nI t))]) hx hb dX1_unit_91 hl (k := 3) rfl (rfl) (by decide) rfl (fun ls hl => ?_)
                refine lv_goto (tgt := 9) hx hb dX1_unit_94 (by decide) ?_
                have e : uV fc fp f t (fw mm) = f (fw mm) + fc (fw mm) := by simp [uV, h38, h45]
                rw [uL, e, if_neg (by omega)] at hu
                exact ih mm (va_up f (fw mm) (f (fw mm) + fc (fw mm))) b (by omega) (by omega) hu (fun k hk => by have hk2 := hb5 k hk; refine ⟨hk2.1, ?_⟩; by_cases q : k = fw mm; (rw [q] at hk2; omega); rw [va_up_ne _ _ q]; exact hk2.2) (rd_up_le (fun j => by have := hf j; omega) (by omega)) H locs hh ls (lv_sub hl [0, 1, 4, 5] rfl)
              · refine lv_iload hx hb dX1_unit_84 (lv_at hl 1 rfl) ?_
                refine lv_goto (tgt := 90) hx hb dX1_unit_86 (by decide) ?_
                refine lv_istore_n (lv' := [(2, .int (nI (fw mm))), (5, .int (nI (fp (fw mm)))), (4, .int (nI (fw mm))), (3, .int (nI mm)), (0, .ref (q 0)), (1, .int (nI t))]) hx hb dX1_unit_90 rfl hl (by decide) rfl (fun ls hl => ?_)
                refine lv_iinc (v := nI mm + Int32.ofInt (-1)) (lv' := [(3, .int (nI mm + Int32.ofInt (-1))), (2, .int (nI (fw mm))), (5, .int (nI (fp (fw mm)))), (4, .int (nI (fw mm))), (0, .ref (q 0)), (1, .int (nI t))]) hx hb dX1_unit_91 hl (k := 3) rfl (rfl) (by decide) rfl (fun ls hl => ?_)
                refine lv_goto (tgt := 9) hx hb dX1_unit_94 (by decide) ?_
                have e : uV fc fp f t (fw mm) = f (fw mm) + fc (fw mm) := by simp [uV, h38, h45]
                rw [uL, e, if_pos h81] at hu
                exact ih mm (va_up f (fw mm) (f (fw mm) + fc (fw mm))) (some (fw mm)) (by omega) (by omega) hu (fun k hk => by cases hk; exact ⟨hwm, by rw [va_up_self]; exact h81⟩) (rd_up_le (fun j => by have := hf j; omega) (by omega)) H locs hh ls (lv_sub hl [0, 1, 4, 5] rfl)
  refine lv_iconst (v := (-1)) hx hb dX1_unit_0 (by decide) ?_
  refine lv_istore_n (lv' := [(2, .int ((-1))), (0, .ref (q 0)), (1, .int (nI t))]) hx hb dX1_unit_1 rfl hl (by decide) rfl (fun ls hl => ?_)
  refine lv_aload_n hx hb dX1_unit_2 rfl (lv_at hl 1 rfl) ?_
  refine mg_size C hK hh.1 dX1_unit_3 ?_
  refine lv_iconst (v := nI 1) hx hb dX1_unit_6 (by decide) ?_
  refine lv_isub hx hb dX1_unit_7 ?_
  refine lv_istore_n (lv' := [(3, .int (nI n - nI 1)), (2, .int ((-1))), (0, .ref (q 0)), (1, .int (nI t))]) hx hb dX1_unit_8 rfl hl (by decide) rfl (fun ls hl => ?_)
  rw [rd_sub1] at hl
  exact lo (n + 1) n ff none (by omega) (by omega) rfl (fun k hk => by cases hk) (fun j => by have := hff j; omega) _ _ hh ls (lv_sub hl [0, 1, 2, 3] rfl)
set_option maxHeartbeats 4000000 in
set_option maxRecDepth 100000 in
theorem mM_responseOf (l : Launch) (D : va_G) (q : Nat → Nat) (K : Nat → ClassId) (pr n : Nat) (fc fl fp fo fw ff fg : Nat → Nat) (hB : BM pr n fc fl fp fo fw) (k : Nat) (hk : k < 5) : CtI l yX1_responseOf cX1_responseOf 4 (some .int) { frames := 1, cells := 0, slots := 0, locals := 25 } D (mtys K) (mdW q K pr fc fl fp n fo fw ff fg) [.ref (q 0), .int (nI k)] (fun (r : Int32) (_ : (Nat → Nat) × (Nat → Nat)) => r = rI (roF fc fp fw n k)) (fun u => mdW q K pr fc fl fp n fo fw u.1 u.2) := by
  refine rd_startI (by decide) (Nat.le_of_ble_eq_true rfl) ?_
  intro p e s m below meth c ls A Q hQe C hK hh hl
  have C : CX p s m [.ref (q 0), .int (nI k)].toArray meth c cX1_responseOf 4 (some .int) RX1 := C
  have hx := C.1
  have hb := C.2.1
  have hl : lv_has ls 4 [(0, .ref (q 0)), (1, .int (nI k))] := hl
  have hB0 := hB
  obtain ⟨⟨hpr, hn, hbc, hbl, hbp, hbo⟩, hbw⟩ := hB0
  refine lv_aload_n hx hb dX1_responseOf_0 rfl (lv_at hl 0 rfl) ?_
  refine rd_callIv (n := 0) (q := (RX1, TX1, 9)) C hK hh (mM_start l D q K pr n fc fl fp fo fw ff fg hB) (lw_V q245 q247 qs14 q23 q248) (by decide +kernel) rfl ⟨rfl, rfl⟩ ⟨Nat.le_of_ble_eq_true rfl, Nat.le_of_ble_eq_true rfl⟩ 1 0 rfl rfl rfl hl.1 (Nat.le_of_ble_eq_true rfl) ⟨Nat.zero_le _, Nat.zero_le _⟩ dX1_responseOf_1 (fun u H locs hr hh => ?_)
  have hh : HH D (mdW q K pr fc fl fp n fo fw zz zz) A s.heap H locs := hh
  have lo : ∀ (d : Nat) (x t : Nat) (f g : Nat → Nat), (16 < t + d) → (t + x = 16) → (t ≤ 15) → (∀ j, f j ≤ 75 * t) → (∀ j, g j ≤ t) → (roL fc fp fw n k x t f g = roF fc fp fw n k) → ∀ (H : Heap) (locs : List Loc), HH D (mdW q K pr fc fl fp n fo fw f g) A s.heap H locs → ∀ (ls : Array Slot), lv_has ls 4 [(2, .int (nI t)), (0, .ref (q 0)), (1, .int (nI k))] → W p l e { frames := 1, cells := 0, slots := 0, locals := 25 } s m [.ref (q 0), .int (nI k)].toArray below meth c H locs 0 0 Q (F0 m 6 ls []) := by
    intro d
    induction d with
    | zero => intro x t f g hd hx ht hf hg hro H locs hh ls hl; omega
    | succ d ih =>
      intro x t f g hd hxt ht hf hg hro H locs hh ls hl
      obtain ⟨x, rfl⟩ : ∃ z, x = z + 1 := ⟨x - 1, by omega⟩
      have hpk := hbp k; have hck := hbc k
      refine lv_iload_n hx hb dX1_responseOf_6 rfl (lv_at hl 0 rfl) ?_
      refine lv_aload_n hx hb dX1_responseOf_7 rfl (lv_at hl 1 rfl) ?_
      refine mg_periods C hK hh.1 dX1_responseOf_8 ?_
      refine lv_iload_n hx hb dX1_responseOf_11 rfl (lv_at hl 2 rfl) ?_
      refine ml_periods C hK hh.1 (by omega) dX1_responseOf_12 ?_
      refine rd_icmp_ge (tgt := 52) hx hb (by omega) (by omega) dX1_responseOf_13 (by decide) (fun h13 => ?_) (fun h13 => ?_)
      · refine lv_bipush (v := (-3)) hx hb dX1_responseOf_52 (by decide) ?_
        subst hQe; exact rd_retI ((f, g)) C hK hh (by rw [← hro, roL, if_neg (by omega)]; rfl) dX1_responseOf_54
      · refine lv_aload_n hx hb dX1_responseOf_16 rfl (lv_at hl 1 rfl) ?_
        refine lv_iload_n hx hb dX1_responseOf_17 rfl (lv_at hl 0 rfl) ?_
        refine rd_callI (n := 1) (q := (RX1, TX1, 9)) C hK hh (mM_unit l D q K pr n fc fl fp fo fw f g hB t (by omega) (fun j => by have := hf j; omega) (fun j => by have := hg j; omega)) (lw_V q249 q251 qs15 q23 q252) (by decide +kernel) rfl ⟨rfl, rfl⟩ ⟨Nat.le_of_ble_eq_true rfl, Nat.le_of_ble_eq_true rfl⟩ 1 0 rfl rfl rfl hl.1 (Nat.le_of_ble_eq_true rfl) ⟨Nat.zero_le _, Nat.zero_le _⟩ dX1_responseOf_18 (fun r u H locs hr hh => ?_)
        rcases hun : unF fc fp fw n t f g with ⟨o, f1, g1⟩
        rw [hun] at hr
        obtain ⟨rfl, rfl⟩ := hr
        have hh : HH D (mdW q K pr fc fl fp n fo fw f1 g1) A s.heap H locs := hh
        obtain ⟨b1, b2, b3⟩ := unF_bd hbc hbw hn hf hg hun
        have hg1k := b2 k
        refine lv_istore_n (lv' := [(3, .int (oI o)), (2, .int (nI t)), (0, .ref (q 0)), (1, .int (nI k))]) hx hb dX1_responseOf_21 rfl hl (by decide) rfl (fun ls hl => ?_)
        refine lv_iload_n hx hb dX1_responseOf_22 rfl (lv_at hl 0 rfl) ?_
        refine lv_iload_n hx hb dX1_responseOf_23 rfl (lv_at hl 3 rfl) ?_
        refine lv_icmp_ne (tgt := 46) hx hb dX1_responseOf_24 (by decide) (fun h24 => ?_) (fun h24 => ?_)
        · have h24 : ¬ o = some k := fun q => h24 ((oI_eq b3 hk).mpr q)
          refine lv_iinc (v := nI (t + 1)) (lv' := [(2, .int (nI (t + 1))), (3, .int (oI o)), (0, .ref (q 0)), (1, .int (nI k))]) hx hb dX1_responseOf_46 hl (k := 1) rfl (rd_inc1 _) (by decide) rfl (fun ls hl => ?_)
          refine lv_goto (tgt := 6) hx hb dX1_responseOf_49 (by decide) ?_
          rw [roL, if_pos h13, hun] at hro
          simp only [] at hro
          rw [if_neg (fun q => h24 q.1)] at hro
          exact ih x (t + 1) f1 g1 (by omega) (by omega) (by omega) (fun j => by have := b1 j; omega) b2 hro H locs hh ls (lv_sub hl [0, 2, 3] rfl)
        · have h24 : o = some k := (oI_eq b3 hk).mp h24
          refine lv_aload_n hx hb dX1_responseOf_27 rfl (lv_at hl 2 rfl) ?_
          refine mg_given C hK hh.1 dX1_responseOf_28 ?_
          refine lv_iload_n hx hb dX1_responseOf_31 rfl (lv_at hl 3 rfl) ?_
          refine ml_given C hK hh.1 (by omega) dX1_responseOf_32 ?_
          refine lv_aload_n hx hb dX1_responseOf_33 rfl (lv_at hl 2 rfl) ?_
          refine mg_costs C hK hh.1 dX1_responseOf_34 ?_
          refine lv_iload_n hx hb dX1_responseOf_37 rfl (lv_at hl 3 rfl) ?_
          refine ml_costs C hK hh.1 (by omega) dX1_responseOf_38 ?_
          refine rd_icmp_ne (tgt := 46) hx hb (by omega) (by omega) dX1_responseOf_39 (by decide) (fun h39 => ?_) (fun h39 => ?_)
          · refine lv_iinc (v := nI (t + 1)) (lv' := [(2, .int (nI (t + 1))), (3, .int (oI o)), (0, .ref (q 0)), (1, .int (nI k))]) hx hb dX1_responseOf_46 hl (k := 1) rfl (rd_inc1 _) (by decide) rfl (fun ls hl => ?_)
            refine lv_goto (tgt := 6) hx hb dX1_responseOf_49 (by decide) ?_
            rw [roL, if_pos h13, hun] at hro
            simp only [] at hro
            rw [if_neg (fun q => h39 q.2)] at hro
            exact ih x (t + 1) f1 g1 (by omega) (by omega) (by omega) (fun j => by have := b1 j; omega) b2 hro H locs hh ls (lv_sub hl [0, 2, 3] rfl)
          · refine lv_iload_n hx hb dX1_responseOf_42 rfl (lv_at hl 1 rfl) ?_
            refine lv_iconst (v := nI 1) hx hb dX1_responseOf_43 (by decide) ?_
            refine rd_iadd hx hb dX1_responseOf_44 ?_
            subst hQe; exact rd_retI ((f1, g1)) C hK hh (by rw [← hro, roL, if_pos h13, hun]; simp only []; rw [if_pos ⟨h24, h39⟩]; rfl) dX1_responseOf_45
  refine lv_iconst (v := nI 0) hx hb dX1_responseOf_4 (by decide) ?_
  refine lv_istore_n (lv' := [(2, .int (nI 0)), (0, .ref (q 0)), (1, .int (nI k))]) hx hb dX1_responseOf_5 rfl hl (by decide) rfl (fun ls hl => ?_)
  exact lo 17 16 0 zz zz (by omega) (by omega) (by omega) (fun j => by simp) (fun j => by simp) rfl _ _ hh ls (lv_sub hl [0, 1, 2] rfl)
set_option maxHeartbeats 4000000 in
set_option maxRecDepth 100000 in
theorem mM_punctual (l : Launch) (D : va_G) (q : Nat → Nat) (K : Nat → ClassId) (pr n : Nat) (fc fl fp fo fw ff fg : Nat → Nat) (hB : BM pr n fc fl fp fo fw) (k : Nat) (hk : k < 5) : CtI l yX1_punctual cX1_punctual 3 (some .boolean) { frames := 2, cells := 0, slots := 0, locals := 48 } D (mtys K) (mdW q K pr fc fl fp n fo fw ff fg) [.ref (q 0), .int (nI k)] (fun (r : Int32) (_ : (Nat → Nat) × (Nat → Nat)) => r = bI (puF fc fl fp fw n k)) (fun u => mdW q K pr fc fl fp n fo fw u.1 u.2) := by
  refine rd_startI (by decide) (Nat.le_of_ble_eq_true rfl) ?_
  intro p e s m below meth c ls A Q hQe C hK hh hl
  have C : CX p s m [.ref (q 0), .int (nI k)].toArray meth c cX1_punctual 3 (some .boolean) RX1 := C
  have hx := C.1
  have hb := C.2.1
  have hl : lv_has ls 3 [(0, .ref (q 0)), (1, .int (nI k))] := hl
  have hB0 := hB
  obtain ⟨⟨hpr, hn, hbc, hbl, hbp, hbo⟩, hbw⟩ := hB0
  refine lv_aload_n hx hb dX1_punctual_0 rfl (lv_at hl 0 rfl) ?_
  refine lv_iload_n hx hb dX1_punctual_1 rfl (lv_at hl 1 rfl) ?_
  refine rd_callI (n := 1) (q := (RX1, TX1, 9)) C hK hh (mM_responseOf l D q K pr n fc fl fp fo fw ff fg hB k hk) (lw_V q241 q243 qs13 q23 q244) (by decide +kernel) rfl ⟨rfl, rfl⟩ ⟨Nat.le_of_ble_eq_true rfl, Nat.le_of_ble_eq_true rfl⟩ 1 0 rfl rfl rfl hl.1 (Nat.le_of_ble_eq_true rfl) ⟨Nat.zero_le _, Nat.zero_le _⟩ dX1_punctual_2 (fun r u H locs hr hh => ?_)
  obtain ⟨f1, g1⟩ := u
  have hr : r = rI (roF fc fp fw n k) := hr
  subst hr
  have hh : HH D (mdW q K pr fc fl fp n fo fw f1 g1) A s.heap H locs := hh
  have hpk := hbp k; have hlk := hbl k
  rcases hq : roF fc fp fw n k with _ | t
  · show W p l e _ s m _ below meth c H locs 0 0 Q (F0 m 5 ls [.int (-3)])
    refine lv_istore_n (lv' := [(2, .int ((-3))), (0, .ref (q 0)), (1, .int (nI k))]) hx hb dX1_punctual_5 rfl hl (by decide) rfl (fun ls hl => ?_)
    refine lv_iload_n hx hb dX1_punctual_6 rfl (lv_at hl 0 rfl) ?_
    refine lv_bipush (v := (-3)) hx hb dX1_punctual_7 (by decide) ?_
    refine lv_icmp_eq (tgt := 26) hx hb dX1_punctual_9 (by decide) (fun h9 => ?_) (fun h9 => ?_)
    · refine lv_iconst (v := nI 0) hx hb dX1_punctual_26 (by decide) ?_
      subst hQe; exact rd_retIz ((f1, g1)) C hK hh rfl (by simp [puF, hq, bI, rd_v0]) dX1_punctual_27
    · exact absurd rfl h9
  · have htt := roL_le _ _ _ _ _ hq
    show W p l e _ s m _ below meth c H locs 0 0 Q (F0 m 5 ls [.int (nI t)])
    refine lv_istore_n (lv' := [(2, .int (nI t)), (0, .ref (q 0)), (1, .int (nI k))]) hx hb dX1_punctual_5 rfl hl (by decide) rfl (fun ls hl => ?_)
    refine lv_iload_n hx hb dX1_punctual_6 rfl (lv_at hl 0 rfl) ?_
    refine lv_bipush (v := (-3)) hx hb dX1_punctual_7 (by decide) ?_
    refine lv_icmp_eq (tgt := 26) hx hb dX1_punctual_9 (by decide) (fun h9 => ?_) (fun h9 => ?_)
    · exact absurd h9 (rd_ne3 (by omega))
    · refine lv_iload_n hx hb dX1_punctual_12 rfl (lv_at hl 0 rfl) ?_
      refine lv_aload_n hx hb dX1_punctual_13 rfl (lv_at hl 1 rfl) ?_
      refine mg_limits C hK hh.1 dX1_punctual_14 ?_
      refine lv_iload_n hx hb dX1_punctual_17 rfl (lv_at hl 2 rfl) ?_
      refine ml_limits C hK hh.1 (by omega) dX1_punctual_18 ?_
      refine rd_icmp_gt (tgt := 26) hx hb (by omega) (by omega) dX1_punctual_19 (by decide) (fun h19 => ?_) (fun h19 => ?_)
      · refine lv_iconst (v := nI 0) hx hb dX1_punctual_26 (by decide) ?_
        subst hQe; exact rd_retIz ((f1, g1)) C hK hh rfl (by simp [puF, hq, bI, rd_v0, Nat.not_le.mpr h19]) dX1_punctual_27
      · refine lv_iconst (v := nI 1) hx hb dX1_punctual_22 (by decide) ?_
        refine lv_goto (tgt := 27) hx hb dX1_punctual_23 (by decide) ?_
        subst hQe; exact rd_retIz ((f1, g1)) C hK hh rfl (by simp [puF, hq, bI, rd_v1, h19]) dX1_punctual_27
set_option maxHeartbeats 4000000 in
set_option maxRecDepth 100000 in
theorem mM_allPunctual (l : Launch) (D : va_G) (q : Nat → Nat) (K : Nat → ClassId) (pr n : Nat) (fc fl fp fo fw ff fg : Nat → Nat) (hB : BM pr n fc fl fp fo fw)  : CtI l yX1_allPunctual cX1_allPunctual 3 (some .boolean) { frames := 3, cells := 0, slots := 0, locals := 70 } D (mtys K) (mdW q K pr fc fl fp n fo fw ff fg) [.ref (q 0)] (fun (r : Int32) (_ : (Nat → Nat) × (Nat → Nat)) => r = bI (apF fc fl fp fw pr n)) (fun u => mdW q K pr fc fl fp n fo fw u.1 u.2) := by
  refine rd_startI (by decide) (Nat.le_of_ble_eq_true rfl) ?_
  intro p e s m below meth c ls A Q hQe C hK hh hl
  have C : CX p s m [.ref (q 0)].toArray meth c cX1_allPunctual 3 (some .boolean) RX1 := C
  have hx := C.1
  have hb := C.2.1
  have hl : lv_has ls 3 [(0, .ref (q 0))] := hl
  have hB0 := hB
  obtain ⟨⟨hpr, hn, hbc, hbl, hbp, hbo⟩, hbw⟩ := hB0
  have lo : ∀ (d : Nat) (k : Nat) (f g : Nat → Nat), (5 < k + d) → (k ≤ 5) → ∀ (H : Heap) (locs : List Loc), HH D (mdW q K pr fc fl fp n fo fw f g) A s.heap H locs → ∀ (ls : Array Slot), lv_has ls 3 [(2, .int (nI k)), (1, .int (bI (apL (puF fc fl fp fw n) pr k))), (0, .ref (q 0))] → W p l e { frames := 3, cells := 0, slots := 0, locals := 70 } s m [.ref (q 0)].toArray below meth c H locs 0 0 Q (F0 m 4 ls []) := by
    intro d
    induction d with
    | zero => intro k f g hd hk H locs hh ls hl; omega
    | succ d ih =>
      intro k f g hd hk H locs hh ls hl
      refine lv_iload_n hx hb dX1_allPunctual_4 rfl (lv_at hl 0 rfl) ?_
      refine lv_iconst (v := nI 5) hx hb dX1_allPunctual_5 (by decide) ?_
      refine rd_icmp_ge (tgt := 42) hx hb (by omega) (by omega) dX1_allPunctual_6 (by decide) (fun h6 => ?_) (fun h6 => ?_)
      · refine lv_iload_n hx hb dX1_allPunctual_42 rfl (lv_at hl 1 rfl) ?_
        subst hQe; exact rd_retIz ((f, g)) C hK hh (rd_narZ _) (by rw [show k = 5 by omega]; rfl) dX1_allPunctual_43
      · refine lv_iload_n hx hb dX1_allPunctual_9 rfl (lv_at hl 1 rfl) ?_
        refine rd_ifb_eq (tgt := 34) hx hb dX1_allPunctual_10 (by decide) (fun h10 => ?_) (fun h10 => ?_)
        · refine lv_iconst (v := nI 0) hx hb dX1_allPunctual_34 (by decide) ?_
          refine lv_istore_n (lv' := [(1, .int (nI 0)), (2, .int (nI k)), (0, .ref (q 0))]) hx hb dX1_allPunctual_35 rfl hl (by decide) rfl (fun ls hl => ?_)
          refine lv_iinc (v := nI (k + 1)) (lv' := [(2, .int (nI (k + 1))), (1, .int (nI 0)), (0, .ref (q 0))]) hx hb dX1_allPunctual_36 hl (k := 1) rfl (rd_inc1 _) (by decide) rfl (fun ls hl => ?_)
          refine lv_goto (tgt := 4) hx hb dX1_allPunctual_39 (by decide) ?_
          have e : nI 0 = bI (apL (puF fc fl fp fw n) pr (k + 1)) := by simp [apL, bI, rd_v0, rd_v1, h10]
          rw [e] at hl
          exact ih (k + 1) f g (by omega) (by omega) H locs hh ls (lv_sub hl [0, 1, 2] rfl)
        · refine lv_aload_n hx hb dX1_allPunctual_13 rfl (lv_at hl 2 rfl) ?_
          refine mg_there C hK hh.1 dX1_allPunctual_14 ?_
          refine lv_iload_n hx hb dX1_allPunctual_17 rfl (lv_at hl 0 rfl) ?_
          refine ml_there C hK hh.1 (by omega) dX1_allPunctual_18 ?_
          refine rd_ifb_eq (tgt := 30) hx hb dX1_allPunctual_19 (by decide) (fun h19 => ?_) (fun h19 => ?_)
          · refine lv_iconst (v := nI 1) hx hb dX1_allPunctual_30 (by decide) ?_
            refine lv_goto (tgt := 35) hx hb dX1_allPunctual_31 (by decide) ?_
            refine lv_istore_n (lv' := [(1, .int (nI 1)), (2, .int (nI k)), (0, .ref (q 0))]) hx hb dX1_allPunctual_35 rfl hl (by decide) rfl (fun ls hl => ?_)
            refine lv_iinc (v := nI (k + 1)) (lv' := [(2, .int (nI (k + 1))), (1, .int (nI 1)), (0, .ref (q 0))]) hx hb dX1_allPunctual_36 hl (k := 1) rfl (rd_inc1 _) (by decide) rfl (fun ls hl => ?_)
            refine lv_goto (tgt := 4) hx hb dX1_allPunctual_39 (by decide) ?_
            have e : nI 1 = bI (apL (puF fc fl fp fw n) pr (k + 1)) := by simp [apL, bI, rd_v0, rd_v1, h10, h19]
            rw [e] at hl
            exact ih (k + 1) f g (by omega) (by omega) H locs hh ls (lv_sub hl [0, 1, 2] rfl)
          · refine lv_aload_n hx hb dX1_allPunctual_22 rfl (lv_at hl 2 rfl) ?_
            refine lv_iload_n hx hb dX1_allPunctual_23 rfl (lv_at hl 0 rfl) ?_
            refine rd_callI (n := 1) (q := (RX1, TX1, 9)) C hK hh (mM_punctual l D q K pr n fc fl fp fo fw f g hB k (by omega)) (lw_V q261 q263 qs17 q23 q264) (by decide +kernel) rfl ⟨rfl, rfl⟩ ⟨Nat.le_of_ble_eq_true rfl, Nat.le_of_ble_eq_true rfl⟩ 1 0 rfl rfl rfl hl.1 (Nat.le_of_ble_eq_true rfl) ⟨Nat.zero_le _, Nat.zero_le _⟩ dX1_allPunctual_24 (fun r u H locs hr hh => ?_)
            obtain ⟨f1, g1⟩ := u
            have hr : r = bI (puF fc fl fp fw n k) := hr
            subst hr
            have hh : HH D (mdW q K pr fc fl fp n fo fw f1 g1) A s.heap H locs := hh
            refine rd_ifb_eq (tgt := 34) hx hb dX1_allPunctual_27 (by decide) (fun h27 => ?_) (fun h27 => ?_)
            · refine lv_iconst (v := nI 0) hx hb dX1_allPunctual_34 (by decide) ?_
              refine lv_istore_n (lv' := [(1, .int (nI 0)), (2, .int (nI k)), (0, .ref (q 0))]) hx hb dX1_allPunctual_35 rfl hl (by decide) rfl (fun ls hl => ?_)
              refine lv_iinc (v := nI (k + 1)) (lv' := [(2, .int (nI (k + 1))), (1, .int (nI 0)), (0, .ref (q 0))]) hx hb dX1_allPunctual_36 hl (k := 1) rfl (rd_inc1 _) (by decide) rfl (fun ls hl => ?_)
              refine lv_goto (tgt := 4) hx hb dX1_allPunctual_39 (by decide) ?_
              have e : nI 0 = bI (apL (puF fc fl fp fw n) pr (k + 1)) := by simp [apL, bI, rd_v0, rd_v1, h10, h19, h27]
              rw [e] at hl
              exact ih (k + 1) f1 g1 (by omega) (by omega) H locs hh ls (lv_sub hl [0, 1, 2] rfl)
            · refine lv_iconst (v := nI 1) hx hb dX1_allPunctual_30 (by decide) ?_
              refine lv_goto (tgt := 35) hx hb dX1_allPunctual_31 (by decide) ?_
              refine lv_istore_n (lv' := [(1, .int (nI 1)), (2, .int (nI k)), (0, .ref (q 0))]) hx hb dX1_allPunctual_35 rfl hl (by decide) rfl (fun ls hl => ?_)
              refine lv_iinc (v := nI (k + 1)) (lv' := [(2, .int (nI (k + 1))), (1, .int (nI 1)), (0, .ref (q 0))]) hx hb dX1_allPunctual_36 hl (k := 1) rfl (rd_inc1 _) (by decide) rfl (fun ls hl => ?_)
              refine lv_goto (tgt := 4) hx hb dX1_allPunctual_39 (by decide) ?_
              have e : nI 1 = bI (apL (puF fc fl fp fw n) pr (k + 1)) := by simp [apL, bI, rd_v0, rd_v1, h10, h19, h27]
              rw [e] at hl
              exact ih (k + 1) f1 g1 (by omega) (by omega) H locs hh ls (lv_sub hl [0, 1, 2] rfl)
  refine lv_iconst (v := nI 1) hx hb dX1_allPunctual_0 (by decide) ?_
  refine lv_istore_n (lv' := [(1, .int (nI 1)), (0, .ref (q 0))]) hx hb dX1_allPunctual_1 rfl hl (by decide) rfl (fun ls hl => ?_)
  refine lv_iconst (v := nI 0) hx hb dX1_allPunctual_2 (by decide) ?_
  refine lv_istore_n (lv' := [(2, .int (nI 0)), (1, .int (nI 1)), (0, .ref (q 0))]) hx hb dX1_allPunctual_3 rfl hl (by decide) rfl (fun ls hl => ?_)
  rw [rd_bt] at hl
  exact lo 6 0 ff fg (by omega) (by omega) _ _ hh ls (lv_sub hl [0, 1, 2] rfl)
set_option maxHeartbeats 4000000 in
set_option maxRecDepth 100000 in
theorem mM_response (l : Launch) (D : va_G) (q : Nat → Nat) (K : Nat → ClassId) (pr n : Nat) (fc fl fp fo fw ff fg : Nat → Nat) (hB : BM pr n fc fl fp fo fw) (k : Int32) : CtI l yX1_response cX1_response 2 (some .int) { frames := 2, cells := 0, slots := 0, locals := 48 } D (mtys K) (mdW q K pr fc fl fp n fo fw ff fg) [.ref (q 0), .int k] (fun (r : Int32) (_ : (Nat → Nat) × (Nat → Nat)) => r = if hasB pr k then rI (roF fc fp (cpO fo fw n) n k.toNatClampNeg) else -1) (fun u => mdW q K pr fc fl fp n fo (cpO fo fw n) u.1 u.2) := by
  refine rd_startI (by decide) (Nat.le_of_ble_eq_true rfl) ?_
  intro p e s m below meth c ls A Q hQe C hK hh hl
  have C : CX p s m [.ref (q 0), .int k].toArray meth c cX1_response 2 (some .int) RX1 := C
  have hx := C.1
  have hb := C.2.1
  have hl : lv_has ls 2 [(0, .ref (q 0)), (1, .int k)] := hl
  have hB0 := hB
  obtain ⟨⟨hpr, hn, hbc, hbl, hbp, hbo⟩, hbw⟩ := hB0
  refine lv_aload_n hx hb dX1_response_0 rfl (lv_at hl 0 rfl) ?_
  refine rd_callIv (n := 0) (q := (RX1, TX1, 9)) C hK hh (mM_useOrder l D q K pr n fc fl fp fo fw ff fg hB) (lw_V q237 q239 qs12 q23 q240) (by decide +kernel) rfl ⟨rfl, rfl⟩ ⟨Nat.le_of_ble_eq_true rfl, Nat.le_of_ble_eq_true rfl⟩ 1 0 rfl rfl rfl hl.1 (Nat.le_of_ble_eq_true rfl) ⟨Nat.zero_le _, Nat.zero_le _⟩ dX1_response_1 (fun u H locs hr hh => ?_)
  have hh : HH D (mdW q K pr fc fl fp n fo (cpO fo fw n) ff fg) A s.heap H locs := hh
  refine lv_aload_n hx hb dX1_response_4 rfl (lv_at hl 0 rfl) ?_
  refine lv_iload_n hx hb dX1_response_5 rfl (lv_at hl 1 rfl) ?_
  refine rd_callP (n := 1) (q := (RX1, TX1, 9)) C hK hh.1 (mM_is l D q K pr n fc fl fp fo (cpO fo fw n) ff fg ⟨hB.1, cpO_lt hbo hbw n⟩ k) (lw_V q209 q211 qs9 q23 q212) (by decide +kernel) rfl ⟨rfl, rfl⟩ ⟨Nat.le_of_ble_eq_true rfl, Nat.le_of_ble_eq_true rfl⟩ 1 0 rfl rfl rfl hl.1 (Nat.le_of_ble_eq_true rfl) ⟨Nat.zero_le _, Nat.zero_le _⟩ dX1_response_6 (fun r hr => ?_)
  subst hr
  refine rd_ifb_eq (tgt := 20) hx hb dX1_response_9 (by decide) (fun h9 => ?_) (fun h9 => ?_)
  · refine lv_iconst (v := (-1)) hx hb dX1_response_20 (by decide) ?_
    subst hQe; exact rd_retI ((ff, fg)) C hK hh (by rw [if_neg (by rw [h9]; decide)]) dX1_response_21
  · obtain ⟨j, hj5, rfl, hjb⟩ := hasB_of h9
    refine lv_aload_n hx hb dX1_response_12 rfl (lv_at hl 0 rfl) ?_
    refine lv_iload_n hx hb dX1_response_13 rfl (lv_at hl 1 rfl) ?_
    refine rd_callI (n := 1) (q := (RX1, TX1, 9)) C hK hh (mM_responseOf l D q K pr n fc fl fp fo (cpO fo fw n) ff fg ⟨hB.1, cpO_lt hbo hbw n⟩ j hj5) (lw_V q241 q243 qs13 q23 q244) (by decide +kernel) rfl ⟨rfl, rfl⟩ ⟨Nat.le_of_ble_eq_true rfl, Nat.le_of_ble_eq_true rfl⟩ 1 0 rfl rfl rfl hl.1 (Nat.le_of_ble_eq_true rfl) ⟨Nat.zero_le _, Nat.zero_le _⟩ dX1_response_14 (fun r u H locs hr hh => ?_)
    obtain ⟨f1, g1⟩ := u
    have hr : r = rI (roF fc fp (cpO fo fw n) n j) := hr
    subst hr
    have hh : HH D (mdW q K pr fc fl fp n fo (cpO fo fw n) f1 g1) A s.heap H locs := hh
    refine lv_goto (tgt := 21) hx hb dX1_response_17 (by decide) ?_
    subst hQe; exact rd_retI ((f1, g1)) C hK hh (by rw [if_pos h9, nI_clamp (by omega)]) dX1_response_21
set_option maxHeartbeats 4000000 in
set_option maxRecDepth 100000 in
theorem mM_good (l : Launch) (D : va_G) (q : Nat → Nat) (K : Nat → ClassId) (pr n : Nat) (fc fl fp fo fw ff fg : Nat → Nat) (hB : BM pr n fc fl fp fo fw)  : CtI l yX1_good cX1_good 1 (some .boolean) { frames := 4, cells := 0, slots := 0, locals := 92 } D (mtys K) (mdW q K pr fc fl fp n fo fw ff fg) [.ref (q 0)] (fun (r : Int32) (_ : (Nat → Nat) × (Nat → Nat)) => r = bI (apF fc fl fp (cpO fo fw n) pr n)) (fun u => mdW q K pr fc fl fp n fo (cpO fo fw n) u.1 u.2) := by
  refine rd_startI (by decide) (Nat.le_of_ble_eq_true rfl) ?_
  intro p e s m below meth c ls A Q hQe C hK hh hl
  have C : CX p s m [.ref (q 0)].toArray meth c cX1_good 1 (some .boolean) RX1 := C
  have hx := C.1
  have hb := C.2.1
  have hl : lv_has ls 1 [(0, .ref (q 0))] := hl
  have hB0 := hB
  obtain ⟨⟨hpr, hn, hbc, hbl, hbp, hbo⟩, hbw⟩ := hB0
  refine lv_aload_n hx hb dX1_good_0 rfl (lv_at hl 0 rfl) ?_
  refine rd_callIv (n := 0) (q := (RX1, TX1, 9)) C hK hh (mM_useOrder l D q K pr n fc fl fp fo fw ff fg hB) (lw_V q237 q239 qs12 q23 q240) (by decide +kernel) rfl ⟨rfl, rfl⟩ ⟨Nat.le_of_ble_eq_true rfl, Nat.le_of_ble_eq_true rfl⟩ 1 0 rfl rfl rfl hl.1 (Nat.le_of_ble_eq_true rfl) ⟨Nat.zero_le _, Nat.zero_le _⟩ dX1_good_1 (fun u H locs hr hh => ?_)
  have hh : HH D (mdW q K pr fc fl fp n fo (cpO fo fw n) ff fg) A s.heap H locs := hh
  refine lv_aload_n hx hb dX1_good_4 rfl (lv_at hl 0 rfl) ?_
  refine rd_callI (n := 0) (q := (RX1, TX1, 9)) C hK hh (mM_allPunctual l D q K pr n fc fl fp fo (cpO fo fw n) ff fg ⟨hB.1, cpO_lt hbo hbw n⟩) (lw_V q257 q259 qs16 q23 q260) (by decide +kernel) rfl ⟨rfl, rfl⟩ ⟨Nat.le_of_ble_eq_true rfl, Nat.le_of_ble_eq_true rfl⟩ 1 0 rfl rfl rfl hl.1 (Nat.le_of_ble_eq_true rfl) ⟨Nat.zero_le _, Nat.zero_le _⟩ dX1_good_5 (fun r u H locs hr hh => ?_)
  obtain ⟨f1, g1⟩ := u
  have hr : r = bI (apF fc fl fp (cpO fo fw n) pr n) := hr
  subst hr
  have hh : HH D (mdW q K pr fc fl fp n fo (cpO fo fw n) f1 g1) A s.heap H locs := hh
  subst hQe; exact rd_retIz ((f1, g1)) C hK hh (rd_narZ _) (rfl) dX1_good_8
set_option maxHeartbeats 4000000 in
set_option maxRecDepth 100000 in
theorem mM_inTime (l : Launch) (D : va_G) (q : Nat → Nat) (K : Nat → ClassId) (pr n : Nat) (fc fl fp fo fw ff fg : Nat → Nat) (hB : BM pr n fc fl fp fo fw)  : CtI l yX1_inTime cX1_inTime 3 (some .int) { frames := 3, cells := 0, slots := 0, locals := 70 } D (mtys K) (mdW q K pr fc fl fp n fo fw ff fg) [.ref (q 0)] (fun (r : Int32) (_ : (Nat → Nat) × (Nat → Nat)) => r = nI (itL (puF fc fl fp (cpO fo fw n) n) pr 5)) (fun u => mdW q K pr fc fl fp n fo (cpO fo fw n) u.1 u.2) := by
  refine rd_startI (by decide) (Nat.le_of_ble_eq_true rfl) ?_
  intro p e s m below meth c ls A Q hQe C hK hh hl
  have C : CX p s m [.ref (q 0)].toArray meth c cX1_inTime 3 (some .int) RX1 := C
  have hx := C.1
  have hb := C.2.1
  have hl : lv_has ls 3 [(0, .ref (q 0))] := hl
  have hB0 := hB
  obtain ⟨⟨hpr, hn, hbc, hbl, hbp, hbo⟩, hbw⟩ := hB0
  refine lv_aload_n hx hb dX1_inTime_0 rfl (lv_at hl 0 rfl) ?_
  refine rd_callIv (n := 0) (q := (RX1, TX1, 9)) C hK hh (mM_useOrder l D q K pr n fc fl fp fo fw ff fg hB) (lw_V q237 q239 qs12 q23 q240) (by decide +kernel) rfl ⟨rfl, rfl⟩ ⟨Nat.le_of_ble_eq_true rfl, Nat.le_of_ble_eq_true rfl⟩ 1 0 rfl rfl rfl hl.1 (Nat.le_of_ble_eq_true rfl) ⟨Nat.zero_le _, Nat.zero_le _⟩ dX1_inTime_1 (fun u H locs hr hh => ?_)
  have hh : HH D (mdW q K pr fc fl fp n fo (cpO fo fw n) ff fg) A s.heap H locs := hh
  have lo : ∀ (d : Nat) (k : Nat) (f g : Nat → Nat), (5 < k + d) → (k ≤ 5) → ∀ (H : Heap) (locs : List Loc), HH D (mdW q K pr fc fl fp n fo (cpO fo fw n) f g) A s.heap H locs → ∀ (ls : Array Slot), lv_has ls 3 [(2, .int (nI k)), (1, .int (nI (itL (puF fc fl fp (cpO fo fw n) n) pr k))), (0, .ref (q 0))] → W p l e { frames := 3, cells := 0, slots := 0, locals := 70 } s m [.ref (q 0)].toArray below meth c H locs 0 0 Q (F0 m 8 ls []) := by
    intro d
    induction d with
    | zero => intro k f g hd hk H locs hh ls hl; omega
    | succ d ih =>
      intro k f g hd hk H locs hh ls hl
      refine lv_iload_n hx hb dX1_inTime_8 rfl (lv_at hl 0 rfl) ?_
      refine lv_iconst (v := nI 5) hx hb dX1_inTime_9 (by decide) ?_
      refine rd_icmp_ge (tgt := 46) hx hb (by omega) (by omega) dX1_inTime_10 (by decide) (fun h10 => ?_) (fun h10 => ?_)
      · refine lv_iload_n hx hb dX1_inTime_46 rfl (lv_at hl 1 rfl) ?_
        subst hQe; exact rd_retI ((f, g)) C hK hh (by rw [show k = 5 by omega]) dX1_inTime_47
      · refine lv_aload_n hx hb dX1_inTime_13 rfl (lv_at hl 2 rfl) ?_
        refine mg_there C hK hh.1 dX1_inTime_14 ?_
        refine lv_iload_n hx hb dX1_inTime_17 rfl (lv_at hl 0 rfl) ?_
        refine ml_there C hK hh.1 (by omega) dX1_inTime_18 ?_
        refine rd_ifb_eq (tgt := 38) hx hb dX1_inTime_19 (by decide) (fun h19 => ?_) (fun h19 => ?_)
        · refine lv_iload_n hx hb dX1_inTime_38 rfl (lv_at hl 1 rfl) ?_
          refine lv_istore_n (lv' := [(1, .int (nI (itL (puF fc fl fp (cpO fo fw n) n) pr k))), (2, .int (nI k)), (0, .ref (q 0))]) hx hb dX1_inTime_39 rfl hl (by decide) rfl (fun ls hl => ?_)
          refine lv_iinc (v := nI (k + 1)) (lv' := [(2, .int (nI (k + 1))), (1, .int (nI (itL (puF fc fl fp (cpO fo fw n) n) pr k))), (0, .ref (q 0))]) hx hb dX1_inTime_40 hl (k := 1) rfl (rd_inc1 _) (by decide) rfl (fun ls hl => ?_)
          refine lv_goto (tgt := 8) hx hb dX1_inTime_43 (by decide) ?_
          have e : itL (puF fc fl fp (cpO fo fw n) n) pr k = itL (puF fc fl fp (cpO fo fw n) n) pr (k + 1) := by simp [itL, h19]
          rw [e] at hl
          exact ih (k + 1) f g (by omega) (by omega) H locs hh ls (lv_sub hl [0, 1, 2] rfl)
        · refine lv_aload_n hx hb dX1_inTime_22 rfl (lv_at hl 2 rfl) ?_
          refine lv_iload_n hx hb dX1_inTime_23 rfl (lv_at hl 0 rfl) ?_
          refine rd_callI (n := 1) (q := (RX1, TX1, 9)) C hK hh (mM_punctual l D q K pr n fc fl fp fo (cpO fo fw n) f g ⟨hB.1, cpO_lt hbo hbw n⟩ k (by omega)) (lw_V q261 q263 qs17 q23 q264) (by decide +kernel) rfl ⟨rfl, rfl⟩ ⟨Nat.le_of_ble_eq_true rfl, Nat.le_of_ble_eq_true rfl⟩ 1 0 rfl rfl rfl hl.1 (Nat.le_of_ble_eq_true rfl) ⟨Nat.zero_le _, Nat.zero_le _⟩ dX1_inTime_24 (fun r u H locs hr hh => ?_)
          obtain ⟨f1, g1⟩ := u
          have hr : r = bI (puF fc fl fp (cpO fo fw n) n k) := hr
          subst hr
          have hh : HH D (mdW q K pr fc fl fp n fo (cpO fo fw n) f1 g1) A s.heap H locs := hh
          refine rd_ifb_eq (tgt := 38) hx hb dX1_inTime_27 (by decide) (fun h27 => ?_) (fun h27 => ?_)
          · refine lv_iload_n hx hb dX1_inTime_38 rfl (lv_at hl 1 rfl) ?_
            refine lv_istore_n (lv' := [(1, .int (nI (itL (puF fc fl fp (cpO fo fw n) n) pr k))), (2, .int (nI k)), (0, .ref (q 0))]) hx hb dX1_inTime_39 rfl hl (by decide) rfl (fun ls hl => ?_)
            refine lv_iinc (v := nI (k + 1)) (lv' := [(2, .int (nI (k + 1))), (1, .int (nI (itL (puF fc fl fp (cpO fo fw n) n) pr k))), (0, .ref (q 0))]) hx hb dX1_inTime_40 hl (k := 1) rfl (rd_inc1 _) (by decide) rfl (fun ls hl => ?_)
            refine lv_goto (tgt := 8) hx hb dX1_inTime_43 (by decide) ?_
            have e : itL (puF fc fl fp (cpO fo fw n) n) pr k = itL (puF fc fl fp (cpO fo fw n) n) pr (k + 1) := by simp [itL, h19, h27]
            rw [e] at hl
            exact ih (k + 1) f1 g1 (by omega) (by omega) H locs hh ls (lv_sub hl [0, 1, 2] rfl)
          · refine lv_iload_n hx hb dX1_inTime_30 rfl (lv_at hl 1 rfl) ?_
            refine lv_iconst (v := nI 1) hx hb dX1_inTime_31 (by decide) ?_
            refine lv_iload_n hx hb dX1_inTime_32 rfl (lv_at hl 0 rfl) ?_
            refine rd_ishl1 hx hb (by omega) dX1_inTime_33 ?_
            refine rd_ior hx hb dX1_inTime_34 ?_
            refine lv_goto (tgt := 39) hx hb dX1_inTime_35 (by decide) ?_
            refine lv_istore_n (lv' := [(1, .int (nI ((itL (puF fc fl fp (cpO fo fw n) n) pr k) ||| (2 ^ k)))), (2, .int (nI k)), (0, .ref (q 0))]) hx hb dX1_inTime_39 rfl hl (by decide) rfl (fun ls hl => ?_)
            refine lv_iinc (v := nI (k + 1)) (lv' := [(2, .int (nI (k + 1))), (1, .int (nI ((itL (puF fc fl fp (cpO fo fw n) n) pr k) ||| (2 ^ k)))), (0, .ref (q 0))]) hx hb dX1_inTime_40 hl (k := 1) rfl (rd_inc1 _) (by decide) rfl (fun ls hl => ?_)
            refine lv_goto (tgt := 8) hx hb dX1_inTime_43 (by decide) ?_
            have e : (itL (puF fc fl fp (cpO fo fw n) n) pr k) ||| (2 ^ k) = itL (puF fc fl fp (cpO fo fw n) n) pr (k + 1) := by simp [itL, h19, h27]
            rw [e] at hl
            exact ih (k + 1) f1 g1 (by omega) (by omega) H locs hh ls (lv_sub hl [0, 1, 2] rfl)
  refine lv_iconst (v := nI 0) hx hb dX1_inTime_4 (by decide) ?_
  refine lv_istore_n (lv' := [(1, .int (nI 0)), (0, .ref (q 0))]) hx hb dX1_inTime_5 rfl hl (by decide) rfl (fun ls hl => ?_)
  refine lv_iconst (v := nI 0) hx hb dX1_inTime_6 (by decide) ?_
  refine lv_istore_n (lv' := [(2, .int (nI 0)), (1, .int (nI 0)), (0, .ref (q 0))]) hx hb dX1_inTime_7 rfl hl (by decide) rfl (fun ls hl => ?_)
  exact lo 6 0 ff fg (by omega) (by omega) _ _ hh ls (lv_sub hl [0, 1, 2] rfl)
set_option maxHeartbeats 4000000 in
set_option maxRecDepth 100000 in
theorem mM_orders (l : Launch) (D : va_G) (q : Nat → Nat) (K : Nat → ClassId) (pr n : Nat) (fc fl fp fo fw ff fg : Nat → Nat) (hB : BM pr n fc fl fp fo fw)  : CtP l yX1_orders cX1_orders 3 (some .int) { frames := 0, cells := 0, slots := 0, locals := 0 } D (mtys K) (mdW q K pr fc fl fp n fo fw ff fg) [.ref (q 0)] (fun r => r = nI (fac n)) := by
  refine rd_startP (by decide) (Nat.le_of_ble_eq_true rfl) ?_
  intro p e s m below meth c ls Q hQe C hK hP hl
  have C : CX p s m [.ref (q 0)].toArray meth c cX1_orders 3 (some .int) RX1 := C
  have hx := C.1
  have hb := C.2.1
  have hl : lv_has ls 3 [(0, .ref (q 0))] := hl
  have hB0 := hB
  obtain ⟨⟨hpr, hn, hbc, hbl, hbp, hbo⟩, hbw⟩ := hB0
  have loop : ∀ (d : Nat) (i : Nat), (6 < i + d) → (1 ≤ i) → (i ≤ n ∨ i = 1) → ∀ (ls : Array Slot), lv_has ls 3 [(2, .int (nI (i + 1))), (1, .int (nI (fac i))), (0, .ref (q 0))] → W p l e { frames := 0, cells := 0, slots := 0, locals := 0 } s m [.ref (q 0)].toArray below meth c s.heap [] 0 0 Q (F0 m 4 ls []) := by
    intro d
    induction d with
    | zero => intro i hd hi hi2 ls hl; omega
    | succ d ih =>
      intro i hd hi hi2 ls hl
      refine lv_iload_n hx hb dX1_orders_4 rfl (lv_at hl 0 rfl) ?_
      refine lv_aload_n hx hb dX1_orders_5 rfl (lv_at hl 2 rfl) ?_
      refine mg_size C hK hP dX1_orders_6 ?_
      refine rd_icmp_gt (tgt := 22) hx hb (by omega) (by omega) dX1_orders_9 (by decide) (fun h9 => ?_) (fun h9 => ?_)
      · refine lv_iload_n hx hb dX1_orders_22 rfl (lv_at hl 1 rfl) ?_
        subst hQe; exact rd_retP C (by rcases Nat.lt_or_ge n 1 with q | q; (rw [show n = 0 by omega, show i = 1 by omega]; rfl); rw [show i = n by omega]) dX1_orders_23
      · refine lv_iload_n hx hb dX1_orders_12 rfl (lv_at hl 1 rfl) ?_
        refine lv_iload_n hx hb dX1_orders_13 rfl (lv_at hl 0 rfl) ?_
        refine rd_imul hx hb dX1_orders_14 ?_
        refine lv_istore_n (lv' := [(1, .int (nI ((fac i) * (i + 1)))), (2, .int (nI (i + 1))), (0, .ref (q 0))]) hx hb dX1_orders_15 rfl hl (by decide) rfl (fun ls hl => ?_)
        refine lv_iinc (v := nI (i + 1 + 1)) (lv' := [(2, .int (nI (i + 1 + 1))), (1, .int (nI ((fac i) * (i + 1)))), (0, .ref (q 0))]) hx hb dX1_orders_16 hl (k := 1) rfl (rd_inc1 _) (by decide) rfl (fun ls hl => ?_)
        refine lv_goto (tgt := 4) hx hb dX1_orders_19 (by decide) ?_
        exact ih (i + 1) (by omega) (by omega) (by omega) ls (lv_sub hl [0, 1, 2] rfl)
  refine lv_iconst (v := nI 1) hx hb dX1_orders_0 (by decide) ?_
  refine lv_istore_n (lv' := [(1, .int (nI 1)), (0, .ref (q 0))]) hx hb dX1_orders_1 rfl hl (by decide) rfl (fun ls hl => ?_)
  refine lv_iconst (v := nI 2) hx hb dX1_orders_2 (by decide) ?_
  refine lv_istore_n (lv' := [(2, .int (nI 2)), (1, .int (nI 1)), (0, .ref (q 0))]) hx hb dX1_orders_3 rfl hl (by decide) rfl (fun ls hl => ?_)
  exact loop 6 1 (by omega) (by omega) (by omega) ls (lv_sub hl [0, 1, 2] rfl)
set_option maxHeartbeats 4000000 in
set_option maxRecDepth 100000 in
theorem mM_unused (l : Launch) (D : va_G) (q : Nat → Nat) (K : Nat → ClassId) (pr n : Nat) (fc fl fp fo fw ff fg : Nat → Nat) (hB : BM pr n fc fl fp fo fw) (us x : Nat) (hus : us < 32) (hx : x < 2 ^ 31) : CtP l yX1_unused cX1_unused 5 (some .int) { frames := 0, cells := 0, slots := 0, locals := 0 } D (mtys K) (mdW q K pr fc fl fp n fo fw ff fg) [.ref (q 0), .int (nI us), .int (nI x)] (fun r => r = nI (usF pr us x)) := by
  refine rd_startP (by decide) (Nat.le_of_ble_eq_true rfl) ?_
  intro p e s m below meth c ls Q hQe C hK hP hl
  have C : CX p s m [.ref (q 0), .int (nI us), .int (nI x)].toArray meth c cX1_unused 5 (some .int) RX1 := C
  have hx := C.1
  have hb := C.2.1
  have hl : lv_has ls 5 [(0, .ref (q 0)), (1, .int (nI us)), (2, .int (nI x))] := hl
  have hB0 := hB
  obtain ⟨⟨hpr, hn, hbc, hbl, hbp, hbo⟩, hbw⟩ := hB0
  have loop : ∀ (d : Nat) (k c0 : Nat), (5 < k + d) → (k ≤ 5) → (c0 ≤ k) → (usL pr us x (5 - k) k c0 = usF pr us x) → ∀ (ls : Array Slot), lv_has ls 5 [(4, .int (nI k)), (3, .int (nI c0)), (0, .ref (q 0)), (1, .int (nI us)), (2, .int (nI x))] → W p l e { frames := 0, cells := 0, slots := 0, locals := 0 } s m [.ref (q 0), .int (nI us), .int (nI x)].toArray below meth c s.heap [] 0 0 Q (F0 m 5 ls []) := by
    intro d
    induction d with
    | zero => intro k c0 hd hk hc hu ls hl; omega
    | succ d ih =>
      intro k c0 hd hk hc hu ls hl
      refine lv_iload hx hb dX1_unused_5 (lv_at hl 0 rfl) ?_
      refine lv_iconst (v := nI 5) hx hb dX1_unused_7 (by decide) ?_
      refine rd_icmp_ge (tgt := 47) hx hb (by omega) (by omega) dX1_unused_8 (by decide) (fun h8 => ?_) (fun h8 => ?_)
      · refine lv_iconst (v := nI 0) hx hb dX1_unused_47 (by decide) ?_
        subst hQe; exact rd_retP C (by rw [← hu, show 5 - k = 0 by omega]; rfl) dX1_unused_48
      · refine lv_aload_n hx hb dX1_unused_11 rfl (lv_at hl 2 rfl) ?_
        refine mg_there C hK hP dX1_unused_12 ?_
        refine lv_iload hx hb dX1_unused_15 (lv_at hl 0 rfl) ?_
        refine ml_there C hK hP (by omega) dX1_unused_17 ?_
        refine rd_ifb_eq (tgt := 41) hx hb dX1_unused_18 (by decide) (fun h18 => ?_) (fun h18 => ?_)
        · refine lv_iinc (v := nI (k + 1)) (lv' := [(4, .int (nI (k + 1))), (3, .int (nI c0)), (0, .ref (q 0)), (1, .int (nI us)), (2, .int (nI x))]) hx hb dX1_unused_41 hl (k := 0) rfl (rd_inc1 _) (by decide) rfl (fun ls hl => ?_)
          refine lv_goto (tgt := 5) hx hb dX1_unused_44 (by decide) ?_
          exact ih (k + 1) c0 (by omega) (by omega) (by omega) (by rw [← hu, show 5 - k = (5 - (k + 1)) + 1 by omega, usL, if_neg (by rw [h18]; simp)]) ls (lv_sub hl [0, 1, 2, 3, 4] rfl)
        · refine lv_iload_n hx hb dX1_unused_21 rfl (lv_at hl 3 rfl) ?_
          refine lv_iload hx hb dX1_unused_22 (lv_at hl 0 rfl) ?_
          refine rd_ishr hx hb (by omega) (by omega) dX1_unused_24 ?_
          refine lv_iconst (v := nI 1) hx hb dX1_unused_25 (by decide) ?_
          refine rd_iand hx hb dX1_unused_26 ?_
          refine rd_ift_ne (tgt := 41) hx hb (by omega) dX1_unused_27 (by decide) (fun h27 => ?_) (fun h27 => ?_)
          · refine lv_iinc (v := nI (k + 1)) (lv' := [(4, .int (nI (k + 1))), (3, .int (nI c0)), (0, .ref (q 0)), (1, .int (nI us)), (2, .int (nI x))]) hx hb dX1_unused_41 hl (k := 0) rfl (rd_inc1 _) (by decide) rfl (fun ls hl => ?_)
            refine lv_goto (tgt := 5) hx hb dX1_unused_44 (by decide) ?_
            exact ih (k + 1) c0 (by omega) (by omega) (by omega) (by rw [← hu, show 5 - k = (5 - (k + 1)) + 1 by omega, usL, if_neg (by rw [h27]; simp)]) ls (lv_sub hl [0, 1, 2, 3, 4] rfl)
          · refine lv_iload_n hx hb dX1_unused_30 rfl (lv_at hl 1 rfl) ?_
            refine lv_iload_n hx hb dX1_unused_31 rfl (lv_at hl 4 rfl) ?_
            refine rd_icmp_ne (tgt := 38) hx hb (by omega) (by omega) dX1_unused_32 (by decide) (fun h32 => ?_) (fun h32 => ?_)
            · refine lv_iinc (v := nI (c0 + 1)) (lv' := [(3, .int (nI (c0 + 1))), (4, .int (nI k)), (0, .ref (q 0)), (1, .int (nI us)), (2, .int (nI x))]) hx hb dX1_unused_38 hl (k := 1) rfl (rd_inc1 _) (by decide) rfl (fun ls hl => ?_)
              refine lv_iinc (v := nI (k + 1)) (lv' := [(4, .int (nI (k + 1))), (3, .int (nI (c0 + 1))), (0, .ref (q 0)), (1, .int (nI us)), (2, .int (nI x))]) hx hb dX1_unused_41 hl (k := 1) rfl (rd_inc1 _) (by decide) rfl (fun ls hl => ?_)
              refine lv_goto (tgt := 5) hx hb dX1_unused_44 (by decide) ?_
              exact ih (k + 1) (c0 + 1) (by omega) (by omega) (by omega) (by rw [← hu, show 5 - k = (5 - (k + 1)) + 1 by omega, usL, if_pos (by rw [h18, h27]; rfl), if_neg h32]) ls (lv_sub hl [0, 1, 2, 3, 4] rfl)
            · refine lv_iload hx hb dX1_unused_35 (lv_at hl 0 rfl) ?_
              subst hQe; exact rd_retP C (by rw [← hu, show 5 - k = (5 - (k + 1)) + 1 by omega, usL, if_pos (by rw [h18, h27]; rfl), if_pos h32]) dX1_unused_37
  refine lv_iconst (v := nI 0) hx hb dX1_unused_0 (by decide) ?_
  refine lv_istore_n (lv' := [(3, .int (nI 0)), (0, .ref (q 0)), (1, .int (nI us)), (2, .int (nI x))]) hx hb dX1_unused_1 rfl hl (by decide) rfl (fun ls hl => ?_)
  refine lv_iconst (v := nI 0) hx hb dX1_unused_2 (by decide) ?_
  refine lv_istore (lv' := [(4, .int (nI 0)), (3, .int (nI 0)), (0, .ref (q 0)), (1, .int (nI us)), (2, .int (nI x))]) hx hb dX1_unused_3 hl (by decide) rfl (fun ls hl => ?_)
  exact loop 6 0 0 (by omega) (by omega) (by omega) rfl ls (lv_sub hl [0, 1, 2, 3, 4] rfl)
set_option maxHeartbeats 4000000 in
set_option maxRecDepth 100000 in
theorem mM_spell (l : Launch) (D : va_G) (q : Nat → Nat) (K : Nat → ClassId) (pr n : Nat) (fc fl fp fo fw ff fg : Nat → Nat) (hB : BM pr n fc fl fp fo fw) (x : Nat) (hxx : x < 1000) : CtV l yX1_spell cX1_spell 7 { frames := 1, cells := 0, slots := 0, locals := 24 } D (mtys K) (mdW q K pr fc fl fp n fo fw ff fg) [.ref (q 0), .int (nI x)] (fun _ : Unit => True) (fun _ => mdW q K pr fc fl fp n fo (spF pr n x fw) ff fg) := by
  refine rd_startV (by decide) (Nat.le_of_ble_eq_true rfl) ?_
  intro p e s m below meth c ls A Q hQe C hK hh hl
  have C : CX p s m [.ref (q 0), .int (nI x)].toArray meth c cX1_spell 7 none RX1 := C
  have hx := C.1
  have hb := C.2.1
  have hl : lv_has ls 7 [(0, .ref (q 0)), (1, .int (nI x))] := hl
  have hB0 := hB
  obtain ⟨⟨hpr, hn, hbc, hbl, hbp, hbo⟩, hbw⟩ := hB0
  refine lv_aload_n hx hb dX1_spell_0 rfl (lv_at hl 0 rfl) ?_
  refine rd_callP (n := 0) (q := (RX1, TX1, 9)) C hK hh.1 (mM_orders l D q K pr n fc fl fp fo fw ff fg hB) (lw_V q273 q275 qs18 q23 q276) (by decide +kernel) rfl ⟨rfl, rfl⟩ ⟨Nat.le_of_ble_eq_true rfl, Nat.le_of_ble_eq_true rfl⟩ 1 0 rfl rfl rfl hl.1 (Nat.le_of_ble_eq_true rfl) ⟨Nat.zero_le _, Nat.zero_le _⟩ dX1_spell_1 (fun r hr => ?_)
  subst hr
  have hfac := (fac_lt n hn).1
  have lo : ∀ (d : Nat) (y i bl re us : Nat) (v : Nat → Nat), (n < i + d) → (i + y = n) → (bl < 1000) → (re < 1000) → (us < 32) → (∀ j, v j < 5) → (spL pr n y i bl re us v = spF pr n x fw) → ∀ (H : Heap) (locs : List Loc), HH D (mdW q K pr fc fl fp n fo v ff fg) A s.heap H locs → ∀ (ls : Array Slot), lv_has ls 7 [(5, .int (nI i)), (4, .int (nI us)), (3, .int (nI re)), (2, .int (nI bl)), (0, .ref (q 0)), (1, .int (nI x))] → W p l e { frames := 1, cells := 0, slots := 0, locals := 24 } s m [.ref (q 0), .int (nI x)].toArray below meth c H locs 0 0 Q (F0 m 13 ls []) := by
    intro d
    induction d with
    | zero => intro y i bl re us v hd hy hbl hre hus hv hsp H locs hh ls hl; omega
    | succ d ih =>
      intro y i bl re us v hd hy hbl hre hus hv hsp H locs hh ls hl
      refine lv_iload hx hb dX1_spell_13 (lv_at hl 0 rfl) ?_
      refine lv_aload_n hx hb dX1_spell_15 rfl (lv_at hl 4 rfl) ?_
      refine mg_size C hK hh.1 dX1_spell_16 ?_
      refine rd_icmp_ge (tgt := 106) hx hb (by omega) (by omega) dX1_spell_19 (by decide) (fun h19 => ?_) (fun h19 => ?_)
      · obtain rfl : y = 0 := by omega
        rw [show v = spF pr n x fw from hsp] at hh
        subst hQe; exact rd_retV (()) C hK hh (trivial) dX1_spell_106
      · obtain ⟨y, rfl⟩ : ∃ z, y = z + 1 := ⟨y - 1, by omega⟩
        have hdl : bl / (n - i) ≤ bl := Nat.div_le_self _ _
        refine lv_iload_n hx hb dX1_spell_22 rfl (lv_at hl 3 rfl) ?_
        refine lv_aload_n hx hb dX1_spell_23 rfl (lv_at hl 4 rfl) ?_
        refine mg_size C hK hh.1 dX1_spell_24 ?_
        refine lv_iload hx hb dX1_spell_27 (lv_at hl 0 rfl) ?_
        refine rd_isub hx hb (by omega) dX1_spell_29 ?_
        refine rd_if_le (tgt := 43) hx hb (by omega) dX1_spell_30 (by decide) (fun h30 => ?_) (fun h30 => ?_)
        · omega
        · refine lv_aload_n hx hb dX1_spell_33 rfl (lv_at hl 4 rfl) ?_
          refine mg_size C hK hh.1 dX1_spell_34 ?_
          refine lv_iload hx hb dX1_spell_37 (lv_at hl 0 rfl) ?_
          refine rd_isub hx hb (by omega) dX1_spell_39 ?_
          refine lv_goto (tgt := 44) hx hb dX1_spell_40 (by decide) ?_
          refine rd_idiv hx hb (by omega) (by omega) (by omega) dX1_spell_44 ?_
          refine lv_istore_n (lv' := [(2, .int (nI (bl / (n - i)))), (5, .int (nI i)), (4, .int (nI us)), (3, .int (nI re)), (0, .ref (q 0)), (1, .int (nI x))]) hx hb dX1_spell_45 rfl hl (by decide) rfl (fun ls hl => ?_)
          refine lv_iload_n hx hb dX1_spell_46 rfl (lv_at hl 0 rfl) ?_
          refine rd_if_le (tgt := 56) hx hb (by omega) dX1_spell_47 (by decide) (fun h47 => ?_) (fun h47 => ?_)
          · refine lv_iconst (v := nI 0) hx hb dX1_spell_56 (by decide) ?_
            refine lv_istore (lv' := [(6, .int (nI 0)), (2, .int (nI (bl / (n - i)))), (5, .int (nI i)), (4, .int (nI us)), (3, .int (nI re)), (0, .ref (q 0)), (1, .int (nI x))]) hx hb dX1_spell_57 hl (by decide) rfl (fun ls hl => ?_)
            refine lv_iload_n hx hb dX1_spell_59 rfl (lv_at hl 1 rfl) ?_
            refine rd_if_le (tgt := 69) hx hb (by omega) dX1_spell_60 (by decide) (fun h60 => ?_) (fun h60 => ?_)
            · refine lv_iconst (v := nI 0) hx hb dX1_spell_69 (by decide) ?_
              refine lv_istore_n (lv' := [(3, .int (nI 0)), (6, .int (nI 0)), (2, .int (nI (bl / (n - i)))), (5, .int (nI i)), (4, .int (nI us)), (0, .ref (q 0)), (1, .int (nI x))]) hx hb dX1_spell_70 rfl hl (by decide) rfl (fun ls hl => ?_)
              refine lv_aload_n hx hb dX1_spell_71 rfl (lv_at hl 5 rfl) ?_
              refine mg_row C hK hh.1 dX1_spell_72 ?_
              refine lv_iload hx hb dX1_spell_75 (lv_at hl 3 rfl) ?_
              refine lv_aload_n hx hb dX1_spell_77 rfl (lv_at hl 5 rfl) ?_
              refine lv_iload hx hb dX1_spell_78 (lv_at hl 4 rfl) ?_
              refine lv_iload hx hb dX1_spell_80 (lv_at hl 1 rfl) ?_
              refine rd_callP (n := 2) (q := (RX1, TX1, 9)) C hK hh.1 (mM_unused l D q K pr n fc fl fp fo v ff fg ⟨hB.1, hv⟩ us (0) hus (by decide)) (lw_V q281 q283 qs20 q23 q284) (by decide +kernel) rfl ⟨rfl, rfl⟩ ⟨Nat.le_of_ble_eq_true rfl, Nat.le_of_ble_eq_true rfl⟩ 1 0 rfl rfl rfl hl.1 (Nat.le_of_ble_eq_true rfl) ⟨Nat.zero_le _, Nat.zero_le _⟩ dX1_spell_82 (fun r hr => ?_)
              subst hr
              refine ms_row C hK hh (by omega) dX1_spell_85 (fun H locs hh => ?_)
              have hk5 := usF_lt pr us (0)
              refine lv_iload hx hb dX1_spell_86 (lv_at hl 4 rfl) ?_
              refine lv_iconst (v := nI 1) hx hb dX1_spell_88 (by decide) ?_
              refine lv_aload_n hx hb dX1_spell_89 rfl (lv_at hl 5 rfl) ?_
              refine mg_row C hK hh.1 dX1_spell_90 ?_
              refine lv_iload hx hb dX1_spell_93 (lv_at hl 3 rfl) ?_
              refine ml_row C hK hh.1 (by omega) dX1_spell_95 ?_
              refine rd_ishl1 hx hb (by rw [va_up_self]; omega) dX1_spell_96 ?_
              refine rd_ior hx hb dX1_spell_97 ?_
              refine lv_istore (lv' := [(4, .int (nI (us ||| (2 ^ ((va_up v i (usF pr us 0)) i))))), (3, .int (nI 0)), (6, .int (nI 0)), (2, .int (nI (bl / (n - i)))), (5, .int (nI i)), (0, .ref (q 0)), (1, .int (nI x))]) hx hb dX1_spell_98 hl (by decide) rfl (fun ls hl => ?_)
              refine lv_iinc (v := nI (i + 1)) (lv' := [(5, .int (nI (i + 1))), (4, .int (nI (us ||| (2 ^ ((va_up v i (usF pr us 0)) i))))), (3, .int (nI 0)), (6, .int (nI 0)), (2, .int (nI (bl / (n - i)))), (0, .ref (q 0)), (1, .int (nI x))]) hx hb dX1_spell_100 hl (k := 4) rfl (rd_inc1 _) (by decide) rfl (fun ls hl => ?_)
              refine lv_goto (tgt := 13) hx hb dX1_spell_103 (by decide) ?_
              have hk5 := usF_lt pr us (0)
              rw [spL, if_neg (by omega), if_neg (by omega)] at hsp
              rw [va_up_self] at hl
              exact ih y (i + 1) (bl / (n - i)) (0) (us ||| 2 ^ usF pr us 0) (va_up v i (usF pr us 0)) (by omega) (by omega) (by omega) (by omega) (rd_or_lt hus (rd_pow_lt hk5)) (rd_up_ltt hv hk5) hsp H locs hh ls (lv_sub hl [0, 1, 2, 4, 5, 6] rfl)
            · omega
          · refine lv_iload_n hx hb dX1_spell_50 rfl (lv_at hl 3 rfl) ?_
            refine lv_iload_n hx hb dX1_spell_51 rfl (lv_at hl 0 rfl) ?_
            refine rd_idiv hx hb (by omega) (by omega) (by omega) dX1_spell_52 ?_
            refine lv_goto (tgt := 57) hx hb dX1_spell_53 (by decide) ?_
            refine lv_istore (lv' := [(6, .int (nI (re / (bl / (n - i))))), (2, .int (nI (bl / (n - i)))), (5, .int (nI i)), (4, .int (nI us)), (3, .int (nI re)), (0, .ref (q 0)), (1, .int (nI x))]) hx hb dX1_spell_57 hl (by decide) rfl (fun ls hl => ?_)
            refine lv_iload_n hx hb dX1_spell_59 rfl (lv_at hl 1 rfl) ?_
            refine rd_if_le (tgt := 69) hx hb (by omega) dX1_spell_60 (by decide) (fun h60 => ?_) (fun h60 => ?_)
            · omega
            · refine lv_iload_n hx hb dX1_spell_63 rfl (lv_at hl 4 rfl) ?_
              refine lv_iload_n hx hb dX1_spell_64 rfl (lv_at hl 1 rfl) ?_
              refine rd_irem hx hb (by omega) (by omega) (by omega) dX1_spell_65 ?_
              refine lv_goto (tgt := 70) hx hb dX1_spell_66 (by decide) ?_
              refine lv_istore_n (lv' := [(3, .int (nI (re % (bl / (n - i))))), (6, .int (nI (re / (bl / (n - i))))), (2, .int (nI (bl / (n - i)))), (5, .int (nI i)), (4, .int (nI us)), (0, .ref (q 0)), (1, .int (nI x))]) hx hb dX1_spell_70 rfl hl (by decide) rfl (fun ls hl => ?_)
              refine lv_aload_n hx hb dX1_spell_71 rfl (lv_at hl 5 rfl) ?_
              refine mg_row C hK hh.1 dX1_spell_72 ?_
              refine lv_iload hx hb dX1_spell_75 (lv_at hl 3 rfl) ?_
              refine lv_aload_n hx hb dX1_spell_77 rfl (lv_at hl 5 rfl) ?_
              refine lv_iload hx hb dX1_spell_78 (lv_at hl 4 rfl) ?_
              refine lv_iload hx hb dX1_spell_80 (lv_at hl 1 rfl) ?_
              refine rd_callP (n := 2) (q := (RX1, TX1, 9)) C hK hh.1 (mM_unused l D q K pr n fc fl fp fo v ff fg ⟨hB.1, hv⟩ us (re / (bl / (n - i))) hus (by have := Nat.div_le_self re (bl / (n - i)); omega)) (lw_V q281 q283 qs20 q23 q284) (by decide +kernel) rfl ⟨rfl, rfl⟩ ⟨Nat.le_of_ble_eq_true rfl, Nat.le_of_ble_eq_true rfl⟩ 1 0 rfl rfl rfl hl.1 (Nat.le_of_ble_eq_true rfl) ⟨Nat.zero_le _, Nat.zero_le _⟩ dX1_spell_82 (fun r hr => ?_)
              subst hr
              refine ms_row C hK hh (by omega) dX1_spell_85 (fun H locs hh => ?_)
              have hk5 := usF_lt pr us (re / (bl / (n - i)))
              refine lv_iload hx hb dX1_spell_86 (lv_at hl 4 rfl) ?_
              refine lv_iconst (v := nI 1) hx hb dX1_spell_88 (by decide) ?_
              refine lv_aload_n hx hb dX1_spell_89 rfl (lv_at hl 5 rfl) ?_
              refine mg_row C hK hh.1 dX1_spell_90 ?_
              refine lv_iload hx hb dX1_spell_93 (lv_at hl 3 rfl) ?_
              refine ml_row C hK hh.1 (by omega) dX1_spell_95 ?_
              refine rd_ishl1 hx hb (by rw [va_up_self]; omega) dX1_spell_96 ?_
              refine rd_ior hx hb dX1_spell_97 ?_
              refine lv_istore (lv' := [(4, .int (nI (us ||| (2 ^ ((va_up v i (usF pr us (re / (bl / (n - i))))) i))))), (3, .int (nI (re % (bl / (n - i))))), (6, .int (nI (re / (bl / (n - i))))), (2, .int (nI (bl / (n - i)))), (5, .int (nI i)), (0, .ref (q 0)), (1, .int (nI x))]) hx hb dX1_spell_98 hl (by decide) rfl (fun ls hl => ?_)
              refine lv_iinc (v := nI (i + 1)) (lv' := [(5, .int (nI (i + 1))), (4, .int (nI (us ||| (2 ^ ((va_up v i (usF pr us (re / (bl / (n - i))))) i))))), (3, .int (nI (re % (bl / (n - i))))), (6, .int (nI (re / (bl / (n - i))))), (2, .int (nI (bl / (n - i)))), (0, .ref (q 0)), (1, .int (nI x))]) hx hb dX1_spell_100 hl (k := 4) rfl (rd_inc1 _) (by decide) rfl (fun ls hl => ?_)
              refine lv_goto (tgt := 13) hx hb dX1_spell_103 (by decide) ?_
              have hk5 := usF_lt pr us (re / (bl / (n - i)))
              rw [spL, if_pos h47, if_pos h47] at hsp
              rw [va_up_self] at hl
              exact ih y (i + 1) (bl / (n - i)) (re % (bl / (n - i))) (us ||| 2 ^ usF pr us (re / (bl / (n - i)))) (va_up v i (usF pr us (re / (bl / (n - i))))) (by omega) (by omega) (by omega) (by have := Nat.mod_lt re h47; omega) (rd_or_lt hus (rd_pow_lt hk5)) (rd_up_ltt hv hk5) hsp H locs hh ls (lv_sub hl [0, 1, 2, 4, 5, 6] rfl)
  refine lv_istore_n (lv' := [(2, .int (nI (fac n))), (0, .ref (q 0)), (1, .int (nI x))]) hx hb dX1_spell_4 rfl hl (by decide) rfl (fun ls hl => ?_)
  refine lv_iload_n hx hb dX1_spell_5 rfl (lv_at hl 2 rfl) ?_
  refine lv_istore_n (lv' := [(3, .int (nI x)), (2, .int (nI (fac n))), (0, .ref (q 0)), (1, .int (nI x))]) hx hb dX1_spell_6 rfl hl (by decide) rfl (fun ls hl => ?_)
  refine lv_iconst (v := nI 0) hx hb dX1_spell_7 (by decide) ?_
  refine lv_istore (lv' := [(4, .int (nI 0)), (3, .int (nI x)), (2, .int (nI (fac n))), (0, .ref (q 0)), (1, .int (nI x))]) hx hb dX1_spell_8 hl (by decide) rfl (fun ls hl => ?_)
  refine lv_iconst (v := nI 0) hx hb dX1_spell_10 (by decide) ?_
  refine lv_istore (lv' := [(5, .int (nI 0)), (4, .int (nI 0)), (3, .int (nI x)), (2, .int (nI (fac n))), (0, .ref (q 0)), (1, .int (nI x))]) hx hb dX1_spell_11 hl (by decide) rfl (fun ls hl => ?_)
  exact lo (n + 1) n 0 (fac n) x 0 fw (by omega) (by omega) (by omega) (by omega) (by omega) hbw rfl _ _ hh ls (lv_sub hl [0, 1, 2, 3, 4, 5] rfl)
end
section
/-! the model's orders by number, its room, idle, fits -/
theorem cpO_eq {r r' o : Nat → Nat} {n : Nat} (h : ∀ j, j < n → r j = r' j) : cpO r o n = cpO r' o n := by
  funext j
  unfold cpO
  by_cases hj : j < n
  · rw [if_pos hj, if_pos hj, h j hj]
  · rw [if_neg hj, if_neg hj]
theorem idN_step2 {y : Int32} {t : Nat} (h : ¬ y ≤ nI t) (h2 : t < 60) : t + 1 ≤ idN y := by
  refine idN_step (fun q => h ?_) (by omega)
  rw [Int32.lt_iff_toInt_lt, nI_toInt (by omega)] at q
  rw [Int32.le_iff_toInt_le, nI_toInt (by omega)]
  omega
theorem idN_end2 {y : Int32} {t : Nat} (h : y ≤ nI t) (ht : t ≤ 60) (hl : t ≤ idN y) : idN y = t := by
  refine idN_end ?_ ht hl
  rw [Int32.le_iff_toInt_le, nI_toInt (by omega)] at h
  rw [Int32.lt_iff_toInt_lt, nI_toInt (by omega)]
  omega
set_option maxHeartbeats 4000000 in
set_option maxRecDepth 100000 in
theorem mM_goodOrders (l : Launch) (D : va_G) (q : Nat → Nat) (K : Nat → ClassId) (pr n : Nat) (fc fl fp fo fw ff fg : Nat → Nat) (hB : BM pr n fc fl fp fo fw)  : CtI l yX1_goodOrders cX1_goodOrders 4 (some .int) { frames := 4, cells := 0, slots := 0, locals := 92 } D (mtys K) (mdW q K pr fc fl fp n fo fw ff fg) [.ref (q 0)] (fun (r : Int32) (u : (Nat → Nat) × (Nat → Nat) × (Nat → Nat)) => r = nI (goL (goP fc fl fp pr n) (fac n)) ∧ ∀ j, u.1 j < 5) (fun u => mdW q K pr fc fl fp n fo u.1 u.2.1 u.2.2) := by
  refine rd_startI (by decide) (Nat.le_of_ble_eq_true rfl) ?_
  intro p e s m below meth c ls A Q hQe C hK hh hl
  have C : CX p s m [.ref (q 0)].toArray meth c cX1_goodOrders 4 (some .int) RX1 := C
  have hx := C.1
  have hb := C.2.1
  have hl : lv_has ls 4 [(0, .ref (q 0))] := hl
  have hB0 := hB
  obtain ⟨⟨hpr, hn, hbc, hbl, hbp, hbo⟩, hbw⟩ := hB0
  have hfac := (fac_lt n hn).1
  have lo : ∀ (d : Nat) (x : Nat) (v f g : Nat → Nat), (fac n < x + d) → (x ≤ fac n) → (∀ j, v j < 5) → ∀ (H : Heap) (locs : List Loc), HH D (mdW q K pr fc fl fp n fo v f g) A s.heap H locs → ∀ (ls : Array Slot), lv_has ls 4 [(3, .int (nI x)), (2, .int (nI (goL (goP fc fl fp pr n) x))), (1, .int (nI (fac n))), (0, .ref (q 0))] → W p l e { frames := 4, cells := 0, slots := 0, locals := 92 } s m [.ref (q 0)].toArray below meth c H locs 0 0 Q (F0 m 9 ls []) := by
    intro d
    induction d with
    | zero => intro x v f g hd hxa hv H locs hh ls hl; omega
    | succ d ih =>
      intro x v f g hd hxa hv H locs hh ls hl
      refine lv_iload_n hx hb dX1_goodOrders_9 rfl (lv_at hl 0 rfl) ?_
      refine lv_iload_n hx hb dX1_goodOrders_10 rfl (lv_at hl 2 rfl) ?_
      refine rd_icmp_ge (tgt := 40) hx hb (by omega) (by omega) dX1_goodOrders_11 (by decide) (fun h11 => ?_) (fun h11 => ?_)
      · refine lv_iload_n hx hb dX1_goodOrders_40 rfl (lv_at hl 1 rfl) ?_
        subst hQe; exact rd_retI ((v, f, g)) C hK hh (⟨by rw [show fac n = x by omega], hv⟩) dX1_goodOrders_41
      · refine lv_aload_n hx hb dX1_goodOrders_14 rfl (lv_at hl 3 rfl) ?_
        refine lv_iload_n hx hb dX1_goodOrders_15 rfl (lv_at hl 0 rfl) ?_
        refine rd_callIv (n := 1) (q := (RX1, TX1, 9)) C hK hh (mM_spell l D q K pr n fc fl fp fo v f g ⟨hB.1, hv⟩ x (by omega)) (lw_V q277 q279 qs19 q23 q280) (by decide +kernel) rfl ⟨rfl, rfl⟩ ⟨Nat.le_of_ble_eq_true rfl, Nat.le_of_ble_eq_true rfl⟩ 1 0 rfl rfl rfl hl.1 (Nat.le_of_ble_eq_true rfl) ⟨Nat.zero_le _, Nat.zero_le _⟩ dX1_goodOrders_16 (fun u H locs hr hh => ?_)
        have hh : HH D (mdW q K pr fc fl fp n fo (spF pr n x v) f g) A s.heap H locs := hh
        have hw2 : ∀ j, spF pr n x v j < 5 := spL_lt pr n _ _ _ _ _ _ hv
        refine lv_aload_n hx hb dX1_goodOrders_19 rfl (lv_at hl 3 rfl) ?_
        refine rd_callI (n := 0) (q := (RX1, TX1, 9)) C hK hh (mM_allPunctual l D q K pr n fc fl fp fo (spF pr n x v) f g ⟨hB.1, hw2⟩) (lw_V q257 q259 qs16 q23 q260) (by decide +kernel) rfl ⟨rfl, rfl⟩ ⟨Nat.le_of_ble_eq_true rfl, Nat.le_of_ble_eq_true rfl⟩ 1 0 rfl rfl rfl hl.1 (Nat.le_of_ble_eq_true rfl) ⟨Nat.zero_le _, Nat.zero_le _⟩ dX1_goodOrders_20 (fun r u H locs hr hh => ?_)
        obtain ⟨f1, g1⟩ := u
        have hr : r = bI (apF fc fl fp (spF pr n x v) pr n) := hr
        subst hr
        have eap : apF fc fl fp (spF pr n x v) pr n = goP fc fl fp pr n x := apF_congr (fun j hj => spF_in pr n x v zz hj)
        rw [eap]
        have hh : HH D (mdW q K pr fc fl fp n fo (spF pr n x v) f1 g1) A s.heap H locs := hh
        refine rd_ifb_eq (tgt := 32) hx hb dX1_goodOrders_23 (by decide) (fun h23 => ?_) (fun h23 => ?_)
        · refine lv_iload_n hx hb dX1_goodOrders_32 rfl (lv_at hl 1 rfl) ?_
          refine lv_istore_n (lv' := [(2, .int (nI (goL (goP fc fl fp pr n) x))), (3, .int (nI x)), (1, .int (nI (fac n))), (0, .ref (q 0))]) hx hb dX1_goodOrders_33 rfl hl (by decide) rfl (fun ls hl => ?_)
          refine lv_iinc (v := nI (x + 1)) (lv' := [(3, .int (nI (x + 1))), (2, .int (nI (goL (goP fc fl fp pr n) x))), (1, .int (nI (fac n))), (0, .ref (q 0))]) hx hb dX1_goodOrders_34 hl (k := 1) rfl (rd_inc1 _) (by decide) rfl (fun ls hl => ?_)
          refine lv_goto (tgt := 9) hx hb dX1_goodOrders_37 (by decide) ?_
          have eg : goL (goP fc fl fp pr n) x = goL (goP fc fl fp pr n) (x + 1) := by simp [goL, h23]
          rw [eg] at hl
          exact ih (x + 1) (spF pr n x v) f1 g1 (by omega) (by omega) hw2 H locs hh ls (lv_sub hl [0, 1, 2, 3] rfl)
        · refine lv_iload_n hx hb dX1_goodOrders_26 rfl (lv_at hl 1 rfl) ?_
          refine lv_iconst (v := nI 1) hx hb dX1_goodOrders_27 (by decide) ?_
          refine rd_iadd hx hb dX1_goodOrders_28 ?_
          refine lv_goto (tgt := 33) hx hb dX1_goodOrders_29 (by decide) ?_
          refine lv_istore_n (lv' := [(2, .int (nI ((goL (goP fc fl fp pr n) x) + 1))), (3, .int (nI x)), (1, .int (nI (fac n))), (0, .ref (q 0))]) hx hb dX1_goodOrders_33 rfl hl (by decide) rfl (fun ls hl => ?_)
          refine lv_iinc (v := nI (x + 1)) (lv' := [(3, .int (nI (x + 1))), (2, .int (nI ((goL (goP fc fl fp pr n) x) + 1))), (1, .int (nI (fac n))), (0, .ref (q 0))]) hx hb dX1_goodOrders_34 hl (k := 1) rfl (rd_inc1 _) (by decide) rfl (fun ls hl => ?_)
          refine lv_goto (tgt := 9) hx hb dX1_goodOrders_37 (by decide) ?_
          have eg : (goL (goP fc fl fp pr n) x) + 1 = goL (goP fc fl fp pr n) (x + 1) := by simp [goL, h23]
          rw [eg] at hl
          exact ih (x + 1) (spF pr n x v) f1 g1 (by omega) (by omega) hw2 H locs hh ls (lv_sub hl [0, 1, 2, 3] rfl)
  refine lv_aload_n hx hb dX1_goodOrders_0 rfl (lv_at hl 0 rfl) ?_
  refine rd_callP (n := 0) (q := (RX1, TX1, 9)) C hK hh.1 (mM_orders l D q K pr n fc fl fp fo fw ff fg hB) (lw_V q273 q275 qs18 q23 q276) (by decide +kernel) rfl ⟨rfl, rfl⟩ ⟨Nat.le_of_ble_eq_true rfl, Nat.le_of_ble_eq_true rfl⟩ 1 0 rfl rfl rfl hl.1 (Nat.le_of_ble_eq_true rfl) ⟨Nat.zero_le _, Nat.zero_le _⟩ dX1_goodOrders_1 (fun r hr => ?_)
  subst hr
  refine lv_istore_n (lv' := [(1, .int (nI (fac n))), (0, .ref (q 0))]) hx hb dX1_goodOrders_4 rfl hl (by decide) rfl (fun ls hl => ?_)
  refine lv_iconst (v := nI 0) hx hb dX1_goodOrders_5 (by decide) ?_
  refine lv_istore_n (lv' := [(2, .int (nI 0)), (1, .int (nI (fac n))), (0, .ref (q 0))]) hx hb dX1_goodOrders_6 rfl hl (by decide) rfl (fun ls hl => ?_)
  refine lv_iconst (v := nI 0) hx hb dX1_goodOrders_7 (by decide) ?_
  refine lv_istore_n (lv' := [(3, .int (nI 0)), (2, .int (nI 0)), (1, .int (nI (fac n))), (0, .ref (q 0))]) hx hb dX1_goodOrders_8 rfl hl (by decide) rfl (fun ls hl => ?_)
  exact lo (fac n + 1) 0 fw ff fg (by omega) (by omega) hbw _ _ hh ls (lv_sub hl [0, 1, 2, 3] rfl)
set_option maxHeartbeats 4000000 in
set_option maxRecDepth 100000 in
theorem mM_arrange (l : Launch) (D : va_G) (q : Nat → Nat) (K : Nat → ClassId) (pr n : Nat) (fc fl fp fo fw ff fg : Nat → Nat) (hB : BM pr n fc fl fp fo fw)  : CtI l yX1_arrange cX1_arrange 4 (some .boolean) { frames := 4, cells := 0, slots := 0, locals := 92 } D (mtys K) (mdW q K pr fc fl fp n fo fw ff fg) [.ref (q 0)] (fun (r : Int32) (u : (Nat → Nat) × (Nat → Nat) × (Nat → Nat) × (Nat → Nat)) => match fiL (goP fc fl fp pr n) (fac n) 0 with | none => r = 0 ∧ u.1 = fo ∧ ∀ j, u.2.1 j < 5 | some x => r = 1 ∧ u.1 = cpO (spF pr n x zz) fo n ∧ ∀ j, u.2.1 j < 5) (fun u => mdW q K pr fc fl fp n u.1 u.2.1 u.2.2.1 u.2.2.2) := by
  refine rd_startI (by decide) (Nat.le_of_ble_eq_true rfl) ?_
  intro p e s m below meth c ls A Q hQe C hK hh hl
  have C : CX p s m [.ref (q 0)].toArray meth c cX1_arrange 4 (some .boolean) RX1 := C
  have hx := C.1
  have hb := C.2.1
  have hl : lv_has ls 4 [(0, .ref (q 0))] := hl
  have hB0 := hB
  obtain ⟨⟨hpr, hn, hbc, hbl, hbp, hbo⟩, hbw⟩ := hB0
  have hfac := (fac_lt n hn).1
  have lo : ∀ (d : Nat) (y x : Nat) (v f g : Nat → Nat), (fac n < x + d) → (x ≤ fac n) → (∀ j, v j < 5) → (x + y = fac n) → (fiL (goP fc fl fp pr n) y x = fiL (goP fc fl fp pr n) (fac n) 0) → ∀ (H : Heap) (locs : List Loc), HH D (mdW q K pr fc fl fp n fo v f g) A s.heap H locs → ∀ (ls : Array Slot), lv_has ls 4 [(2, .int (nI x)), (1, .int (nI (fac n))), (0, .ref (q 0))] → W p l e { frames := 4, cells := 0, slots := 0, locals := 92 } s m [.ref (q 0)].toArray below meth c H locs 0 0 Q (F0 m 7 ls []) := by
    intro d
    induction d with
    | zero => intro y x v f g hd hxa hv hy hfi H locs hh ls hl; omega
    | succ d ih =>
      intro y x v f g hd hxa hv hy hfi H locs hh ls hl
      refine lv_iload_n hx hb dX1_arrange_7 rfl (lv_at hl 0 rfl) ?_
      refine lv_iload_n hx hb dX1_arrange_8 rfl (lv_at hl 1 rfl) ?_
      refine rd_icmp_ge (tgt := 60) hx hb (by omega) (by omega) dX1_arrange_9 (by decide) (fun h9 => ?_) (fun h9 => ?_)
      · refine lv_iconst (v := nI 0) hx hb dX1_arrange_60 (by decide) ?_
        subst hQe; exact rd_retIz ((fo, v, f, g)) C hK hh rfl (by rw [← hfi, show y = 0 by omega]; exact ⟨rfl, rfl, hv⟩) dX1_arrange_61
      · obtain ⟨y, rfl⟩ : ∃ z, y = z + 1 := ⟨y - 1, by omega⟩
        refine lv_aload_n hx hb dX1_arrange_12 rfl (lv_at hl 2 rfl) ?_
        refine lv_iload_n hx hb dX1_arrange_13 rfl (lv_at hl 0 rfl) ?_
        refine rd_callIv (n := 1) (q := (RX1, TX1, 9)) C hK hh (mM_spell l D q K pr n fc fl fp fo v f g ⟨hB.1, hv⟩ x (by omega)) (lw_V q277 q279 qs19 q23 q280) (by decide +kernel) rfl ⟨rfl, rfl⟩ ⟨Nat.le_of_ble_eq_true rfl, Nat.le_of_ble_eq_true rfl⟩ 1 0 rfl rfl rfl hl.1 (Nat.le_of_ble_eq_true rfl) ⟨Nat.zero_le _, Nat.zero_le _⟩ dX1_arrange_14 (fun u H locs hr hh => ?_)
        have hh : HH D (mdW q K pr fc fl fp n fo (spF pr n x v) f g) A s.heap H locs := hh
        have hw2 : ∀ j, spF pr n x v j < 5 := spL_lt pr n _ _ _ _ _ _ hv
        refine lv_aload_n hx hb dX1_arrange_17 rfl (lv_at hl 2 rfl) ?_
        refine rd_callI (n := 0) (q := (RX1, TX1, 9)) C hK hh (mM_allPunctual l D q K pr n fc fl fp fo (spF pr n x v) f g ⟨hB.1, hw2⟩) (lw_V q257 q259 qs16 q23 q260) (by decide +kernel) rfl ⟨rfl, rfl⟩ ⟨Nat.le_of_ble_eq_true rfl, Nat.le_of_ble_eq_true rfl⟩ 1 0 rfl rfl rfl hl.1 (Nat.le_of_ble_eq_true rfl) ⟨Nat.zero_le _, Nat.zero_le _⟩ dX1_arrange_18 (fun r u H locs hr hh => ?_)
        obtain ⟨f1, g1⟩ := u
        have hr : r = bI (apF fc fl fp (spF pr n x v) pr n) := hr
        subst hr
        have eap : apF fc fl fp (spF pr n x v) pr n = goP fc fl fp pr n x := apF_congr (fun j hj => spF_in pr n x v zz hj)
        rw [eap]
        have hh : HH D (mdW q K pr fc fl fp n fo (spF pr n x v) f1 g1) A s.heap H locs := hh
        refine rd_ifb_eq (tgt := 54) hx hb dX1_arrange_21 (by decide) (fun h21 => ?_) (fun h21 => ?_)
        · refine lv_iinc (v := nI (x + 1)) (lv' := [(2, .int (nI (x + 1))), (1, .int (nI (fac n))), (0, .ref (q 0))]) hx hb dX1_arrange_54 hl (k := 0) rfl (rd_inc1 _) (by decide) rfl (fun ls hl => ?_)
          refine lv_goto (tgt := 7) hx hb dX1_arrange_57 (by decide) ?_
          exact ih y (x + 1) (spF pr n x v) f1 g1 (by omega) (by omega) hw2 (by omega) (by rw [← hfi, fiL, if_neg (by rw [h21]; decide)]) H locs hh ls (lv_sub hl [0, 1, 2] rfl)
        · have hfx : fiL (goP fc fl fp pr n) (fac n) 0 = some x := by rw [← hfi, fiL, if_pos h21]
          have cp : ∀ (d : Nat) (i : Nat), (n < i + d) → (i ≤ n) → ∀ (H : Heap) (locs : List Loc), HH D (mdW q K pr fc fl fp n (cpO (spF pr n x v) fo i) (spF pr n x v) f1 g1) A s.heap H locs → ∀ (ls : Array Slot), lv_has ls 4 [(3, .int (nI i)), (2, .int (nI x)), (1, .int (nI (fac n))), (0, .ref (q 0))] → W p l e { frames := 4, cells := 0, slots := 0, locals := 92 } s m [.ref (q 0)].toArray below meth c H locs 0 0 Q (F0 m 26 ls []) := by
            intro d
            induction d with
            | zero => intro i hd hi H locs hh ls hl; omega
            | succ d ih2 =>
              intro i hd hi H locs hh ls hl
              refine lv_iload_n hx hb dX1_arrange_26 rfl (lv_at hl 0 rfl) ?_
              refine lv_aload_n hx hb dX1_arrange_27 rfl (lv_at hl 3 rfl) ?_
              refine mg_size C hK hh.1 dX1_arrange_28 ?_
              refine rd_icmp_ge (tgt := 52) hx hb (by omega) (by omega) dX1_arrange_31 (by decide) (fun h31 => ?_) (fun h31 => ?_)
              · refine lv_iconst (v := nI 1) hx hb dX1_arrange_52 (by decide) ?_
                subst hQe; exact rd_retIz ((cpO (spF pr n x v) fo i, spF pr n x v, f1, g1)) C hK hh rfl (by rw [hfx]; exact ⟨rfl, by rw [show i = n by omega]; exact cpO_eq (fun j hj => spF_in pr n x v zz hj), hw2⟩) dX1_arrange_53
              · refine lv_aload_n hx hb dX1_arrange_34 rfl (lv_at hl 3 rfl) ?_
                refine mg_order C hK hh.1 dX1_arrange_35 ?_
                refine lv_iload_n hx hb dX1_arrange_38 rfl (lv_at hl 0 rfl) ?_
                refine lv_aload_n hx hb dX1_arrange_39 rfl (lv_at hl 3 rfl) ?_
                refine mg_row C hK hh.1 dX1_arrange_40 ?_
                refine lv_iload_n hx hb dX1_arrange_43 rfl (lv_at hl 0 rfl) ?_
                refine ml_row C hK hh.1 (by omega) dX1_arrange_44 ?_
                refine ms_order C hK hh (by omega) dX1_arrange_45 (fun H locs hh => ?_)
                refine lv_iinc (v := nI (i + 1)) (lv' := [(3, .int (nI (i + 1))), (2, .int (nI x)), (1, .int (nI (fac n))), (0, .ref (q 0))]) hx hb dX1_arrange_46 hl (k := 0) rfl (rd_inc1 _) (by decide) rfl (fun ls hl => ?_)
                refine lv_goto (tgt := 26) hx hb dX1_arrange_49 (by decide) ?_
                rw [cpO_up] at hh
                exact ih2 (i + 1) (by omega) (by omega) H locs hh ls (lv_sub hl [0, 1, 2, 3] rfl)
          rw [← cpO_0 (spF pr n x v) fo] at hh
          refine lv_iconst (v := nI 0) hx hb dX1_arrange_24 (by decide) ?_
          refine lv_istore_n (lv' := [(3, .int (nI 0)), (2, .int (nI x)), (1, .int (nI (fac n))), (0, .ref (q 0))]) hx hb dX1_arrange_25 rfl hl (by decide) rfl (fun ls hl => ?_)
          exact cp (n + 1) 0 (by omega) (by omega) _ _ hh ls (lv_sub hl [0, 1, 2, 3] rfl)
  refine lv_aload_n hx hb dX1_arrange_0 rfl (lv_at hl 0 rfl) ?_
  refine rd_callP (n := 0) (q := (RX1, TX1, 9)) C hK hh.1 (mM_orders l D q K pr n fc fl fp fo fw ff fg hB) (lw_V q273 q275 qs18 q23 q276) (by decide +kernel) rfl ⟨rfl, rfl⟩ ⟨Nat.le_of_ble_eq_true rfl, Nat.le_of_ble_eq_true rfl⟩ 1 0 rfl rfl rfl hl.1 (Nat.le_of_ble_eq_true rfl) ⟨Nat.zero_le _, Nat.zero_le _⟩ dX1_arrange_1 (fun r hr => ?_)
  subst hr
  refine lv_istore_n (lv' := [(1, .int (nI (fac n))), (0, .ref (q 0))]) hx hb dX1_arrange_4 rfl hl (by decide) rfl (fun ls hl => ?_)
  refine lv_iconst (v := nI 0) hx hb dX1_arrange_5 (by decide) ?_
  refine lv_istore_n (lv' := [(2, .int (nI 0)), (1, .int (nI (fac n))), (0, .ref (q 0))]) hx hb dX1_arrange_6 rfl hl (by decide) rfl (fun ls hl => ?_)
  exact lo (fac n + 1) (fac n) 0 fw ff fg (by omega) (by omega) hbw (by omega) rfl _ _ hh ls (lv_sub hl [0, 1, 2] rfl)
set_option maxHeartbeats 4000000 in
set_option maxRecDepth 100000 in
theorem mM_canBeLast (l : Launch) (D : va_G) (q : Nat → Nat) (K : Nat → ClassId) (pr n : Nat) (fc fl fp fo fw ff fg : Nat → Nat) (hB : BM pr n fc fl fp fo fw)  : CtI l yX1_canBeLast cX1_canBeLast 4 (some .int) { frames := 4, cells := 0, slots := 0, locals := 92 } D (mtys K) (mdW q K pr fc fl fp n fo fw ff fg) [.ref (q 0)] (fun (r : Int32) (u : (Nat → Nat) × (Nat → Nat) × (Nat → Nat)) => r = nI (if n = 0 then 0 else lsL (goP fc fl fp pr n) (fun x => spF pr n x zz (n - 1)) (fac n)) ∧ ∀ j, u.1 j < 5) (fun u => mdW q K pr fc fl fp n fo u.1 u.2.1 u.2.2) := by
  refine rd_startI (by decide) (Nat.le_of_ble_eq_true rfl) ?_
  intro p e s m below meth c ls A Q hQe C hK hh hl
  have C : CX p s m [.ref (q 0)].toArray meth c cX1_canBeLast 4 (some .int) RX1 := C
  have hx := C.1
  have hb := C.2.1
  have hl : lv_has ls 4 [(0, .ref (q 0))] := hl
  have hB0 := hB
  obtain ⟨⟨hpr, hn, hbc, hbl, hbp, hbo⟩, hbw⟩ := hB0
  have hfac := (fac_lt n hn).1
  have lo : ∀ (d : Nat) (x : Nat) (v f g : Nat → Nat), (fac n < x + d) → (x ≤ fac n) → (∀ j, v j < 5) → (n = 0 → x = 0) → ∀ (H : Heap) (locs : List Loc), HH D (mdW q K pr fc fl fp n fo v f g) A s.heap H locs → ∀ (ls : Array Slot), lv_has ls 4 [(3, .int (nI x)), (2, .int (nI (lsL (goP fc fl fp pr n) (fun x => spF pr n x zz (n - 1)) x))), (1, .int (nI (fac n))), (0, .ref (q 0))] → W p l e { frames := 4, cells := 0, slots := 0, locals := 92 } s m [.ref (q 0)].toArray below meth c H locs 0 0 Q (F0 m 9 ls []) := by
    intro d
    induction d with
    | zero => intro x v f g hd hxa hv hx0 H locs hh ls hl; omega
    | succ d ih =>
      intro x v f g hd hxa hv hx0 H locs hh ls hl
      refine lv_iload_n hx hb dX1_canBeLast_9 rfl (lv_at hl 0 rfl) ?_
      refine lv_iload_n hx hb dX1_canBeLast_10 rfl (lv_at hl 2 rfl) ?_
      refine rd_icmp_ge (tgt := 59) hx hb (by omega) (by omega) dX1_canBeLast_11 (by decide) (fun h11 => ?_) (fun h11 => ?_)
      · refine lv_iload_n hx hb dX1_canBeLast_59 rfl (lv_at hl 1 rfl) ?_
        subst hQe; exact rd_retI ((v, f, g)) C hK hh (⟨by have hxe : x = fac n := (by omega); rcases Nat.eq_zero_or_pos n with q | q; (have := hx0 q; have := (fac_lt n hn).2; omega); rw [if_neg (by omega), hxe], hv⟩) dX1_canBeLast_60
      · refine lv_aload_n hx hb dX1_canBeLast_14 rfl (lv_at hl 3 rfl) ?_
        refine mg_size C hK hh.1 dX1_canBeLast_15 ?_
        refine rd_if_le (tgt := 59) hx hb (by omega) dX1_canBeLast_18 (by decide) (fun h18 => ?_) (fun h18 => ?_)
        · refine lv_iload_n hx hb dX1_canBeLast_59 rfl (lv_at hl 1 rfl) ?_
          subst hQe; exact rd_retI ((v, f, g)) C hK hh (⟨by rw [if_pos h18, hx0 h18]; rfl, hv⟩) dX1_canBeLast_60
        · refine lv_aload_n hx hb dX1_canBeLast_21 rfl (lv_at hl 3 rfl) ?_
          refine lv_iload_n hx hb dX1_canBeLast_22 rfl (lv_at hl 0 rfl) ?_
          refine rd_callIv (n := 1) (q := (RX1, TX1, 9)) C hK hh (mM_spell l D q K pr n fc fl fp fo v f g ⟨hB.1, hv⟩ x (by omega)) (lw_V q277 q279 qs19 q23 q280) (by decide +kernel) rfl ⟨rfl, rfl⟩ ⟨Nat.le_of_ble_eq_true rfl, Nat.le_of_ble_eq_true rfl⟩ 1 0 rfl rfl rfl hl.1 (Nat.le_of_ble_eq_true rfl) ⟨Nat.zero_le _, Nat.zero_le _⟩ dX1_canBeLast_23 (fun u H locs hr hh => ?_)
          have hh : HH D (mdW q K pr fc fl fp n fo (spF pr n x v) f g) A s.heap H locs := hh
          have hw2 : ∀ j, spF pr n x v j < 5 := spL_lt pr n _ _ _ _ _ _ hv
          refine lv_aload_n hx hb dX1_canBeLast_26 rfl (lv_at hl 3 rfl) ?_
          refine rd_callI (n := 0) (q := (RX1, TX1, 9)) C hK hh (mM_allPunctual l D q K pr n fc fl fp fo (spF pr n x v) f g ⟨hB.1, hw2⟩) (lw_V q257 q259 qs16 q23 q260) (by decide +kernel) rfl ⟨rfl, rfl⟩ ⟨Nat.le_of_ble_eq_true rfl, Nat.le_of_ble_eq_true rfl⟩ 1 0 rfl rfl rfl hl.1 (Nat.le_of_ble_eq_true rfl) ⟨Nat.zero_le _, Nat.zero_le _⟩ dX1_canBeLast_27 (fun r u H locs hr hh => ?_)
          obtain ⟨f1, g1⟩ := u
          have hr : r = bI (apF fc fl fp (spF pr n x v) pr n) := hr
          subst hr
          have eap : apF fc fl fp (spF pr n x v) pr n = goP fc fl fp pr n x := apF_congr (fun j hj => spF_in pr n x v zz hj)
          rw [eap]
          have hh : HH D (mdW q K pr fc fl fp n fo (spF pr n x v) f1 g1) A s.heap H locs := hh
          refine rd_ifb_eq (tgt := 51) hx hb dX1_canBeLast_30 (by decide) (fun h30 => ?_) (fun h30 => ?_)
          · refine lv_iload_n hx hb dX1_canBeLast_51 rfl (lv_at hl 1 rfl) ?_
            refine lv_istore_n (lv' := [(2, .int (nI (lsL (goP fc fl fp pr n) (fun x => spF pr n x zz (n - 1)) x))), (3, .int (nI x)), (1, .int (nI (fac n))), (0, .ref (q 0))]) hx hb dX1_canBeLast_52 rfl hl (by decide) rfl (fun ls hl => ?_)
            refine lv_iinc (v := nI (x + 1)) (lv' := [(3, .int (nI (x + 1))), (2, .int (nI (lsL (goP fc fl fp pr n) (fun x => spF pr n x zz (n - 1)) x))), (1, .int (nI (fac n))), (0, .ref (q 0))]) hx hb dX1_canBeLast_53 hl (k := 1) rfl (rd_inc1 _) (by decide) rfl (fun ls hl => ?_)
            refine lv_goto (tgt := 9) hx hb dX1_canBeLast_56 (by decide) ?_
            have hkl : spF pr n x v (n - 1) = spF pr n x zz (n - 1) := spF_in pr n x v zz (by omega)
            have eg : lsL (goP fc fl fp pr n) (fun x => spF pr n x zz (n - 1)) x = lsL (goP fc fl fp pr n) (fun x => spF pr n x zz (n - 1)) (x + 1) := by simp [lsL, h30, hkl]
            rw [eg] at hl
            exact ih (x + 1) (spF pr n x v) f1 g1 (by omega) (by omega) hw2 (by omega) H locs hh ls (lv_sub hl [0, 1, 2, 3] rfl)
          · refine lv_iload_n hx hb dX1_canBeLast_33 rfl (lv_at hl 1 rfl) ?_
            refine lv_iconst (v := nI 1) hx hb dX1_canBeLast_34 (by decide) ?_
            refine lv_aload_n hx hb dX1_canBeLast_35 rfl (lv_at hl 3 rfl) ?_
            refine mg_row C hK hh.1 dX1_canBeLast_36 ?_
            refine lv_aload_n hx hb dX1_canBeLast_39 rfl (lv_at hl 3 rfl) ?_
            refine mg_size C hK hh.1 dX1_canBeLast_40 ?_
            refine lv_iconst (v := nI 1) hx hb dX1_canBeLast_43 (by decide) ?_
            refine rd_isub hx hb (by omega) dX1_canBeLast_44 ?_
            refine ml_row C hK hh.1 (by omega) dX1_canBeLast_45 ?_
            refine rd_ishl1 hx hb (by have := hw2 (n - 1); omega) dX1_canBeLast_46 ?_
            refine rd_ior hx hb dX1_canBeLast_47 ?_
            refine lv_goto (tgt := 52) hx hb dX1_canBeLast_48 (by decide) ?_
            refine lv_istore_n (lv' := [(2, .int (nI ((lsL (goP fc fl fp pr n) (fun x => spF pr n x zz (n - 1)) x) ||| (2 ^ ((spF pr n x v) (n - 1)))))), (3, .int (nI x)), (1, .int (nI (fac n))), (0, .ref (q 0))]) hx hb dX1_canBeLast_52 rfl hl (by decide) rfl (fun ls hl => ?_)
            refine lv_iinc (v := nI (x + 1)) (lv' := [(3, .int (nI (x + 1))), (2, .int (nI ((lsL (goP fc fl fp pr n) (fun x => spF pr n x zz (n - 1)) x) ||| (2 ^ ((spF pr n x v) (n - 1)))))), (1, .int (nI (fac n))), (0, .ref (q 0))]) hx hb dX1_canBeLast_53 hl (k := 1) rfl (rd_inc1 _) (by decide) rfl (fun ls hl => ?_)
            refine lv_goto (tgt := 9) hx hb dX1_canBeLast_56 (by decide) ?_
            have hkl : spF pr n x v (n - 1) = spF pr n x zz (n - 1) := spF_in pr n x v zz (by omega)
            have eg : (lsL (goP fc fl fp pr n) (fun x => spF pr n x zz (n - 1)) x) ||| (2 ^ ((spF pr n x v) (n - 1))) = lsL (goP fc fl fp pr n) (fun x => spF pr n x zz (n - 1)) (x + 1) := by simp [lsL, h30, hkl]
            rw [eg] at hl
            exact ih (x + 1) (spF pr n x v) f1 g1 (by omega) (by omega) hw2 (by omega) H locs hh ls (lv_sub hl [0, 1, 2, 3] rfl)
  refine lv_aload_n hx hb dX1_canBeLast_0 rfl (lv_at hl 0 rfl) ?_
  refine rd_callP (n := 0) (q := (RX1, TX1, 9)) C hK hh.1 (mM_orders l D q K pr n fc fl fp fo fw ff fg hB) (lw_V q273 q275 qs18 q23 q276) (by decide +kernel) rfl ⟨rfl, rfl⟩ ⟨Nat.le_of_ble_eq_true rfl, Nat.le_of_ble_eq_true rfl⟩ 1 0 rfl rfl rfl hl.1 (Nat.le_of_ble_eq_true rfl) ⟨Nat.zero_le _, Nat.zero_le _⟩ dX1_canBeLast_1 (fun r hr => ?_)
  subst hr
  refine lv_istore_n (lv' := [(1, .int (nI (fac n))), (0, .ref (q 0))]) hx hb dX1_canBeLast_4 rfl hl (by decide) rfl (fun ls hl => ?_)
  refine lv_iconst (v := nI 0) hx hb dX1_canBeLast_5 (by decide) ?_
  refine lv_istore_n (lv' := [(2, .int (nI 0)), (1, .int (nI (fac n))), (0, .ref (q 0))]) hx hb dX1_canBeLast_6 rfl hl (by decide) rfl (fun ls hl => ?_)
  refine lv_iconst (v := nI 0) hx hb dX1_canBeLast_7 (by decide) ?_
  refine lv_istore_n (lv' := [(3, .int (nI 0)), (2, .int (nI 0)), (1, .int (nI (fac n))), (0, .ref (q 0))]) hx hb dX1_canBeLast_8 rfl hl (by decide) rfl (fun ls hl => ?_)
  exact lo (fac n + 1) 0 fw ff fg (by omega) (by omega) hbw (by omega) _ _ hh ls (lv_sub hl [0, 1, 2, 3] rfl)
set_option maxHeartbeats 4000000 in
set_option maxRecDepth 100000 in
theorem mM_greatestCost (l : Launch) (D : va_G) (q : Nat → Nat) (K : Nat → ClassId) (pr n : Nat) (fc fl fp fo fw ff fg : Nat → Nat) (hB : BM pr n fc fl fp fo fw) (k : Int32) : CtI l yX1_greatestCost cX1_greatestCost 5 (some .int) { frames := 4, cells := 0, slots := 0, locals := 92 } D (mtys K) (mdW q K pr fc fl fp n fo fw ff fg) [.ref (q 0), .int k] (fun (r : Int32) (u : (Nat → Nat) × (Nat → Nat) × (Nat → Nat)) => (r = if hasB pr k then nI (gcL (fun x => apF (va_up fc k.toNatClampNeg x) fl fp (cpO fo fw n) pr n) (fl k.toNatClampNeg)) else -1) ∧ ∀ j, u.1 j < 5) (fun u => mdW q K pr fc fl fp n fo u.1 u.2.1 u.2.2) := by
  refine rd_startI (by decide) (Nat.le_of_ble_eq_true rfl) ?_
  intro p e s m below meth c ls A Q hQe C hK hh hl
  have C : CX p s m [.ref (q 0), .int k].toArray meth c cX1_greatestCost 5 (some .int) RX1 := C
  have hx := C.1
  have hb := C.2.1
  have hl : lv_has ls 5 [(0, .ref (q 0)), (1, .int k)] := hl
  have hB0 := hB
  obtain ⟨⟨hpr, hn, hbc, hbl, hbp, hbo⟩, hbw⟩ := hB0
  refine lv_aload_n hx hb dX1_greatestCost_0 rfl (lv_at hl 0 rfl) ?_
  refine lv_iload_n hx hb dX1_greatestCost_1 rfl (lv_at hl 1 rfl) ?_
  refine rd_callP (n := 1) (q := (RX1, TX1, 9)) C hK hh.1 (mM_is l D q K pr n fc fl fp fo fw ff fg hB k) (lw_V q209 q211 qs9 q23 q212) (by decide +kernel) rfl ⟨rfl, rfl⟩ ⟨Nat.le_of_ble_eq_true rfl, Nat.le_of_ble_eq_true rfl⟩ 1 0 rfl rfl rfl hl.1 (Nat.le_of_ble_eq_true rfl) ⟨Nat.zero_le _, Nat.zero_le _⟩ dX1_greatestCost_2 (fun r hr => ?_)
  subst hr
  refine rd_ifb_ne (tgt := 10) hx hb dX1_greatestCost_5 (by decide) (fun h5 => ?_) (fun h5 => ?_)
  · obtain ⟨j, hj5, rfl, hjb⟩ := hasB_of h5
    obtain ⟨G, hG⟩ : ∃ G : Nat → Bool, G = (fun x => apF (va_up fc j x) fl fp (cpO fo fw n) pr n) := ⟨_, rfl⟩
    have hcj := hbc j; have hlj := hbl j
    refine lv_aload_n hx hb dX1_greatestCost_10 rfl (lv_at hl 0 rfl) ?_
    refine rd_callIv (n := 0) (q := (RX1, TX1, 9)) C hK hh (mM_useOrder l D q K pr n fc fl fp fo fw ff fg hB) (lw_V q237 q239 qs12 q23 q240) (by decide +kernel) rfl ⟨rfl, rfl⟩ ⟨Nat.le_of_ble_eq_true rfl, Nat.le_of_ble_eq_true rfl⟩ 1 0 rfl rfl rfl hl.1 (Nat.le_of_ble_eq_true rfl) ⟨Nat.zero_le _, Nat.zero_le _⟩ dX1_greatestCost_11 (fun u H locs hr hh => ?_)
    have hh : HH D (mdW q K pr fc fl fp n fo (cpO fo fw n) ff fg) A s.heap H locs := hh
    have lo : ∀ (d : Nat) (x : Nat) (cur f g : Nat → Nat), ((fl j) < x + d) → (x ≤ (fl j)) → (∀ v, va_up cur j v = va_up fc j v) → ∀ (H : Heap) (locs : List Loc), HH D (mdW q K pr cur fl fp n fo (cpO fo fw n) f g) A s.heap H locs → ∀ (ls : Array Slot), lv_has ls 5 [(4, .int (nI (x + 1))), (3, .int (nI (gcL G x))), (2, .int (nI (fc j))), (0, .ref (q 0)), (1, .int (nI j))] → W p l e { frames := 4, cells := 0, slots := 0, locals := 92 } s m [.ref (q 0), .int (nI j)].toArray below meth c H locs 0 0 Q (F0 m 26 ls []) := by
      intro d
      induction d with
      | zero => intro x cur f g hd hxl hcur H locs hh ls hl; omega
      | succ d ih =>
        intro x cur f g hd hxl hcur H locs hh ls hl
        refine lv_iload hx hb dX1_greatestCost_26 (lv_at hl 0 rfl) ?_
        refine lv_aload_n hx hb dX1_greatestCost_28 rfl (lv_at hl 3 rfl) ?_
        refine mg_limits C hK hh.1 dX1_greatestCost_29 ?_
        refine lv_iload_n hx hb dX1_greatestCost_32 rfl (lv_at hl 4 rfl) ?_
        refine ml_limits C hK hh.1 (by omega) dX1_greatestCost_33 ?_
        refine rd_icmp_gt (tgt := 65) hx hb (by omega) (by omega) dX1_greatestCost_34 (by decide) (fun h34 => ?_) (fun h34 => ?_)
        · refine lv_aload_n hx hb dX1_greatestCost_65 rfl (lv_at hl 3 rfl) ?_
          refine mg_costs C hK hh.1 dX1_greatestCost_66 ?_
          refine lv_iload_n hx hb dX1_greatestCost_69 rfl (lv_at hl 4 rfl) ?_
          refine lv_iload_n hx hb dX1_greatestCost_70 rfl (lv_at hl 2 rfl) ?_
          refine ms_costs C hK hh (by omega) dX1_greatestCost_71 (fun H locs hh => ?_)
          rw [hcur, rd_up_same] at hh
          refine lv_iload_n hx hb dX1_greatestCost_72 rfl (lv_at hl 1 rfl) ?_
          subst hQe; exact rd_retI ((cpO fo fw n, f, g)) C hK hh (⟨by rw [if_pos h5, nI_clamp (by omega), ← hG, show (fl j) = x by omega], cpO_lt hbo hbw n⟩) dX1_greatestCost_73
        · refine lv_aload_n hx hb dX1_greatestCost_37 rfl (lv_at hl 3 rfl) ?_
          refine mg_costs C hK hh.1 dX1_greatestCost_38 ?_
          refine lv_iload_n hx hb dX1_greatestCost_41 rfl (lv_at hl 4 rfl) ?_
          refine lv_iload hx hb dX1_greatestCost_42 (lv_at hl 0 rfl) ?_
          refine ms_costs C hK hh (by omega) dX1_greatestCost_44 (fun H locs hh => ?_)
          refine lv_aload_n hx hb dX1_greatestCost_45 rfl (lv_at hl 3 rfl) ?_
          refine rd_callI (n := 0) (q := (RX1, TX1, 9)) C hK hh (mM_allPunctual l D q K pr n (va_up cur j (x + 1)) fl fp fo (cpO fo fw n) f g ⟨by rw [hcur]; exact BD_c hB.1 j (by omega), cpO_lt hbo hbw n⟩) (lw_V q257 q259 qs16 q23 q260) (by decide +kernel) rfl ⟨rfl, rfl⟩ ⟨Nat.le_of_ble_eq_true rfl, Nat.le_of_ble_eq_true rfl⟩ 1 0 rfl rfl rfl hl.1 (Nat.le_of_ble_eq_true rfl) ⟨Nat.zero_le _, Nat.zero_le _⟩ dX1_greatestCost_46 (fun r u H locs hr hh => ?_)
          obtain ⟨f1, g1⟩ := u
          have hr : r = bI (apF (va_up cur j (x + 1)) fl fp (cpO fo fw n) pr n) := hr
          subst hr
          have hh : HH D (mdW q K pr (va_up cur j (x + 1)) fl fp n fo (cpO fo fw n) f1 g1) A s.heap H locs := hh
          refine rd_ifb_eq (tgt := 57) hx hb dX1_greatestCost_49 (by decide) (fun h49 => ?_) (fun h49 => ?_)
          · refine lv_iload_n hx hb dX1_greatestCost_57 rfl (lv_at hl 1 rfl) ?_
            refine lv_istore_n (lv' := [(3, .int (nI (gcL G x))), (4, .int (nI (x + 1))), (2, .int (nI (fc j))), (0, .ref (q 0)), (1, .int (nI j))]) hx hb dX1_greatestCost_58 rfl hl (by decide) rfl (fun ls hl => ?_)
            refine lv_iinc (v := nI (x + 1 + 1)) (lv' := [(4, .int (nI (x + 1 + 1))), (3, .int (nI (gcL G x))), (2, .int (nI (fc j))), (0, .ref (q 0)), (1, .int (nI j))]) hx hb dX1_greatestCost_59 hl (k := 1) rfl (rd_inc1 _) (by decide) rfl (fun ls hl => ?_)
            refine lv_goto (tgt := 26) hx hb dX1_greatestCost_62 (by decide) ?_
            have eg : gcL G x = gcL G (x + 1) := by rw [gcL, if_neg (by rw [hG]; simp only []; rw [← hcur, h49]; decide)]
            have hl : lv_has ls 5 [(4, .int (nI (x + 1 + 1))), (3, .int (nI (gcL G (x + 1)))), (2, .int (nI (fc j))), (0, .ref (q 0)), (1, .int (nI j))] := by rw [← eg]; exact hl
            exact ih (x + 1) (va_up cur j (x + 1)) f1 g1 (by omega) (by omega) (fun v => by rw [rd_upup, hcur]) H locs hh ls (lv_sub hl [0, 1, 2, 3, 4] rfl)
          · refine lv_iload hx hb dX1_greatestCost_52 (lv_at hl 0 rfl) ?_
            refine lv_goto (tgt := 58) hx hb dX1_greatestCost_54 (by decide) ?_
            refine lv_istore_n (lv' := [(3, .int (nI (x + 1))), (4, .int (nI (x + 1))), (2, .int (nI (fc j))), (0, .ref (q 0)), (1, .int (nI j))]) hx hb dX1_greatestCost_58 rfl hl (by decide) rfl (fun ls hl => ?_)
            refine lv_iinc (v := nI (x + 1 + 1)) (lv' := [(4, .int (nI (x + 1 + 1))), (3, .int (nI (x + 1))), (2, .int (nI (fc j))), (0, .ref (q 0)), (1, .int (nI j))]) hx hb dX1_greatestCost_59 hl (k := 1) rfl (rd_inc1 _) (by decide) rfl (fun ls hl => ?_)
            refine lv_goto (tgt := 26) hx hb dX1_greatestCost_62 (by decide) ?_
            have eg : x + 1 = gcL G (x + 1) := by rw [gcL, if_pos (by rw [hG]; simp only []; rw [← hcur, h49])]
            have hl : lv_has ls 5 [(4, .int (nI (x + 1 + 1))), (3, .int (nI (gcL G (x + 1)))), (2, .int (nI (fc j))), (0, .ref (q 0)), (1, .int (nI j))] := by rw [← eg]; exact hl
            exact ih (x + 1) (va_up cur j (x + 1)) f1 g1 (by omega) (by omega) (fun v => by rw [rd_upup, hcur]) H locs hh ls (lv_sub hl [0, 1, 2, 3, 4] rfl)
    refine lv_aload_n hx hb dX1_greatestCost_14 rfl (lv_at hl 0 rfl) ?_
    refine mg_costs C hK hh.1 dX1_greatestCost_15 ?_
    refine lv_iload_n hx hb dX1_greatestCost_18 rfl (lv_at hl 1 rfl) ?_
    refine ml_costs C hK hh.1 (by omega) dX1_greatestCost_19 ?_
    refine lv_istore_n (lv' := [(2, .int (nI (fc j))), (0, .ref (q 0)), (1, .int (nI j))]) hx hb dX1_greatestCost_20 rfl hl (by decide) rfl (fun ls hl => ?_)
    refine lv_iconst (v := nI 0) hx hb dX1_greatestCost_21 (by decide) ?_
    refine lv_istore_n (lv' := [(3, .int (nI 0)), (2, .int (nI (fc j))), (0, .ref (q 0)), (1, .int (nI j))]) hx hb dX1_greatestCost_22 rfl hl (by decide) rfl (fun ls hl => ?_)
    refine lv_iconst (v := nI 1) hx hb dX1_greatestCost_23 (by decide) ?_
    refine lv_istore (lv' := [(4, .int (nI 1)), (3, .int (nI 0)), (2, .int (nI (fc j))), (0, .ref (q 0)), (1, .int (nI j))]) hx hb dX1_greatestCost_24 hl (by decide) rfl (fun ls hl => ?_)
    exact lo (fl j + 1) 0 fc ff fg (by omega) (by omega) (fun v => rfl) _ _ hh ls (lv_sub hl [0, 1, 2, 3, 4] rfl)
  · refine lv_iconst (v := (-1)) hx hb dX1_greatestCost_8 (by decide) ?_
    subst hQe; exact rd_retI ((fw, ff, fg)) C hK hh (⟨by rw [if_neg (by rw [h5]; decide)], hbw⟩) dX1_greatestCost_9
set_option maxHeartbeats 4000000 in
set_option maxRecDepth 100000 in
theorem mM_leastPeriod (l : Launch) (D : va_G) (q : Nat → Nat) (K : Nat → ClassId) (pr n : Nat) (fc fl fp fo fw ff fg : Nat → Nat) (hB : BM pr n fc fl fp fo fw) (hl1 : ∀ j, j < 5 → pr.testBit j = true → 1 ≤ fl j) (k : Int32) : CtI l yX1_leastPeriod cX1_leastPeriod 5 (some .int) { frames := 4, cells := 0, slots := 0, locals := 92 } D (mtys K) (mdW q K pr fc fl fp n fo fw ff fg) [.ref (q 0), .int k] (fun (r : Int32) (u : (Nat → Nat) × (Nat → Nat) × (Nat → Nat)) => (r = if hasB pr k then nI (lpL (fun x => apF fc fl (va_up fp k.toNatClampNeg x) (cpO fo fw n) pr n) (16 - fl k.toNatClampNeg)) else -1) ∧ ∀ j, u.1 j < 5) (fun u => mdW q K pr fc fl fp n fo u.1 u.2.1 u.2.2) := by
  refine rd_startI (by decide) (Nat.le_of_ble_eq_true rfl) ?_
  intro p e s m below meth c ls A Q hQe C hK hh hl
  have C : CX p s m [.ref (q 0), .int k].toArray meth c cX1_leastPeriod 5 (some .int) RX1 := C
  have hx := C.1
  have hb := C.2.1
  have hl : lv_has ls 5 [(0, .ref (q 0)), (1, .int k)] := hl
  have hB0 := hB
  obtain ⟨⟨hpr, hn, hbc, hbl, hbp, hbo⟩, hbw⟩ := hB0
  refine lv_aload_n hx hb dX1_leastPeriod_0 rfl (lv_at hl 0 rfl) ?_
  refine lv_iload_n hx hb dX1_leastPeriod_1 rfl (lv_at hl 1 rfl) ?_
  refine rd_callP (n := 1) (q := (RX1, TX1, 9)) C hK hh.1 (mM_is l D q K pr n fc fl fp fo fw ff fg hB k) (lw_V q209 q211 qs9 q23 q212) (by decide +kernel) rfl ⟨rfl, rfl⟩ ⟨Nat.le_of_ble_eq_true rfl, Nat.le_of_ble_eq_true rfl⟩ 1 0 rfl rfl rfl hl.1 (Nat.le_of_ble_eq_true rfl) ⟨Nat.zero_le _, Nat.zero_le _⟩ dX1_leastPeriod_2 (fun r hr => ?_)
  subst hr
  refine rd_ifb_ne (tgt := 10) hx hb dX1_leastPeriod_5 (by decide) (fun h5 => ?_) (fun h5 => ?_)
  · obtain ⟨j, hj5, rfl, hjb⟩ := hasB_of h5
    obtain ⟨G, hG⟩ : ∃ G : Nat → Bool, G = (fun x => apF fc fl (va_up fp j x) (cpO fo fw n) pr n) := ⟨_, rfl⟩
    have hcj := hbp j; have hlj := hbl j; have hl1j := hl1 j hj5 hjb
    refine lv_aload_n hx hb dX1_leastPeriod_10 rfl (lv_at hl 0 rfl) ?_
    refine rd_callIv (n := 0) (q := (RX1, TX1, 9)) C hK hh (mM_useOrder l D q K pr n fc fl fp fo fw ff fg hB) (lw_V q237 q239 qs12 q23 q240) (by decide +kernel) rfl ⟨rfl, rfl⟩ ⟨Nat.le_of_ble_eq_true rfl, Nat.le_of_ble_eq_true rfl⟩ 1 0 rfl rfl rfl hl.1 (Nat.le_of_ble_eq_true rfl) ⟨Nat.zero_le _, Nat.zero_le _⟩ dX1_leastPeriod_11 (fun u H locs hr hh => ?_)
    have hh : HH D (mdW q K pr fc fl fp n fo (cpO fo fw n) ff fg) A s.heap H locs := hh
    have lo : ∀ (d : Nat) (x : Nat) (cur f g : Nat → Nat), ((16 - fl j) < x + d) → (x ≤ (16 - fl j)) → (∀ v, va_up cur j v = va_up fp j v) → ∀ (H : Heap) (locs : List Loc), HH D (mdW q K pr fc fl cur n fo (cpO fo fw n) f g) A s.heap H locs → ∀ (ls : Array Slot), lv_has ls 5 [(4, .int (nI (15 - x))), (3, .int (nI (lpL G x))), (2, .int (nI (fp j))), (0, .ref (q 0)), (1, .int (nI j))] → W p l e { frames := 4, cells := 0, slots := 0, locals := 92 } s m [.ref (q 0), .int (nI j)].toArray below meth c H locs 0 0 Q (F0 m 27 ls []) := by
      intro d
      induction d with
      | zero => intro x cur f g hd hxl hcur H locs hh ls hl; omega
      | succ d ih =>
        intro x cur f g hd hxl hcur H locs hh ls hl
        refine lv_iload hx hb dX1_leastPeriod_27 (lv_at hl 0 rfl) ?_
        refine lv_aload_n hx hb dX1_leastPeriod_29 rfl (lv_at hl 3 rfl) ?_
        refine mg_limits C hK hh.1 dX1_leastPeriod_30 ?_
        refine lv_iload_n hx hb dX1_leastPeriod_33 rfl (lv_at hl 4 rfl) ?_
        refine ml_limits C hK hh.1 (by omega) dX1_leastPeriod_34 ?_
        refine rd_icmp_lt (tgt := 66) hx hb (by omega) (by omega) dX1_leastPeriod_35 (by decide) (fun h35 => ?_) (fun h35 => ?_)
        · refine lv_aload_n hx hb dX1_leastPeriod_66 rfl (lv_at hl 3 rfl) ?_
          refine mg_periods C hK hh.1 dX1_leastPeriod_67 ?_
          refine lv_iload_n hx hb dX1_leastPeriod_70 rfl (lv_at hl 4 rfl) ?_
          refine lv_iload_n hx hb dX1_leastPeriod_71 rfl (lv_at hl 2 rfl) ?_
          refine ms_periods C hK hh (by omega) dX1_leastPeriod_72 (fun H locs hh => ?_)
          rw [hcur, rd_up_same] at hh
          refine lv_iload_n hx hb dX1_leastPeriod_73 rfl (lv_at hl 1 rfl) ?_
          subst hQe; exact rd_retI ((cpO fo fw n, f, g)) C hK hh (⟨by rw [if_pos h5, nI_clamp (by omega), ← hG, show (16 - fl j) = x by omega], cpO_lt hbo hbw n⟩) dX1_leastPeriod_74
        · refine lv_aload_n hx hb dX1_leastPeriod_38 rfl (lv_at hl 3 rfl) ?_
          refine mg_periods C hK hh.1 dX1_leastPeriod_39 ?_
          refine lv_iload_n hx hb dX1_leastPeriod_42 rfl (lv_at hl 4 rfl) ?_
          refine lv_iload hx hb dX1_leastPeriod_43 (lv_at hl 0 rfl) ?_
          refine ms_periods C hK hh (by omega) dX1_leastPeriod_45 (fun H locs hh => ?_)
          refine lv_aload_n hx hb dX1_leastPeriod_46 rfl (lv_at hl 3 rfl) ?_
          refine rd_callI (n := 0) (q := (RX1, TX1, 9)) C hK hh (mM_allPunctual l D q K pr n fc fl (va_up cur j (15 - x)) fo (cpO fo fw n) f g ⟨by rw [hcur]; exact BD_p hB.1 j (by omega), cpO_lt hbo hbw n⟩) (lw_V q257 q259 qs16 q23 q260) (by decide +kernel) rfl ⟨rfl, rfl⟩ ⟨Nat.le_of_ble_eq_true rfl, Nat.le_of_ble_eq_true rfl⟩ 1 0 rfl rfl rfl hl.1 (Nat.le_of_ble_eq_true rfl) ⟨Nat.zero_le _, Nat.zero_le _⟩ dX1_leastPeriod_47 (fun r u H locs hr hh => ?_)
          obtain ⟨f1, g1⟩ := u
          have hr : r = bI (apF fc fl (va_up cur j (15 - x)) (cpO fo fw n) pr n) := hr
          subst hr
          have hh : HH D (mdW q K pr fc fl (va_up cur j (15 - x)) n fo (cpO fo fw n) f1 g1) A s.heap H locs := hh
          refine rd_ifb_eq (tgt := 58) hx hb dX1_leastPeriod_50 (by decide) (fun h50 => ?_) (fun h50 => ?_)
          · refine lv_iload_n hx hb dX1_leastPeriod_58 rfl (lv_at hl 1 rfl) ?_
            refine lv_istore_n (lv' := [(3, .int (nI (lpL G x))), (4, .int (nI (15 - x))), (2, .int (nI (fp j))), (0, .ref (q 0)), (1, .int (nI j))]) hx hb dX1_leastPeriod_59 rfl hl (by decide) rfl (fun ls hl => ?_)
            refine lv_iinc (v := nI (15 - (x + 1))) (lv' := [(4, .int (nI (15 - (x + 1)))), (3, .int (nI (lpL G x))), (2, .int (nI (fp j))), (0, .ref (q 0)), (1, .int (nI j))]) hx hb dX1_leastPeriod_60 hl (k := 1) rfl (by rw [show 15 - x = (15 - (x + 1)) + 1 by omega]; exact rd_dec1 _) (by decide) rfl (fun ls hl => ?_)
            refine lv_goto (tgt := 27) hx hb dX1_leastPeriod_63 (by decide) ?_
            have eg : lpL G x = lpL G (x + 1) := by rw [lpL, if_neg (by rw [hG]; simp only []; rw [← hcur, h50]; decide)]
            have hl : lv_has ls 5 [(4, .int (nI (15 - (x + 1)))), (3, .int (nI (lpL G (x + 1)))), (2, .int (nI (fp j))), (0, .ref (q 0)), (1, .int (nI j))] := by rw [← eg]; exact hl
            exact ih (x + 1) (va_up cur j (15 - x)) f1 g1 (by omega) (by omega) (fun v => by rw [rd_upup, hcur]) H locs hh ls (lv_sub hl [0, 1, 2, 3, 4] rfl)
          · refine lv_iload hx hb dX1_leastPeriod_53 (lv_at hl 0 rfl) ?_
            refine lv_goto (tgt := 59) hx hb dX1_leastPeriod_55 (by decide) ?_
            refine lv_istore_n (lv' := [(3, .int (nI (15 - x))), (4, .int (nI (15 - x))), (2, .int (nI (fp j))), (0, .ref (q 0)), (1, .int (nI j))]) hx hb dX1_leastPeriod_59 rfl hl (by decide) rfl (fun ls hl => ?_)
            refine lv_iinc (v := nI (15 - (x + 1))) (lv' := [(4, .int (nI (15 - (x + 1)))), (3, .int (nI (15 - x))), (2, .int (nI (fp j))), (0, .ref (q 0)), (1, .int (nI j))]) hx hb dX1_leastPeriod_60 hl (k := 1) rfl (by rw [show 15 - x = (15 - (x + 1)) + 1 by omega]; exact rd_dec1 _) (by decide) rfl (fun ls hl => ?_)
            refine lv_goto (tgt := 27) hx hb dX1_leastPeriod_63 (by decide) ?_
            have eg : 15 - x = lpL G (x + 1) := by rw [lpL, if_pos (by rw [hG]; simp only []; rw [← hcur, h50])]
            have hl : lv_has ls 5 [(4, .int (nI (15 - (x + 1)))), (3, .int (nI (lpL G (x + 1)))), (2, .int (nI (fp j))), (0, .ref (q 0)), (1, .int (nI j))] := by rw [← eg]; exact hl
            exact ih (x + 1) (va_up cur j (15 - x)) f1 g1 (by omega) (by omega) (fun v => by rw [rd_upup, hcur]) H locs hh ls (lv_sub hl [0, 1, 2, 3, 4] rfl)
    refine lv_aload_n hx hb dX1_leastPeriod_14 rfl (lv_at hl 0 rfl) ?_
    refine mg_periods C hK hh.1 dX1_leastPeriod_15 ?_
    refine lv_iload_n hx hb dX1_leastPeriod_18 rfl (lv_at hl 1 rfl) ?_
    refine ml_periods C hK hh.1 (by omega) dX1_leastPeriod_19 ?_
    refine lv_istore_n (lv' := [(2, .int (nI (fp j))), (0, .ref (q 0)), (1, .int (nI j))]) hx hb dX1_leastPeriod_20 rfl hl (by decide) rfl (fun ls hl => ?_)
    refine lv_iconst (v := nI 0) hx hb dX1_leastPeriod_21 (by decide) ?_
    refine lv_istore_n (lv' := [(3, .int (nI 0)), (2, .int (nI (fp j))), (0, .ref (q 0)), (1, .int (nI j))]) hx hb dX1_leastPeriod_22 rfl hl (by decide) rfl (fun ls hl => ?_)
    refine lv_bipush (v := nI 15) hx hb dX1_leastPeriod_23 (by decide) ?_
    refine lv_istore (lv' := [(4, .int (nI 15)), (3, .int (nI 0)), (2, .int (nI (fp j))), (0, .ref (q 0)), (1, .int (nI j))]) hx hb dX1_leastPeriod_25 hl (by decide) rfl (fun ls hl => ?_)
    exact lo (17 - fl j) 0 fp ff fg (by omega) (by omega) (fun v => rfl) _ _ hh ls (lv_sub hl [0, 1, 2, 3, 4] rfl)
  · refine lv_iconst (v := (-1)) hx hb dX1_leastPeriod_8 (by decide) ?_
    subst hQe; exact rd_retI ((fw, ff, fg)) C hK hh (⟨by rw [if_neg (by rw [h5]; decide)], hbw⟩) dX1_leastPeriod_9
set_option maxHeartbeats 4000000 in
set_option maxRecDepth 100000 in
theorem mM_idle (l : Launch) (D : va_G) (q : Nat → Nat) (K : Nat → ClassId) (pr n : Nat) (fc fl fp fo fw ff fg : Nat → Nat) (hB : BM pr n fc fl fp fo fw) (y : Int32) : CtI l yX1_idle cX1_idle 4 (some .int) { frames := 1, cells := 0, slots := 0, locals := 25 } D (mtys K) (mdW q K pr fc fl fp n fo fw ff fg) [.ref (q 0), .int y] (fun (r : Int32) (_ : (Nat → Nat) × (Nat → Nat)) => r = nI (imS fc fp (cpO fo fw n) n (idN y)).1) (fun u => mdW q K pr fc fl fp n fo (cpO fo fw n) u.1 u.2) := by
  refine rd_startI (by decide) (Nat.le_of_ble_eq_true rfl) ?_
  intro p e s m below meth c ls A Q hQe C hK hh hl
  have C : CX p s m [.ref (q 0), .int y].toArray meth c cX1_idle 4 (some .int) RX1 := C
  have hx := C.1
  have hb := C.2.1
  have hl : lv_has ls 4 [(0, .ref (q 0)), (1, .int y)] := hl
  have hB0 := hB
  obtain ⟨⟨hpr, hn, hbc, hbl, hbp, hbo⟩, hbw⟩ := hB0
  refine lv_aload_n hx hb dX1_idle_0 rfl (lv_at hl 0 rfl) ?_
  refine rd_callIv (n := 0) (q := (RX1, TX1, 9)) C hK hh (mM_useOrder l D q K pr n fc fl fp fo fw ff fg hB) (lw_V q237 q239 qs12 q23 q240) (by decide +kernel) rfl ⟨rfl, rfl⟩ ⟨Nat.le_of_ble_eq_true rfl, Nat.le_of_ble_eq_true rfl⟩ 1 0 rfl rfl rfl hl.1 (Nat.le_of_ble_eq_true rfl) ⟨Nat.zero_le _, Nat.zero_le _⟩ dX1_idle_1 (fun u H locs hr hh => ?_)
  have hh : HH D (mdW q K pr fc fl fp n fo (cpO fo fw n) ff fg) A s.heap H locs := hh
  refine lv_aload_n hx hb dX1_idle_4 rfl (lv_at hl 0 rfl) ?_
  refine rd_callIv (n := 0) (q := (RX1, TX1, 9)) C hK hh (mM_start l D q K pr n fc fl fp fo (cpO fo fw n) ff fg ⟨hB.1, cpO_lt hbo hbw n⟩) (lw_V q245 q247 qs14 q23 q248) (by decide +kernel) rfl ⟨rfl, rfl⟩ ⟨Nat.le_of_ble_eq_true rfl, Nat.le_of_ble_eq_true rfl⟩ 1 0 rfl rfl rfl hl.1 (Nat.le_of_ble_eq_true rfl) ⟨Nat.zero_le _, Nat.zero_le _⟩ dX1_idle_5 (fun u H locs hr hh => ?_)
  have hh : HH D (mdW q K pr fc fl fp n fo (cpO fo fw n) zz zz) A s.heap H locs := hh
  have lo : ∀ (d : Nat) (t : Nat), (60 < t + d) → (t ≤ idN y) → (∀ j, (imS fc fp (cpO fo fw n) n t).2.1 j ≤ 75 * t) → (∀ j, (imS fc fp (cpO fo fw n) n t).2.2 j ≤ t) → ∀ (H : Heap) (locs : List Loc), HH D (mdW q K pr fc fl fp n fo (cpO fo fw n) ((imS fc fp (cpO fo fw n) n t).2.1) ((imS fc fp (cpO fo fw n) n t).2.2)) A s.heap H locs → ∀ (ls : Array Slot), lv_has ls 4 [(3, .int (nI t)), (2, .int (nI ((imS fc fp (cpO fo fw n) n t).1))), (0, .ref (q 0)), (1, .int y)] → W p l e { frames := 1, cells := 0, slots := 0, locals := 25 } s m [.ref (q 0), .int y].toArray below meth c H locs 0 0 Q (F0 m 12 ls []) := by
    intro d
    induction d with
    | zero => intro t hd hle hf hg H locs hh ls hl; have := idN_le y; omega
    | succ d ih =>
      intro t hd hle hf hg H locs hh ls hl
      have h60 := idN_le y
      refine lv_iload_n hx hb dX1_idle_12 rfl (lv_at hl 0 rfl) ?_
      refine lv_bipush (v := nI 60) hx hb dX1_idle_13 (by decide) ?_
      refine rd_icmp_ge (tgt := 45) hx hb (by omega) (by omega) dX1_idle_15 (by decide) (fun h15 => ?_) (fun h15 => ?_)
      · refine lv_iload_n hx hb dX1_idle_45 rfl (lv_at hl 1 rfl) ?_
        subst hQe; exact rd_retI (((imS fc fp (cpO fo fw n) n t).2.1, (imS fc fp (cpO fo fw n) n t).2.2)) C hK hh (by rw [show idN y = t by omega]) dX1_idle_46
      · refine lv_iload_n hx hb dX1_idle_18 rfl (lv_at hl 0 rfl) ?_
        refine lv_iload_n hx hb dX1_idle_19 rfl (lv_at hl 3 rfl) ?_
        refine lv_icmp_ge (tgt := 45) hx hb dX1_idle_20 (by decide) (fun h20 => ?_) (fun h20 => ?_)
        · refine lv_iload_n hx hb dX1_idle_45 rfl (lv_at hl 1 rfl) ?_
          subst hQe; exact rd_retI (((imS fc fp (cpO fo fw n) n t).2.1, (imS fc fp (cpO fo fw n) n t).2.2)) C hK hh (by rw [idN_end2 h20 (by omega) hle]) dX1_idle_46
        · refine lv_aload_n hx hb dX1_idle_23 rfl (lv_at hl 2 rfl) ?_
          refine lv_iload_n hx hb dX1_idle_24 rfl (lv_at hl 0 rfl) ?_
          refine rd_callI (n := 1) (q := (RX1, TX1, 9)) C hK hh (mM_unit l D q K pr n fc fl fp fo (cpO fo fw n) (imS fc fp (cpO fo fw n) n t).2.1 (imS fc fp (cpO fo fw n) n t).2.2 ⟨hB.1, cpO_lt hbo hbw n⟩ t (by omega) (fun j => by have := hf j; omega) (fun j => by have := hg j; omega)) (lw_V q249 q251 qs15 q23 q252) (by decide +kernel) rfl ⟨rfl, rfl⟩ ⟨Nat.le_of_ble_eq_true rfl, Nat.le_of_ble_eq_true rfl⟩ 1 0 rfl rfl rfl hl.1 (Nat.le_of_ble_eq_true rfl) ⟨Nat.zero_le _, Nat.zero_le _⟩ dX1_idle_25 (fun r u H locs hr hh => ?_)
          rcases hun : unF fc fp (cpO fo fw n) n t (imS fc fp (cpO fo fw n) n t).2.1 (imS fc fp (cpO fo fw n) n t).2.2 with ⟨o, f1, g1⟩
          rw [hun] at hr
          obtain ⟨rfl, rfl⟩ := hr
          have hh : HH D (mdW q K pr fc fl fp n fo (cpO fo fw n) f1 g1) A s.heap H locs := hh
          obtain ⟨b1, b2, b3⟩ := unF_bd hbc (cpO_lt hbo hbw n) hn hf hg hun
          refine lv_if_ge (tgt := 37) hx hb dX1_idle_28 (by decide) (fun h28 => ?_) (fun h28 => ?_)
          · have h28 : o ≠ none := fun q => by rw [q] at h28; exact absurd h28 (show ¬ (0 : Int32) ≤ -1 by decide)
            refine lv_iload_n hx hb dX1_idle_37 rfl (lv_at hl 1 rfl) ?_
            refine lv_istore_n (lv' := [(2, .int (nI ((imS fc fp (cpO fo fw n) n t).1))), (3, .int (nI t)), (0, .ref (q 0)), (1, .int y)]) hx hb dX1_idle_38 rfl hl (by decide) rfl (fun ls hl => ?_)
            refine lv_iinc (v := nI (t + 1)) (lv' := [(3, .int (nI (t + 1))), (2, .int (nI ((imS fc fp (cpO fo fw n) n t).1))), (0, .ref (q 0)), (1, .int y)]) hx hb dX1_idle_39 hl (k := 1) rfl (rd_inc1 _) (by decide) rfl (fun ls hl => ?_)
            refine lv_goto (tgt := 12) hx hb dX1_idle_42 (by decide) ?_
            have eg : imS fc fp (cpO fo fw n) n (t + 1) = ((imS fc fp (cpO fo fw n) n t).1, f1, g1) := by simp only [imS, hun]; rw [if_neg h28]
            have e1 : (imS fc fp (cpO fo fw n) n t).1 = (imS fc fp (cpO fo fw n) n (t + 1)).1 := by rw [eg]
            rw [e1] at hl
            exact ih (t + 1) (by omega) (idN_step2 h20 h15) (by rw [eg]; exact fun j => by have := b1 j; simp only; omega) (by rw [eg]; exact b2) H locs (by rw [eg]; exact hh) ls (lv_sub hl [0, 1, 2, 3] rfl)
          · have h28 : o = none := by cases o with | none => rfl | some k => exact absurd (nI_pos' (by have := b3 k rfl; omega)) h28
            refine lv_iload_n hx hb dX1_idle_31 rfl (lv_at hl 1 rfl) ?_
            refine lv_iconst (v := nI 1) hx hb dX1_idle_32 (by decide) ?_
            refine rd_iadd hx hb dX1_idle_33 ?_
            refine lv_goto (tgt := 38) hx hb dX1_idle_34 (by decide) ?_
            refine lv_istore_n (lv' := [(2, .int (nI (((imS fc fp (cpO fo fw n) n t).1) + 1))), (3, .int (nI t)), (0, .ref (q 0)), (1, .int y)]) hx hb dX1_idle_38 rfl hl (by decide) rfl (fun ls hl => ?_)
            refine lv_iinc (v := nI (t + 1)) (lv' := [(3, .int (nI (t + 1))), (2, .int (nI (((imS fc fp (cpO fo fw n) n t).1) + 1))), (0, .ref (q 0)), (1, .int y)]) hx hb dX1_idle_39 hl (k := 1) rfl (rd_inc1 _) (by decide) rfl (fun ls hl => ?_)
            refine lv_goto (tgt := 12) hx hb dX1_idle_42 (by decide) ?_
            have eg : imS fc fp (cpO fo fw n) n (t + 1) = (((imS fc fp (cpO fo fw n) n t).1) + 1, f1, g1) := by simp only [imS, hun]; rw [if_pos h28]
            have e1 : ((imS fc fp (cpO fo fw n) n t).1) + 1 = (imS fc fp (cpO fo fw n) n (t + 1)).1 := by rw [eg]
            rw [e1] at hl
            exact ih (t + 1) (by omega) (idN_step2 h20 h15) (by rw [eg]; exact fun j => by have := b1 j; simp only; omega) (by rw [eg]; exact b2) H locs (by rw [eg]; exact hh) ls (lv_sub hl [0, 1, 2, 3] rfl)
  refine lv_iconst (v := nI 0) hx hb dX1_idle_8 (by decide) ?_
  refine lv_istore_n (lv' := [(2, .int (nI 0)), (0, .ref (q 0)), (1, .int y)]) hx hb dX1_idle_9 rfl hl (by decide) rfl (fun ls hl => ?_)
  refine lv_iconst (v := nI 0) hx hb dX1_idle_10 (by decide) ?_
  refine lv_istore_n (lv' := [(3, .int (nI 0)), (2, .int (nI 0)), (0, .ref (q 0)), (1, .int y)]) hx hb dX1_idle_11 rfl hl (by decide) rfl (fun ls hl => ?_)
  exact lo 61 0 (by omega) (by omega) (fun j => by simp [imS]) (fun j => by simp [imS]) _ _ hh ls (lv_sub hl [0, 1, 2, 3] rfl)
set_option maxHeartbeats 4000000 in
set_option maxRecDepth 100000 in
theorem mM_fits (l : Launch) (D : va_G) (q : Nat → Nat) (K : Nat → ClassId) (pr n : Nat) (fc fl fp fo fw ff fg : Nat → Nat) (hB : BM pr n fc fl fp fo fw) (hO : OrdOK pr n fo) (hcap : ∀ k, k < 5 → pr.testBit k = false → n < 5) (be : Nat → Nat) (x y z : Int32) (hO2 : ∀ k, fr pr = some k → OrdOK (pr ||| 2 ^ k) (n + 1) (va_up fo n k)) (hgo : ∀ k, fr pr = some k → okN x y z = true → goL (goP (va_up fc k x.toNatClampNeg) (va_up fl k y.toNatClampNeg) (va_up fp k z.toNatClampNeg) (pr ||| 2 ^ k) (n + 1)) (fac (n + 1)) = be 0) : CtI l yX1_fits cX1_fits 6 (some .boolean) { frames := 5, cells := 0, slots := 0, locals := 115 } D (mtys K) (mdW q K pr fc fl fp n fo fw ff fg) [.ref (q 0), .int x, .int y, .int z] (fun (r : Int32) (u : SA × (Nat → Nat) × (Nat → Nat) × (Nat → Nat)) => (r, u.1) = fitR pr n fc fl fp fo be x y z ∧ ∀ j, u.2.1 j < 5) (fun u => mdW q K u.1.1 u.1.2.2.1 u.1.2.2.2.1 u.1.2.2.2.2.1 u.1.2.1 u.1.2.2.2.2.2 u.2.1 u.2.2.1 u.2.2.2) := by
  refine rd_startI (by decide) (Nat.le_of_ble_eq_true rfl) ?_
  intro p e s m below meth c ls A Q hQe C hK hh hl
  have C : CX p s m [.ref (q 0), .int x, .int y, .int z].toArray meth c cX1_fits 6 (some .boolean) RX1 := C
  have hx := C.1
  have hb := C.2.1
  have hl : lv_has ls 6 [(0, .ref (q 0)), (1, .int x), (2, .int y), (3, .int z)] := hl
  have hB0 := hB
  obtain ⟨⟨hpr, hn, hbc, hbl, hbp, hbo⟩, hbw⟩ := hB0
  refine lv_aload_n hx hb dX1_fits_0 rfl (lv_at hl 0 rfl) ?_
  refine lv_iload_n hx hb dX1_fits_1 rfl (lv_at hl 1 rfl) ?_
  refine lv_iload_n hx hb dX1_fits_2 rfl (lv_at hl 2 rfl) ?_
  refine lv_iload_n hx hb dX1_fits_3 rfl (lv_at hl 3 rfl) ?_
  refine rd_callI (n := 3) (q := (RX1, TX1, 9)) C hK hh (mM_add l D q K pr n fc fl fp fo fw ff fg hB hcap x y z) (lw_V q309 q198 q199 q23 q200) (by decide +kernel) rfl ⟨rfl, rfl⟩ ⟨Nat.le_of_ble_eq_true rfl, Nat.le_of_ble_eq_true rfl⟩ 1 0 rfl rfl rfl hl.1 (Nat.le_of_ble_eq_true rfl) ⟨Nat.zero_le _, Nat.zero_le _⟩ dX1_fits_4 (fun r u H locs hr hh => ?_)
  have hr : (r, u) = addR pr n fc fl fp fo x y z := hr
  by_cases hok : okN x y z = true
  · rcases hfk : fr pr with _ | k
    · rw [addR, if_pos hok, hfk] at hr
      obtain ⟨rfl, rfl⟩ := Prod.mk.inj hr
      have hh : HH D (mdW q K pr fc fl fp n fo fw ff fg) A s.heap H locs := hh
      refine lv_istore (lv' := [(4, .int ((-2))), (0, .ref (q 0)), (1, .int x), (2, .int y), (3, .int z)]) hx hb dX1_fits_7 hl (by decide) rfl (fun ls hl => ?_)
      refine lv_iload hx hb dX1_fits_9 (lv_at hl 0 rfl) ?_
      refine lv_if_ge (tgt := 16) hx hb dX1_fits_11 (by decide) (fun h11 => ?_) (fun h11 => ?_)
      · exact absurd h11 (by decide)
      · refine lv_iconst (v := nI 0) hx hb dX1_fits_14 (by decide) ?_
        subst hQe; exact rd_retIz (((pr, n, fc, fl, fp, fo), fw, ff, fg)) C hK hh rfl (⟨by rw [fitR, if_pos hok, hfk]; rfl, hbw⟩) dX1_fits_15
    · obtain ⟨xa, ya, za, rfl, rfl, rfl, o1, o2, o3, o4⟩ := okN_nat hok
      rw [addR, if_pos hok, hfk] at hr
      rw [nI_clamp (n := xa) (by omega), nI_clamp (n := ya) (by omega), nI_clamp (n := za) (by omega)] at hr
      have hgo2 := hgo k hfk hok
      rw [nI_clamp (n := xa) (by omega), nI_clamp (n := ya) (by omega), nI_clamp (n := za) (by omega)] at hgo2
      obtain ⟨rfl, rfl⟩ := Prod.mk.inj hr
      have hh : HH D (mdW q K (pr ||| 2 ^ k) (va_up fc k xa) (va_up fl k ya) (va_up fp k za) (n + 1) (va_up fo n k) fw ff fg) A s.heap H locs := hh
      obtain ⟨hk5, hkb⟩ := fr_spec hfk
      have hn5 := hcap k hk5 hkb
      have hB2 : BD (pr ||| 2 ^ k) (n + 1) (va_up fc k xa) (va_up fl k ya) (va_up fp k za) (va_up fo n k) := ⟨rd_or_lt hpr (rd_pow_lt hk5), by omega, rd_up_le hbc (by omega), rd_up_le hbl (by omega), rd_up_le hbp (by omega), rd_up_ltt hbo hk5⟩
      have hgl := goL_le (goP (va_up fc k xa) (va_up fl k ya) (va_up fp k za) (pr ||| 2 ^ k) (n + 1)) (fac (n + 1)); have hfl := (fac_lt (n + 1) (by omega)).1
      refine lv_istore (lv' := [(4, .int (nI k)), (0, .ref (q 0)), (1, .int (nI xa)), (2, .int (nI ya)), (3, .int (nI za))]) hx hb dX1_fits_7 hl (by decide) rfl (fun ls hl => ?_)
      refine lv_iload hx hb dX1_fits_9 (lv_at hl 0 rfl) ?_
      refine lv_if_ge (tgt := 16) hx hb dX1_fits_11 (by decide) (fun h11 => ?_) (fun h11 => ?_)
      · refine lv_aload_n hx hb dX1_fits_16 rfl (lv_at hl 1 rfl) ?_
        refine rd_callI (n := 0) (q := (RX1, TX1, 9)) C hK hh (mM_goodOrders l D q K (pr ||| 2 ^ k) (n + 1) (va_up fc k xa) (va_up fl k ya) (va_up fp k za) (va_up fo n k) fw ff fg ⟨hB2, hbw⟩) (lw_V q310 q270 q271 q23 q272) (by decide +kernel) rfl ⟨rfl, rfl⟩ ⟨Nat.le_of_ble_eq_true rfl, Nat.le_of_ble_eq_true rfl⟩ 1 0 rfl rfl rfl hl.1 (Nat.le_of_ble_eq_true rfl) ⟨Nat.zero_le _, Nat.zero_le _⟩ dX1_fits_17 (fun r u H locs hr hh => ?_)
        obtain ⟨w1, f1, g1⟩ := u
        obtain ⟨hr, hw1⟩ := hr
        have hw1 : ∀ j, w1 j < 5 := hw1
        have hr : r = nI (goL (goP (va_up fc k xa) (va_up fl k ya) (va_up fp k za) (pr ||| 2 ^ k) (n + 1)) (fac (n + 1))) := hr
        rw [hgo2] at hr hgl
        subst hr
        have hh : HH D (mdW q K (pr ||| 2 ^ k) (va_up fc k xa) (va_up fl k ya) (va_up fp k za) (n + 1) (va_up fo n k) w1 f1 g1) A s.heap H locs := hh
        refine rd_if_le (tgt := 27) hx hb (by omega) dX1_fits_20 (by decide) (fun h20 => ?_) (fun h20 => ?_)
        · refine lv_iconst (v := nI 0) hx hb dX1_fits_27 (by decide) ?_
          refine lv_istore (lv' := [(5, .int (nI 0)), (4, .int (nI k)), (0, .ref (q 0)), (1, .int (nI xa)), (2, .int (nI ya)), (3, .int (nI za))]) hx hb dX1_fits_28 hl (by decide) rfl (fun ls hl => ?_)
          refine lv_aload_n hx hb dX1_fits_30 rfl (lv_at hl 2 rfl) ?_
          refine lv_iload hx hb dX1_fits_31 (lv_at hl 1 rfl) ?_
          refine rd_callI (n := 1) (q := (RX1, TX1, 9)) C hK hh (mM_remove l D q K (pr ||| 2 ^ k) (n + 1) (va_up fc k xa) (va_up fl k ya) (va_up fp k za) (va_up fo n k) w1 f1 g1 ⟨hB2, hw1⟩ (hO2 k hfk) (nI k)) (lw_V q311 q206 q207 q23 q208) (by decide +kernel) rfl ⟨rfl, rfl⟩ ⟨Nat.le_of_ble_eq_true rfl, Nat.le_of_ble_eq_true rfl⟩ 1 0 rfl rfl rfl hl.1 (Nat.le_of_ble_eq_true rfl) ⟨Nat.zero_le _, Nat.zero_le _⟩ dX1_fits_33 (fun r u H locs hr hh => ?_)
          obtain ⟨pr2, n2, fo2⟩ := u
          have hr : (r, pr2, n2, fo2) = remR (pr ||| 2 ^ k) (n + 1) (va_up fo n k) (nI k) := hr
          have hh : HH D (mdW q K pr2 (va_up fc k xa) (va_up fl k ya) (va_up fp k za) n2 fo2 w1 f1 g1) A s.heap H locs := hh
          refine lv_pop hx hb dX1_fits_36 rfl ?_
          refine lv_iload hx hb dX1_fits_37 (lv_at hl 0 rfl) ?_
          subst hQe; exact rd_retIz (((pr2, n2, va_up fc k xa, va_up fl k ya, va_up fp k za, fo2), w1, f1, g1)) C hK hh rfl (⟨by rw [fitR, if_pos hok, hfk, nI_clamp (by omega), nI_clamp (by omega), nI_clamp (by omega)]; simp only []; rw [← hr]; simp [h20, bI, rd_v0, rd_v1], hw1⟩) dX1_fits_39
        · refine lv_iconst (v := nI 1) hx hb dX1_fits_23 (by decide) ?_
          refine lv_goto (tgt := 28) hx hb dX1_fits_24 (by decide) ?_
          refine lv_istore (lv' := [(5, .int (nI 1)), (4, .int (nI k)), (0, .ref (q 0)), (1, .int (nI xa)), (2, .int (nI ya)), (3, .int (nI za))]) hx hb dX1_fits_28 hl (by decide) rfl (fun ls hl => ?_)
          refine lv_aload_n hx hb dX1_fits_30 rfl (lv_at hl 2 rfl) ?_
          refine lv_iload hx hb dX1_fits_31 (lv_at hl 1 rfl) ?_
          refine rd_callI (n := 1) (q := (RX1, TX1, 9)) C hK hh (mM_remove l D q K (pr ||| 2 ^ k) (n + 1) (va_up fc k xa) (va_up fl k ya) (va_up fp k za) (va_up fo n k) w1 f1 g1 ⟨hB2, hw1⟩ (hO2 k hfk) (nI k)) (lw_V q311 q206 q207 q23 q208) (by decide +kernel) rfl ⟨rfl, rfl⟩ ⟨Nat.le_of_ble_eq_true rfl, Nat.le_of_ble_eq_true rfl⟩ 1 0 rfl rfl rfl hl.1 (Nat.le_of_ble_eq_true rfl) ⟨Nat.zero_le _, Nat.zero_le _⟩ dX1_fits_33 (fun r u H locs hr hh => ?_)
          obtain ⟨pr2, n2, fo2⟩ := u
          have hr : (r, pr2, n2, fo2) = remR (pr ||| 2 ^ k) (n + 1) (va_up fo n k) (nI k) := hr
          have hh : HH D (mdW q K pr2 (va_up fc k xa) (va_up fl k ya) (va_up fp k za) n2 fo2 w1 f1 g1) A s.heap H locs := hh
          refine lv_pop hx hb dX1_fits_36 rfl ?_
          refine lv_iload hx hb dX1_fits_37 (lv_at hl 0 rfl) ?_
          subst hQe; exact rd_retIz (((pr2, n2, va_up fc k xa, va_up fl k ya, va_up fp k za, fo2), w1, f1, g1)) C hK hh rfl (⟨by rw [fitR, if_pos hok, hfk, nI_clamp (by omega), nI_clamp (by omega), nI_clamp (by omega)]; simp only []; rw [← hr]; simp [h20, bI, rd_v0, rd_v1], hw1⟩) dX1_fits_39
      · exact absurd (nI_pos' (by omega)) h11
  · rw [addR, if_neg hok] at hr
    obtain ⟨rfl, rfl⟩ := Prod.mk.inj hr
    have hh : HH D (mdW q K pr fc fl fp n fo fw ff fg) A s.heap H locs := hh
    refine lv_istore (lv' := [(4, .int ((-1))), (0, .ref (q 0)), (1, .int x), (2, .int y), (3, .int z)]) hx hb dX1_fits_7 hl (by decide) rfl (fun ls hl => ?_)
    refine lv_iload hx hb dX1_fits_9 (lv_at hl 0 rfl) ?_
    refine lv_if_ge (tgt := 16) hx hb dX1_fits_11 (by decide) (fun h11 => ?_) (fun h11 => ?_)
    · exact absurd h11 (by decide)
    · refine lv_iconst (v := nI 0) hx hb dX1_fits_14 (by decide) ?_
      subst hQe; exact rd_retIz (((pr, n, fc, fl, fp, fo), fw, ff, fg)) C hK hh rfl (⟨by rw [fitR, if_neg hok]; rfl, hbw⟩) dX1_fits_15
end
section
/-! plain law: the simulation's response is the least length of time that covers the work -/
set_option maxRecDepth 100000
theorem sc_ceil {t p : Nat} (hp : 0 < p) : (t + 1 + p - 1) / p = (t + p - 1) / p + (if t % p = 0 then 1 else 0) := by
  have h1 := Nat.div_add_mod t p
  have h2 := Nat.mod_lt t hp
  generalize t / p = a at h1
  generalize t % p = r at h1 h2 ⊢
  have e1 : t + 1 + p - 1 = p * a + (r + p) := by omega
  have e2 : t + p - 1 = p * a + (r + p - 1) := by omega
  rw [e1, e2, Nat.mul_add_div hp, Nat.mul_add_div hp]
  have e3 : (r + p) / p = 1 := by
    rw [Nat.add_div_right r hp, Nat.div_eq_of_lt h2]
  rw [e3]
  by_cases h : r = 0
  · rw [if_pos h, h, Nat.div_eq_of_lt (by omega)]
  · rw [if_neg h, show r + p - 1 = (r - 1) + p by omega, Nat.add_div_right _ hp, Nat.div_eq_of_lt (by omega)]
theorem wkT_pos {c p : Nat → Nat} {k : Nat} (hp : 0 < p k) (t : Nat) : wkT c p t k = (t + p k - 1) / p k * c k := by
  unfold wkT
  rw [if_pos hp]
theorem wkT_0 {c p : Nat → Nat} {k : Nat} (hp : 0 < p k) : wkT c p 0 k = 0 := by
  rw [wkT_pos hp, Nat.div_eq_of_lt (by omega), Nat.zero_mul]
theorem wkT_succ {c p : Nat → Nat} {k : Nat} (hp : 0 < p k) (t : Nat) : wkT c p (t + 1) k = wkT c p t k + (if t % p k = 0 then c k else 0) := by
  rw [wkT_pos hp, wkT_pos hp, sc_ceil hp, Nat.add_mul]
  split <;> simp
theorem wkT_ge {c p : Nat → Nat} {k : Nat} (hp : 0 < p k) (t : Nat) : c k ≤ wkT c p (t + 1) k := by
  rw [wkT_pos hp]
  have : 1 ≤ (t + 1 + p k - 1) / p k := by
    rw [Nat.le_div_iff_mul_le hp]
    omega
  calc c k = 1 * c k := (Nat.one_mul _).symm
    _ ≤ _ := Nat.mul_le_mul_right _ this
theorem wkT_mono {c p : Nat → Nat} (k : Nat) {s t : Nat} (h : s ≤ t) : wkT c p s k ≤ wkT c p t k := by
  unfold wkT
  refine Nat.mul_le_mul_right _ (Nat.div_le_div_right ?_)
  omega
theorem wkL_mono {c p : Nat → Nat} (S : Nat) {s t : Nat} (h : s ≤ t) : ∀ i, wkL c p S s i ≤ wkL c p S t i
  | 0 => Nat.le_refl _
  | i + 1 => by
    have h1 := wkL_mono (c := c) (p := p) S h i
    have h2 := wkT_mono (c := c) (p := p) i h
    simp only [wkL]
    split <;> omega
theorem wk_mono {c p : Nat → Nat} (S : Nat) {s t : Nat} (h : s ≤ t) : wk c p S s ≤ wk c p S t := wkL_mono S h 5
/-- one more task in the set -/
theorem wk_ins {c p : Nat → Nat} {S k : Nat} (hk : k < 5) (hb : S.testBit k = false) (t : Nat) : wk c p (S ||| 2 ^ k) t = wk c p S t + wkT c p t k := by
  have hb2 : ∀ i, (S ||| 2 ^ k).testBit i = (S.testBit i || decide (k = i)) := fun i => by rw [Nat.testBit_or, Nat.testBit_two_pow]
  unfold wk
  simp only [wkL, hb2]
  rcases (show k = 0 ∨ k = 1 ∨ k = 2 ∨ k = 3 ∨ k = 4 by omega) with rfl | rfl | rfl | rfl | rfl <;> simp [hb] <;> omega
theorem wk_0 (c p : Nat → Nat) (t : Nat) : wk c p 0 t = 0 := by simp [wk, wkL]
/-- sums over the first i tasks of a row -/
def smW (w g : Nat → Nat) : Nat → Nat
  | 0 => 0
  | i + 1 => smW w g i + g (w i)
theorem muL_bit (w : Nat → Nat) : ∀ (i k : Nat), (muL w i).testBit k = true ↔ ∃ j, j < i ∧ w j = k
  | 0, k => by simp [muL]
  | i + 1, k => by
    rw [muL, Nat.testBit_or, Nat.testBit_two_pow, Bool.or_eq_true, muL_bit w i k, decide_eq_true_eq]
    constructor
    · rintro (⟨j, h1, h2⟩ | h)
      · exact ⟨j, by omega, h2⟩
      · exact ⟨i, by omega, h⟩
    · rintro ⟨j, h1, h2⟩
      rcases Nat.lt_or_eq_of_le (Nat.le_of_lt_succ h1) with q | q
      · exact Or.inl ⟨j, q, h2⟩
      · exact Or.inr (by rw [← q]; exact h2)
theorem wk_mu {c p w : Nat → Nat} {n : Nat} (hw : ∀ j, w j < 5) (hi : ∀ i j, i < n → j < n → w i = w j → i = j) (t : Nat) : ∀ i, i ≤ n → wk c p (muL w i) t = smW w (fun k => wkT c p t k) i
  | 0, _ => by simp [muL, smW, wk_0]
  | i + 1, h => by
    rw [muL, wk_ins (hw i), wk_mu hw hi t i (by omega)]
    · rfl
    · cases hb : (muL w i).testBit (w i) with
      | false => rfl
      | true =>
        obtain ⟨j, h1, h2⟩ := (muL_bit w i (w i)).mp hb
        have := hi j i (by omega) (by omega) h2
        omega
theorem smW_le {w g h : Nat → Nat} : ∀ i, (∀ j, j < i → g (w j) ≤ h (w j)) → smW w g i ≤ smW w h i
  | 0, _ => Nat.le_refl _
  | i + 1, q => by
    have h1 := smW_le i (fun j hj => q j (by omega))
    have h2 := q i (by omega)
    simp only [smW]
    omega
theorem smW_eq {w g h : Nat → Nat} : ∀ i, (∀ j, j < i → g (w j) = h (w j)) → smW w g i = smW w h i
  | 0, _ => rfl
  | i + 1, q => by
    simp only [smW]
    rw [smW_eq i (fun j hj => q j (by omega)), q i (by omega)]
theorem smW_up {w g : Nat → Nat} {n : Nat} (hi : ∀ i j, i < n → j < n → w i = w j → i = j) {a : Nat} (ha : a < n) : ∀ i, i ≤ n → smW w (va_up g (w a) (g (w a) + 1)) i = smW w g i + (if a < i then 1 else 0)
  | 0, _ => by simp [smW]
  | i + 1, h => by
    simp only [smW]
    rw [smW_up hi ha i (by omega)]
    by_cases q : i = a
    · subst q
      rw [va_up_self, if_neg (by omega), if_pos (by omega)]
      omega
    · rw [va_up_ne _ _ (fun z => q (hi i a (by omega) ha z))]
      by_cases q2 : a < i
      · rw [if_pos q2, if_pos (by omega)]
        omega
      · rw [if_neg q2, if_neg (by omega)]
        omega
/-- what the unit's loop does -/
theorem uL_spec {c p w : Nat → Nat} {t : Nat} : ∀ (m : Nat) (f : Nat → Nat) (b : Option Nat), (∀ i j, i < m → j < m → w i = w j → i = j) →
    (∀ i, i < m → (uL c p w t m f b).1 (w i) = uV c p f t (w i)) ∧
    ((∃ i, i < m ∧ 0 < uV c p f t (w i) ∧ (∀ i', i' < i → uV c p f t (w i') = 0) ∧ (uL c p w t m f b).2 = some (w i)) ∨ ((∀ i, i < m → uV c p f t (w i) = 0) ∧ (uL c p w t m f b).2 = b)) ∧
    (∀ j, (∀ i, i < m → w i ≠ j) → (uL c p w t m f b).1 j = f j)
  | 0, f, b, _ => ⟨fun i h => by omega, Or.inr ⟨fun i h => by omega, rfl⟩, fun j _ => rfl⟩
  | m + 1, f, b, hi => by
    have hne : ∀ i, i < m → w i ≠ w m := fun i h q => by have := hi i m (by omega) (by omega) q; omega
    have hv : ∀ i, i < m → uV c p (va_up f (w m) (uV c p f t (w m))) t (w i) = uV c p f t (w i) := fun i h => by
      unfold uV
      rw [va_up_ne _ _ (hne i h)]
    obtain ⟨a1, a2, a3⟩ := uL_spec m (va_up f (w m) (uV c p f t (w m))) (if 0 < uV c p f t (w m) then some (w m) else b) (fun i j h1 h2 => hi i j (by omega) (by omega))
    simp only [uL]
    refine ⟨fun i h => ?_, ?_, fun j hj => ?_⟩
    · rcases Nat.lt_or_eq_of_le (Nat.le_of_lt_succ h) with q | q
      · rw [a1 i q, hv i q]
      · rw [q, a3 (w m) hne, va_up_self]
    · rcases a2 with ⟨i, h1, h2, h3, h4⟩ | ⟨h1, h2⟩
      · refine Or.inl ⟨i, by omega, by rw [← hv i h1]; exact h2, fun i' h => by rw [← hv i' (by omega)]; exact h3 i' h, h4⟩
      · by_cases q : 0 < uV c p f t (w m)
        · rw [if_pos q] at h2
          refine Or.inl ⟨m, by omega, q, fun i' h => by rw [← hv i' h]; exact h1 i' h, ?_⟩
          rw [if_pos q]
          exact h2
        · rw [if_neg q] at h2
          refine Or.inr ⟨fun i h => ?_, ?_⟩
          · rcases Nat.lt_or_eq_of_le (Nat.le_of_lt_succ h) with z | z
            · rw [← hv i z]; exact h1 i z
            · rw [z]; omega
          · rw [if_neg q]
            exact h2
    · rw [a3 j (fun i h => hj i (by omega)), va_up_ne _ _ (fun z => hj m (by omega) z.symm)]
/-- a row of tasks that are in order -/
def RowOK (c p w : Nat → Nat) (n : Nat) : Prop := (∀ j, w j < 5) ∧ (∀ i j, i < n → j < n → w i = w j → i = j) ∧ ∀ i, i < n → 0 < c (w i) ∧ 0 < p (w i)
/-- what is left and what was given are what got ready -/
def SimI (c p w : Nat → Nat) (n t : Nat) (f g : Nat → Nat) : Prop := ∀ i, i < n → f (w i) + g (w i) = wkT c p t (w i)
theorem unF_spec {c p w : Nat → Nat} {n t : Nat} {f g : Nat → Nat} (hR : RowOK c p w n) (hI : SimI c p w n t f g) {o : Option Nat} {f' g' : Nat → Nat} (h : unF c p w n t f g = (o, f', g')) :
    SimI c p w n (t + 1) f' g' ∧
    ((∃ i, i < n ∧ o = some (w i) ∧ g' = va_up g (w i) (g (w i) + 1) ∧ (∀ i', i' < i → g (w i') = wkT c p (t + 1) (w i')) ∧ g (w i) < wkT c p (t + 1) (w i)) ∨
     (o = none ∧ g' = g ∧ ∀ i, i < n → g (w i) = wkT c p (t + 1) (w i))) := by
  obtain ⟨hw, hi, hpos⟩ := hR
  obtain ⟨a1, a2, -⟩ := uL_spec (c := c) (p := p) (w := w) (t := t) n f none hi
  have hv : ∀ i, i < n → uV c p f t (w i) + g (w i) = wkT c p (t + 1) (w i) := fun i h => by
    have h1 := hI i h
    obtain ⟨-, h2⟩ := hpos i h
    rw [wkT_succ h2]
    unfold uV
    by_cases q : t % p (w i) = 0
    · rw [if_pos ⟨h2, q⟩, if_pos q]; omega
    · rw [if_neg (fun z => q z.2), if_neg q]; omega
  unfold unF at h
  rcases hu : uL c p w t n f none with ⟨f1, b1⟩
  rw [hu] at h a1 a2
  simp only at a1 a2
  rcases a2 with ⟨i, h1, h2, h3, h4⟩ | ⟨h1, h2⟩
  · subst h4
    simp only [Prod.mk.injEq] at h
    obtain ⟨rfl, rfl, rfl⟩ := h
    refine ⟨fun j hj => ?_, Or.inl ⟨i, h1, rfl, rfl, fun i' h => ?_, ?_⟩⟩
    · have e := a1 j hj
      have e2 := hv j hj
      by_cases q : w j = w i
      · rw [q] at e e2 ⊢
        rw [va_up_self, va_up_self, e]
        omega
      · rw [va_up_ne _ _ q, va_up_ne _ _ q, e]
        exact e2
    · have e := hv i' (by omega)
      rw [h3 i' h] at e
      omega
    · have e := hv i h1
      omega
  · subst h2
    simp only [Prod.mk.injEq] at h
    obtain ⟨rfl, rfl, rfl⟩ := h
    refine ⟨fun j hj => ?_, Or.inr ⟨rfl, rfl, fun i h => ?_⟩⟩
    · rw [a1 j hj]
      exact hv j hj
    · have e := hv i h
      rw [h1 i h] at e
      omega
/-- the least time of 1..P that covers ck and the work h -/
def LeastR (h : Nat → Nat) (ck P : Nat) : Option Nat → Prop
  | some r => 1 ≤ r ∧ r ≤ P ∧ h r + ck ≤ r ∧ ∀ t, 1 ≤ t → t < r → t < h t + ck
  | none => ∀ t, 1 ≤ t → t ≤ P → t < h t + ck
theorem LeastR_one {h : Nat → Nat} {ck P : Nat} {a b : Option Nat} (ha : LeastR h ck P a) (hb : LeastR h ck P b) : a = b := by
  cases a with
  | none =>
    cases b with
    | none => rfl
    | some r =>
      obtain ⟨h1, h2, h3, h4⟩ := hb
      have := ha r h1 h2
      omega
  | some q =>
    obtain ⟨g1, g2, g3, g4⟩ := ha
    cases b with
    | none =>
      have := hb q g1 g2
      omega
    | some r =>
      obtain ⟨h1, h2, h3, h4⟩ := hb
      rcases Nat.lt_or_ge q r with z | z
      · have := h4 q g1 z
        omega
      · rcases Nat.lt_or_eq_of_le z with y | y
        · have := g4 r h1 y
          omega
        · rw [y]
theorem rspL_least {c p : Nat → Nat} {k S : Nat} (hc : 1 ≤ c k) (hp : p k ≤ 15) : ∀ (f t : Nat), 17 ≤ t + f → c k ≤ t → t ≤ p k → (∀ s, 1 ≤ s → s < t → s < wk c p S s + c k) → LeastR (wk c p S) (c k) (p k) (rspL c p k S f t)
  | 0, t, h1, h2, h3, h4 => by omega
  | f + 1, t, h1, h2, h3, h4 => by
    have hge : t ≤ c k + wk c p S t := by
      rcases Nat.lt_or_ge 1 t with q | q
      · have e1 := h4 (t - 1) (by omega) (by omega)
        have e2 := wk_mono (c := c) (p := p) S (show t - 1 ≤ t by omega)
        omega
      · omega
    simp only [rspL]
    by_cases e : c k + wk c p S t = t
    · rw [if_pos e]
      exact ⟨by omega, h3, by omega, h4⟩
    · rw [if_neg e]
      by_cases e2 : p k < c k + wk c p S t
      · rw [if_pos e2]
        intro s s1 s2
        rcases Nat.lt_or_ge s t with q | q
        · exact h4 s s1 q
        · have := wk_mono (c := c) (p := p) S q
          omega
      · rw [if_neg e2]
        refine rspL_least hc hp f _ (by omega) (by omega) (by omega) (fun s s1 s2 => ?_)
        rcases Nat.lt_or_ge s t with q | q
        · exact h4 s s1 q
        · have := wk_mono (c := c) (p := p) S q
          omega
theorem rsp_least {c p : Nat → Nat} {k S : Nat} (hc : 1 ≤ c k) (hcp : c k ≤ p k) (hp : p k ≤ 15) : LeastR (wk c p S) (c k) (p k) (rsp c p k S) :=
  rspL_least hc hp 16 (c k) (by omega) (Nat.le_refl _) hcp (fun s s1 s2 => by omega)
theorem roL_least {c p w : Nat → Nat} {n a : Nat} (hR : RowOK c p w n) (ha : a < n) (hp : p (w a) ≤ 15) : ∀ (d t : Nat) (f g : Nat → Nat), t + d = 16 → SimI c p w n t f g → g (w a) < c (w a) → smW w g a + g (w a) = t → (∀ s, 1 ≤ s → s ≤ t → s < wk c p (muL w a) s + c (w a)) →
    LeastR (wk c p (muL w a)) (c (w a)) (p (w a)) (roL c p w n (w a) d t f g)
  | 0, t, f, g, h1, hI, hg, hs, h4 => by
    intro s s1 s2
    exact h4 s s1 (by omega)
  | d + 1, t, f, g, h1, hI, hg, hs, h4 => by
    have hR0 := hR
    obtain ⟨hw, hi, hpos⟩ := hR0
    simp only [roL]
    by_cases q : t < p (w a)
    · rw [if_pos q]
      rcases hun : unF c p w n t f g with ⟨o, f', g'⟩
      obtain ⟨hI', hcase⟩ := unF_spec hR hI hun
      simp only
      have hwk := wk_mu (c := c) (p := p) hw hi (t + 1) a (by omega)
      have hca := wkT_ge (c := c) (hpos a ha).2 t
      rcases hcase with ⟨i, hin, rfl, rfl, hlt, hgi⟩ | ⟨rfl, rfl, hall⟩
      · have hsu := smW_up (g := g) hi hin a (by omega)
        rcases Nat.lt_trichotomy i a with z | z | z
        · -- a more urgent task
          have hne : w i ≠ w a := fun y => by have := hi i a hin ha y; omega
          rw [if_neg (fun y => hne (Option.some.inj y.1))]
          have hga : va_up g (w i) (g (w i) + 1) (w a) = g (w a) := va_up_ne _ _ (fun y => hne y.symm)
          rw [if_pos z] at hsu
          have hle : smW w (va_up g (w i) (g (w i) + 1)) a ≤ smW w (fun k => wkT c p (t + 1) k) a := smW_le a (fun j hj => by have := hI' j (by omega); omega)
          refine roL_least hR ha hp d (t + 1) f' _ (by omega) hI' (by rw [hga]; exact hg) (by rw [hga, hsu]; omega) (fun s s1 s2 => ?_)
          rcases Nat.lt_or_eq_of_le s2 with y | y
          · exact h4 s s1 (by omega)
          · rw [y, hwk]
            omega
        · -- the task itself
          subst z
          rw [va_up_self]
          rw [if_neg (by omega)] at hsu
          have heq : smW w g i = smW w (fun k => wkT c p (t + 1) k) i := smW_eq i (fun j hj => hlt j hj)
          by_cases fin : g (w i) + 1 = c (w i)
          · rw [if_pos ⟨rfl, fin⟩]
            refine ⟨by omega, by omega, by rw [hwk]; omega, fun s s1 s2 => h4 s s1 (by omega)⟩
          · rw [if_neg (fun y => fin y.2)]
            refine roL_least hR ha hp d (t + 1) f' _ (by omega) hI' (by rw [va_up_self]; omega) (by rw [va_up_self, hsu]; omega) (fun s s1 s2 => ?_)
            rcases Nat.lt_or_eq_of_le s2 with y | y
            · exact h4 s s1 (by omega)
            · rw [y, hwk]
              omega
        · -- a less urgent task: the task has something left
          have := hlt a z
          omega
      · have := hall a ha
        omega
    · rw [if_neg q]
      intro s s1 s2
      exact h4 s s1 (by omega)
/-- the law of responses -/
theorem roF_rsp {c p w : Nat → Nat} {n a : Nat} (hR : RowOK c p w n) (ha : a < n) (hcp : c (w a) ≤ p (w a)) (hp : p (w a) ≤ 15) : roF c p w n (w a) = rsp c p (w a) (muL w a) := by
  have hpos := (hR.2.2 a ha)
  refine LeastR_one (roL_least hR ha hp 16 0 _ _ rfl (fun i hi => by rw [wkT_0 (hR.2.2 i hi).2]) hpos.1 ?_ (fun s s1 s2 => by omega)) (rsp_least hpos.1 hcp hp)
  have : ∀ i, smW w (fun _ => 0) i = 0 := fun i => by
    induction i with
    | zero => rfl
    | succ i ih => simp [smW, ih]
  rw [this]
/-- the law of idle time -/
theorem imS_spec {c p w : Nat → Nat} {n S : Nat} (hR : RowOK c p w n) (hS : muL w n = S) : ∀ t, (imS c p w n t).1 = idL c p S t ∧ SimI c p w n t (imS c p w n t).2.1 (imS c p w n t).2.2 ∧ smW w (imS c p w n t).2.2 n + idL c p S t = t
  | 0 => by
    have : ∀ i, smW w (fun _ => 0) i = 0 := fun i => by
      induction i with
      | zero => rfl
      | succ i ih => simp [smW, ih]
    exact ⟨rfl, fun i hi => by rw [wkT_0 (hR.2.2 i hi).2]; rfl, by simp [imS, idL, this]⟩
  | t + 1 => by
    obtain ⟨e1, hI, e2⟩ := imS_spec hR hS t
    have hwk := wk_mu (c := c) (p := p) hR.1 hR.2.1 (t + 1) n (Nat.le_refl _)
    rw [hS] at hwk
    rcases hun : unF c p w n t (imS c p w n t).2.1 (imS c p w n t).2.2 with ⟨o, f', g'⟩
    obtain ⟨hI', hcase⟩ := unF_spec hR hI hun
    simp only [imS, hun]
    rcases hcase with ⟨i, hin, rfl, rfl, hlt, hgi⟩ | ⟨rfl, hg, hall⟩
    · have hsu := smW_up (g := (imS c p w n t).2.2) hR.2.1 hin n (Nat.le_refl _)
      rw [if_pos hin] at hsu
      have hle : smW w (va_up (imS c p w n t).2.2 (w i) ((imS c p w n t).2.2 (w i) + 1)) n ≤ smW w (fun k => wkT c p (t + 1) k) n := smW_le n (fun j hj => by have := hI' j hj; omega)
      rw [if_neg (by simp), idL, if_neg (by rw [hwk]; omega)]
      exact ⟨e1, hI', by rw [hsu]; omega⟩
    · have heq : smW w (imS c p w n t).2.2 n = smW w (fun k => wkT c p (t + 1) k) n := smW_eq n (fun j hj => hall j hj)
      rw [if_pos rfl, idL, if_pos (by rw [hwk]; omega), hg]
      rw [hg] at hI'
      exact ⟨by rw [e1, hwk]; omega, hI', by rw [hwk]; omega⟩
end
section
/-! plain law: the orders by number are the dictionary list of orders; its good ones are counted, found and ended as the tables say -/
set_option maxRecDepth 100000
/-- how many tasks a set has -/
def pcn (S : Nat) : Nat := ((List.range 5).filter (fun k => S.testBit k)).length
/-- the set without k; the set R less S -/
abbrev wo (S k : Nat) : Nat := S &&& (31 ^^^ 2 ^ k)
abbrev les (R S : Nat) : Nat := R &&& (31 ^^^ S)
/-- the orders of a set, in the dictionary's order -/
def pm : Nat → Nat → List (List Nat)
  | 0, _ => [[]]
  | m + 1, S => (List.range 5).flatMap (fun k => if S.testBit k then (pm m (wo S k)).map (k :: ·) else [])
theorem pm_len : ∀ S, S < 32 → (pm (pcn S) S).length = fac (pcn S) := by decide +kernel
theorem pcn_le : ∀ S, S < 32 → pcn S ≤ 5 := by decide +kernel
/-- the rows that spell writes are the entries of the list -/
theorem sp_pm : ∀ S, S < 32 → ∀ x, x < fac (pcn S) → (List.range (pcn S)).map (spF S (pcn S) x zz) = (pm (pcn S) S).getD x [] := by decide +kernel
theorem pcn_wo : ∀ S, S < 32 → ∀ k, k < 5 → S.testBit k = true → pcn S = pcn (wo S k) + 1 := by decide +kernel
theorem pcn_ins : ∀ S, S < 32 → ∀ k, k < 5 → S.testBit k = false → pcn (S ||| 2 ^ k) = pcn S + 1 := by decide +kernel
theorem pcn_cap : ∀ S, S < 32 → ∀ k, k < 5 → S.testBit k = false → pcn S < 5 := by decide +kernel
theorem pcn_zero : ∀ S, S < 32 → pcn S = 0 → S = 0 := by decide +kernel
theorem pcn_pos : ∀ S, S < 32 → ∀ k, k < 5 → S.testBit k = true → 0 < pcn S := by decide +kernel
theorem les_0 : ∀ R, R < 32 → les R 0 = R := by decide +kernel
theorem les_wo : ∀ S, S < 32 → ∀ R, R < 32 → ∀ k, k < 5 → wo (les R S) k = les R (S ||| 2 ^ k) := by decide +kernel
theorem les_sub : ∀ S, S < 32 → ∀ R, R < 32 → ∀ k, k < 5 → (les R S).testBit k = true → les S R = 0 → les (S ||| 2 ^ k) R = 0 := by decide +kernel
theorem les_nil : ∀ S, S < 32 → ∀ R, R < 32 → les S R = 0 → (les R S = 0 ↔ S = R) := by decide +kernel
theorem les_self : ∀ R, R < 32 → les R R = 0 := by decide +kernel
theorem zero_les : ∀ R, R < 32 → les 0 R = 0 := by decide +kernel
theorem wo_sub : ∀ S, S < 32 → ∀ R, R < 32 → ∀ k, k < 5 → les S R = 0 → les (wo S k) R = 0 := by decide +kernel
theorem wo_and : ∀ S, S < 32 → ∀ R, R < 32 → les S R = 0 → S &&& R = S := by decide +kernel
theorem wo_notsub : ∀ S, S < 32 → ∀ R, R < 32 → ∀ k, k < 5 → (S &&& R).testBit k = true → les (wo S k) R = 0 → les S R = 0 := by decide +kernel
theorem bit_hi {S k : Nat} (hS : S < 32) (hk : 5 ≤ k) : S.testBit k = false := Nat.testBit_lt_two_pow (Nat.lt_of_lt_of_le hS (show 2 ^ 5 ≤ 2 ^ k from Nat.pow_le_pow_right (by decide) hk))
theorem bit_ext {a b : Nat} (ha : a < 32) (hb : b < 32) (h : ∀ k, k < 5 → a.testBit k = b.testBit k) : a = b := by
  apply Nat.eq_of_testBit_eq
  intro k
  rcases Nat.lt_or_ge k 5 with q | q
  · exact h k q
  · rw [bit_hi ha q, bit_hi hb q]
/-- good from the set S on; good backwards, the list's first being the last of the set S -/
def gd (T : Nat → Nat → Bool) : Nat → List Nat → Bool
  | _, [] => true
  | S, k :: r => T k S && gd T (S ||| 2 ^ k) r
def gr (T : Nat → Nat → Bool) : Nat → List Nat → Bool
  | _, [] => true
  | S, k :: r => T k (wo S k) && gr T (wo S k) r
theorem flat5 {α : Type} (f : Nat → List α) : (List.range 5).flatMap f = f 0 ++ (f 1 ++ (f 2 ++ (f 3 ++ f 4))) := by
  rw [show List.range 5 = [0, 1, 2, 3, 4] by decide]
  simp
theorem cnt_blk (P : List Nat → Bool) (b : Bool) (L : List (List Nat)) (k : Nat) : ((if b then L.map (k :: ·) else []) : List (List Nat)).countP P = if b then L.countP (fun r => P (k :: r)) else 0 := by
  cases b with
  | false => simp
  | true => simp [List.countP_map, Function.comp_def]
theorem cnt_and (b : Bool) (Q : List Nat → Bool) (L : List (List Nat)) : L.countP (fun r => b && Q r) = if b then L.countP Q else 0 := by
  cases b with
  | false => simp
  | true => simp
/-- the number of good orders of what is still to come behind S -/
def beF (T : Nat → Nat → Bool) (pr S : Nat) : Nat := if les S pr = 0 ∧ S < 32 then (pm (pcn (les pr S)) (les pr S)).countP (gd T S) else 0
def amF (T : Nat → Nat → Bool) (pr S : Nat) : Nat := if les S pr = 0 ∧ S < 32 then (pm (pcn S) S).countP (gr T S) else 0
theorem beF_eq {T : Nat → Nat → Bool} {pr : Nat} (hpr : pr < 32) {S : Nat} (hS : S < 32) : beF T pr S = belS T pr (beF T pr) S 5 := by
  by_cases hs : les S pr = 0
  · have hR : les pr S < 32 := rd_and_lt hpr
    have hval : beF T pr S = (pm (pcn (les pr S)) (les pr S)).countP (gd T S) := by unfold beF; rw [if_pos ⟨hs, hS⟩]
    have hk : ∀ k, k < 5 → (les pr S).testBit k = true → (pm (pcn (wo (les pr S) k)) (wo (les pr S) k)).countP (gd T (S ||| 2 ^ k)) = beF T pr (S ||| 2 ^ k) := fun k k5 hb => by
      rw [les_wo S hS pr hpr k k5]
      unfold beF
      rw [if_pos ⟨les_sub S hS pr hpr k k5 hb hs, rd_or_lt hS (rd_pow_lt k5)⟩]
    rcases Nat.eq_zero_or_pos (pcn (les pr S)) with hz | hz
    · have h0 := pcn_zero _ hR hz
      have hSp := (les_nil S hS pr hpr hs).mp h0
      rw [hval, hz]
      simp only [belS, pm, if_pos hSp]
      have hb : ∀ k, (les pr S).testBit k = false := fun k => by rw [h0]; exact Nat.zero_testBit k
      simp only [hb]
      simp [gd]
    · obtain ⟨m, hm⟩ : ∃ m, pcn (les pr S) = m + 1 := ⟨pcn (les pr S) - 1, by omega⟩
      have hne : ¬ S = pr := fun q => by
        have h0 := (les_nil S hS pr hpr hs).mpr q
        rw [h0] at hz
        exact absurd hz (by decide)
      have hm' : ∀ k, k < 5 → (les pr S).testBit k = true → pcn (wo (les pr S) k) = m := fun k k5 hb => by
        have := pcn_wo _ hR k k5 hb
        omega
      have term : ∀ k, k < 5 → (if (les pr S).testBit k then (pm m (wo (les pr S) k)).countP (fun r => gd T S (k :: r)) else 0) = if (les pr S).testBit k && (decide (les S pr = 0) && T k S) then beF T pr (S ||| 2 ^ k) else 0 := fun k k5 => by
        cases hb : (les pr S).testBit k with
        | false => simp
        | true =>
          have e1 := hk k k5 hb
          rw [hm' k k5 hb] at e1
          simp only [gd, cnt_and, e1, hs, decide_true, Bool.true_and, if_true]
      rw [hval, hm]
      simp only [pm]
      rw [flat5]
      simp only [List.countP_append, cnt_blk]
      rw [term 0 (by decide), term 1 (by decide), term 2 (by decide), term 3 (by decide), term 4 (by decide)]
      simp only [belS, if_neg hne, les, wo]
      omega
  · have h0 : beF T pr S = 0 := by unfold beF; rw [if_neg (fun q => hs q.1)]
    have hne : ¬ S = pr := fun q => hs (by rw [q]; exact les_self pr hpr)
    rw [h0]
    simp only [belS, if_neg hne, hs, decide_false, Bool.false_and, Bool.and_false]
    rfl
theorem amF_eq {T : Nat → Nat → Bool} {pr : Nat} (hpr : pr < 32) {S : Nat} (hS : S < 32) : amF T pr S = amoS T pr (amF T pr) S 5 := by
  by_cases hs : les S pr = 0
  · have hval : amF T pr S = (pm (pcn S) S).countP (gr T S) := by unfold amF; rw [if_pos ⟨hs, hS⟩]
    have hand := wo_and S hS pr hpr hs
    have hk : ∀ k, k < 5 → (pm (pcn (wo S k)) (wo S k)).countP (gr T (wo S k)) = amF T pr (wo S k) := fun k k5 => by
      unfold amF
      rw [if_pos ⟨wo_sub S hS pr hpr k k5 hs, rd_and_lt hS⟩]
    have hand2 : ∀ k, k < 5 → wo S k &&& pr = wo S k := fun k k5 => wo_and _ (rd_and_lt hS) pr hpr (wo_sub S hS pr hpr k k5 hs)
    rcases Nat.eq_zero_or_pos (pcn S) with hz | hz
    · have h0 := pcn_zero _ hS hz
      rw [hval, hz]
      simp only [amoS, pm, hand, if_pos h0]
      have hb : ∀ k, S.testBit k = false := fun k => by rw [h0]; exact Nat.zero_testBit k
      simp only [hb]
      simp [gr]
    · obtain ⟨m, hm⟩ : ∃ m, pcn S = m + 1 := ⟨pcn S - 1, by omega⟩
      have hne : ¬ S = 0 := fun q => by
        rw [q] at hz
        exact absurd hz (by decide)
      have hm' : ∀ k, k < 5 → S.testBit k = true → pcn (wo S k) = m := fun k k5 hb => by
        have := pcn_wo _ hS k k5 hb
        omega
      have term : ∀ k, k < 5 → (if S.testBit k then (pm m (wo S k)).countP (fun r => gr T S (k :: r)) else 0) = if (S &&& pr).testBit k && T k (wo S k &&& pr) then amF T pr (wo S k) else 0 := fun k k5 => by
        rw [hand, hand2 k k5]
        cases hb : S.testBit k with
        | false => simp
        | true =>
          have e1 := hk k k5
          rw [hm' k k5 hb] at e1
          simp only [gr, cnt_and, e1, Bool.true_and, if_true]
      rw [hval, hm]
      simp only [pm]
      rw [flat5]
      simp only [List.countP_append, cnt_blk]
      rw [term 0 (by decide), term 1 (by decide), term 2 (by decide), term 3 (by decide), term 4 (by decide)]
      simp only [amoS, if_neg hne, les, wo]
      omega
  · have h0 : amF T pr S = 0 := by unfold amF; rw [if_neg (fun q => hs q.1)]
    have hne : ¬ S = 0 := fun q => hs (by rw [q]; exact zero_les pr hpr)
    have hk : ∀ k, k < 5 → (S &&& pr).testBit k = true → amF T pr (wo S k) = 0 := fun k k5 hb => by
      unfold amF
      rw [if_neg (fun q => hs (wo_notsub S hS pr hpr k k5 hb q.1))]
    have term : ∀ k, k < 5 → (if (S &&& pr).testBit k && T k (wo S k &&& pr) then amF T pr (wo S k) else 0) = 0 := fun k k5 => by
      cases hb : (S &&& pr).testBit k with
      | false => simp
      | true => rw [hk k k5 hb]; simp
    rw [h0]
    simp only [amoS, if_neg hne]
    rw [term 0 (by decide), term 1 (by decide), term 2 (by decide), term 3 (by decide), term 4 (by decide)]
theorem fac_pcn {S : Nat} (hS : S < 32) : fac (pcn S) ≤ 120 := (fac_lt _ (pcn_le S hS)).1
theorem TB_F (T : Nat → Nat → Bool) {pr : Nat} (hpr : pr < 32) : TB T pr (beF T pr) (amF T pr) := by
  refine ⟨fun S hS => beF_eq hpr hS, fun S hS => amF_eq hpr hS, fun S => ?_, fun S => ?_⟩
  · unfold beF
    split
    · rename_i h
      have hR : les pr S < 32 := rd_and_lt hpr
      have := List.countP_le_length (p := gd T S) (l := pm (pcn (les pr S)) (les pr S))
      rw [pm_len _ hR] at this
      have := fac_pcn hR
      omega
    · decide
  · unfold amF
    split
    · rename_i h
      have := List.countP_le_length (p := gr T S) (l := pm (pcn S) S)
      rw [pm_len _ h.2] at this
      have := fac_pcn h.2
      omega
    · decide
/-- counting by number -/
theorem goL_cnt (Q : List Nat → Bool) (L : List (List Nat)) : ∀ x, x ≤ L.length → goL (fun x => Q (L.getD x [])) x = (L.take x).countP Q
  | 0, _ => by simp [goL]
  | x + 1, h => by
    have hx : x < L.length := by omega
    have e : L.getD x [] = L[x] := by simp [List.getD, hx]
    simp only [goL]
    have e2 : Q (L.getD x []) = Q L[x] := by rw [e]
    rw [goL_cnt Q L x (by omega), List.take_succ_eq_append_getElem hx, List.countP_append]
    cases hq : Q L[x] with
    | false =>
      rw [hq] at e2
      rw [if_neg (by rw [e2]; decide)]
      simp [hq]
    | true =>
      rw [hq] at e2
      rw [if_pos e2]
      simp [hq]
theorem goL_congr {P P' : Nat → Bool} : ∀ x, (∀ y, y < x → P y = P' y) → goL P x = goL P' x
  | 0, _ => rfl
  | x + 1, h => by
    simp only [goL]
    rw [goL_congr x (fun y hy => h y (by omega)), h x (by omega)]
theorem fiL_congr {P P' : Nat → Bool} : ∀ (d x : Nat), (∀ y, x ≤ y → y < x + d → P y = P' y) → fiL P d x = fiL P' d x
  | 0, _, _ => rfl
  | d + 1, x, h => by
    simp only [fiL]
    rw [h x (Nat.le_refl _) (by omega), fiL_congr d (x + 1) (fun y h1 h2 => h y (by omega) (by omega))]
theorem lsL_congr {P P' : Nat → Bool} {K K' : Nat → Nat} : ∀ x, (∀ y, y < x → P y = P' y) → (∀ y, y < x → K y = K' y) → lsL P K x = lsL P' K' x
  | 0, _, _ => rfl
  | x + 1, h, h2 => by
    simp only [lsL]
    rw [lsL_congr x (fun y hy => h y (by omega)) (fun y hy => h2 y (by omega)), h x (by omega), h2 x (by omega)]
theorem fiL_find (Q : List Nat → Bool) (L : List (List Nat)) : ∀ (d x : Nat), x + d = L.length → (L.drop x).find? Q = (fiL (fun x => Q (L.getD x [])) d x).map (fun x => L.getD x [])
  | 0, x, h => by
    rw [List.drop_eq_nil_of_le (by omega)]
    rfl
  | d + 1, x, h => by
    have hx : x < L.length := by omega
    have e : L.getD x [] = L[x] := by simp [List.getD, hx]
    rw [List.drop_eq_getElem_cons hx, List.find?_cons]
    simp only [fiL]
    have e2 : Q (L.getD x []) = Q L[x] := by rw [e]
    cases hq : Q L[x] with
    | true =>
      rw [hq] at e2
      rw [if_pos e2]
      simp [hx]
    | false =>
      rw [hq] at e2
      rw [if_neg (by rw [e2]; decide)]
      exact fiL_find Q L d (x + 1) (by omega)
theorem fiL_lt (P : Nat → Bool) : ∀ (d x y : Nat), fiL P d x = some y → y < x + d
  | 0, x, y, h => by simp [fiL] at h
  | d + 1, x, y, h => by
    simp only [fiL] at h
    split at h
    · cases h; omega
    · have := fiL_lt P d (x + 1) y h
      omega
/-- the greedy order: m tasks from the set S on -/
def gl (T : Nat → Nat → Bool) (pr : Nat) : Nat → Nat → List Nat
  | 0, _ => []
  | m + 1, S => nx T pr (beF T pr) S :: gl T pr m (S ||| 2 ^ nx T pr (beF T pr) S)
theorem find_pos (Q : List Nat → Bool) (L : List (List Nat)) : (L.find? Q).isSome = decide (0 < L.countP Q) := by
  rw [Bool.eq_iff_iff, List.find?_isSome]
  simp [List.countP_pos_iff]
theorem find_blk (T : Nat → Nat → Bool) (S k : Nat) (b : Bool) (L : List (List Nat)) : ((if b then L.map (k :: ·) else []) : List (List Nat)).find? (gd T S) = if b && T k S then (L.find? (gd T (S ||| 2 ^ k))).map (k :: ·) else none := by
  cases b with
  | false => simp
  | true =>
    simp only [if_true, Bool.true_and, List.find?_map]
    cases hT : T k S with
    | false =>
      have : (gd T S ∘ fun x => k :: x) = fun _ => false := by funext r; simp [gd, hT]
      rw [this]
      simp
    | true =>
      have : (gd T S ∘ fun x => k :: x) = gd T (S ||| 2 ^ k) := by funext r; simp [gd, hT]
      rw [this]
      simp
theorem beF_sub {T : Nat → Nat → Bool} {pr S : Nat} (h : les S pr = 0) (hS : S < 32) : beF T pr S = (pm (pcn (les pr S)) (les pr S)).countP (gd T S) := by unfold beF; rw [if_pos ⟨h, hS⟩]
theorem find_gl {T : Nat → Nat → Bool} {pr : Nat} (hpr : pr < 32) : ∀ (m S : Nat), S < 32 → les S pr = 0 → pcn (les pr S) = m → 0 < beF T pr S → (pm m (les pr S)).find? (gd T S) = some (gl T pr m S)
  | 0, S, hS, hs, hm, hp => by simp [pm, gd, gl]
  | m + 1, S, hS, hs, hm, hp => by
    have hR : les pr S < 32 := rd_and_lt hpr
    have hm' : ∀ k, k < 5 → (les pr S).testBit k = true → pcn (les pr (S ||| 2 ^ k)) = m := fun k k5 hb => by
      have := pcn_wo _ hR k k5 hb
      rw [les_wo S hS pr hpr k k5] at this
      omega
    -- a block's first good order
    have blk : ∀ k, k < 5 → (if (les pr S).testBit k && T k S then ((pm m (wo (les pr S) k)).find? (gd T (S ||| 2 ^ k))).map (k :: ·) else none) = if cfF T pr (beF T pr) S k then some (k :: gl T pr m (S ||| 2 ^ k)) else none := fun k k5 => by
      rw [les_wo S hS pr hpr k k5]
      unfold cfF
      cases hb : (les pr S).testBit k with
      | false => simp
      | true =>
        have hs' := les_sub S hS pr hpr k k5 hb hs
        have hS' := rd_or_lt hS (rd_pow_lt k5)
        cases hT : T k S with
        | false => simp
        | true =>
          simp only [Bool.true_and, Bool.and_true, if_true]
          by_cases hq : 0 < beF T pr (S ||| 2 ^ k)
          · rw [find_gl hpr m (S ||| 2 ^ k) hS' hs' (hm' k k5 hb) hq]
            simp [hq]
          · have e := beF_sub (T := T) hs' hS'
            rw [hm' k k5 hb] at e
            have : (pm m (les pr (S ||| 2 ^ k))).find? (gd T (S ||| 2 ^ k)) = none := by
              rw [← Option.not_isSome_iff_eq_none, find_pos, ← e]
              simpa using hq
            rw [this]
            simp [hq]
    have key : (pm (m + 1) (les pr S)).find? (gd T S) = (if cfF T pr (beF T pr) S 0 then some (0 :: gl T pr m (S ||| 2 ^ 0)) else none).or ((if cfF T pr (beF T pr) S 1 then some (1 :: gl T pr m (S ||| 2 ^ 1)) else none).or ((if cfF T pr (beF T pr) S 2 then some (2 :: gl T pr m (S ||| 2 ^ 2)) else none).or ((if cfF T pr (beF T pr) S 3 then some (3 :: gl T pr m (S ||| 2 ^ 3)) else none).or (if cfF T pr (beF T pr) S 4 then some (4 :: gl T pr m (S ||| 2 ^ 4)) else none)))) := by
      simp only [pm]
      rw [flat5]
      simp only [List.find?_append, find_blk]
      rw [blk 0 (by decide), blk 1 (by decide), blk 2 (by decide), blk 3 (by decide), blk 4 (by decide)]
    have hsome : ((pm (m + 1) (les pr S)).find? (gd T S)).isSome = true := by
      rw [find_pos, ← hm, ← beF_sub hs hS]
      simpa using hp
    rw [key] at hsome ⊢
    simp only [gl, nx, nxL]
    cases h0 : cfF T pr (beF T pr) S 0 with
    | true => simp
    | false =>
      cases h1 : cfF T pr (beF T pr) S 1 with
      | true => simp
      | false =>
        cases h2 : cfF T pr (beF T pr) S 2 with
        | true => simp
        | false =>
          cases h3 : cfF T pr (beF T pr) S 3 with
          | true => simp
          | false =>
            cases h4 : cfF T pr (beF T pr) S 4 with
            | true => simp
            | false => simp [h0, h1, h2, h3, h4] at hsome
theorem gl_get (T : Nat → Nat → Bool) (pr : Nat) : ∀ (m i j : Nat), j < m → (gl T pr m (agS T pr (beF T pr) i)).getD j 0 = nx T pr (beF T pr) (agS T pr (beF T pr) (i + j))
  | 0, i, j, h => by omega
  | m + 1, i, 0, h => by simp [gl]
  | m + 1, i, j + 1, h => by
    have := gl_get T pr m (i + 1) j (by omega)
    rw [show i + (j + 1) = i + 1 + j by omega, ← this]
    simp [gl, agS]
end
section
/-! plain laws: what the desk answers and what the model answers is the same -/
set_option maxRecDepth 100000
/-- a state in order -/
def VS (pr n : Nat) (c l p o : Nat → Nat) : Prop := BD pr n c l p o ∧ OrdOK pr n o ∧ n = pcn pr ∧ ∀ k, k < 5 → pr.testBit k = true → 1 ≤ c k ∧ c k ≤ l k ∧ l k ≤ p k
/-- the tasks' numbers are in order -/
def NOK (pr : Nat) (c p : Nat → Nat) : Prop := ∀ k, k < 5 → pr.testBit k = true → 1 ≤ c k ∧ c k ≤ p k ∧ p k ≤ 15
theorem VS.nok {pr n : Nat} {c l p o : Nat → Nat} (h : VS pr n c l p o) : NOK pr c p := fun k k5 hb => by
  have h1 := h.2.2.2 k k5 hb
  have h2 := h.1.2.2.2.2.1 k
  exact ⟨h1.1, by omega, h2⟩
theorem RowOK_of {pr n : Nat} {c p w : Nat → Nat} (hw : ∀ j, w j < 5) (hO : OrdOK pr n w) (hN : NOK pr c p) : RowOK c p w n :=
  ⟨hw, hO.2.1, fun i hi => by have := hN (w i) (hw i) (hO.1 i hi); omega⟩
theorem roF_eq {pr n : Nat} {c p w : Nat → Nat} (hw : ∀ j, w j < 5) (hO : OrdOK pr n w) (hN : NOK pr c p) {k : Nat} (hk : k < 5) (hb : pr.testBit k = true) : roF c p w n k = rsp c p k (ab w n k) := by
  obtain ⟨h1, h2, -⟩ := ix_spec hO hk hb
  obtain ⟨-, g2, g3⟩ := hN k hk hb
  have := roF_rsp (a := ix w n k) (RowOK_of hw hO hN) h1 (by rw [h2]; exact g2) (by rw [h2]; exact g3)
  rw [h2] at this
  exact this
theorem puF_eq {pr n : Nat} {c l p w : Nat → Nat} (hw : ∀ j, w j < 5) (hO : OrdOK pr n w) (hN : NOK pr c p) {k : Nat} (hk : k < 5) (hb : pr.testBit k = true) : puF c l p w n k = tk c l p w n k := by
  unfold puF tk tm
  rw [roF_eq hw hO hN hk hb]
  cases rsp c p k (ab w n k) with
  | none => rfl
  | some t => rfl
theorem itL_congr {T T' : Nat → Bool} {pr : Nat} : ∀ m, (∀ k, k < m → pr.testBit k = true → T k = T' k) → itL T pr m = itL T' pr m
  | 0, _ => rfl
  | m + 1, h => by
    simp only [itL]
    rw [itL_congr m (fun k hk => h k (by omega))]
    cases hb : pr.testBit m with
    | false => simp
    | true => rw [h m (by omega) hb]
theorem itL_bit (T : Nat → Bool) (pr : Nat) : ∀ m k, (itL T pr m).testBit k = (decide (k < m) && (pr.testBit k && T k))
  | 0, k => by simp [itL]
  | m + 1, k => by
    simp only [itL]
    cases hc : (pr.testBit m && T m) with
    | true =>
      rw [if_pos rfl, Nat.testBit_or, itL_bit T pr m k, Nat.testBit_two_pow]
      by_cases h : m = k
      · subst h
        simp [hc]
      · simp only [h, decide_false, Bool.or_false]
        rw [show decide (k < m + 1) = decide (k < m) by simp only [decide_eq_decide]; omega]
    | false =>
      rw [if_neg (by decide), itL_bit T pr m k]
      by_cases h : k = m
      · subst h
        simp [hc]
      · rw [show decide (k < m + 1) = decide (k < m) by simp only [decide_eq_decide]; omega]
theorem itL_pr {T : Nat → Bool} {pr : Nat} (hpr : pr < 32) : itL T pr 5 = pr ↔ ∀ k, k < 5 → pr.testBit k = true → T k = true := by
  constructor
  · intro h k hk hb
    have := itL_bit T pr 5 k
    rw [h, hb] at this
    simp [hk] at this
    exact this
  · intro h
    apply bit_ext (itL_lt T pr 5 (by decide)) hpr
    intro k hk
    rw [itL_bit]
    cases hb : pr.testBit k with
    | false => simp
    | true => simp [hk, h k hk hb]
theorem apL_iff {P : Nat → Bool} {pr : Nat} : ∀ m, apL P pr m = true ↔ ∀ k, k < m → pr.testBit k = true → P k = true
  | 0 => by simp [apL]
  | m + 1 => by
    simp only [apL, Bool.and_eq_true, Bool.or_eq_true, Bool.not_eq_true']
    rw [apL_iff m]
    constructor
    · rintro ⟨h1, h2⟩ k hk hb
      rcases Nat.lt_or_eq_of_le (Nat.le_of_lt_succ hk) with q | q
      · exact h1 k q hb
      · subst q
        rcases h2 with h2 | h2
        · rw [hb] at h2; cases h2
        · exact h2
    · intro h
      refine ⟨fun k hk => h k (by omega), ?_⟩
      cases hb : pr.testBit m with
      | false => exact Or.inl rfl
      | true => exact Or.inr (h m (by omega) hb)
theorem apF_gdF {pr n : Nat} {c l p w : Nat → Nat} (hpr : pr < 32) (hw : ∀ j, w j < 5) (hO : OrdOK pr n w) (hN : NOK pr c p) : apF c l p w pr n = gdF pr n c l p w := by
  rw [Bool.eq_iff_iff]
  unfold apF gdF itF
  rw [apL_iff, decide_eq_true_eq, itL_pr hpr]
  constructor
  · intro h k hk hb
    rw [← puF_eq hw hO hN hk hb]
    exact h k hk hb
  · intro h k hk hb
    rw [puF_eq hw hO hN hk hb]
    exact h k hk hb
/-- in a row of the set, by places -/
theorem ix_row {pr n : Nat} {w : Nat → Nat} (hw : ∀ j, w j < 5) (hO : OrdOK pr n w) {i : Nat} (hi : i < n) : ix w n (w i) = i := by
  obtain ⟨h1, h2, -⟩ := ix_spec hO (hw i) (hO.1 i hi)
  exact hO.2.1 _ _ h1 hi h2
theorem apF_row {pr n : Nat} {c l p w : Nat → Nat} (hpr : pr < 32) (hw : ∀ j, w j < 5) (hO : OrdOK pr n w) (hN : NOK pr c p) : apF c l p w pr n = true ↔ ∀ i, i < n → tm c l p (w i) (muL w i) = true := by
  rw [apF_gdF hpr hw hO hN]
  unfold gdF itF
  rw [decide_eq_true_eq, itL_pr hpr]
  constructor
  · intro h i hi
    have := h (w i) (hw i) (hO.1 i hi)
    unfold tk ab at this
    rw [ix_row hw hO hi] at this
    exact this
  · intro h k hk hb
    obtain ⟨h1, h2, -⟩ := ix_spec hO hk hb
    have := h (ix w n k) h1
    rw [h2] at this
    exact this
theorem gd_row (T : Nat → Nat → Bool) (w : Nat → Nat) : ∀ (d i : Nat), gd T (muL w i) ((List.range' i d).map w) = true ↔ ∀ j, i ≤ j → j < i + d → T (w j) (muL w j) = true
  | 0, i => by
    simp only [List.range'_zero, List.map_nil, gd, true_iff]
    intro j h1 h2
    omega
  | d + 1, i => by
    rw [List.range'_succ, List.map_cons, gd, Bool.and_eq_true, show muL w i ||| 2 ^ w i = muL w (i + 1) from rfl, gd_row T w d (i + 1)]
    constructor
    · rintro ⟨h1, h2⟩ j h3 h4
      rcases Nat.lt_or_eq_of_le h3 with q | q
      · exact h2 j q (by omega)
      · rw [← q]; exact h1
    · intro h
      exact ⟨h i (Nat.le_refl _) (by omega), fun j h1 h2 => h j (by omega) (by omega)⟩
/-- every entry of the list is an order of the set -/
theorem pm_ord : ∀ S, S < 32 → ∀ L ∈ pm (pcn S) S, L.length = pcn S ∧ L.Nodup ∧ (∀ k ∈ L, k < 5) ∧ ∀ k, k < 5 → (decide (k ∈ L) = S.testBit k) := by decide +kernel
theorem pm_rev : ∀ S, S < 32 → ∀ L ∈ pm (pcn S) S, L.reverse ∈ pm (pcn S) S := by decide +kernel
theorem sp_mem {S x : Nat} (hS : S < 32) (hx : x < fac (pcn S)) : (pm (pcn S) S).getD x [] ∈ pm (pcn S) S := by
  have hl : x < (pm (pcn S) S).length := by rw [pm_len S hS]; exact hx
  have e : (pm (pcn S) S).getD x [] = (pm (pcn S) S)[x] := by simp [List.getD, hl]
  rw [e]
  exact List.getElem_mem hl
theorem sp_lt (S n x : Nat) : ∀ j, spF S n x zz j < 5 := spL_lt S n _ _ _ _ _ _ (fun _ => Nat.zero_lt_succ 4)
theorem sp_ord {S x : Nat} (hS : S < 32) (hx : x < fac (pcn S)) : OrdOK S (pcn S) (spF S (pcn S) x zz) := by
  obtain ⟨h1, h2, h3, h4⟩ := pm_ord S hS _ (sp_mem hS hx)
  rw [← sp_pm S hS x hx] at h1 h2 h3 h4
  refine ⟨fun i hi => ?_, fun i j hi hj hij => ?_, fun k hk hb => ?_⟩
  · have hm : spF S (pcn S) x zz i ∈ (List.range (pcn S)).map (spF S (pcn S) x zz) := List.mem_map_of_mem (List.mem_range.mpr hi)
    have := h4 _ (h3 _ hm)
    rw [← this]
    exact decide_eq_true hm
  · have hn := List.pairwise_iff_getElem.mp h2
    rcases Nat.lt_trichotomy i j with q | q | q
    · have := hn i j (by simpa using hi) (by simpa using hj) q
      simp only [List.getElem_map, List.getElem_range] at this
      exact absurd hij this
    · exact q
    · have := hn j i (by simpa using hj) (by simpa using hi) q
      simp only [List.getElem_map, List.getElem_range] at this
      exact absurd hij.symm this
  · have := h4 k hk
    rw [hb] at this
    obtain ⟨i, hi, e⟩ := List.mem_map.mp (of_decide_eq_true this)
    exact ⟨i, List.mem_range.mp hi, e⟩
theorem goP_gd {pr n : Nat} {c l p : Nat → Nat} (hpr : pr < 32) (hn : n = pcn pr) (hN : NOK pr c p) {x : Nat} (hx : x < fac n) : goP c l p pr n x = gd (tm c l p) 0 ((pm n pr).getD x []) := by
  subst hn
  rw [Bool.eq_iff_iff, ← sp_pm pr hpr x hx]
  unfold goP
  rw [apF_row hpr (sp_lt pr _ x) (sp_ord hpr hx) hN, List.range_eq_range']
  have := gd_row (tm c l p) (spF pr (pcn pr) x zz) (pcn pr) 0
  rw [show muL (spF pr (pcn pr) x zz) 0 = 0 from rfl] at this
  rw [this]
  constructor
  · intro h j _ hj
    exact h j (by omega)
  · intro h j hj
    exact h j (Nat.zero_le _) (by omega)
/-- goodOrders -/
theorem go_eq {pr n : Nat} {c l p : Nat → Nat} (hpr : pr < 32) (hn : n = pcn pr) (hN : NOK pr c p) : goL (goP c l p pr n) (fac n) = beF (tm c l p) pr 0 := by
  have hl : (pm n pr).length = fac n := by rw [hn]; exact pm_len pr hpr
  rw [goL_congr (P' := fun x => gd (tm c l p) 0 ((pm n pr).getD x [])) (fac n) (fun y hy => goP_gd hpr hn hN hy), ← hl, goL_cnt _ _ _ (Nat.le_refl _), List.take_length, beF_sub (zero_les pr hpr) (by decide), les_0 pr hpr, hn]
/-- arrange -/
theorem ar_eq {pr n : Nat} {c l p : Nat → Nat} (hpr : pr < 32) (hn : n = pcn pr) (hN : NOK pr c p) : match fiL (goP c l p pr n) (fac n) 0 with
    | none => beF (tm c l p) pr 0 = 0
    | some x => x < fac n ∧ 0 < beF (tm c l p) pr 0 ∧ ∀ j, j < n → spF pr n x zz j = nx (tm c l p) pr (beF (tm c l p) pr) (agS (tm c l p) pr (beF (tm c l p) pr) j) := by
  have hl : (pm n pr).length = fac n := by rw [hn]; exact pm_len pr hpr
  have e0 : beF (tm c l p) pr 0 = (pm n pr).countP (gd (tm c l p) 0) := by rw [beF_sub (zero_les pr hpr) (by decide), les_0 pr hpr, hn]
  have ef := fiL_find (gd (tm c l p) 0) (pm n pr) (fac n) 0 (by omega)
  rw [List.drop_zero, ← fiL_congr (P := goP c l p pr n) (fac n) 0 (fun y _ hy => goP_gd hpr hn hN (by omega))] at ef
  rcases hf : fiL (goP c l p pr n) (fac n) 0 with _ | x
  · rw [hf] at ef
    simp only
    have := find_pos (gd (tm c l p) 0) (pm n pr)
    rw [ef, ← e0] at this
    simpa using this
  · rw [hf] at ef
    simp only
    have hx := fiL_lt _ _ _ _ hf
    have hp := find_pos (gd (tm c l p) 0) (pm n pr)
    rw [ef, ← e0] at hp
    have hp : 0 < beF (tm c l p) pr 0 := by simpa using hp
    refine ⟨by omega, hp, fun j hj => ?_⟩
    have hg := find_gl hpr n 0 (by decide) (zero_les pr hpr) (by rw [les_0 pr hpr]; exact hn.symm) hp
    rw [les_0 pr hpr, ef] at hg
    have hg : (pm n pr).getD x [] = gl (tm c l p) pr n 0 := Option.some.inj hg
    have hs : (List.range n).map (spF pr n x zz) = (pm n pr).getD x [] := by rw [hn]; exact sp_pm pr hpr x (by rw [← hn]; omega)
    have h1 := gl_get (tm c l p) pr n 0 j hj
    rw [show agS (tm c l p) pr (beF (tm c l p) pr) 0 = 0 from rfl, ← hg, ← hs, Nat.zero_add] at h1
    rw [← h1]
    simp [List.getD, List.getElem?_range hj]
/-- canBeLast -/
theorem lsL_bit (P : Nat → Bool) (K : Nat → Nat) : ∀ N k, (lsL P K N).testBit k = true ↔ ∃ x, x < N ∧ P x = true ∧ K x = k
  | 0, k => by simp [lsL]
  | N + 1, k => by
    simp only [lsL]
    cases hP : P N with
    | true =>
      rw [if_pos rfl, Nat.testBit_or, Nat.testBit_two_pow, Bool.or_eq_true, lsL_bit P K N k, decide_eq_true_eq]
      constructor
      · rintro (⟨x, h1, h2⟩ | h)
        · exact ⟨x, by omega, h2⟩
        · exact ⟨N, by omega, hP, h⟩
      · rintro ⟨x, h1, h2, h3⟩
        rcases Nat.lt_or_eq_of_le (Nat.le_of_lt_succ h1) with q | q
        · exact Or.inl ⟨x, q, h2, h3⟩
        · exact Or.inr (by rw [← q]; exact h3)
    | false =>
      rw [if_neg (by decide), lsL_bit P K N k]
      constructor
      · rintro ⟨x, h1, h2⟩
        exact ⟨x, by omega, h2⟩
      · rintro ⟨x, h1, h2, h3⟩
        rcases Nat.lt_or_eq_of_le (Nat.le_of_lt_succ h1) with q | q
        · exact ⟨x, q, h2, h3⟩
        · rw [q, hP] at h2; cases h2
theorem clL_bit (T : Nat → Nat → Bool) (pr : Nat) (am : Nat → Nat) : ∀ m k, (clL T pr am m).testBit k = true ↔ k < m ∧ pr.testBit k = true ∧ 0 < am (wo pr k) ∧ T k (wo pr k) = true
  | 0, k => by simp [clL]
  | m + 1, k => by
    simp only [clL]
    by_cases hc : (pr.testBit m && (decide (0 < am (wo pr m)) && T m (wo pr m))) = true
    · rw [if_pos hc, Nat.testBit_or, Nat.testBit_two_pow, Bool.or_eq_true, clL_bit T pr am m k, decide_eq_true_eq]
      simp only [Bool.and_eq_true, decide_eq_true_eq] at hc
      constructor
      · rintro (⟨h1, h2⟩ | h)
        · exact ⟨by omega, h2⟩
        · rw [← h]
          exact ⟨by omega, hc⟩
      · rintro ⟨h1, h2⟩
        rcases Nat.lt_or_eq_of_le (Nat.le_of_lt_succ h1) with q | q
        · exact Or.inl ⟨q, h2⟩
        · exact Or.inr q.symm
    · rw [if_neg hc, clL_bit T pr am m k]
      constructor
      · rintro ⟨h1, h2⟩
        exact ⟨by omega, h2⟩
      · rintro ⟨h1, h2⟩
        rcases Nat.lt_or_eq_of_le (Nat.le_of_lt_succ h1) with q | q
        · exact ⟨q, h2⟩
        · rw [q] at h2
          exact absurd (by simp [h2]) hc
theorem clL_lt (T : Nat → Nat → Bool) (pr : Nat) (am : Nat → Nat) : ∀ m, m ≤ 5 → clL T pr am m < 32
  | 0, _ => by simp [clL]
  | m + 1, h => by
    have := clL_lt T pr am m (by omega)
    simp only [clL]
    split
    · exact rd_or_lt this (rd_pow_lt (by omega))
    · exact this
theorem lsL_lt (P : Nat → Bool) {K : Nat → Nat} (hK : ∀ x, K x < 5) : ∀ N, lsL P K N < 32
  | 0 => by simp [lsL]
  | N + 1 => by
    have := lsL_lt P hK N
    simp only [lsL]
    split
    · exact rd_or_lt this (rd_pow_lt (hK N))
    · exact this
def ors (S : Nat) : List Nat → Nat
  | [] => S
  | k :: r => ors (S ||| 2 ^ k) r
theorem ors_bit : ∀ (L : List Nat) (S i : Nat), (ors S L).testBit i = true ↔ S.testBit i = true ∨ i ∈ L
  | [], S, i => by simp [ors]
  | k :: r, S, i => by
    rw [ors, ors_bit r, Nat.testBit_or, Nat.testBit_two_pow, Bool.or_eq_true, decide_eq_true_eq, List.mem_cons]
    constructor
    · rintro ((h | h) | h)
      · exact Or.inl h
      · exact Or.inr (Or.inl h.symm)
      · exact Or.inr (Or.inr h)
    · rintro (h | h | h)
      · exact Or.inl (Or.inl h)
      · exact Or.inl (Or.inr h.symm)
      · exact Or.inr h
theorem gd_app (T : Nat → Nat → Bool) (k : Nat) : ∀ (L : List Nat) (S : Nat), gd T S (L ++ [k]) = (gd T S L && T k (ors S L))
  | [], S => by simp [gd, ors]
  | a :: r, S => by
    rw [List.cons_append, gd, gd, gd_app T k r, ors, Bool.and_assoc]
theorem gr_gd (T : Nat → Nat → Bool) : ∀ (r : List Nat) (S : Nat), S < 32 → r.Nodup → (∀ k ∈ r, k < 5) → (∀ i, S.testBit i = true ↔ i ∈ r) → gr T S r = gd T 0 r.reverse
  | [], S, _, _, _, _ => rfl
  | k :: r, S, hS, hn, h5, hb => by
    have hk5 : k < 5 := h5 k List.mem_cons_self
    have hn' := List.nodup_cons.mp hn
    have hwo : ∀ i, (wo S k).testBit i = true ↔ i ∈ r := fun i => by
      rw [rd_clr hS hk5 i]
      by_cases q : i = k
      · rw [q, va_up_self]
        exact ⟨fun z => (by cases z), fun z => absurd z hn'.1⟩
      · rw [va_up_ne _ _ q, hb i, List.mem_cons]
        exact ⟨fun z => z.resolve_left q, Or.inr⟩
    have heq : wo S k = ors 0 r.reverse := by
      apply Nat.eq_of_testBit_eq
      intro i
      rw [Bool.eq_iff_iff, hwo i, ors_bit]
      simp
    rw [gr, gr_gd T r (wo S k) (rd_and_lt hS) hn'.2 (fun j hj => h5 j (List.mem_cons_of_mem _ hj)) hwo, List.reverse_cons, gd_app, heq, Bool.and_comm]
theorem pm_cons (m S k : Nat) (r : List Nat) : k :: r ∈ pm (m + 1) S ↔ k < 5 ∧ S.testBit k = true ∧ r ∈ pm m (wo S k) := by
  simp only [pm, List.mem_flatMap, List.mem_range]
  constructor
  · rintro ⟨j, h1, h2⟩
    cases hb : S.testBit j with
    | false => rw [hb] at h2; simp at h2
    | true =>
      rw [hb] at h2
      simp only [if_true, List.mem_map] at h2
      obtain ⟨a, h3, h4⟩ := h2
      obtain ⟨rfl, rfl⟩ := List.cons.inj h4
      exact ⟨h1, hb, h3⟩
  · rintro ⟨h1, h2, h3⟩
    refine ⟨k, h1, ?_⟩
    rw [h2]
    exact List.mem_map_of_mem h3
theorem pm_bits {S : Nat} (hS : S < 32) {L : List Nat} (h : L ∈ pm (pcn S) S) : ∀ i, S.testBit i = true ↔ i ∈ L := fun i => by
  obtain ⟨h1, h2, h3, h4⟩ := pm_ord S hS L h
  rcases Nat.lt_or_ge i 5 with q | q
  · rw [← h4 i q]
    simp
  · rw [bit_hi hS q]
    exact ⟨fun z => (by cases z), fun z => by have := h3 i z; omega⟩
theorem cb_eq {pr n : Nat} {c l p : Nat → Nat} (hpr : pr < 32) (hn : n = pcn pr) (hN : NOK pr c p) : (if n = 0 then 0 else lsL (goP c l p pr n) (fun x => spF pr n x zz (n - 1)) (fac n)) = clL (tm c l p) pr (amF (tm c l p) pr) 5 := by
  rcases Nat.eq_zero_or_pos n with hz | hz
  · rw [if_pos hz]
    have h0 := pcn_zero pr hpr (by omega)
    apply bit_ext (by decide) (clL_lt _ _ _ 5 (by decide))
    intro k hk
    rw [Bool.eq_iff_iff, clL_bit, h0]
    simp
  · rw [if_neg (by omega)]
    have hl : (pm n pr).length = fac n := by rw [hn]; exact pm_len pr hpr
    apply bit_ext (lsL_lt _ (fun x => sp_lt pr n x _) _) (clL_lt _ _ _ 5 (by decide))
    intro k hk
    rw [Bool.eq_iff_iff, lsL_bit, clL_bit]
    -- the last of row x
    have last : ∀ x, x < fac n → ∀ k' r, ((pm n pr).getD x []).reverse = k' :: r → spF pr n x zz (n - 1) = k' := fun x hx k' r hr => by
      have hs : (List.range n).map (spF pr n x zz) = (pm n pr).getD x [] := by rw [hn]; exact sp_pm pr hpr x (by rw [← hn]; exact hx)
      rw [← hs] at hr
      obtain ⟨m, hm⟩ : ∃ m, n = m + 1 := ⟨n - 1, by omega⟩
      rw [hm, List.range_succ, List.map_append, List.reverse_append] at hr
      simp only [List.map_cons, List.map_nil, List.reverse_cons, List.reverse_nil, List.nil_append, List.cons_append] at hr
      have := (List.cons.inj hr).1
      rw [hm]
      exact this
    have hm : n = (n - 1) + 1 := by omega
    have grd : ∀ R, R ∈ pm n pr → gr (tm c l p) pr R = gd (tm c l p) 0 R.reverse := fun R hR => by
      rw [hn] at hR
      obtain ⟨-, h2, h3, -⟩ := pm_ord pr hpr R hR
      exact gr_gd (tm c l p) R pr hpr h2 h3 (pm_bits hpr hR)
    constructor
    · rintro ⟨x, hx, hP, hk2⟩
      rw [goP_gd hpr hn hN hx] at hP
      have hlast := last x hx
      have hmem : (pm n pr).getD x [] ∈ pm n pr := by rw [hn]; exact sp_mem hpr (by rw [← hn]; exact hx)
      generalize (pm n pr).getD x [] = L at hP hmem hlast
      have hrev : L.reverse ∈ pm n pr := by rw [hn] at hmem ⊢; exact pm_rev pr hpr _ hmem
      have hg := grd _ hrev
      rw [List.reverse_reverse, hP] at hg
      rcases hR : L.reverse with _ | ⟨k', r⟩
      · rw [hR, hn] at hrev
        have := (pm_ord pr hpr _ hrev).1
        simp at this
        omega
      · have e := hlast k' r hR
        have e2 : k' = k := e.symm.trans hk2
        subst e2
        rw [hR] at hrev hg
        rw [hm] at hrev
        obtain ⟨h1, h2, h3⟩ := (pm_cons _ _ _ _).mp hrev
        rw [gr, Bool.and_eq_true] at hg
        have hpc := pcn_wo pr hpr k' h1 h2
        refine ⟨hk, h2, ?_, hg.1⟩
        unfold amF
        rw [if_pos ⟨wo_sub pr hpr pr hpr k' h1 (les_self pr hpr), rd_and_lt hpr⟩, List.countP_pos_iff]
        exact ⟨r, by rw [show pcn (wo pr k') = n - 1 by omega]; exact h3, hg.2⟩
    · rintro ⟨-, h2, h3, h4⟩
      have hpc := pcn_wo pr hpr k hk h2
      unfold amF at h3
      rw [if_pos ⟨wo_sub pr hpr pr hpr k hk (les_self pr hpr), rd_and_lt hpr⟩, List.countP_pos_iff] at h3
      obtain ⟨r, h5, h6⟩ := h3
      have hR : k :: r ∈ pm n pr := by
        rw [hm]
        exact (pm_cons _ _ _ _).mpr ⟨hk, h2, by rw [show n - 1 = pcn (wo pr k) by omega]; exact h5⟩
      have hg := grd _ hR
      rw [gr, h4, h6] at hg
      have hL : (k :: r).reverse ∈ pm n pr := by rw [hn] at hR ⊢; exact pm_rev pr hpr _ hR
      obtain ⟨x, hx, e⟩ := List.getElem_of_mem hL
      have e : (pm n pr).getD x [] = (k :: r).reverse := by rw [← e]; simp [List.getD, hx]
      have hx : x < fac n := by rw [← hl]; exact hx
      refine ⟨x, hx, ?_, last x hx k r (by rw [e, List.reverse_reverse])⟩
      rw [goP_gd hpr hn hN hx, e, ← hg]
      rfl
end
section
/-! plain laws: each call answers alike on both sides, and leaves a state in order -/
set_option maxRecDepth 100000
theorem OrdOK_congr {pr n : Nat} {o o' : Nat → Nat} (h : ∀ j, j < n → o' j = o j) (hO : OrdOK pr n o) : OrdOK pr n o' := by
  refine ⟨fun i hi => by rw [h i hi]; exact hO.1 i hi, fun i j hi hj e => hO.2.1 i j hi hj (by rw [← h i hi, ← h j hj]; exact e), fun k hk hb => ?_⟩
  obtain ⟨i, hi, e⟩ := hO.2.2 k hk hb
  exact ⟨i, hi, by rw [h i hi]; exact e⟩
theorem cpO_in {o w : Nat → Nat} {n : Nat} : ∀ j, j < n → cpO o w n j = o j := fun j hj => if_pos hj
theorem puF_congr {c l p w v : Nat → Nat} {n : Nat} (h : ∀ j, j < n → w j = v j) : puF c l p w n = puF c l p v n := by
  funext k
  unfold puF roF
  rw [roL_congr h]
theorem ll_response {pr n : Nat} {c l p o : Nat → Nat} (hV : VS pr n c l p o) (w : Nat → Nat) (k : Int32) :
    (if hasB pr k then rI (roF c p (cpO o w n) n k.toNatClampNeg) else -1) = if hasB pr k then rI (rsp c p k.toNatClampNeg (ab o n k.toNatClampNeg)) else -1 := by
  cases hb : hasB pr k with
  | false => rfl
  | true =>
    obtain ⟨j, hj, rfl, hjb⟩ := hasB_of hb
    rw [nI_clamp (by omega), if_pos rfl, if_pos rfl]
    unfold roF
    rw [roL_congr cpO_in]
    exact congrArg rI (roF_eq hV.1.2.2.2.2.2 hV.2.1 hV.nok hj hjb)
theorem ll_good {pr n : Nat} {c l p o : Nat → Nat} (hV : VS pr n c l p o) (w : Nat → Nat) : apF c l p (cpO o w n) pr n = gdF pr n c l p o := by
  rw [apF_congr cpO_in]
  exact apF_gdF hV.1.1 hV.1.2.2.2.2.2 hV.2.1 hV.nok
theorem ll_inTime {pr n : Nat} {c l p o : Nat → Nat} (hV : VS pr n c l p o) (w : Nat → Nat) : itL (puF c l p (cpO o w n) n) pr 5 = itF pr n c l p o := by
  rw [puF_congr cpO_in]
  exact itL_congr 5 (fun k hk hb => puF_eq hV.1.2.2.2.2.2 hV.2.1 hV.nok hk hb)
theorem ll_goodOrders {pr n : Nat} {c l p o : Nat → Nat} (hV : VS pr n c l p o) : goL (goP c l p pr n) (fac n) = beF (tm c l p) pr 0 := go_eq hV.1.1 hV.2.2.1 hV.nok
theorem ll_canBeLast {pr n : Nat} {c l p o : Nat → Nat} (hV : VS pr n c l p o) : (if n = 0 then 0 else lsL (goP c l p pr n) (fun x => spF pr n x zz (n - 1)) (fac n)) = clL (tm c l p) pr (amF (tm c l p) pr) 5 := cb_eq hV.1.1 hV.2.2.1 hV.nok
theorem gcL_congr {G G' : Nat → Bool} : ∀ x, (∀ y, 1 ≤ y → y ≤ x → G y = G' y) → gcL G x = gcL G' x
  | 0, _ => rfl
  | x + 1, h => by
    simp only [gcL]
    rw [gcL_congr x (fun y h1 h2 => h y h1 (by omega)), h (x + 1) (by omega) (Nat.le_refl _)]
theorem lpL_congr {G G' : Nat → Bool} : ∀ d, (∀ y, y < d → G (15 - y) = G' (15 - y)) → lpL G d = lpL G' d
  | 0, _ => rfl
  | d + 1, h => by
    simp only [lpL]
    rw [lpL_congr d (fun y hy => h y (by omega)), h d (by omega)]
theorem ll_greatestCost {pr n : Nat} {c l p o : Nat → Nat} (hV : VS pr n c l p o) (w : Nat → Nat) (k : Int32) :
    (if hasB pr k then nI (gcL (fun x => apF (va_up c k.toNatClampNeg x) l p (cpO o w n) pr n) (l k.toNatClampNeg)) else -1) = if hasB pr k then nI (gcL (fun x => gdF pr n (va_up c k.toNatClampNeg x) l p o) (l k.toNatClampNeg)) else -1 := by
  cases hb : hasB pr k with
  | false => rfl
  | true =>
    obtain ⟨j, hj, rfl, hjb⟩ := hasB_of hb
    rw [nI_clamp (by omega), if_pos rfl, if_pos rfl]
    refine congrArg nI (gcL_congr _ (fun y h1 h2 => ?_))
    rw [apF_congr cpO_in]
    refine apF_gdF hV.1.1 hV.1.2.2.2.2.2 hV.2.1 (fun i hi hib => ?_)
    have e1 := hV.2.2.2 j hj hjb
    have e2 := hV.1.2.2.2.2.1 j
    by_cases q : i = j
    · subst q
      rw [va_up_self]
      omega
    · rw [va_up_ne _ _ q]
      exact hV.nok i hi hib
theorem ll_leastPeriod {pr n : Nat} {c l p o : Nat → Nat} (hV : VS pr n c l p o) (w : Nat → Nat) (k : Int32) :
    (if hasB pr k then nI (lpL (fun x => apF c l (va_up p k.toNatClampNeg x) (cpO o w n) pr n) (16 - l k.toNatClampNeg)) else -1) = if hasB pr k then nI (lpL (fun x => gdF pr n c l (va_up p k.toNatClampNeg x) o) (16 - l k.toNatClampNeg)) else -1 := by
  cases hb : hasB pr k with
  | false => rfl
  | true =>
    obtain ⟨j, hj, rfl, hjb⟩ := hasB_of hb
    rw [nI_clamp (by omega), if_pos rfl, if_pos rfl]
    refine congrArg nI (lpL_congr _ (fun y h1 => ?_))
    rw [apF_congr cpO_in]
    refine apF_gdF hV.1.1 hV.1.2.2.2.2.2 hV.2.1 (fun i hi hib => ?_)
    have e1 := hV.2.2.2 j hj hjb
    by_cases q : i = j
    · subst q
      rw [va_up_self]
      omega
    · rw [va_up_ne _ _ q]
      exact hV.nok i hi hib
theorem muL_all {pr n : Nat} {w : Nat → Nat} (hpr : pr < 32) (hw : ∀ j, w j < 5) (hO : OrdOK pr n w) : muL w n = pr := by
  apply bit_ext (muL_lt hw n) hpr
  intro k hk
  rw [Bool.eq_iff_iff, muL_bit]
  constructor
  · rintro ⟨j, h1, h2⟩
    rw [← h2]
    exact hO.1 j h1
  · intro hb
    exact hO.2.2 k hk hb
theorem ll_idle {pr n : Nat} {c l p o : Nat → Nat} (hV : VS pr n c l p o) {w : Nat → Nat} (hw : ∀ j, w j < 5) (t : Nat) : (imS c p (cpO o w n) n t).1 = idL c p pr t := by
  have ho := hV.1.2.2.2.2.2
  have hO : OrdOK pr n (cpO o w n) := OrdOK_congr cpO_in hV.2.1
  exact (imS_spec (RowOK_of (cpO_lt ho hw n) hO hV.nok) (muL_all hV.1.1 (cpO_lt ho hw n) hO) t).1
/-- arrange -/
theorem ll_arrange {pr n : Nat} {c l p o : Nat → Nat} (hV : VS pr n c l p o) {r r' : Int32} {o1 o2 : Nat → Nat}
    (h1 : if beF (tm c l p) pr 0 = 0 then r = 0 ∧ o1 = o else r = 1 ∧ o1 = agO (tm c l p) pr (beF (tm c l p) pr) o n)
    {W2 : Prop} (h2 : match fiL (goP c l p pr n) (fac n) 0 with | none => r' = 0 ∧ o2 = o ∧ W2 | some x => r' = 1 ∧ o2 = cpO (spF pr n x zz) o n ∧ W2) : r = r' ∧ o1 = o2 ∧ VS pr n c l p o1 ∧ W2 := by
  have ha := ar_eq (l := l) hV.1.1 hV.2.2.1 hV.nok
  rcases hf : fiL (goP c l p pr n) (fac n) 0 with _ | x
  · rw [hf] at ha h2
    simp only at ha h2
    rw [if_pos ha] at h1
    obtain ⟨rfl, rfl⟩ := h1
    obtain ⟨rfl, rfl, hW⟩ := h2
    exact ⟨rfl, rfl, hV, hW⟩
  · rw [hf] at ha h2
    simp only at ha h2
    obtain ⟨hx, hp, hrow⟩ := ha
    rw [if_neg (by omega)] at h1
    obtain ⟨rfl, rfl⟩ := h1
    obtain ⟨rfl, rfl, hW⟩ := h2
    have he : agO (tm c l p) pr (beF (tm c l p) pr) o n = cpO (spF pr n x zz) o n := by
      funext j
      unfold agO cpO
      by_cases hj : j < n
      · rw [if_pos hj, if_pos hj, hrow j hj]
      · rw [if_neg hj, if_neg hj]
    refine ⟨rfl, he, ?_, hW⟩
    rw [he]
    have hO : OrdOK pr n (spF pr n x zz) := by rw [hV.2.2.1] at hx ⊢; exact sp_ord hV.1.1 hx
    exact ⟨BD_o hV.1 (cpO_lt (sp_lt pr n x) hV.1.2.2.2.2.2 n), OrdOK_congr cpO_in hO, hV.2.2.1, hV.2.2.2⟩
theorem VS.cap {pr n : Nat} {c l p o : Nat → Nat} (hV : VS pr n c l p o) : ∀ k, k < 5 → pr.testBit k = false → n < 5 := fun k hk hb => by
  rw [hV.2.2.1]
  exact pcn_cap pr hV.1.1 k hk hb
theorem VS.lim {pr n : Nat} {c l p o : Nat → Nat} (hV : VS pr n c l p o) : ∀ k, k < 5 → pr.testBit k = true → 1 ≤ l k := fun k hk hb => by
  have := hV.2.2.2 k hk hb
  omega
theorem OrdOK_add {pr n : Nat} {o : Nat → Nat} (hO : OrdOK pr n o) {k : Nat} (hb : pr.testBit k = false) : OrdOK (pr ||| 2 ^ k) (n + 1) (va_up o n k) := by
  have hne : ∀ i, i < n → o i ≠ k := fun i hi q => by
    have := hO.1 i hi
    rw [q, hb] at this
    cases this
  have hlo : ∀ i, i < n → va_up o n k i = o i := fun i hi => va_up_ne _ _ (by omega)
  refine ⟨fun i hi => ?_, fun i j hi hj e => ?_, fun k' hk' hb' => ?_⟩
  · rw [rd_set]
    rcases Nat.lt_or_eq_of_le (Nat.le_of_lt_succ hi) with q | q
    · rw [hlo i q, va_up_ne _ _ (hne i q)]
      exact hO.1 i q
    · rw [q, va_up_self, va_up_self]
  · rcases Nat.lt_or_eq_of_le (Nat.le_of_lt_succ hi) with q | q
    · rcases Nat.lt_or_eq_of_le (Nat.le_of_lt_succ hj) with z | z
      · rw [hlo i q, hlo j z] at e
        exact hO.2.1 i j q z e
      · rw [hlo i q, z, va_up_self] at e
        exact absurd e (hne i q)
    · rcases Nat.lt_or_eq_of_le (Nat.le_of_lt_succ hj) with z | z
      · rw [hlo j z, q, va_up_self] at e
        exact absurd e.symm (hne j z)
      · omega
  · rw [rd_set] at hb'
    by_cases q : k' = k
    · exact ⟨n, by omega, by rw [va_up_self]; exact q.symm⟩
    · rw [va_up_ne _ _ q] at hb'
      obtain ⟨i, hi, e⟩ := hO.2.2 k' hk' hb'
      exact ⟨i, by omega, by rw [hlo i hi]; exact e⟩
theorem VS.add {pr n : Nat} {c l p o : Nat → Nat} (hV : VS pr n c l p o) {k x y z : Nat} (hf : fr pr = some k) (h1 : 1 ≤ x) (h2 : x ≤ y) (h3 : y ≤ z) (h4 : z ≤ 15) : VS (pr ||| 2 ^ k) (n + 1) (va_up c k x) (va_up l k y) (va_up p k z) (va_up o n k) := by
  obtain ⟨hk, hb⟩ := fr_spec hf
  obtain ⟨⟨hpr, hn, hc, hl, hp, ho⟩, hO, hpc, hnum⟩ := hV
  have hcap := pcn_cap pr hpr k hk hb
  refine ⟨⟨rd_or_lt hpr (rd_pow_lt hk), by omega, rd_up_le hc (by omega), rd_up_le hl (by omega), rd_up_le hp (by omega), rd_up_ltt ho hk⟩, OrdOK_add hO hb, by rw [pcn_ins pr hpr k hk hb, hpc], fun i hi hib => ?_⟩
  by_cases q : i = k
  · subst q
    rw [va_up_self, va_up_self, va_up_self]
    omega
  · rw [va_up_ne _ _ q, va_up_ne _ _ q, va_up_ne _ _ q]
    rw [rd_set, va_up_ne _ _ q] at hib
    exact hnum i hi hib
theorem VS_addR {pr n : Nat} {c l p o : Nat → Nat} (hV : VS pr n c l p o) (x y z : Int32) : VS (addR pr n c l p o x y z).2.1 (addR pr n c l p o x y z).2.2.1 (addR pr n c l p o x y z).2.2.2.1 (addR pr n c l p o x y z).2.2.2.2.1 (addR pr n c l p o x y z).2.2.2.2.2.1 (addR pr n c l p o x y z).2.2.2.2.2.2 := by
  unfold addR
  cases hok : okN x y z with
  | false => exact hV
  | true =>
    rw [if_pos rfl]
    rcases hf : fr pr with _ | k
    · exact hV
    · obtain ⟨a, b, d, rfl, rfl, rfl, o1, o2, o3, o4⟩ := okN_nat hok
      rw [nI_clamp (by omega), nI_clamp (by omega), nI_clamp (by omega)]
      exact hV.add hf o1 o2 o3 o4
theorem VS.rem {pr n : Nat} {c l p o : Nat → Nat} (hV : VS pr n c l p o) {j : Nat} (hj : j < 5) (hb : pr.testBit j = true) : VS (pr &&& (31 ^^^ 2 ^ j)) (n - 1) c l p (shO o (ix o n j) n) := by
  obtain ⟨⟨hpr, hn, hc, hl, hp, ho⟩, hO, hpc, hnum⟩ := hV
  obtain ⟨g1, g2, g3⟩ := ix_spec hO hj hb
  generalize ix o n j = a at g1 g2 g3
  have hclr := rd_clr hpr hj
  have hsh : ∀ i, i < n - 1 → shO o a n i = o (if a ≤ i then i + 1 else i) := fun i hi => by
    unfold shO
    by_cases q : a ≤ i
    · rw [if_pos ⟨q, by omega⟩, if_pos q]
    · rw [if_neg (fun z => q z.1), if_neg q]
  have hne : ∀ i, i < n → i ≠ a → o i ≠ j := fun i hi q e => q (hO.2.1 i a hi g1 (by rw [e, g2]))
  have hpc2 := pcn_wo pr hpr j hj hb
  refine ⟨⟨rd_and_lt hpr, by omega, hc, hl, hp, fun i => shO_lt ho a n i⟩, ⟨fun i hi => ?_, fun i i2 hi hi2 e => ?_, fun k hk hkb => ?_⟩, ?_, fun k hk hkb => ?_⟩
  · rw [hsh i hi, hclr, va_up_ne]
    · exact hO.1 _ (by split <;> omega)
    · exact hne _ (by split <;> omega) (by split <;> omega)
  · rw [hsh i hi, hsh i2 hi2] at e
    have := hO.2.1 _ _ (by split <;> omega) (by split <;> omega) e
    split at this <;> split at this <;> omega
  · rw [hclr] at hkb
    by_cases q : k = j
    · rw [q, va_up_self] at hkb
      cases hkb
    · rw [va_up_ne _ _ q] at hkb
      obtain ⟨i, hi, e⟩ := hO.2.2 k hk hkb
      have hia : i ≠ a := fun z => q (by rw [← e, z, g2])
      refine ⟨if i < a then i else i - 1, by split <;> omega, ?_⟩
      rw [hsh _ (by split <;> omega), ← e]
      congr 1
      by_cases z : i < a
      · rw [if_pos z, if_neg (by omega)]
      · rw [if_neg z, if_pos (by omega)]
        omega
  · have : wo pr j = pr &&& (31 ^^^ 2 ^ j) := rfl
    rw [← this]
    omega
  · rw [hclr] at hkb
    by_cases q : k = j
    · rw [q, va_up_self] at hkb
      cases hkb
    · rw [va_up_ne _ _ q] at hkb
      exact hnum k hk hkb
theorem VS_remR {pr n : Nat} {c l p o : Nat → Nat} (hV : VS pr n c l p o) (k : Int32) : VS (remR pr n o k).2.1 (remR pr n o k).2.2.1 c l p (remR pr n o k).2.2.2 := by
  unfold remR
  cases hb : hasB pr k with
  | false => exact hV
  | true =>
    obtain ⟨j, hj, rfl, hjb⟩ := hasB_of hb
    rw [if_pos rfl, nI_clamp (by omega)]
    exact hV.rem hj hjb
theorem VS_plcR {pr n : Nat} {c l p o : Nat → Nat} (hV : VS pr n c l p o) (k i : Int32) : VS pr n c l p (plcR pr n o k i).2 := by
  unfold plcR
  cases hb : (hasB pr k && (!decide (i < 0) && !decide (nI n ≤ i))) with
  | false => exact hV
  | true =>
    rw [if_pos rfl]
    simp only [Bool.and_eq_true, Bool.not_eq_true', decide_eq_false_iff_not] at hb
    obtain ⟨hk, hi1, hi2⟩ := hb
    obtain ⟨⟨hpr, hn, hc, hl, hp, ho⟩, hO, hpc, hnum⟩ := hV
    obtain ⟨j, hj, rfl, hjb⟩ := hasB_of hk
    obtain ⟨t, ht, rfl⟩ := rd_idx (n := n) (by omega) hi1 hi2
    rw [nI_clamp (by omega), nI_clamp (by omega)]
    obtain ⟨g1, g2, g3⟩ := ix_spec hO hj hjb
    generalize ix o n j = a at g1 g2 g3
    show VS pr n c l p (mvO o j a t)
    have hmv : ∀ x, mvO o j a t x = o (if x = t then a else if a ≤ x ∧ x < t then x + 1 else if t < x ∧ x ≤ a then x - 1 else x) := fun x => by
      unfold mvO
      by_cases q1 : x = t
      · rw [if_pos q1, if_pos q1, g2]
      · rw [if_neg q1, if_neg q1]
        by_cases q2 : a ≤ x ∧ x < t
        · rw [if_pos q2, if_pos q2]
        · rw [if_neg q2, if_neg q2]
          by_cases q3 : t < x ∧ x ≤ a
          · rw [if_pos q3, if_pos q3]
          · rw [if_neg q3, if_neg q3]
    refine ⟨⟨hpr, hn, hc, hl, hp, fun x => mvO_lt ho hj a t x⟩, ⟨fun x hx => ?_, fun x y hx hy e => ?_, fun k hk hkb => ?_⟩, hpc, hnum⟩
    · rw [hmv]
      refine hO.1 _ ?_
      split
      · exact g1
      · split
        · omega
        · split <;> omega
    · rw [hmv, hmv] at e
      have := hO.2.1 _ _ (by split; exact g1; split; omega; split <;> omega) (by split; exact g1; split; omega; split <;> omega) e
      by_cases q1 : x = t
      · rw [if_pos q1] at this
        by_cases z1 : y = t
        · omega
        · rw [if_neg z1] at this
          split at this
          · omega
          · split at this <;> omega
      · rw [if_neg q1] at this
        by_cases z1 : y = t
        · rw [if_pos z1] at this
          split at this
          · omega
          · split at this <;> omega
        · rw [if_neg z1] at this
          split at this
          · split at this
            · omega
            · split at this <;> omega
          · split at this
            · split at this
              · omega
              · split at this <;> omega
            · split at this
              · omega
              · split at this <;> omega
    · obtain ⟨i, hi, e⟩ := hO.2.2 k hk hkb
      refine ⟨if i = a then t else if a < i ∧ i ≤ t then i - 1 else if t ≤ i ∧ i < a then i + 1 else i, ?_, ?_⟩
      · split
        · exact ht
        · split
          · omega
          · split <;> omega
      · rw [hmv, ← e]
        congr 1
        by_cases q1 : i = a
        · rw [if_pos q1, if_pos rfl]
          exact q1.symm
        · rw [if_neg q1]
          by_cases q2 : a < i ∧ i ≤ t
          · rw [if_pos q2, if_neg (by omega), if_pos (by omega)]
            omega
          · rw [if_neg q2]
            by_cases q3 : t ≤ i ∧ i < a
            · rw [if_pos q3, if_neg (by omega), if_neg (by omega), if_pos (by omega)]
              omega
            · rw [if_neg q3, if_neg (by omega), if_neg (by omega), if_neg (by omega)]
/-- fits: the table of the state behind add -/
def fbe (pr : Nat) (c l p : Nat → Nat) (x y z : Int32) : Nat → Nat := match fr pr with
  | some k => beF (tm (va_up c k x.toNatClampNeg) (va_up l k y.toNatClampNeg) (va_up p k z.toNatClampNeg)) (pr ||| 2 ^ k)
  | none => zz
def fam (pr : Nat) (c l p : Nat → Nat) (x y z : Int32) : Nat → Nat := match fr pr with
  | some k => amF (tm (va_up c k x.toNatClampNeg) (va_up l k y.toNatClampNeg) (va_up p k z.toNatClampNeg)) (pr ||| 2 ^ k)
  | none => zz
theorem ll_fitT {pr n : Nat} {c l p o : Nat → Nat} (hV : VS pr n c l p o) (x y z : Int32) : ∀ k, fr pr = some k → okN x y z = true → TB (tm (va_up c k x.toNatClampNeg) (va_up l k y.toNatClampNeg) (va_up p k z.toNatClampNeg)) (pr ||| 2 ^ k) (fbe pr c l p x y z) (fam pr c l p x y z) := fun k hf hok => by
  unfold fbe fam
  rw [hf]
  exact TB_F _ (rd_or_lt hV.1.1 (rd_pow_lt (fr_spec hf).1))
theorem ll_fitO {pr n : Nat} {c l p o : Nat → Nat} (hV : VS pr n c l p o) : ∀ k, fr pr = some k → OrdOK (pr ||| 2 ^ k) (n + 1) (va_up o n k) := fun k hf => OrdOK_add hV.2.1 (fr_spec hf).2
theorem ll_fitG {pr n : Nat} {c l p o : Nat → Nat} (hV : VS pr n c l p o) (x y z : Int32) : ∀ k, fr pr = some k → okN x y z = true → goL (goP (va_up c k x.toNatClampNeg) (va_up l k y.toNatClampNeg) (va_up p k z.toNatClampNeg) (pr ||| 2 ^ k) (n + 1)) (fac (n + 1)) = fbe pr c l p x y z 0 := fun k hf hok => by
  unfold fbe
  rw [hf]
  obtain ⟨a, b, d, rfl, rfl, rfl, o1, o2, o3, o4⟩ := okN_nat hok
  rw [nI_clamp (by omega), nI_clamp (by omega), nI_clamp (by omega)]
  exact ll_goodOrders (hV.add hf o1 o2 o3 o4)
theorem VS_fitR {pr n : Nat} {c l p o be : Nat → Nat} (hV : VS pr n c l p o) (x y z : Int32) : VS (fitR pr n c l p o be x y z).2.1 (fitR pr n c l p o be x y z).2.2.1 (fitR pr n c l p o be x y z).2.2.2.1 (fitR pr n c l p o be x y z).2.2.2.2.1 (fitR pr n c l p o be x y z).2.2.2.2.2.1 (fitR pr n c l p o be x y z).2.2.2.2.2.2 := by
  unfold fitR
  cases hok : okN x y z with
  | false => exact hV
  | true =>
    rw [if_pos rfl]
    rcases hf : fr pr with _ | k
    · exact hV
    · obtain ⟨a, b, d, rfl, rfl, rfl, o1, o2, o3, o4⟩ := okN_nat hok
      rw [nI_clamp (by omega), nI_clamp (by omega), nI_clamp (by omega)]
      exact VS_remR (hV.add hf o1 o2 o3 o4) (nI k)
theorem VS_0 : VS 0 0 zz zz zz zz := by
  refine ⟨⟨by decide, by decide, fun _ => by simp, fun _ => by simp, fun _ => by simp, fun _ => by simp⟩, ⟨fun i hi => by omega, fun i j hi => by omega, fun k hk hb => ?_⟩, by decide, fun k hk hb => ?_⟩
  · simp at hb
  · simp at hb
end
section
/-! the two constructors, and the script's own rows -/
set_option maxRecDepth 100000
set_option maxHeartbeats 4000000 in
set_option maxRecDepth 100000 in
/-- ResponseDesk() -/
theorem mD_init (l : Launch) (D : va_G) (h0 sz : Nat) : Met l yX0_init (ws_ yX0_init cX0_init 1 none) { frames := 1, cells := 6, slots := 84, locals := 12 } (va_Pc [.ref h0] (fun U => U.heap.size = sz ∧ va_P D cl2 [(h0, .inr (0, [.int (nI 0), .null, .null, .null, .null, .int (nI 0), .null, .null]))] U.heap ∧ va_K D cl2 [] U ∧ va_D (fun _ => True) [(h0, .inr (0, [.int (nI 0), .null, .null, .null, .null, .int (nI 0), .null, .null]))])) (va_Qv (fun u : (Nat → Nat) × (Nat → ClassId) => u.1 0 = h0) (fun u t => va_P D cl2 (dkW u.1 u.2 0 0 zz zz zz zz (fun _ => 0) (fun _ => 0)) t.heap ∧ va_K D cl2 (dtys u.2) t ∧ va_D (va_A [(h0, .inr (0, [.int (nI 0), .null, .null, .null, .null, .int (nI 0), .null, .null]))] sz) (dkW u.1 u.2 0 0 zz zz zz zz (fun _ => 0) (fun _ => 0))) (va_A [(h0, .inr (0, [.int (nI 0), .null, .null, .null, .null, .int (nI 0), .null, .null]))] sz)) 6 84 (va_A [(h0, .inr (0, [.int (nI 0), .null, .null, .null, .null, .int (nI 0), .null, .null]))] sz) := by
  refine Met.ofW (cc := cX0_init) (maxL := 1) (ret := none) (by decide) rfl ?_
  intro p e s m args below meth c s₁ B hml hv
  obtain ⟨rfl, hsz, hP, hK, hD0⟩ := hv
  have hx := B.exec
  have hb := B.bytes
  have hr := B.returns
  have hts := atoms_spec (ws := ws_ yX0_init cX0_init 1 none) B.pre
  have hts : ∀ w ∈ lw_all, w.before _ s = true := fun w h => hts w (List.mem_cons_of_mem _ h)
  have hown : s.vm.findClass RX0 = some m.cls := findClass_of_methodNamed B.named
  have hlocks := B.notSynchronized
  have hin : meth.name = "<init>" := (name_of_methodNamed B.named B.method).1
  subst hsz
  have hD := hD0.self (sz := s.heap.size)
  generalize hAe : va_A [(h0, .inr (0, [.int (nI 0), .null, .null, .null, .null, .int (nI 0), .null, .null]))] s.heap.size = A at hD ⊢
  have hA : ∀ q : Nat, s.heap.size ≤ q → A q := fun q h => by rw [← hAe]; exact Or.inr h
  have hS : va_S A s.heap s.heap [] := va_S.rf
  have hl := lv_entry ([.ref h0]) (n := 1) (Nat.le_of_ble_eq_true rfl)
  rw [lg_entry_eq]
  generalize (lg_sl ([.ref h0]) ++ List.replicate (1 - (lg_sl ([.ref h0])).length) Slot.unset).toArray = ls at hl ⊢
  have hl : lv_has ls 1 [(0, .ref h0)] := hl
  refine lv_aload_n hx hb dX0_init_0 rfl (lv_at hl 0 rfl) ?_
  refine W.objInit hx hb hown (hts _ q29) (hts _ q30) (hts _ q31) rfl (by rw [hml]; exact hl.1) rfl dX0_init_1 (Nat.le_of_ble_eq_true rfl) (Nat.le_of_ble_eq_true rfl) ?_
  refine W.eq (g2 := F0 m 4 ls []) rfl ?_
  refine lv_aload_n hx hb dX0_init_4 rfl (lv_at hl 0 rfl) ?_
  refine lv_iconst (v := nI 5) hx hb dX0_init_5 (by decide) ?_
  refine va_newa (atype := .byte) (ty := .byte) (N' := 5) (a0 := (5, .inl (fun j => nI (zz j)))) hx hb (hts _ q57) rfl hK hP hD hS hA (fun cA => rfl) (by decide) (by decide) (by decide) (Nat.le_of_ble_eq_true rfl) (Nat.le_of_ble_eq_true rfl) dX0_init_6 (fun a1 k1 H hK hP hD hS => ?_)
  have hP : va_P D cl2 [(h0, .inr (0, [.int (nI 0), .null, .null, .null, .null, .int (nI 0), .null, .null])), (a1, .inl (k1, 5, .inl (fun j => nI (zz j))))] H := hP
  have hD : va_D A [(h0, .inr (0, [.int (nI 0), .null, .null, .null, .null, .int (nI 0), .null, .null])), (a1, .inl (k1, 5, .inl (fun j => nI (zz j))))] := hD
  have hK : va_K D cl2 [(k1, .byte)] s := hK
  refine W.widen (k := 1) (n := 5) (by omega) (by omega) ?_
  refine va_putF (D := D) (ci := 0) (v := .ref a1) (ty := .array .byte) (C := RX0) (T := TX0) (N := 8) hx hb hts in_X0 tyX0 tyX0_ok nmX0 hown hK hP hD hS 0 rfl rfl 1 (by decide) (hts _ q33) (fun _ h9 => h9) rfl hin rfl (by decide +kernel) rfl rfl (Nat.le_of_ble_eq_true rfl) dX0_init_8 (fun H locs hP hD hS => ?_)
  have hP : va_P D cl2 [(h0, .inr (0, [.int (nI 0), .ref a1, .null, .null, .null, .int (nI 0), .null, .null])), (a1, .inl (k1, 5, .inl (fun j => nI (zz j))))] H := hP
  have hD : va_D A [(h0, .inr (0, [.int (nI 0), .ref a1, .null, .null, .null, .int (nI 0), .null, .null])), (a1, .inl (k1, 5, .inl (fun j => nI (zz j))))] := hD
  refine lv_aload_n hx hb dX0_init_11 rfl (lv_at hl 0 rfl) ?_
  refine lv_iconst (v := nI 5) hx hb dX0_init_12 (by decide) ?_
  refine va_newa (atype := .byte) (ty := .byte) (N' := 5) (a0 := (5, .inl (fun j => nI (zz j)))) hx hb (hts _ q57) rfl hK hP hD hS hA (fun cA => rfl) (by decide) (by decide) (by decide) (Nat.le_of_ble_eq_true rfl) (Nat.le_of_ble_eq_true rfl) dX0_init_13 (fun a2 k2 H hK hP hD hS => ?_)
  have hP : va_P D cl2 [(h0, .inr (0, [.int (nI 0), .ref a1, .null, .null, .null, .int (nI 0), .null, .null])), (a1, .inl (k1, 5, .inl (fun j => nI (zz j)))), (a2, .inl (k2, 5, .inl (fun j => nI (zz j))))] H := hP
  have hD : va_D A [(h0, .inr (0, [.int (nI 0), .ref a1, .null, .null, .null, .int (nI 0), .null, .null])), (a1, .inl (k1, 5, .inl (fun j => nI (zz j)))), (a2, .inl (k2, 5, .inl (fun j => nI (zz j))))] := hD
  have hK : va_K D cl2 [(k1, .byte), (k2, .byte)] s := hK
  refine W.widen (k := 2) (n := 10) (by omega) (by omega) ?_
  refine va_putF (D := D) (ci := 0) (v := .ref a2) (ty := .array .byte) (C := RX0) (T := TX0) (N := 8) hx hb hts in_X0 tyX0 tyX0_ok nmX0 hown hK hP hD hS 0 rfl rfl 2 (by decide) (hts _ q34) (fun _ h9 => h9) rfl hin rfl (by decide +kernel) rfl rfl (Nat.le_of_ble_eq_true rfl) dX0_init_15 (fun H locs hP hD hS => ?_)
  have hP : va_P D cl2 [(h0, .inr (0, [.int (nI 0), .ref a1, .ref a2, .null, .null, .int (nI 0), .null, .null])), (a1, .inl (k1, 5, .inl (fun j => nI (zz j)))), (a2, .inl (k2, 5, .inl (fun j => nI (zz j))))] H := hP
  have hD : va_D A [(h0, .inr (0, [.int (nI 0), .ref a1, .ref a2, .null, .null, .int (nI 0), .null, .null])), (a1, .inl (k1, 5, .inl (fun j => nI (zz j)))), (a2, .inl (k2, 5, .inl (fun j => nI (zz j))))] := hD
  refine lv_aload_n hx hb dX0_init_18 rfl (lv_at hl 0 rfl) ?_
  refine lv_iconst (v := nI 5) hx hb dX0_init_19 (by decide) ?_
  refine va_newa (atype := .byte) (ty := .byte) (N' := 5) (a0 := (5, .inl (fun j => nI (zz j)))) hx hb (hts _ q57) rfl hK hP hD hS hA (fun cA => rfl) (by decide) (by decide) (by decide) (Nat.le_of_ble_eq_true rfl) (Nat.le_of_ble_eq_true rfl) dX0_init_20 (fun a3 k3 H hK hP hD hS => ?_)
  have hP : va_P D cl2 [(h0, .inr (0, [.int (nI 0), .ref a1, .ref a2, .null, .null, .int (nI 0), .null, .null])), (a1, .inl (k1, 5, .inl (fun j => nI (zz j)))), (a2, .inl (k2, 5, .inl (fun j => nI (zz j)))), (a3, .inl (k3, 5, .inl (fun j => nI (zz j))))] H := hP
  have hD : va_D A [(h0, .inr (0, [.int (nI 0), .ref a1, .ref a2, .null, .null, .int (nI 0), .null, .null])), (a1, .inl (k1, 5, .inl (fun j => nI (zz j)))), (a2, .inl (k2, 5, .inl (fun j => nI (zz j)))), (a3, .inl (k3, 5, .inl (fun j => nI (zz j))))] := hD
  have hK : va_K D cl2 [(k1, .byte), (k2, .byte), (k3, .byte)] s := hK
  refine W.widen (k := 3) (n := 15) (by omega) (by omega) ?_
  refine va_putF (D := D) (ci := 0) (v := .ref a3) (ty := .array .byte) (C := RX0) (T := TX0) (N := 8) hx hb hts in_X0 tyX0 tyX0_ok nmX0 hown hK hP hD hS 0 rfl rfl 3 (by decide) (hts _ q35) (fun _ h9 => h9) rfl hin rfl (by decide +kernel) rfl rfl (Nat.le_of_ble_eq_true rfl) dX0_init_22 (fun H locs hP hD hS => ?_)
  have hP : va_P D cl2 [(h0, .inr (0, [.int (nI 0), .ref a1, .ref a2, .ref a3, .null, .int (nI 0), .null, .null])), (a1, .inl (k1, 5, .inl (fun j => nI (zz j)))), (a2, .inl (k2, 5, .inl (fun j => nI (zz j)))), (a3, .inl (k3, 5, .inl (fun j => nI (zz j))))] H := hP
  have hD : va_D A [(h0, .inr (0, [.int (nI 0), .ref a1, .ref a2, .ref a3, .null, .int (nI 0), .null, .null])), (a1, .inl (k1, 5, .inl (fun j => nI (zz j)))), (a2, .inl (k2, 5, .inl (fun j => nI (zz j)))), (a3, .inl (k3, 5, .inl (fun j => nI (zz j))))] := hD
  refine lv_aload_n hx hb dX0_init_25 rfl (lv_at hl 0 rfl) ?_
  refine lv_iconst (v := nI 5) hx hb dX0_init_26 (by decide) ?_
  refine va_newa (atype := .byte) (ty := .byte) (N' := 5) (a0 := (5, .inl (fun j => nI (zz j)))) hx hb (hts _ q57) rfl hK hP hD hS hA (fun cA => rfl) (by decide) (by decide) (by decide) (Nat.le_of_ble_eq_true rfl) (Nat.le_of_ble_eq_true rfl) dX0_init_27 (fun a4 k4 H hK hP hD hS => ?_)
  have hP : va_P D cl2 [(h0, .inr (0, [.int (nI 0), .ref a1, .ref a2, .ref a3, .null, .int (nI 0), .null, .null])), (a1, .inl (k1, 5, .inl (fun j => nI (zz j)))), (a2, .inl (k2, 5, .inl (fun j => nI (zz j)))), (a3, .inl (k3, 5, .inl (fun j => nI (zz j)))), (a4, .inl (k4, 5, .inl (fun j => nI (zz j))))] H := hP
  have hD : va_D A [(h0, .inr (0, [.int (nI 0), .ref a1, .ref a2, .ref a3, .null, .int (nI 0), .null, .null])), (a1, .inl (k1, 5, .inl (fun j => nI (zz j)))), (a2, .inl (k2, 5, .inl (fun j => nI (zz j)))), (a3, .inl (k3, 5, .inl (fun j => nI (zz j)))), (a4, .inl (k4, 5, .inl (fun j => nI (zz j))))] := hD
  have hK : va_K D cl2 [(k1, .byte), (k2, .byte), (k3, .byte), (k4, .byte)] s := hK
  refine W.widen (k := 4) (n := 20) (by omega) (by omega) ?_
  refine va_putF (D := D) (ci := 0) (v := .ref a4) (ty := .array .byte) (C := RX0) (T := TX0) (N := 8) hx hb hts in_X0 tyX0 tyX0_ok nmX0 hown hK hP hD hS 0 rfl rfl 4 (by decide) (hts _ q36) (fun _ h9 => h9) rfl hin rfl (by decide +kernel) rfl rfl (Nat.le_of_ble_eq_true rfl) dX0_init_29 (fun H locs hP hD hS => ?_)
  have hP : va_P D cl2 [(h0, .inr (0, [.int (nI 0), .ref a1, .ref a2, .ref a3, .ref a4, .int (nI 0), .null, .null])), (a1, .inl (k1, 5, .inl (fun j => nI (zz j)))), (a2, .inl (k2, 5, .inl (fun j => nI (zz j)))), (a3, .inl (k3, 5, .inl (fun j => nI (zz j)))), (a4, .inl (k4, 5, .inl (fun j => nI (zz j))))] H := hP
  have hD : va_D A [(h0, .inr (0, [.int (nI 0), .ref a1, .ref a2, .ref a3, .ref a4, .int (nI 0), .null, .null])), (a1, .inl (k1, 5, .inl (fun j => nI (zz j)))), (a2, .inl (k2, 5, .inl (fun j => nI (zz j)))), (a3, .inl (k3, 5, .inl (fun j => nI (zz j)))), (a4, .inl (k4, 5, .inl (fun j => nI (zz j))))] := hD
  refine lv_aload_n hx hb dX0_init_32 rfl (lv_at hl 0 rfl) ?_
  refine lv_bipush (v := nI 32) hx hb dX0_init_33 (by decide) ?_
  refine va_newa (atype := .int) (ty := .int) (N' := 32) (a0 := (32, .inl (fun _ => 0))) hx hb (hts _ q58) rfl hK hP hD hS hA (fun cA => rfl) (by decide) (by decide) (by decide) (Nat.le_of_ble_eq_true rfl) (Nat.le_of_ble_eq_true rfl) dX0_init_35 (fun a5 k5 H hK hP hD hS => ?_)
  have hP : va_P D cl2 [(h0, .inr (0, [.int (nI 0), .ref a1, .ref a2, .ref a3, .ref a4, .int (nI 0), .null, .null])), (a1, .inl (k1, 5, .inl (fun j => nI (zz j)))), (a2, .inl (k2, 5, .inl (fun j => nI (zz j)))), (a3, .inl (k3, 5, .inl (fun j => nI (zz j)))), (a4, .inl (k4, 5, .inl (fun j => nI (zz j)))), (a5, .inl (k5, 32, .inl (fun _ => 0)))] H := hP
  have hD : va_D A [(h0, .inr (0, [.int (nI 0), .ref a1, .ref a2, .ref a3, .ref a4, .int (nI 0), .null, .null])), (a1, .inl (k1, 5, .inl (fun j => nI (zz j)))), (a2, .inl (k2, 5, .inl (fun j => nI (zz j)))), (a3, .inl (k3, 5, .inl (fun j => nI (zz j)))), (a4, .inl (k4, 5, .inl (fun j => nI (zz j)))), (a5, .inl (k5, 32, .inl (fun _ => 0)))] := hD
  have hK : va_K D cl2 [(k1, .byte), (k2, .byte), (k3, .byte), (k4, .byte), (k5, .int)] s := hK
  refine W.widen (k := 5) (n := 52) (by omega) (by omega) ?_
  refine va_putF (D := D) (ci := 0) (v := .ref a5) (ty := .array .int) (C := RX0) (T := TX0) (N := 8) hx hb hts in_X0 tyX0 tyX0_ok nmX0 hown hK hP hD hS 0 rfl rfl 6 (by decide) (hts _ q38) (fun _ h9 => h9) rfl hin rfl (by decide +kernel) rfl rfl (Nat.le_of_ble_eq_true rfl) dX0_init_37 (fun H locs hP hD hS => ?_)
  have hP : va_P D cl2 [(h0, .inr (0, [.int (nI 0), .ref a1, .ref a2, .ref a3, .ref a4, .int (nI 0), .ref a5, .null])), (a1, .inl (k1, 5, .inl (fun j => nI (zz j)))), (a2, .inl (k2, 5, .inl (fun j => nI (zz j)))), (a3, .inl (k3, 5, .inl (fun j => nI (zz j)))), (a4, .inl (k4, 5, .inl (fun j => nI (zz j)))), (a5, .inl (k5, 32, .inl (fun _ => 0)))] H := hP
  have hD : va_D A [(h0, .inr (0, [.int (nI 0), .ref a1, .ref a2, .ref a3, .ref a4, .int (nI 0), .ref a5, .null])), (a1, .inl (k1, 5, .inl (fun j => nI (zz j)))), (a2, .inl (k2, 5, .inl (fun j => nI (zz j)))), (a3, .inl (k3, 5, .inl (fun j => nI (zz j)))), (a4, .inl (k4, 5, .inl (fun j => nI (zz j)))), (a5, .inl (k5, 32, .inl (fun _ => 0)))] := hD
  refine lv_aload_n hx hb dX0_init_40 rfl (lv_at hl 0 rfl) ?_
  refine lv_bipush (v := nI 32) hx hb dX0_init_41 (by decide) ?_
  refine va_newa (atype := .int) (ty := .int) (N' := 32) (a0 := (32, .inl (fun _ => 0))) hx hb (hts _ q58) rfl hK hP hD hS hA (fun cA => rfl) (by decide) (by decide) (by decide) (Nat.le_of_ble_eq_true rfl) (Nat.le_of_ble_eq_true rfl) dX0_init_43 (fun a6 k6 H hK hP hD hS => ?_)
  have hP : va_P D cl2 [(h0, .inr (0, [.int (nI 0), .ref a1, .ref a2, .ref a3, .ref a4, .int (nI 0), .ref a5, .null])), (a1, .inl (k1, 5, .inl (fun j => nI (zz j)))), (a2, .inl (k2, 5, .inl (fun j => nI (zz j)))), (a3, .inl (k3, 5, .inl (fun j => nI (zz j)))), (a4, .inl (k4, 5, .inl (fun j => nI (zz j)))), (a5, .inl (k5, 32, .inl (fun _ => 0))), (a6, .inl (k6, 32, .inl (fun _ => 0)))] H := hP
  have hD : va_D A [(h0, .inr (0, [.int (nI 0), .ref a1, .ref a2, .ref a3, .ref a4, .int (nI 0), .ref a5, .null])), (a1, .inl (k1, 5, .inl (fun j => nI (zz j)))), (a2, .inl (k2, 5, .inl (fun j => nI (zz j)))), (a3, .inl (k3, 5, .inl (fun j => nI (zz j)))), (a4, .inl (k4, 5, .inl (fun j => nI (zz j)))), (a5, .inl (k5, 32, .inl (fun _ => 0))), (a6, .inl (k6, 32, .inl (fun _ => 0)))] := hD
  have hK : va_K D cl2 [(k1, .byte), (k2, .byte), (k3, .byte), (k4, .byte), (k5, .int), (k6, .int)] s := hK
  refine W.widen (k := 6) (n := 84) (by omega) (by omega) ?_
  refine va_putF (D := D) (ci := 0) (v := .ref a6) (ty := .array .int) (C := RX0) (T := TX0) (N := 8) hx hb hts in_X0 tyX0 tyX0_ok nmX0 hown hK hP hD hS 0 rfl rfl 7 (by decide) (hts _ q39) (fun _ h9 => h9) rfl hin rfl (by decide +kernel) rfl rfl (Nat.le_of_ble_eq_true rfl) dX0_init_45 (fun H locs hP hD hS => ?_)
  have hP : va_P D cl2 [(h0, .inr (0, [.int (nI 0), .ref a1, .ref a2, .ref a3, .ref a4, .int (nI 0), .ref a5, .ref a6])), (a1, .inl (k1, 5, .inl (fun j => nI (zz j)))), (a2, .inl (k2, 5, .inl (fun j => nI (zz j)))), (a3, .inl (k3, 5, .inl (fun j => nI (zz j)))), (a4, .inl (k4, 5, .inl (fun j => nI (zz j)))), (a5, .inl (k5, 32, .inl (fun _ => 0))), (a6, .inl (k6, 32, .inl (fun _ => 0)))] H := hP
  have hD : va_D A [(h0, .inr (0, [.int (nI 0), .ref a1, .ref a2, .ref a3, .ref a4, .int (nI 0), .ref a5, .ref a6])), (a1, .inl (k1, 5, .inl (fun j => nI (zz j)))), (a2, .inl (k2, 5, .inl (fun j => nI (zz j)))), (a3, .inl (k3, 5, .inl (fun j => nI (zz j)))), (a4, .inl (k4, 5, .inl (fun j => nI (zz j)))), (a5, .inl (k5, 32, .inl (fun _ => 0))), (a6, .inl (k6, 32, .inl (fun _ => 0)))] := hD
  exact W.vret hx hb hr (fun t ht hW => ⟨⟨((fun k => match k with | 0 => h0 | 1 => a1 | 2 => a2 | 3 => a3 | 4 => a4 | 5 => a5 | _ => a6), (fun k => match k with | 1 => k1 | 2 => k2 | 3 => k3 | 4 => k4 | 5 => k5 | _ => k6)), rfl, rfl, by rw [ht]; exact hP, va_K.moved hW.alike hK, hD⟩, hS.F ht⟩) hS.2.2 dX0_init_48
set_option maxHeartbeats 4000000 in
set_option maxRecDepth 100000 in
/-- ResponseDeskModel() -/
theorem mM_init (l : Launch) (D : va_G) (h0 sz : Nat) : Met l yX1_init (ws_ yX1_init cX1_init 1 none) { frames := 1, cells := 8, slots := 40, locals := 12 } (va_Pc [.ref h0] (fun U => U.heap.size = sz ∧ va_P D cl2 [(h0, .inr (1, [.null, .null, .null, .null, .int (nI 0), .null, .null, .null, .null]))] U.heap ∧ va_K D cl2 [] U ∧ va_D (fun _ => True) [(h0, .inr (1, [.null, .null, .null, .null, .int (nI 0), .null, .null, .null, .null]))])) (va_Qv (fun u : (Nat → Nat) × (Nat → ClassId) => u.1 0 = h0) (fun u t => va_P D cl2 (mdW u.1 u.2 0 zz zz zz 0 zz zz zz zz) t.heap ∧ va_K D cl2 (mtys u.2) t ∧ va_D (va_A [(h0, .inr (1, [.null, .null, .null, .null, .int (nI 0), .null, .null, .null, .null]))] sz) (mdW u.1 u.2 0 zz zz zz 0 zz zz zz zz)) (va_A [(h0, .inr (1, [.null, .null, .null, .null, .int (nI 0), .null, .null, .null, .null]))] sz)) 8 40 (va_A [(h0, .inr (1, [.null, .null, .null, .null, .int (nI 0), .null, .null, .null, .null]))] sz) := by
  refine Met.ofW (cc := cX1_init) (maxL := 1) (ret := none) (by decide) rfl ?_
  intro p e s m args below meth c s₁ B hml hv
  obtain ⟨rfl, hsz, hP, hK, hD0⟩ := hv
  have hx := B.exec
  have hb := B.bytes
  have hr := B.returns
  have hts := atoms_spec (ws := ws_ yX1_init cX1_init 1 none) B.pre
  have hts : ∀ w ∈ lw_all, w.before _ s = true := fun w h => hts w (List.mem_cons_of_mem _ h)
  have hown : s.vm.findClass RX1 = some m.cls := findClass_of_methodNamed B.named
  have hlocks := B.notSynchronized
  have hin : meth.name = "<init>" := (name_of_methodNamed B.named B.method).1
  subst hsz
  have hD := hD0.self (sz := s.heap.size)
  generalize hAe : va_A [(h0, .inr (1, [.null, .null, .null, .null, .int (nI 0), .null, .null, .null, .null]))] s.heap.size = A at hD ⊢
  have hA : ∀ q : Nat, s.heap.size ≤ q → A q := fun q h => by rw [← hAe]; exact Or.inr h
  have hS : va_S A s.heap s.heap [] := va_S.rf
  have hl := lv_entry ([.ref h0]) (n := 1) (Nat.le_of_ble_eq_true rfl)
  rw [lg_entry_eq]
  generalize (lg_sl ([.ref h0]) ++ List.replicate (1 - (lg_sl ([.ref h0])).length) Slot.unset).toArray = ls at hl ⊢
  have hl : lv_has ls 1 [(0, .ref h0)] := hl
  refine lv_aload_n hx hb dX1_init_0 rfl (lv_at hl 0 rfl) ?_
  refine W.objInit hx hb hown (hts _ q167) (hts _ q30) (hts _ q31) rfl (by rw [hml]; exact hl.1) rfl dX1_init_1 (Nat.le_of_ble_eq_true rfl) (Nat.le_of_ble_eq_true rfl) ?_
  refine W.eq (g2 := F0 m 4 ls []) rfl ?_
  refine lv_aload_n hx hb dX1_init_4 rfl (lv_at hl 0 rfl) ?_
  refine lv_iconst (v := nI 5) hx hb dX1_init_5 (by decide) ?_
  refine va_newa (atype := .boolean) (ty := .boolean) (N' := 5) (a0 := (5, .inl (fun j => bI ((0 : Nat).testBit j)))) hx hb (hts _ q196) rfl hK hP hD hS hA (fun cA => by rw [vp_cell_i]; congr 1; funext j; simp [bI]; rfl) (by decide) (by decide) (by decide) (Nat.le_of_ble_eq_true rfl) (Nat.le_of_ble_eq_true rfl) dX1_init_6 (fun a1 k1 H hK hP hD hS => ?_)
  have hP : va_P D cl2 [(h0, .inr (1, [.null, .null, .null, .null, .int (nI 0), .null, .null, .null, .null])), (a1, .inl (k1, 5, .inl (fun j => bI ((0 : Nat).testBit j))))] H := hP
  have hD : va_D A [(h0, .inr (1, [.null, .null, .null, .null, .int (nI 0), .null, .null, .null, .null])), (a1, .inl (k1, 5, .inl (fun j => bI ((0 : Nat).testBit j))))] := hD
  have hK : va_K D cl2 [(k1, .boolean)] s := hK
  refine W.widen (k := 1) (n := 5) (by omega) (by omega) ?_
  refine va_put (D := D) (ci := 1) (v := .ref a1) (ty := .array .boolean) (C := RX1) (T := TX1) (N := 9) hx hb hts in_X1 tyX1 tyX1_ok nmX1 hown hK hP hD hS 0 rfl rfl 0 (by decide) (hts _ q168) (fun _ h9 => h9) rfl (by decide +kernel) rfl rfl (Nat.le_of_ble_eq_true rfl) dX1_init_8 (fun H locs hP hD hS => ?_)
  have hP : va_P D cl2 [(h0, .inr (1, [.ref a1, .null, .null, .null, .int (nI 0), .null, .null, .null, .null])), (a1, .inl (k1, 5, .inl (fun j => bI ((0 : Nat).testBit j))))] H := hP
  have hD : va_D A [(h0, .inr (1, [.ref a1, .null, .null, .null, .int (nI 0), .null, .null, .null, .null])), (a1, .inl (k1, 5, .inl (fun j => bI ((0 : Nat).testBit j))))] := hD
  refine lv_aload_n hx hb dX1_init_11 rfl (lv_at hl 0 rfl) ?_
  refine lv_iconst (v := nI 5) hx hb dX1_init_12 (by decide) ?_
  refine va_newa (atype := .int) (ty := .int) (N' := 5) (a0 := (5, .inl (fun j => nI (zz j)))) hx hb (hts _ q58) rfl hK hP hD hS hA (fun cA => rfl) (by decide) (by decide) (by decide) (Nat.le_of_ble_eq_true rfl) (Nat.le_of_ble_eq_true rfl) dX1_init_13 (fun a2 k2 H hK hP hD hS => ?_)
  have hP : va_P D cl2 [(h0, .inr (1, [.ref a1, .null, .null, .null, .int (nI 0), .null, .null, .null, .null])), (a1, .inl (k1, 5, .inl (fun j => bI ((0 : Nat).testBit j)))), (a2, .inl (k2, 5, .inl (fun j => nI (zz j))))] H := hP
  have hD : va_D A [(h0, .inr (1, [.ref a1, .null, .null, .null, .int (nI 0), .null, .null, .null, .null])), (a1, .inl (k1, 5, .inl (fun j => bI ((0 : Nat).testBit j)))), (a2, .inl (k2, 5, .inl (fun j => nI (zz j))))] := hD
  have hK : va_K D cl2 [(k1, .boolean), (k2, .int)] s := hK
  refine W.widen (k := 2) (n := 10) (by omega) (by omega) ?_
  refine va_put (D := D) (ci := 1) (v := .ref a2) (ty := .array .int) (C := RX1) (T := TX1) (N := 9) hx hb hts in_X1 tyX1 tyX1_ok nmX1 hown hK hP hD hS 0 rfl rfl 1 (by decide) (hts _ q169) (fun _ h9 => h9) rfl (by decide +kernel) rfl rfl (Nat.le_of_ble_eq_true rfl) dX1_init_15 (fun H locs hP hD hS => ?_)
  have hP : va_P D cl2 [(h0, .inr (1, [.ref a1, .ref a2, .null, .null, .int (nI 0), .null, .null, .null, .null])), (a1, .inl (k1, 5, .inl (fun j => bI ((0 : Nat).testBit j)))), (a2, .inl (k2, 5, .inl (fun j => nI (zz j))))] H := hP
  have hD : va_D A [(h0, .inr (1, [.ref a1, .ref a2, .null, .null, .int (nI 0), .null, .null, .null, .null])), (a1, .inl (k1, 5, .inl (fun j => bI ((0 : Nat).testBit j)))), (a2, .inl (k2, 5, .inl (fun j => nI (zz j))))] := hD
  refine lv_aload_n hx hb dX1_init_18 rfl (lv_at hl 0 rfl) ?_
  refine lv_iconst (v := nI 5) hx hb dX1_init_19 (by decide) ?_
  refine va_newa (atype := .int) (ty := .int) (N' := 5) (a0 := (5, .inl (fun j => nI (zz j)))) hx hb (hts _ q58) rfl hK hP hD hS hA (fun cA => rfl) (by decide) (by decide) (by decide) (Nat.le_of_ble_eq_true rfl) (Nat.le_of_ble_eq_true rfl) dX1_init_20 (fun a3 k3 H hK hP hD hS => ?_)
  have hP : va_P D cl2 [(h0, .inr (1, [.ref a1, .ref a2, .null, .null, .int (nI 0), .null, .null, .null, .null])), (a1, .inl (k1, 5, .inl (fun j => bI ((0 : Nat).testBit j)))), (a2, .inl (k2, 5, .inl (fun j => nI (zz j)))), (a3, .inl (k3, 5, .inl (fun j => nI (zz j))))] H := hP
  have hD : va_D A [(h0, .inr (1, [.ref a1, .ref a2, .null, .null, .int (nI 0), .null, .null, .null, .null])), (a1, .inl (k1, 5, .inl (fun j => bI ((0 : Nat).testBit j)))), (a2, .inl (k2, 5, .inl (fun j => nI (zz j)))), (a3, .inl (k3, 5, .inl (fun j => nI (zz j))))] := hD
  have hK : va_K D cl2 [(k1, .boolean), (k2, .int), (k3, .int)] s := hK
  refine W.widen (k := 3) (n := 15) (by omega) (by omega) ?_
  refine va_put (D := D) (ci := 1) (v := .ref a3) (ty := .array .int) (C := RX1) (T := TX1) (N := 9) hx hb hts in_X1 tyX1 tyX1_ok nmX1 hown hK hP hD hS 0 rfl rfl 2 (by decide) (hts _ q170) (fun _ h9 => h9) rfl (by decide +kernel) rfl rfl (Nat.le_of_ble_eq_true rfl) dX1_init_22 (fun H locs hP hD hS => ?_)
  have hP : va_P D cl2 [(h0, .inr (1, [.ref a1, .ref a2, .ref a3, .null, .int (nI 0), .null, .null, .null, .null])), (a1, .inl (k1, 5, .inl (fun j => bI ((0 : Nat).testBit j)))), (a2, .inl (k2, 5, .inl (fun j => nI (zz j)))), (a3, .inl (k3, 5, .inl (fun j => nI (zz j))))] H := hP
  have hD : va_D A [(h0, .inr (1, [.ref a1, .ref a2, .ref a3, .null, .int (nI 0), .null, .null, .null, .null])), (a1, .inl (k1, 5, .inl (fun j => bI ((0 : Nat).testBit j)))), (a2, .inl (k2, 5, .inl (fun j => nI (zz j)))), (a3, .inl (k3, 5, .inl (fun j => nI (zz j))))] := hD
  refine lv_aload_n hx hb dX1_init_25 rfl (lv_at hl 0 rfl) ?_
  refine lv_iconst (v := nI 5) hx hb dX1_init_26 (by decide) ?_
  refine va_newa (atype := .int) (ty := .int) (N' := 5) (a0 := (5, .inl (fun j => nI (zz j)))) hx hb (hts _ q58) rfl hK hP hD hS hA (fun cA => rfl) (by decide) (by decide) (by decide) (Nat.le_of_ble_eq_true rfl) (Nat.le_of_ble_eq_true rfl) dX1_init_27 (fun a4 k4 H hK hP hD hS => ?_)
  have hP : va_P D cl2 [(h0, .inr (1, [.ref a1, .ref a2, .ref a3, .null, .int (nI 0), .null, .null, .null, .null])), (a1, .inl (k1, 5, .inl (fun j => bI ((0 : Nat).testBit j)))), (a2, .inl (k2, 5, .inl (fun j => nI (zz j)))), (a3, .inl (k3, 5, .inl (fun j => nI (zz j)))), (a4, .inl (k4, 5, .inl (fun j => nI (zz j))))] H := hP
  have hD : va_D A [(h0, .inr (1, [.ref a1, .ref a2, .ref a3, .null, .int (nI 0), .null, .null, .null, .null])), (a1, .inl (k1, 5, .inl (fun j => bI ((0 : Nat).testBit j)))), (a2, .inl (k2, 5, .inl (fun j => nI (zz j)))), (a3, .inl (k3, 5, .inl (fun j => nI (zz j)))), (a4, .inl (k4, 5, .inl (fun j => nI (zz j))))] := hD
  have hK : va_K D cl2 [(k1, .boolean), (k2, .int), (k3, .int), (k4, .int)] s := hK
  refine W.widen (k := 4) (n := 20) (by omega) (by omega) ?_
  refine va_put (D := D) (ci := 1) (v := .ref a4) (ty := .array .int) (C := RX1) (T := TX1) (N := 9) hx hb hts in_X1 tyX1 tyX1_ok nmX1 hown hK hP hD hS 0 rfl rfl 3 (by decide) (hts _ q171) (fun _ h9 => h9) rfl (by decide +kernel) rfl rfl (Nat.le_of_ble_eq_true rfl) dX1_init_29 (fun H locs hP hD hS => ?_)
  have hP : va_P D cl2 [(h0, .inr (1, [.ref a1, .ref a2, .ref a3, .ref a4, .int (nI 0), .null, .null, .null, .null])), (a1, .inl (k1, 5, .inl (fun j => bI ((0 : Nat).testBit j)))), (a2, .inl (k2, 5, .inl (fun j => nI (zz j)))), (a3, .inl (k3, 5, .inl (fun j => nI (zz j)))), (a4, .inl (k4, 5, .inl (fun j => nI (zz j))))] H := hP
  have hD : va_D A [(h0, .inr (1, [.ref a1, .ref a2, .ref a3, .ref a4, .int (nI 0), .null, .null, .null, .null])), (a1, .inl (k1, 5, .inl (fun j => bI ((0 : Nat).testBit j)))), (a2, .inl (k2, 5, .inl (fun j => nI (zz j)))), (a3, .inl (k3, 5, .inl (fun j => nI (zz j)))), (a4, .inl (k4, 5, .inl (fun j => nI (zz j))))] := hD
  refine lv_aload_n hx hb dX1_init_32 rfl (lv_at hl 0 rfl) ?_
  refine lv_iconst (v := nI 5) hx hb dX1_init_33 (by decide) ?_
  refine va_newa (atype := .int) (ty := .int) (N' := 5) (a0 := (5, .inl (fun j => nI (zz j)))) hx hb (hts _ q58) rfl hK hP hD hS hA (fun cA => rfl) (by decide) (by decide) (by decide) (Nat.le_of_ble_eq_true rfl) (Nat.le_of_ble_eq_true rfl) dX1_init_34 (fun a5 k5 H hK hP hD hS => ?_)
  have hP : va_P D cl2 [(h0, .inr (1, [.ref a1, .ref a2, .ref a3, .ref a4, .int (nI 0), .null, .null, .null, .null])), (a1, .inl (k1, 5, .inl (fun j => bI ((0 : Nat).testBit j)))), (a2, .inl (k2, 5, .inl (fun j => nI (zz j)))), (a3, .inl (k3, 5, .inl (fun j => nI (zz j)))), (a4, .inl (k4, 5, .inl (fun j => nI (zz j)))), (a5, .inl (k5, 5, .inl (fun j => nI (zz j))))] H := hP
  have hD : va_D A [(h0, .inr (1, [.ref a1, .ref a2, .ref a3, .ref a4, .int (nI 0), .null, .null, .null, .null])), (a1, .inl (k1, 5, .inl (fun j => bI ((0 : Nat).testBit j)))), (a2, .inl (k2, 5, .inl (fun j => nI (zz j)))), (a3, .inl (k3, 5, .inl (fun j => nI (zz j)))), (a4, .inl (k4, 5, .inl (fun j => nI (zz j)))), (a5, .inl (k5, 5, .inl (fun j => nI (zz j))))] := hD
  have hK : va_K D cl2 [(k1, .boolean), (k2, .int), (k3, .int), (k4, .int), (k5, .int)] s := hK
  refine W.widen (k := 5) (n := 25) (by omega) (by omega) ?_
  refine va_put (D := D) (ci := 1) (v := .ref a5) (ty := .array .int) (C := RX1) (T := TX1) (N := 9) hx hb hts in_X1 tyX1 tyX1_ok nmX1 hown hK hP hD hS 0 rfl rfl 5 (by decide) (hts _ q173) (fun _ h9 => h9) rfl (by decide +kernel) rfl rfl (Nat.le_of_ble_eq_true rfl) dX1_init_36 (fun H locs hP hD hS => ?_)
  have hP : va_P D cl2 [(h0, .inr (1, [.ref a1, .ref a2, .ref a3, .ref a4, .int (nI 0), .ref a5, .null, .null, .null])), (a1, .inl (k1, 5, .inl (fun j => bI ((0 : Nat).testBit j)))), (a2, .inl (k2, 5, .inl (fun j => nI (zz j)))), (a3, .inl (k3, 5, .inl (fun j => nI (zz j)))), (a4, .inl (k4, 5, .inl (fun j => nI (zz j)))), (a5, .inl (k5, 5, .inl (fun j => nI (zz j))))] H := hP
  have hD : va_D A [(h0, .inr (1, [.ref a1, .ref a2, .ref a3, .ref a4, .int (nI 0), .ref a5, .null, .null, .null])), (a1, .inl (k1, 5, .inl (fun j => bI ((0 : Nat).testBit j)))), (a2, .inl (k2, 5, .inl (fun j => nI (zz j)))), (a3, .inl (k3, 5, .inl (fun j => nI (zz j)))), (a4, .inl (k4, 5, .inl (fun j => nI (zz j)))), (a5, .inl (k5, 5, .inl (fun j => nI (zz j))))] := hD
  refine lv_aload_n hx hb dX1_init_39 rfl (lv_at hl 0 rfl) ?_
  refine lv_iconst (v := nI 5) hx hb dX1_init_40 (by decide) ?_
  refine va_newa (atype := .int) (ty := .int) (N' := 5) (a0 := (5, .inl (fun j => nI (zz j)))) hx hb (hts _ q58) rfl hK hP hD hS hA (fun cA => rfl) (by decide) (by decide) (by decide) (Nat.le_of_ble_eq_true rfl) (Nat.le_of_ble_eq_true rfl) dX1_init_41 (fun a6 k6 H hK hP hD hS => ?_)
  have hP : va_P D cl2 [(h0, .inr (1, [.ref a1, .ref a2, .ref a3, .ref a4, .int (nI 0), .ref a5, .null, .null, .null])), (a1, .inl (k1, 5, .inl (fun j => bI ((0 : Nat).testBit j)))), (a2, .inl (k2, 5, .inl (fun j => nI (zz j)))), (a3, .inl (k3, 5, .inl (fun j => nI (zz j)))), (a4, .inl (k4, 5, .inl (fun j => nI (zz j)))), (a5, .inl (k5, 5, .inl (fun j => nI (zz j)))), (a6, .inl (k6, 5, .inl (fun j => nI (zz j))))] H := hP
  have hD : va_D A [(h0, .inr (1, [.ref a1, .ref a2, .ref a3, .ref a4, .int (nI 0), .ref a5, .null, .null, .null])), (a1, .inl (k1, 5, .inl (fun j => bI ((0 : Nat).testBit j)))), (a2, .inl (k2, 5, .inl (fun j => nI (zz j)))), (a3, .inl (k3, 5, .inl (fun j => nI (zz j)))), (a4, .inl (k4, 5, .inl (fun j => nI (zz j)))), (a5, .inl (k5, 5, .inl (fun j => nI (zz j)))), (a6, .inl (k6, 5, .inl (fun j => nI (zz j))))] := hD
  have hK : va_K D cl2 [(k1, .boolean), (k2, .int), (k3, .int), (k4, .int), (k5, .int), (k6, .int)] s := hK
  refine W.widen (k := 6) (n := 30) (by omega) (by omega) ?_
  refine va_put (D := D) (ci := 1) (v := .ref a6) (ty := .array .int) (C := RX1) (T := TX1) (N := 9) hx hb hts in_X1 tyX1 tyX1_ok nmX1 hown hK hP hD hS 0 rfl rfl 6 (by decide) (hts _ q174) (fun _ h9 => h9) rfl (by decide +kernel) rfl rfl (Nat.le_of_ble_eq_true rfl) dX1_init_43 (fun H locs hP hD hS => ?_)
  have hP : va_P D cl2 [(h0, .inr (1, [.ref a1, .ref a2, .ref a3, .ref a4, .int (nI 0), .ref a5, .ref a6, .null, .null])), (a1, .inl (k1, 5, .inl (fun j => bI ((0 : Nat).testBit j)))), (a2, .inl (k2, 5, .inl (fun j => nI (zz j)))), (a3, .inl (k3, 5, .inl (fun j => nI (zz j)))), (a4, .inl (k4, 5, .inl (fun j => nI (zz j)))), (a5, .inl (k5, 5, .inl (fun j => nI (zz j)))), (a6, .inl (k6, 5, .inl (fun j => nI (zz j))))] H := hP
  have hD : va_D A [(h0, .inr (1, [.ref a1, .ref a2, .ref a3, .ref a4, .int (nI 0), .ref a5, .ref a6, .null, .null])), (a1, .inl (k1, 5, .inl (fun j => bI ((0 : Nat).testBit j)))), (a2, .inl (k2, 5, .inl (fun j => nI (zz j)))), (a3, .inl (k3, 5, .inl (fun j => nI (zz j)))), (a4, .inl (k4, 5, .inl (fun j => nI (zz j)))), (a5, .inl (k5, 5, .inl (fun j => nI (zz j)))), (a6, .inl (k6, 5, .inl (fun j => nI (zz j))))] := hD
  refine lv_aload_n hx hb dX1_init_46 rfl (lv_at hl 0 rfl) ?_
  refine lv_iconst (v := nI 5) hx hb dX1_init_47 (by decide) ?_
  refine va_newa (atype := .int) (ty := .int) (N' := 5) (a0 := (5, .inl (fun j => nI (zz j)))) hx hb (hts _ q58) rfl hK hP hD hS hA (fun cA => rfl) (by decide) (by decide) (by decide) (Nat.le_of_ble_eq_true rfl) (Nat.le_of_ble_eq_true rfl) dX1_init_48 (fun a7 k7 H hK hP hD hS => ?_)
  have hP : va_P D cl2 [(h0, .inr (1, [.ref a1, .ref a2, .ref a3, .ref a4, .int (nI 0), .ref a5, .ref a6, .null, .null])), (a1, .inl (k1, 5, .inl (fun j => bI ((0 : Nat).testBit j)))), (a2, .inl (k2, 5, .inl (fun j => nI (zz j)))), (a3, .inl (k3, 5, .inl (fun j => nI (zz j)))), (a4, .inl (k4, 5, .inl (fun j => nI (zz j)))), (a5, .inl (k5, 5, .inl (fun j => nI (zz j)))), (a6, .inl (k6, 5, .inl (fun j => nI (zz j)))), (a7, .inl (k7, 5, .inl (fun j => nI (zz j))))] H := hP
  have hD : va_D A [(h0, .inr (1, [.ref a1, .ref a2, .ref a3, .ref a4, .int (nI 0), .ref a5, .ref a6, .null, .null])), (a1, .inl (k1, 5, .inl (fun j => bI ((0 : Nat).testBit j)))), (a2, .inl (k2, 5, .inl (fun j => nI (zz j)))), (a3, .inl (k3, 5, .inl (fun j => nI (zz j)))), (a4, .inl (k4, 5, .inl (fun j => nI (zz j)))), (a5, .inl (k5, 5, .inl (fun j => nI (zz j)))), (a6, .inl (k6, 5, .inl (fun j => nI (zz j)))), (a7, .inl (k7, 5, .inl (fun j => nI (zz j))))] := hD
  have hK : va_K D cl2 [(k1, .boolean), (k2, .int), (k3, .int), (k4, .int), (k5, .int), (k6, .int), (k7, .int)] s := hK
  refine W.widen (k := 7) (n := 35) (by omega) (by omega) ?_
  refine va_put (D := D) (ci := 1) (v := .ref a7) (ty := .array .int) (C := RX1) (T := TX1) (N := 9) hx hb hts in_X1 tyX1 tyX1_ok nmX1 hown hK hP hD hS 0 rfl rfl 7 (by decide) (hts _ q175) (fun _ h9 => h9) rfl (by decide +kernel) rfl rfl (Nat.le_of_ble_eq_true rfl) dX1_init_50 (fun H locs hP hD hS => ?_)
  have hP : va_P D cl2 [(h0, .inr (1, [.ref a1, .ref a2, .ref a3, .ref a4, .int (nI 0), .ref a5, .ref a6, .ref a7, .null])), (a1, .inl (k1, 5, .inl (fun j => bI ((0 : Nat).testBit j)))), (a2, .inl (k2, 5, .inl (fun j => nI (zz j)))), (a3, .inl (k3, 5, .inl (fun j => nI (zz j)))), (a4, .inl (k4, 5, .inl (fun j => nI (zz j)))), (a5, .inl (k5, 5, .inl (fun j => nI (zz j)))), (a6, .inl (k6, 5, .inl (fun j => nI (zz j)))), (a7, .inl (k7, 5, .inl (fun j => nI (zz j))))] H := hP
  have hD : va_D A [(h0, .inr (1, [.ref a1, .ref a2, .ref a3, .ref a4, .int (nI 0), .ref a5, .ref a6, .ref a7, .null])), (a1, .inl (k1, 5, .inl (fun j => bI ((0 : Nat).testBit j)))), (a2, .inl (k2, 5, .inl (fun j => nI (zz j)))), (a3, .inl (k3, 5, .inl (fun j => nI (zz j)))), (a4, .inl (k4, 5, .inl (fun j => nI (zz j)))), (a5, .inl (k5, 5, .inl (fun j => nI (zz j)))), (a6, .inl (k6, 5, .inl (fun j => nI (zz j)))), (a7, .inl (k7, 5, .inl (fun j => nI (zz j))))] := hD
  refine lv_aload_n hx hb dX1_init_53 rfl (lv_at hl 0 rfl) ?_
  refine lv_iconst (v := nI 5) hx hb dX1_init_54 (by decide) ?_
  refine va_newa (atype := .int) (ty := .int) (N' := 5) (a0 := (5, .inl (fun j => nI (zz j)))) hx hb (hts _ q58) rfl hK hP hD hS hA (fun cA => rfl) (by decide) (by decide) (by decide) (Nat.le_of_ble_eq_true rfl) (Nat.le_of_ble_eq_true rfl) dX1_init_55 (fun a8 k8 H hK hP hD hS => ?_)
  have hP : va_P D cl2 [(h0, .inr (1, [.ref a1, .ref a2, .ref a3, .ref a4, .int (nI 0), .ref a5, .ref a6, .ref a7, .null])), (a1, .inl (k1, 5, .inl (fun j => bI ((0 : Nat).testBit j)))), (a2, .inl (k2, 5, .inl (fun j => nI (zz j)))), (a3, .inl (k3, 5, .inl (fun j => nI (zz j)))), (a4, .inl (k4, 5, .inl (fun j => nI (zz j)))), (a5, .inl (k5, 5, .inl (fun j => nI (zz j)))), (a6, .inl (k6, 5, .inl (fun j => nI (zz j)))), (a7, .inl (k7, 5, .inl (fun j => nI (zz j)))), (a8, .inl (k8, 5, .inl (fun j => nI (zz j))))] H := hP
  have hD : va_D A [(h0, .inr (1, [.ref a1, .ref a2, .ref a3, .ref a4, .int (nI 0), .ref a5, .ref a6, .ref a7, .null])), (a1, .inl (k1, 5, .inl (fun j => bI ((0 : Nat).testBit j)))), (a2, .inl (k2, 5, .inl (fun j => nI (zz j)))), (a3, .inl (k3, 5, .inl (fun j => nI (zz j)))), (a4, .inl (k4, 5, .inl (fun j => nI (zz j)))), (a5, .inl (k5, 5, .inl (fun j => nI (zz j)))), (a6, .inl (k6, 5, .inl (fun j => nI (zz j)))), (a7, .inl (k7, 5, .inl (fun j => nI (zz j)))), (a8, .inl (k8, 5, .inl (fun j => nI (zz j))))] := hD
  have hK : va_K D cl2 [(k1, .boolean), (k2, .int), (k3, .int), (k4, .int), (k5, .int), (k6, .int), (k7, .int), (k8, .int)] s := hK
  refine W.widen (k := 8) (n := 40) (by omega) (by omega) ?_
  refine va_put (D := D) (ci := 1) (v := .ref a8) (ty := .array .int) (C := RX1) (T := TX1) (N := 9) hx hb hts in_X1 tyX1 tyX1_ok nmX1 hown hK hP hD hS 0 rfl rfl 8 (by decide) (hts _ q176) (fun _ h9 => h9) rfl (by decide +kernel) rfl rfl (Nat.le_of_ble_eq_true rfl) dX1_init_57 (fun H locs hP hD hS => ?_)
  have hP : va_P D cl2 [(h0, .inr (1, [.ref a1, .ref a2, .ref a3, .ref a4, .int (nI 0), .ref a5, .ref a6, .ref a7, .ref a8])), (a1, .inl (k1, 5, .inl (fun j => bI ((0 : Nat).testBit j)))), (a2, .inl (k2, 5, .inl (fun j => nI (zz j)))), (a3, .inl (k3, 5, .inl (fun j => nI (zz j)))), (a4, .inl (k4, 5, .inl (fun j => nI (zz j)))), (a5, .inl (k5, 5, .inl (fun j => nI (zz j)))), (a6, .inl (k6, 5, .inl (fun j => nI (zz j)))), (a7, .inl (k7, 5, .inl (fun j => nI (zz j)))), (a8, .inl (k8, 5, .inl (fun j => nI (zz j))))] H := hP
  have hD : va_D A [(h0, .inr (1, [.ref a1, .ref a2, .ref a3, .ref a4, .int (nI 0), .ref a5, .ref a6, .ref a7, .ref a8])), (a1, .inl (k1, 5, .inl (fun j => bI ((0 : Nat).testBit j)))), (a2, .inl (k2, 5, .inl (fun j => nI (zz j)))), (a3, .inl (k3, 5, .inl (fun j => nI (zz j)))), (a4, .inl (k4, 5, .inl (fun j => nI (zz j)))), (a5, .inl (k5, 5, .inl (fun j => nI (zz j)))), (a6, .inl (k6, 5, .inl (fun j => nI (zz j)))), (a7, .inl (k7, 5, .inl (fun j => nI (zz j)))), (a8, .inl (k8, 5, .inl (fun j => nI (zz j))))] := hD
  exact W.vret hx hb hr (fun t ht hW => ⟨⟨((fun k => match k with | 0 => h0 | 1 => a1 | 2 => a2 | 3 => a3 | 4 => a4 | 5 => a5 | 6 => a6 | 7 => a7 | _ => a8), (fun k => match k with | 1 => k1 | 2 => k2 | 3 => k3 | 4 => k4 | 5 => k5 | 6 => k6 | 7 => k7 | _ => k8)), rfl, rfl, by rw [ht]; exact hP, va_K.moved hW.alike hK, hD⟩, hS.F ht⟩) hS.2.2 dX1_init_60
section SC
variable {p : Program} {l : Launch} {e : Env} {R : Room} {s : State} {m : MethodId} {args : Array Value} {below : List Frame} {meth : Method} {c : Code} {H : Heap} {locs : List Loc} {cells slots : Nat} {Q : State → Prop}
variable {cc : ByteArray} {pc : Nat} {ls : Array Slot} {rest : List Value}
variable {nL : Nat} {ret : Option FieldType} {own : String} {D : va_G} {w : va_W} {A : Nat → Prop} {b L : Nat} {xs : Nat → Int32}
theorem rd_sld (C : CX p s m args meth c cc nL ret own) (hX : va_X b L xs s s.heap) (hbl : b < s.heap.size) (hbA : ¬ A b) (hh : HH D w A s.heap H locs) {i : Nat} (hL : L ≤ 256) (hi : i < L) (hdg : decode cc pc = .ok (.iaload, 1))
    (k : W p l e R s m args below meth c H locs cells slots Q (F0 m (pc + 1) ls (.int (xs i) :: rest))) : W p l e R s m args below meth c H locs cells slots Q (F0 m pc ls (.int (nI i) :: .ref b :: rest)) := by
  refine va_sld C.1 C.2.1 hX hbl hbA hh.2.2.1 (vp_in_nI hi (by omega)) hdg ?_
  rw [nI_clamp (by omega)]
  exact k
theorem rd_slen (C : CX p s m args meth c cc nL ret own) (hX : va_X b L xs s s.heap) (hbl : b < s.heap.size) (hbA : ¬ A b) (hh : HH D w A s.heap H locs) (hdg : decode cc pc = .ok (.arraylength, 1))
    (k : W p l e R s m args below meth c H locs cells slots Q (F0 m (pc + 1) ls (.int (nI L) :: rest))) : W p l e R s m args below meth c H locs cells slots Q (F0 m pc ls (.ref b :: rest)) :=
  va_slen C.1 C.2.1 hX hbl hbA hh.2.2.1 hdg k
end SC
theorem rd_sub_lt {a b c : Nat} (ha : a < 2 ^ 30) (hb : b < 2 ^ 30) (hc : c < 2 ^ 30) : nI a - nI b < nI c ↔ a < b + c := by
  rw [Int32.lt_iff_toInt_lt, pk_sub_toInt ha hb, nI_toInt (by omega)]
  omega
end
section
def R_law : String := "ResponseDeskLaw"
def lw_P (b : Addr) (xs : List Int32) (args : Array Value) (s : State) : Prop := args = #[.ref b] ∧ s.IntsAt b xs ∧ xs.length ≤ 256 ∧ (Jvm.Cond.and given_1 narrow_1).before args s = true
def lw_Q (_ : Array Value) (s : State) (o : Outcome) (t : State) : Prop := o = .returned (some (.int 1)) ∧ Framed s o t [] 600000 7290000
def lw_Z (below : List Frame) (a : Array Value) (s : State) : State → Prop := fun t => ∃ o, t.status = .running ∧ Ended t below o ∧ lw_Q a s o t
/-- the law's own end, with 1 on the stack, nothing written that was there before, its room as the claim has it -/
theorem lw_ret {p : Program} {l : Launch} {e : Env} {s : State} {m : MethodId} {below : List Frame} {meth : Method} {c : Code} {b : Nat} (hx : p.tables.exec = Jvm.exec) (hb : c.code = code) (hr : meth.sig.returnType = ret) (hlocks : meth.locks = false) {pc : Nat} {H : Heap} {ls : Array Slot} (hdg : decode code pc = .ok (.ireturn, 1)) : W p l e room_1 s m #[Value.ref b] below meth c H [] 600000 7290000 (lw_Z below #[Value.ref b] s) (F0 m pc ls [.int 1]) := by
  intro T hT X
  obtain ⟨fs, hret, hrun, hended, hW, hframe⟩ := X.leave (v := some (.int 1)) (hlocks := hlocks) (fun h => by rw [hr] at h; cases h)
  have hmeth' : T.vm.method? m = some meth := X.method'
  refine ⟨T.setFrames fs, ?_, .returned (some (.int 1)), hrun, hended, rfl, ⟨_, rfl⟩, hW, hframe⟩
  jvm_step X.here [X.here.top, hx, hb, hdg, hmeth', hr, ret, narrow_b1]
  (try refine ⟨rfl, ?_⟩); (try refine ⟨rfl, ?_⟩)
  first | (intro acts; rw [hret _ acts rfl rfl rfl]) | rw [hret _ _ rfl rfl rfl]
  exact Steps.refl _
/-- what holds at the law's entry: the machine, the code, the tables' words (any of lw_tbl by 'hts w (by decide +kernel)'), the script of L ints xs at the cell b, what the Statement gives of the start (any of its parts by flat_of_before) -/
def lw_At (p : Program) (s : State) (m : MethodId) (meth : Method) (c : Code) (b L : Nat) (xs : Nat → Int32) : Prop :=
  p.tables.exec = Jvm.exec ∧ c.code = code ∧ meth.sig.returnType = ret ∧ c.maxLocals = 4 ∧ s.vm.findClass R_law = some m.cls ∧ (∀ w ∈ lw_tbl, w.before #[Value.ref b] s = true) ∧ va_X b L xs s s.heap ∧ b < s.heap.size ∧ meth.locks = false ∧ (Jvm.Cond.and given_1 narrow_1).before #[Value.ref b] s = true
set_option maxHeartbeats 4000000 in
set_option maxRecDepth 100000 in
/-- the law's case 0: add -/
theorem law_add {p : Program} {l : Launch} {e : Env} {s : State} {m : MethodId} {below : List Frame} {meth : Method} {c : Code} {b L : Nat} {xs : Nat → Int32} {D : va_G} {q q2 : Nat → Nat} {K K2 : Nat → ClassId} {A : Nat → Prop} (hL : L ≤ 256) (C : CX p s m #[Value.ref b] meth c cL_law 4 ret R_law) (hX : va_X b L xs s s.heap) (hbl : b < s.heap.size) (hKD : va_K D cl2 (dtys K) s) (hKM : va_K D cl2 (mtys K2) s) (hA : ∀ z, A z → s.heap.size ≤ z) (i : Nat) (hi : i + 4 ≤ L) (nxt : ∀ (pr n : Nat) (fc fl fp fo fw ff fg : Nat → Nat) (fb fa : Nat → Int32), VS pr n fc fl fp fo → (∀ j, fw j < 5) → ∀ (H : Heap) (locs : List Loc), HH D (dkW q K pr n fc fl fp fo fb fa ++ mdW q2 K2 pr fc fl fp n fo fw ff fg) A s.heap H locs → ∀ (ls : Array Slot), lv_has ls 4 [(3, .int (nI i)), (0, .ref b), (1, .ref (q 0)), (2, .ref (q2 0))] → W p l e room_1 s m #[Value.ref b] below meth c H locs 16 141 (lw_Z below #[Value.ref b] s) (F0 m 443 ls [])) : ∀ (pr n : Nat) (fc fl fp fo fw ff fg : Nat → Nat) (fb fa : Nat → Int32), VS pr n fc fl fp fo → (∀ j, fw j < 5) → ∀ (H : Heap) (locs : List Loc), HH D (dkW q K pr n fc fl fp fo fb fa ++ mdW q2 K2 pr fc fl fp n fo fw ff fg) A s.heap H locs → ∀ (ls : Array Slot), lv_has ls 4 [(3, .int (nI i)), (0, .ref b), (1, .ref (q 0)), (2, .ref (q2 0))] → W p l e room_1 s m #[Value.ref b] below meth c H locs 16 141 (lw_Z below #[Value.ref b] s) (F0 m 108 ls []) := by
  intro pr n fc fl fp fo fw ff fg fb fa hV hw H locs hh ls hl
  have hx := C.1
  have hb := C.2.1
  have hbA : ¬ A b := fun h => by have := hA b h; omega
  refine lv_aload_n hx hb dL_law_108 rfl (lv_at hl 2 rfl) ?_
  refine lv_aload_n hx hb dL_law_109 rfl (lv_at hl 1 rfl) ?_
  refine lv_iload_n hx hb dL_law_110 rfl (lv_at hl 0 rfl) ?_
  refine lv_iconst (v := nI 1) hx hb dL_law_111 (by decide) ?_
  refine rd_iadd hx hb dL_law_112 ?_
  refine rd_sld C hX hbl hbA hh hL (by omega) dL_law_113 ?_
  refine lv_aload_n hx hb dL_law_114 rfl (lv_at hl 1 rfl) ?_
  refine lv_iload_n hx hb dL_law_115 rfl (lv_at hl 0 rfl) ?_
  refine lv_iconst (v := nI 2) hx hb dL_law_116 (by decide) ?_
  refine rd_iadd hx hb dL_law_117 ?_
  refine rd_sld C hX hbl hbA hh hL (by omega) dL_law_118 ?_
  refine lv_aload_n hx hb dL_law_119 rfl (lv_at hl 1 rfl) ?_
  refine lv_iload_n hx hb dL_law_120 rfl (lv_at hl 0 rfl) ?_
  refine lv_iconst (v := nI 3) hx hb dL_law_121 (by decide) ?_
  refine rd_iadd hx hb dL_law_122 ?_
  refine rd_sld C hX hbl hbA hh hL (by omega) dL_law_123 ?_
  refine rd_callL (n := 3) (q := (RX0, TX0, 8)) C hKD hh (mD_add l D q K pr n fc fl fp fo fb fa hV.1 hV.cap (xs (i + 1)) (xs (i + 2)) (xs (i + 3))) (lw_V q59 q60 q61 q22 q62) (by decide +kernel) rfl ⟨rfl, rfl⟩ ⟨Nat.le_of_ble_eq_true rfl, Nat.le_of_ble_eq_true rfl⟩ 0 0 rfl rfl rfl hl.1 (Nat.le_of_ble_eq_true rfl) ⟨Nat.le_of_ble_eq_true rfl, Nat.le_of_ble_eq_true rfl⟩ dL_law_124 (fun r u H locs hr hh => ?_)
  obtain ⟨pr1, n1, c1, l1, p1, o1⟩ := u
  have hr : (r, pr1, n1, c1, l1, p1, o1) = addR pr n fc fl fp fo (xs (i + 1)) (xs (i + 2)) (xs (i + 3)) := hr
  have hh : HH D (dkW q K pr1 n1 c1 l1 p1 o1 fb fa ++ mdW q2 K2 pr fc fl fp n fo fw ff fg) A s.heap H locs := hh
  refine lv_aload_n hx hb dL_law_127 rfl (lv_at hl 3 rfl) ?_
  refine lv_aload_n hx hb dL_law_128 rfl (lv_at hl 1 rfl) ?_
  refine lv_iload_n hx hb dL_law_129 rfl (lv_at hl 0 rfl) ?_
  refine lv_iconst (v := nI 1) hx hb dL_law_130 (by decide) ?_
  refine rd_iadd hx hb dL_law_131 ?_
  refine rd_sld C hX hbl hbA hh hL (by omega) dL_law_132 ?_
  refine lv_aload_n hx hb dL_law_133 rfl (lv_at hl 1 rfl) ?_
  refine lv_iload_n hx hb dL_law_134 rfl (lv_at hl 0 rfl) ?_
  refine lv_iconst (v := nI 2) hx hb dL_law_135 (by decide) ?_
  refine rd_iadd hx hb dL_law_136 ?_
  refine rd_sld C hX hbl hbA hh hL (by omega) dL_law_137 ?_
  refine lv_aload_n hx hb dL_law_138 rfl (lv_at hl 1 rfl) ?_
  refine lv_iload_n hx hb dL_law_139 rfl (lv_at hl 0 rfl) ?_
  refine lv_iconst (v := nI 3) hx hb dL_law_140 (by decide) ?_
  refine rd_iadd hx hb dL_law_141 ?_
  refine rd_sld C hX hbl hbA hh hL (by omega) dL_law_142 ?_
  refine rd_callL (n := 3) (q := (RX1, TX1, 9)) C hKM (rd_swap hh) (mM_add l D q2 K2 pr n fc fl fp fo fw ff fg ⟨hV.1, hw⟩ hV.cap (xs (i + 1)) (xs (i + 2)) (xs (i + 3))) (lw_V q197 q198 q199 q23 q200) (by decide +kernel) rfl ⟨rfl, rfl⟩ ⟨Nat.le_of_ble_eq_true rfl, Nat.le_of_ble_eq_true rfl⟩ 1 0 rfl rfl rfl hl.1 (Nat.le_of_ble_eq_true rfl) ⟨Nat.le_of_ble_eq_true rfl, Nat.le_of_ble_eq_true rfl⟩ dL_law_143 (fun r2 u2 H locs hr2 hh => ?_)
  have hr2 : (r2, u2) = addR pr n fc fl fp fo (xs (i + 1)) (xs (i + 2)) (xs (i + 3)) := hr2
  rw [← hr] at hr2
  obtain ⟨rfl, rfl⟩ := Prod.mk.inj hr2
  have hV2 := VS_addR hV (xs (i + 1)) (xs (i + 2)) (xs (i + 3))
  rw [← hr] at hV2
  have hh : HH D (dkW q K pr1 n1 c1 l1 p1 o1 fb fa ++ mdW q2 K2 pr1 c1 l1 p1 n1 o1 fw ff fg) A s.heap H locs := rd_swap hh
  refine lv_icmp_eq (tgt := 443) hx hb dL_law_146 (by decide) (fun h146 => ?_) (fun h146 => ?_)
  · exact nxt pr1 n1 c1 l1 p1 o1 fw ff fg fb fa hV2 hw _ _ hh ls hl
  · exact absurd rfl h146
set_option maxHeartbeats 4000000 in
set_option maxRecDepth 100000 in
/-- the law's case 1: remove -/
theorem law_remove {p : Program} {l : Launch} {e : Env} {s : State} {m : MethodId} {below : List Frame} {meth : Method} {c : Code} {b L : Nat} {xs : Nat → Int32} {D : va_G} {q q2 : Nat → Nat} {K K2 : Nat → ClassId} {A : Nat → Prop} (hL : L ≤ 256) (C : CX p s m #[Value.ref b] meth c cL_law 4 ret R_law) (hX : va_X b L xs s s.heap) (hbl : b < s.heap.size) (hKD : va_K D cl2 (dtys K) s) (hKM : va_K D cl2 (mtys K2) s) (hA : ∀ z, A z → s.heap.size ≤ z) (i : Nat) (hi : i + 4 ≤ L) (nxt : ∀ (pr n : Nat) (fc fl fp fo fw ff fg : Nat → Nat) (fb fa : Nat → Int32), VS pr n fc fl fp fo → (∀ j, fw j < 5) → ∀ (H : Heap) (locs : List Loc), HH D (dkW q K pr n fc fl fp fo fb fa ++ mdW q2 K2 pr fc fl fp n fo fw ff fg) A s.heap H locs → ∀ (ls : Array Slot), lv_has ls 4 [(3, .int (nI i)), (0, .ref b), (1, .ref (q 0)), (2, .ref (q2 0))] → W p l e room_1 s m #[Value.ref b] below meth c H locs 16 141 (lw_Z below #[Value.ref b] s) (F0 m 443 ls [])) : ∀ (pr n : Nat) (fc fl fp fo fw ff fg : Nat → Nat) (fb fa : Nat → Int32), VS pr n fc fl fp fo → (∀ j, fw j < 5) → ∀ (H : Heap) (locs : List Loc), HH D (dkW q K pr n fc fl fp fo fb fa ++ mdW q2 K2 pr fc fl fp n fo fw ff fg) A s.heap H locs → ∀ (ls : Array Slot), lv_has ls 4 [(3, .int (nI i)), (0, .ref b), (1, .ref (q 0)), (2, .ref (q2 0))] → W p l e room_1 s m #[Value.ref b] below meth c H locs 16 141 (lw_Z below #[Value.ref b] s) (F0 m 151 ls []) := by
  intro pr n fc fl fp fo fw ff fg fb fa hV hw H locs hh ls hl
  have hx := C.1
  have hb := C.2.1
  have hbA : ¬ A b := fun h => by have := hA b h; omega
  refine lv_aload_n hx hb dL_law_151 rfl (lv_at hl 2 rfl) ?_
  refine lv_aload_n hx hb dL_law_152 rfl (lv_at hl 1 rfl) ?_
  refine lv_iload_n hx hb dL_law_153 rfl (lv_at hl 0 rfl) ?_
  refine lv_iconst (v := nI 1) hx hb dL_law_154 (by decide) ?_
  refine rd_iadd hx hb dL_law_155 ?_
  refine rd_sld C hX hbl hbA hh hL (by omega) dL_law_156 ?_
  refine rd_callL (n := 1) (q := (RX0, TX0, 8)) C hKD hh (mD_remove l D q K pr n fc fl fp fo fb fa hV.1 hV.2.1 (xs (i + 1))) (lw_V q70 q71 q72 q22 q73) (by decide +kernel) rfl ⟨rfl, rfl⟩ ⟨Nat.le_of_ble_eq_true rfl, Nat.le_of_ble_eq_true rfl⟩ 0 0 rfl rfl rfl hl.1 (Nat.le_of_ble_eq_true rfl) ⟨Nat.le_of_ble_eq_true rfl, Nat.le_of_ble_eq_true rfl⟩ dL_law_157 (fun r u H locs hr hh => ?_)
  obtain ⟨pr1, n1, o1⟩ := u
  have hr : (r, pr1, n1, o1) = remR pr n fo (xs (i + 1)) := hr
  have hh : HH D (dkW q K pr1 n1 fc fl fp o1 fb fa ++ mdW q2 K2 pr fc fl fp n fo fw ff fg) A s.heap H locs := hh
  refine lv_aload_n hx hb dL_law_160 rfl (lv_at hl 3 rfl) ?_
  refine lv_aload_n hx hb dL_law_161 rfl (lv_at hl 1 rfl) ?_
  refine lv_iload_n hx hb dL_law_162 rfl (lv_at hl 0 rfl) ?_
  refine lv_iconst (v := nI 1) hx hb dL_law_163 (by decide) ?_
  refine rd_iadd hx hb dL_law_164 ?_
  refine rd_sld C hX hbl hbA hh hL (by omega) dL_law_165 ?_
  refine rd_callL (n := 1) (q := (RX1, TX1, 9)) C hKM (rd_swap hh) (mM_remove l D q2 K2 pr n fc fl fp fo fw ff fg ⟨hV.1, hw⟩ hV.2.1 (xs (i + 1))) (lw_V q205 q206 q207 q23 q208) (by decide +kernel) rfl ⟨rfl, rfl⟩ ⟨Nat.le_of_ble_eq_true rfl, Nat.le_of_ble_eq_true rfl⟩ 1 0 rfl rfl rfl hl.1 (Nat.le_of_ble_eq_true rfl) ⟨Nat.le_of_ble_eq_true rfl, Nat.le_of_ble_eq_true rfl⟩ dL_law_166 (fun r2 u2 H locs hr2 hh => ?_)
  have hr2 : (r2, u2) = remR pr n fo (xs (i + 1)) := hr2
  rw [← hr] at hr2
  obtain ⟨rfl, rfl⟩ := Prod.mk.inj hr2
  have hV2 := VS_remR hV (xs (i + 1))
  rw [← hr] at hV2
  have hh : HH D (dkW q K pr1 n1 fc fl fp o1 fb fa ++ mdW q2 K2 pr1 fc fl fp n1 o1 fw ff fg) A s.heap H locs := rd_swap hh
  refine lv_icmp_eq (tgt := 443) hx hb dL_law_169 (by decide) (fun h169 => ?_) (fun h169 => ?_)
  · exact nxt pr1 n1 fc fl fp o1 fw ff fg fb fa hV2 hw _ _ hh ls hl
  · exact absurd rfl h169
set_option maxHeartbeats 4000000 in
set_option maxRecDepth 100000 in
/-- the law's case 2: place -/
theorem law_place {p : Program} {l : Launch} {e : Env} {s : State} {m : MethodId} {below : List Frame} {meth : Method} {c : Code} {b L : Nat} {xs : Nat → Int32} {D : va_G} {q q2 : Nat → Nat} {K K2 : Nat → ClassId} {A : Nat → Prop} (hL : L ≤ 256) (C : CX p s m #[Value.ref b] meth c cL_law 4 ret R_law) (hX : va_X b L xs s s.heap) (hbl : b < s.heap.size) (hKD : va_K D cl2 (dtys K) s) (hKM : va_K D cl2 (mtys K2) s) (hA : ∀ z, A z → s.heap.size ≤ z) (i : Nat) (hi : i + 4 ≤ L) (nxt : ∀ (pr n : Nat) (fc fl fp fo fw ff fg : Nat → Nat) (fb fa : Nat → Int32), VS pr n fc fl fp fo → (∀ j, fw j < 5) → ∀ (H : Heap) (locs : List Loc), HH D (dkW q K pr n fc fl fp fo fb fa ++ mdW q2 K2 pr fc fl fp n fo fw ff fg) A s.heap H locs → ∀ (ls : Array Slot), lv_has ls 4 [(3, .int (nI i)), (0, .ref b), (1, .ref (q 0)), (2, .ref (q2 0))] → W p l e room_1 s m #[Value.ref b] below meth c H locs 16 141 (lw_Z below #[Value.ref b] s) (F0 m 443 ls [])) : ∀ (pr n : Nat) (fc fl fp fo fw ff fg : Nat → Nat) (fb fa : Nat → Int32), VS pr n fc fl fp fo → (∀ j, fw j < 5) → ∀ (H : Heap) (locs : List Loc), HH D (dkW q K pr n fc fl fp fo fb fa ++ mdW q2 K2 pr fc fl fp n fo fw ff fg) A s.heap H locs → ∀ (ls : Array Slot), lv_has ls 4 [(3, .int (nI i)), (0, .ref b), (1, .ref (q 0)), (2, .ref (q2 0))] → W p l e room_1 s m #[Value.ref b] below meth c H locs 16 141 (lw_Z below #[Value.ref b] s) (F0 m 174 ls []) := by
  intro pr n fc fl fp fo fw ff fg fb fa hV hw H locs hh ls hl
  have hx := C.1
  have hb := C.2.1
  have hbA : ¬ A b := fun h => by have := hA b h; omega
  refine lv_aload_n hx hb dL_law_174 rfl (lv_at hl 2 rfl) ?_
  refine lv_aload_n hx hb dL_law_175 rfl (lv_at hl 1 rfl) ?_
  refine lv_iload_n hx hb dL_law_176 rfl (lv_at hl 0 rfl) ?_
  refine lv_iconst (v := nI 1) hx hb dL_law_177 (by decide) ?_
  refine rd_iadd hx hb dL_law_178 ?_
  refine rd_sld C hX hbl hbA hh hL (by omega) dL_law_179 ?_
  refine lv_aload_n hx hb dL_law_180 rfl (lv_at hl 1 rfl) ?_
  refine lv_iload_n hx hb dL_law_181 rfl (lv_at hl 0 rfl) ?_
  refine lv_iconst (v := nI 2) hx hb dL_law_182 (by decide) ?_
  refine rd_iadd hx hb dL_law_183 ?_
  refine rd_sld C hX hbl hbA hh hL (by omega) dL_law_184 ?_
  refine rd_callL (n := 2) (q := (RX0, TX0, 8)) C hKD hh (mD_place l D q K pr n fc fl fp fo fb fa hV.1 hV.2.1 (xs (i + 1)) (xs (i + 2))) (lw_V q78 q79 q80 q22 q81) (by decide +kernel) rfl ⟨rfl, rfl⟩ ⟨Nat.le_of_ble_eq_true rfl, Nat.le_of_ble_eq_true rfl⟩ 0 0 rfl rfl rfl hl.1 (Nat.le_of_ble_eq_true rfl) ⟨Nat.le_of_ble_eq_true rfl, Nat.le_of_ble_eq_true rfl⟩ dL_law_185 (fun r u H locs hr hh => ?_)
  have hr : (r, u) = plcR pr n fo (xs (i + 1)) (xs (i + 2)) := hr
  have hh : HH D (dkW q K pr n fc fl fp u fb fa ++ mdW q2 K2 pr fc fl fp n fo fw ff fg) A s.heap H locs := hh
  refine lv_aload_n hx hb dL_law_188 rfl (lv_at hl 3 rfl) ?_
  refine lv_aload_n hx hb dL_law_189 rfl (lv_at hl 1 rfl) ?_
  refine lv_iload_n hx hb dL_law_190 rfl (lv_at hl 0 rfl) ?_
  refine lv_iconst (v := nI 1) hx hb dL_law_191 (by decide) ?_
  refine rd_iadd hx hb dL_law_192 ?_
  refine rd_sld C hX hbl hbA hh hL (by omega) dL_law_193 ?_
  refine lv_aload_n hx hb dL_law_194 rfl (lv_at hl 1 rfl) ?_
  refine lv_iload_n hx hb dL_law_195 rfl (lv_at hl 0 rfl) ?_
  refine lv_iconst (v := nI 2) hx hb dL_law_196 (by decide) ?_
  refine rd_iadd hx hb dL_law_197 ?_
  refine rd_sld C hX hbl hbA hh hL (by omega) dL_law_198 ?_
  refine rd_callL (n := 2) (q := (RX1, TX1, 9)) C hKM (rd_swap hh) (mM_place l D q2 K2 pr n fc fl fp fo fw ff fg ⟨hV.1, hw⟩ hV.2.1 (xs (i + 1)) (xs (i + 2))) (lw_V q221 q222 q223 q23 q224) (by decide +kernel) rfl ⟨rfl, rfl⟩ ⟨Nat.le_of_ble_eq_true rfl, Nat.le_of_ble_eq_true rfl⟩ 1 0 rfl rfl rfl hl.1 (Nat.le_of_ble_eq_true rfl) ⟨Nat.le_of_ble_eq_true rfl, Nat.le_of_ble_eq_true rfl⟩ dL_law_199 (fun r2 u2 H locs hr2 hh => ?_)
  have hr2 : (r2, u2) = plcR pr n fo (xs (i + 1)) (xs (i + 2)) := hr2
  rw [← hr] at hr2
  obtain ⟨rfl, rfl⟩ := Prod.mk.inj hr2
  have hV2 := VS_plcR hV (xs (i + 1)) (xs (i + 2))
  rw [← hr] at hV2
  have hh : HH D (dkW q K pr n fc fl fp u2 fb fa ++ mdW q2 K2 pr fc fl fp n u2 fw ff fg) A s.heap H locs := rd_swap hh
  refine lv_icmp_eq (tgt := 443) hx hb dL_law_202 (by decide) (fun h202 => ?_) (fun h202 => ?_)
  · exact nxt pr n fc fl fp u2 fw ff fg fb fa hV2 hw _ _ hh ls hl
  · exact absurd rfl h202
set_option maxHeartbeats 4000000 in
set_option maxRecDepth 100000 in
/-- the law's case 3: tasks -/
theorem law_tasks {p : Program} {l : Launch} {e : Env} {s : State} {m : MethodId} {below : List Frame} {meth : Method} {c : Code} {b L : Nat} {xs : Nat → Int32} {D : va_G} {q q2 : Nat → Nat} {K K2 : Nat → ClassId} {A : Nat → Prop} (hL : L ≤ 256) (C : CX p s m #[Value.ref b] meth c cL_law 4 ret R_law) (hX : va_X b L xs s s.heap) (hbl : b < s.heap.size) (hKD : va_K D cl2 (dtys K) s) (hKM : va_K D cl2 (mtys K2) s) (hA : ∀ z, A z → s.heap.size ≤ z) (i : Nat) (hi : i + 4 ≤ L) (nxt : ∀ (pr n : Nat) (fc fl fp fo fw ff fg : Nat → Nat) (fb fa : Nat → Int32), VS pr n fc fl fp fo → (∀ j, fw j < 5) → ∀ (H : Heap) (locs : List Loc), HH D (dkW q K pr n fc fl fp fo fb fa ++ mdW q2 K2 pr fc fl fp n fo fw ff fg) A s.heap H locs → ∀ (ls : Array Slot), lv_has ls 4 [(3, .int (nI i)), (0, .ref b), (1, .ref (q 0)), (2, .ref (q2 0))] → W p l e room_1 s m #[Value.ref b] below meth c H locs 16 141 (lw_Z below #[Value.ref b] s) (F0 m 443 ls [])) : ∀ (pr n : Nat) (fc fl fp fo fw ff fg : Nat → Nat) (fb fa : Nat → Int32), VS pr n fc fl fp fo → (∀ j, fw j < 5) → ∀ (H : Heap) (locs : List Loc), HH D (dkW q K pr n fc fl fp fo fb fa ++ mdW q2 K2 pr fc fl fp n fo fw ff fg) A s.heap H locs → ∀ (ls : Array Slot), lv_has ls 4 [(3, .int (nI i)), (0, .ref b), (1, .ref (q 0)), (2, .ref (q2 0))] → W p l e room_1 s m #[Value.ref b] below meth c H locs 16 141 (lw_Z below #[Value.ref b] s) (F0 m 207 ls []) := by
  intro pr n fc fl fp fo fw ff fg fb fa hV hw H locs hh ls hl
  have hx := C.1
  have hb := C.2.1
  have hbA : ¬ A b := fun h => by have := hA b h; omega
  refine lv_aload_n hx hb dL_law_207 rfl (lv_at hl 2 rfl) ?_
  refine rd_callP (n := 0) (q := (RX0, TX0, 8)) C hKD (rd_left hh).1 (mD_tasks l D q K pr n fc fl fp fo fb fa hV.1) (lw_V q82 q83 q84 q22 q85) (by decide +kernel) rfl ⟨rfl, rfl⟩ ⟨Nat.le_of_ble_eq_true rfl, Nat.le_of_ble_eq_true rfl⟩ 0 0 rfl rfl rfl hl.1 (Nat.le_of_ble_eq_true rfl) ⟨Nat.le_of_ble_eq_true rfl, Nat.le_of_ble_eq_true rfl⟩ dL_law_208 (fun r hr => ?_)
  subst hr
  refine lv_aload_n hx hb dL_law_211 rfl (lv_at hl 3 rfl) ?_
  refine rd_callP (n := 0) (q := (RX1, TX1, 9)) C hKM (rd_right hh).1 (mM_tasks l D q2 K2 pr n fc fl fp fo fw ff fg ⟨hV.1, hw⟩) (lw_V q225 q226 q227 q23 q228) (by decide +kernel) rfl ⟨rfl, rfl⟩ ⟨Nat.le_of_ble_eq_true rfl, Nat.le_of_ble_eq_true rfl⟩ 1 0 rfl rfl rfl hl.1 (Nat.le_of_ble_eq_true rfl) ⟨Nat.le_of_ble_eq_true rfl, Nat.le_of_ble_eq_true rfl⟩ dL_law_212 (fun r2 hr2 => ?_)
  subst hr2
  refine lv_icmp_eq (tgt := 443) hx hb dL_law_215 (by decide) (fun h215 => ?_) (fun h215 => ?_)
  · exact nxt pr n fc fl fp fo fw ff fg fb fa hV hw _ _ hh ls hl
  · exact absurd rfl h215
set_option maxHeartbeats 4000000 in
set_option maxRecDepth 100000 in
/-- the law's case 4: at -/
theorem law_at {p : Program} {l : Launch} {e : Env} {s : State} {m : MethodId} {below : List Frame} {meth : Method} {c : Code} {b L : Nat} {xs : Nat → Int32} {D : va_G} {q q2 : Nat → Nat} {K K2 : Nat → ClassId} {A : Nat → Prop} (hL : L ≤ 256) (C : CX p s m #[Value.ref b] meth c cL_law 4 ret R_law) (hX : va_X b L xs s s.heap) (hbl : b < s.heap.size) (hKD : va_K D cl2 (dtys K) s) (hKM : va_K D cl2 (mtys K2) s) (hA : ∀ z, A z → s.heap.size ≤ z) (i : Nat) (hi : i + 4 ≤ L) (nxt : ∀ (pr n : Nat) (fc fl fp fo fw ff fg : Nat → Nat) (fb fa : Nat → Int32), VS pr n fc fl fp fo → (∀ j, fw j < 5) → ∀ (H : Heap) (locs : List Loc), HH D (dkW q K pr n fc fl fp fo fb fa ++ mdW q2 K2 pr fc fl fp n fo fw ff fg) A s.heap H locs → ∀ (ls : Array Slot), lv_has ls 4 [(3, .int (nI i)), (0, .ref b), (1, .ref (q 0)), (2, .ref (q2 0))] → W p l e room_1 s m #[Value.ref b] below meth c H locs 16 141 (lw_Z below #[Value.ref b] s) (F0 m 443 ls [])) : ∀ (pr n : Nat) (fc fl fp fo fw ff fg : Nat → Nat) (fb fa : Nat → Int32), VS pr n fc fl fp fo → (∀ j, fw j < 5) → ∀ (H : Heap) (locs : List Loc), HH D (dkW q K pr n fc fl fp fo fb fa ++ mdW q2 K2 pr fc fl fp n fo fw ff fg) A s.heap H locs → ∀ (ls : Array Slot), lv_has ls 4 [(3, .int (nI i)), (0, .ref b), (1, .ref (q 0)), (2, .ref (q2 0))] → W p l e room_1 s m #[Value.ref b] below meth c H locs 16 141 (lw_Z below #[Value.ref b] s) (F0 m 220 ls []) := by
  intro pr n fc fl fp fo fw ff fg fb fa hV hw H locs hh ls hl
  have hx := C.1
  have hb := C.2.1
  have hbA : ¬ A b := fun h => by have := hA b h; omega
  refine lv_aload_n hx hb dL_law_220 rfl (lv_at hl 2 rfl) ?_
  refine lv_aload_n hx hb dL_law_221 rfl (lv_at hl 1 rfl) ?_
  refine lv_iload_n hx hb dL_law_222 rfl (lv_at hl 0 rfl) ?_
  refine lv_iconst (v := nI 1) hx hb dL_law_223 (by decide) ?_
  refine rd_iadd hx hb dL_law_224 ?_
  refine rd_sld C hX hbl hbA hh hL (by omega) dL_law_225 ?_
  refine rd_callP (n := 1) (q := (RX0, TX0, 8)) C hKD (rd_left hh).1 (mD_at l D q K pr n fc fl fp fo fb fa hV.1 (xs (i + 1))) (lw_V q86 q87 q88 q22 q89) (by decide +kernel) rfl ⟨rfl, rfl⟩ ⟨Nat.le_of_ble_eq_true rfl, Nat.le_of_ble_eq_true rfl⟩ 0 0 rfl rfl rfl hl.1 (Nat.le_of_ble_eq_true rfl) ⟨Nat.le_of_ble_eq_true rfl, Nat.le_of_ble_eq_true rfl⟩ dL_law_226 (fun r hr => ?_)
  subst hr
  refine lv_aload_n hx hb dL_law_229 rfl (lv_at hl 3 rfl) ?_
  refine lv_aload_n hx hb dL_law_230 rfl (lv_at hl 1 rfl) ?_
  refine lv_iload_n hx hb dL_law_231 rfl (lv_at hl 0 rfl) ?_
  refine lv_iconst (v := nI 1) hx hb dL_law_232 (by decide) ?_
  refine rd_iadd hx hb dL_law_233 ?_
  refine rd_sld C hX hbl hbA hh hL (by omega) dL_law_234 ?_
  refine rd_callP (n := 1) (q := (RX1, TX1, 9)) C hKM (rd_right hh).1 (mM_at l D q2 K2 pr n fc fl fp fo fw ff fg ⟨hV.1, hw⟩ (xs (i + 1))) (lw_V q229 q230 q231 q23 q232) (by decide +kernel) rfl ⟨rfl, rfl⟩ ⟨Nat.le_of_ble_eq_true rfl, Nat.le_of_ble_eq_true rfl⟩ 1 0 rfl rfl rfl hl.1 (Nat.le_of_ble_eq_true rfl) ⟨Nat.le_of_ble_eq_true rfl, Nat.le_of_ble_eq_true rfl⟩ dL_law_235 (fun r2 hr2 => ?_)
  subst hr2
  refine lv_icmp_eq (tgt := 443) hx hb dL_law_238 (by decide) (fun h238 => ?_) (fun h238 => ?_)
  · exact nxt pr n fc fl fp fo fw ff fg fb fa hV hw _ _ hh ls hl
  · exact absurd rfl h238
set_option maxHeartbeats 4000000 in
set_option maxRecDepth 100000 in
/-- the law's case 5: response -/
theorem law_response {p : Program} {l : Launch} {e : Env} {s : State} {m : MethodId} {below : List Frame} {meth : Method} {c : Code} {b L : Nat} {xs : Nat → Int32} {D : va_G} {q q2 : Nat → Nat} {K K2 : Nat → ClassId} {A : Nat → Prop} (hL : L ≤ 256) (C : CX p s m #[Value.ref b] meth c cL_law 4 ret R_law) (hX : va_X b L xs s s.heap) (hbl : b < s.heap.size) (hKD : va_K D cl2 (dtys K) s) (hKM : va_K D cl2 (mtys K2) s) (hA : ∀ z, A z → s.heap.size ≤ z) (i : Nat) (hi : i + 4 ≤ L) (nxt : ∀ (pr n : Nat) (fc fl fp fo fw ff fg : Nat → Nat) (fb fa : Nat → Int32), VS pr n fc fl fp fo → (∀ j, fw j < 5) → ∀ (H : Heap) (locs : List Loc), HH D (dkW q K pr n fc fl fp fo fb fa ++ mdW q2 K2 pr fc fl fp n fo fw ff fg) A s.heap H locs → ∀ (ls : Array Slot), lv_has ls 4 [(3, .int (nI i)), (0, .ref b), (1, .ref (q 0)), (2, .ref (q2 0))] → W p l e room_1 s m #[Value.ref b] below meth c H locs 16 141 (lw_Z below #[Value.ref b] s) (F0 m 443 ls [])) : ∀ (pr n : Nat) (fc fl fp fo fw ff fg : Nat → Nat) (fb fa : Nat → Int32), VS pr n fc fl fp fo → (∀ j, fw j < 5) → ∀ (H : Heap) (locs : List Loc), HH D (dkW q K pr n fc fl fp fo fb fa ++ mdW q2 K2 pr fc fl fp n fo fw ff fg) A s.heap H locs → ∀ (ls : Array Slot), lv_has ls 4 [(3, .int (nI i)), (0, .ref b), (1, .ref (q 0)), (2, .ref (q2 0))] → W p l e room_1 s m #[Value.ref b] below meth c H locs 16 141 (lw_Z below #[Value.ref b] s) (F0 m 243 ls []) := by
  intro pr n fc fl fp fo fw ff fg fb fa hV hw H locs hh ls hl
  have hx := C.1
  have hb := C.2.1
  have hbA : ¬ A b := fun h => by have := hA b h; omega
  refine lv_aload_n hx hb dL_law_243 rfl (lv_at hl 2 rfl) ?_
  refine lv_aload_n hx hb dL_law_244 rfl (lv_at hl 1 rfl) ?_
  refine lv_iload_n hx hb dL_law_245 rfl (lv_at hl 0 rfl) ?_
  refine lv_iconst (v := nI 1) hx hb dL_law_246 (by decide) ?_
  refine rd_iadd hx hb dL_law_247 ?_
  refine rd_sld C hX hbl hbA hh hL (by omega) dL_law_248 ?_
  refine rd_callP (n := 1) (q := (RX0, TX0, 8)) C hKD (rd_left hh).1 (mD_response l D q K pr n fc fl fp fo fb fa hV.1 hV.2.1 (xs (i + 1))) (lw_V q90 q91 q92 q22 q93) (by decide +kernel) rfl ⟨rfl, rfl⟩ ⟨Nat.le_of_ble_eq_true rfl, Nat.le_of_ble_eq_true rfl⟩ 0 0 rfl rfl rfl hl.1 (Nat.le_of_ble_eq_true rfl) ⟨Nat.le_of_ble_eq_true rfl, Nat.le_of_ble_eq_true rfl⟩ dL_law_249 (fun r hr => ?_)
  subst hr
  refine lv_aload_n hx hb dL_law_252 rfl (lv_at hl 3 rfl) ?_
  refine lv_aload_n hx hb dL_law_253 rfl (lv_at hl 1 rfl) ?_
  refine lv_iload_n hx hb dL_law_254 rfl (lv_at hl 0 rfl) ?_
  refine lv_iconst (v := nI 1) hx hb dL_law_255 (by decide) ?_
  refine rd_iadd hx hb dL_law_256 ?_
  refine rd_sld C hX hbl hbA hh hL (by omega) dL_law_257 ?_
  refine rd_callL (n := 1) (q := (RX1, TX1, 9)) C hKM (rd_swap hh) (mM_response l D q2 K2 pr n fc fl fp fo fw ff fg ⟨hV.1, hw⟩ (xs (i + 1))) (lw_V q233 q234 q235 q23 q236) (by decide +kernel) rfl ⟨rfl, rfl⟩ ⟨Nat.le_of_ble_eq_true rfl, Nat.le_of_ble_eq_true rfl⟩ 1 0 rfl rfl rfl hl.1 (Nat.le_of_ble_eq_true rfl) ⟨Nat.le_of_ble_eq_true rfl, Nat.le_of_ble_eq_true rfl⟩ dL_law_258 (fun r2 u2 H locs hr2 hh => ?_)
  obtain ⟨f1, g1⟩ := u2
  have hr2 := hr2.trans (ll_response hV fw (xs (i + 1)))
  subst hr2
  have hh : HH D (dkW q K pr n fc fl fp fo fb fa ++ mdW q2 K2 pr fc fl fp n fo (cpO fo fw n) f1 g1) A s.heap H locs := rd_swap hh
  refine lv_icmp_eq (tgt := 443) hx hb dL_law_261 (by decide) (fun h261 => ?_) (fun h261 => ?_)
  · exact nxt pr n fc fl fp fo (cpO fo fw n) f1 g1 fb fa hV (cpO_lt hV.1.2.2.2.2.2 hw n) _ _ hh ls hl
  · exact absurd rfl h261
set_option maxHeartbeats 4000000 in
set_option maxRecDepth 100000 in
/-- the law's case 6: good -/
theorem law_good {p : Program} {l : Launch} {e : Env} {s : State} {m : MethodId} {below : List Frame} {meth : Method} {c : Code} {b L : Nat} {xs : Nat → Int32} {D : va_G} {q q2 : Nat → Nat} {K K2 : Nat → ClassId} {A : Nat → Prop} (hL : L ≤ 256) (C : CX p s m #[Value.ref b] meth c cL_law 4 ret R_law) (hX : va_X b L xs s s.heap) (hbl : b < s.heap.size) (hKD : va_K D cl2 (dtys K) s) (hKM : va_K D cl2 (mtys K2) s) (hA : ∀ z, A z → s.heap.size ≤ z) (i : Nat) (hi : i + 4 ≤ L) (nxt : ∀ (pr n : Nat) (fc fl fp fo fw ff fg : Nat → Nat) (fb fa : Nat → Int32), VS pr n fc fl fp fo → (∀ j, fw j < 5) → ∀ (H : Heap) (locs : List Loc), HH D (dkW q K pr n fc fl fp fo fb fa ++ mdW q2 K2 pr fc fl fp n fo fw ff fg) A s.heap H locs → ∀ (ls : Array Slot), lv_has ls 4 [(3, .int (nI i)), (0, .ref b), (1, .ref (q 0)), (2, .ref (q2 0))] → W p l e room_1 s m #[Value.ref b] below meth c H locs 16 141 (lw_Z below #[Value.ref b] s) (F0 m 443 ls [])) : ∀ (pr n : Nat) (fc fl fp fo fw ff fg : Nat → Nat) (fb fa : Nat → Int32), VS pr n fc fl fp fo → (∀ j, fw j < 5) → ∀ (H : Heap) (locs : List Loc), HH D (dkW q K pr n fc fl fp fo fb fa ++ mdW q2 K2 pr fc fl fp n fo fw ff fg) A s.heap H locs → ∀ (ls : Array Slot), lv_has ls 4 [(3, .int (nI i)), (0, .ref b), (1, .ref (q 0)), (2, .ref (q2 0))] → W p l e room_1 s m #[Value.ref b] below meth c H locs 16 141 (lw_Z below #[Value.ref b] s) (F0 m 266 ls []) := by
  intro pr n fc fl fp fo fw ff fg fb fa hV hw H locs hh ls hl
  have hx := C.1
  have hb := C.2.1
  have hbA : ¬ A b := fun h => by have := hA b h; omega
  refine lv_aload_n hx hb dL_law_266 rfl (lv_at hl 2 rfl) ?_
  refine rd_callP (n := 0) (q := (RX0, TX0, 8)) C hKD (rd_left hh).1 (mD_good l D q K pr n fc fl fp fo fb fa hV.1 hV.2.1) (lw_V q109 q110 q111 q22 q112) (by decide +kernel) rfl ⟨rfl, rfl⟩ ⟨Nat.le_of_ble_eq_true rfl, Nat.le_of_ble_eq_true rfl⟩ 0 0 rfl rfl rfl hl.1 (Nat.le_of_ble_eq_true rfl) ⟨Nat.le_of_ble_eq_true rfl, Nat.le_of_ble_eq_true rfl⟩ dL_law_267 (fun r hr => ?_)
  subst hr
  refine lv_aload_n hx hb dL_law_270 rfl (lv_at hl 3 rfl) ?_
  refine rd_callL (n := 0) (q := (RX1, TX1, 9)) C hKM (rd_swap hh) (mM_good l D q2 K2 pr n fc fl fp fo fw ff fg ⟨hV.1, hw⟩) (lw_V q253 q254 q255 q23 q256) (by decide +kernel) rfl ⟨rfl, rfl⟩ ⟨Nat.le_of_ble_eq_true rfl, Nat.le_of_ble_eq_true rfl⟩ 1 0 rfl rfl rfl hl.1 (Nat.le_of_ble_eq_true rfl) ⟨Nat.le_of_ble_eq_true rfl, Nat.le_of_ble_eq_true rfl⟩ dL_law_271 (fun r2 u2 H locs hr2 hh => ?_)
  obtain ⟨f1, g1⟩ := u2
  have hr2 := hr2.trans (congrArg bI (ll_good hV fw))
  subst hr2
  have hh : HH D (dkW q K pr n fc fl fp fo fb fa ++ mdW q2 K2 pr fc fl fp n fo (cpO fo fw n) f1 g1) A s.heap H locs := rd_swap hh
  refine lv_icmp_eq (tgt := 443) hx hb dL_law_274 (by decide) (fun h274 => ?_) (fun h274 => ?_)
  · exact nxt pr n fc fl fp fo (cpO fo fw n) f1 g1 fb fa hV (cpO_lt hV.1.2.2.2.2.2 hw n) _ _ hh ls hl
  · exact absurd rfl h274
set_option maxHeartbeats 4000000 in
set_option maxRecDepth 100000 in
/-- the law's case 7: inTime -/
theorem law_inTime {p : Program} {l : Launch} {e : Env} {s : State} {m : MethodId} {below : List Frame} {meth : Method} {c : Code} {b L : Nat} {xs : Nat → Int32} {D : va_G} {q q2 : Nat → Nat} {K K2 : Nat → ClassId} {A : Nat → Prop} (hL : L ≤ 256) (C : CX p s m #[Value.ref b] meth c cL_law 4 ret R_law) (hX : va_X b L xs s s.heap) (hbl : b < s.heap.size) (hKD : va_K D cl2 (dtys K) s) (hKM : va_K D cl2 (mtys K2) s) (hA : ∀ z, A z → s.heap.size ≤ z) (i : Nat) (hi : i + 4 ≤ L) (nxt : ∀ (pr n : Nat) (fc fl fp fo fw ff fg : Nat → Nat) (fb fa : Nat → Int32), VS pr n fc fl fp fo → (∀ j, fw j < 5) → ∀ (H : Heap) (locs : List Loc), HH D (dkW q K pr n fc fl fp fo fb fa ++ mdW q2 K2 pr fc fl fp n fo fw ff fg) A s.heap H locs → ∀ (ls : Array Slot), lv_has ls 4 [(3, .int (nI i)), (0, .ref b), (1, .ref (q 0)), (2, .ref (q2 0))] → W p l e room_1 s m #[Value.ref b] below meth c H locs 16 141 (lw_Z below #[Value.ref b] s) (F0 m 443 ls [])) : ∀ (pr n : Nat) (fc fl fp fo fw ff fg : Nat → Nat) (fb fa : Nat → Int32), VS pr n fc fl fp fo → (∀ j, fw j < 5) → ∀ (H : Heap) (locs : List Loc), HH D (dkW q K pr n fc fl fp fo fb fa ++ mdW q2 K2 pr fc fl fp n fo fw ff fg) A s.heap H locs → ∀ (ls : Array Slot), lv_has ls 4 [(3, .int (nI i)), (0, .ref b), (1, .ref (q 0)), (2, .ref (q2 0))] → W p l e room_1 s m #[Value.ref b] below meth c H locs 16 141 (lw_Z below #[Value.ref b] s) (F0 m 279 ls []) := by
  intro pr n fc fl fp fo fw ff fg fb fa hV hw H locs hh ls hl
  have hx := C.1
  have hb := C.2.1
  have hbA : ¬ A b := fun h => by have := hA b h; omega
  refine lv_aload_n hx hb dL_law_279 rfl (lv_at hl 2 rfl) ?_
  refine rd_callP (n := 0) (q := (RX0, TX0, 8)) C hKD (rd_left hh).1 (mD_inTime l D q K pr n fc fl fp fo fb fa hV.1 hV.2.1) (lw_V q121 q114 q115 q22 q116) (by decide +kernel) rfl ⟨rfl, rfl⟩ ⟨Nat.le_of_ble_eq_true rfl, Nat.le_of_ble_eq_true rfl⟩ 0 0 rfl rfl rfl hl.1 (Nat.le_of_ble_eq_true rfl) ⟨Nat.le_of_ble_eq_true rfl, Nat.le_of_ble_eq_true rfl⟩ dL_law_280 (fun r hr => ?_)
  subst hr
  refine lv_aload_n hx hb dL_law_283 rfl (lv_at hl 3 rfl) ?_
  refine rd_callL (n := 0) (q := (RX1, TX1, 9)) C hKM (rd_swap hh) (mM_inTime l D q2 K2 pr n fc fl fp fo fw ff fg ⟨hV.1, hw⟩) (lw_V q265 q266 q267 q23 q268) (by decide +kernel) rfl ⟨rfl, rfl⟩ ⟨Nat.le_of_ble_eq_true rfl, Nat.le_of_ble_eq_true rfl⟩ 1 0 rfl rfl rfl hl.1 (Nat.le_of_ble_eq_true rfl) ⟨Nat.le_of_ble_eq_true rfl, Nat.le_of_ble_eq_true rfl⟩ dL_law_284 (fun r2 u2 H locs hr2 hh => ?_)
  obtain ⟨f1, g1⟩ := u2
  have hr2 := hr2.trans (congrArg nI (ll_inTime hV fw))
  subst hr2
  have hh : HH D (dkW q K pr n fc fl fp fo fb fa ++ mdW q2 K2 pr fc fl fp n fo (cpO fo fw n) f1 g1) A s.heap H locs := rd_swap hh
  refine lv_icmp_eq (tgt := 443) hx hb dL_law_287 (by decide) (fun h287 => ?_) (fun h287 => ?_)
  · exact nxt pr n fc fl fp fo (cpO fo fw n) f1 g1 fb fa hV (cpO_lt hV.1.2.2.2.2.2 hw n) _ _ hh ls hl
  · exact absurd rfl h287
set_option maxHeartbeats 4000000 in
set_option maxRecDepth 100000 in
/-- the law's case 8: goodOrders -/
theorem law_goodOrders {p : Program} {l : Launch} {e : Env} {s : State} {m : MethodId} {below : List Frame} {meth : Method} {c : Code} {b L : Nat} {xs : Nat → Int32} {D : va_G} {q q2 : Nat → Nat} {K K2 : Nat → ClassId} {A : Nat → Prop} (hL : L ≤ 256) (C : CX p s m #[Value.ref b] meth c cL_law 4 ret R_law) (hX : va_X b L xs s s.heap) (hbl : b < s.heap.size) (hKD : va_K D cl2 (dtys K) s) (hKM : va_K D cl2 (mtys K2) s) (hA : ∀ z, A z → s.heap.size ≤ z) (i : Nat) (hi : i + 4 ≤ L) (nxt : ∀ (pr n : Nat) (fc fl fp fo fw ff fg : Nat → Nat) (fb fa : Nat → Int32), VS pr n fc fl fp fo → (∀ j, fw j < 5) → ∀ (H : Heap) (locs : List Loc), HH D (dkW q K pr n fc fl fp fo fb fa ++ mdW q2 K2 pr fc fl fp n fo fw ff fg) A s.heap H locs → ∀ (ls : Array Slot), lv_has ls 4 [(3, .int (nI i)), (0, .ref b), (1, .ref (q 0)), (2, .ref (q2 0))] → W p l e room_1 s m #[Value.ref b] below meth c H locs 16 141 (lw_Z below #[Value.ref b] s) (F0 m 443 ls [])) : ∀ (pr n : Nat) (fc fl fp fo fw ff fg : Nat → Nat) (fb fa : Nat → Int32), VS pr n fc fl fp fo → (∀ j, fw j < 5) → ∀ (H : Heap) (locs : List Loc), HH D (dkW q K pr n fc fl fp fo fb fa ++ mdW q2 K2 pr fc fl fp n fo fw ff fg) A s.heap H locs → ∀ (ls : Array Slot), lv_has ls 4 [(3, .int (nI i)), (0, .ref b), (1, .ref (q 0)), (2, .ref (q2 0))] → W p l e room_1 s m #[Value.ref b] below meth c H locs 16 141 (lw_Z below #[Value.ref b] s) (F0 m 292 ls []) := by
  intro pr n fc fl fp fo fw ff fg fb fa hV hw H locs hh ls hl
  have hx := C.1
  have hb := C.2.1
  have hbA : ¬ A b := fun h => by have := hA b h; omega
  refine lv_aload_n hx hb dL_law_292 rfl (lv_at hl 2 rfl) ?_
  refine rd_callL (n := 0) (q := (RX0, TX0, 8)) C hKD hh (mD_goodOrders l D q K pr n fc fl fp fo fb fa hV.1 (beF (tm fc fl fp) pr) (amF (tm fc fl fp) pr) (TB_F _ hV.1.1)) (lw_V q122 q123 q124 q22 q125) (by decide +kernel) rfl ⟨rfl, rfl⟩ ⟨Nat.le_of_ble_eq_true rfl, Nat.le_of_ble_eq_true rfl⟩ 0 0 rfl rfl rfl hl.1 (Nat.le_of_ble_eq_true rfl) ⟨Nat.le_of_ble_eq_true rfl, Nat.le_of_ble_eq_true rfl⟩ dL_law_293 (fun r u H locs hr hh => ?_)
  obtain ⟨fb1, fa1⟩ := u
  have hr : r = nI ((beF (tm fc fl fp) pr) 0) := hr
  subst hr
  have hh : HH D (dkW q K pr n fc fl fp fo fb1 fa1 ++ mdW q2 K2 pr fc fl fp n fo fw ff fg) A s.heap H locs := hh
  refine lv_aload_n hx hb dL_law_296 rfl (lv_at hl 3 rfl) ?_
  refine rd_callL (n := 0) (q := (RX1, TX1, 9)) C hKM (rd_swap hh) (mM_goodOrders l D q2 K2 pr n fc fl fp fo fw ff fg ⟨hV.1, hw⟩) (lw_V q269 q270 q271 q23 q272) (by decide +kernel) rfl ⟨rfl, rfl⟩ ⟨Nat.le_of_ble_eq_true rfl, Nat.le_of_ble_eq_true rfl⟩ 1 0 rfl rfl rfl hl.1 (Nat.le_of_ble_eq_true rfl) ⟨Nat.le_of_ble_eq_true rfl, Nat.le_of_ble_eq_true rfl⟩ dL_law_297 (fun r2 u2 H locs hr2 hh => ?_)
  obtain ⟨w1, f1, g1⟩ := u2
  obtain ⟨hr2, hw1⟩ := hr2
  have hw1 : ∀ j, w1 j < 5 := hw1
  have hr2 := hr2.trans (congrArg nI (ll_goodOrders hV))
  subst hr2
  have hh : HH D (dkW q K pr n fc fl fp fo fb1 fa1 ++ mdW q2 K2 pr fc fl fp n fo w1 f1 g1) A s.heap H locs := rd_swap hh
  refine lv_icmp_eq (tgt := 443) hx hb dL_law_300 (by decide) (fun h300 => ?_) (fun h300 => ?_)
  · exact nxt pr n fc fl fp fo w1 f1 g1 fb1 fa1 hV hw1 _ _ hh ls hl
  · exact absurd rfl h300
set_option maxHeartbeats 4000000 in
set_option maxRecDepth 100000 in
/-- the law's case 9: arrange -/
theorem law_arrange {p : Program} {l : Launch} {e : Env} {s : State} {m : MethodId} {below : List Frame} {meth : Method} {c : Code} {b L : Nat} {xs : Nat → Int32} {D : va_G} {q q2 : Nat → Nat} {K K2 : Nat → ClassId} {A : Nat → Prop} (hL : L ≤ 256) (C : CX p s m #[Value.ref b] meth c cL_law 4 ret R_law) (hX : va_X b L xs s s.heap) (hbl : b < s.heap.size) (hKD : va_K D cl2 (dtys K) s) (hKM : va_K D cl2 (mtys K2) s) (hA : ∀ z, A z → s.heap.size ≤ z) (i : Nat) (hi : i + 4 ≤ L) (nxt : ∀ (pr n : Nat) (fc fl fp fo fw ff fg : Nat → Nat) (fb fa : Nat → Int32), VS pr n fc fl fp fo → (∀ j, fw j < 5) → ∀ (H : Heap) (locs : List Loc), HH D (dkW q K pr n fc fl fp fo fb fa ++ mdW q2 K2 pr fc fl fp n fo fw ff fg) A s.heap H locs → ∀ (ls : Array Slot), lv_has ls 4 [(3, .int (nI i)), (0, .ref b), (1, .ref (q 0)), (2, .ref (q2 0))] → W p l e room_1 s m #[Value.ref b] below meth c H locs 16 141 (lw_Z below #[Value.ref b] s) (F0 m 443 ls [])) : ∀ (pr n : Nat) (fc fl fp fo fw ff fg : Nat → Nat) (fb fa : Nat → Int32), VS pr n fc fl fp fo → (∀ j, fw j < 5) → ∀ (H : Heap) (locs : List Loc), HH D (dkW q K pr n fc fl fp fo fb fa ++ mdW q2 K2 pr fc fl fp n fo fw ff fg) A s.heap H locs → ∀ (ls : Array Slot), lv_has ls 4 [(3, .int (nI i)), (0, .ref b), (1, .ref (q 0)), (2, .ref (q2 0))] → W p l e room_1 s m #[Value.ref b] below meth c H locs 16 141 (lw_Z below #[Value.ref b] s) (F0 m 305 ls []) := by
  intro pr n fc fl fp fo fw ff fg fb fa hV hw H locs hh ls hl
  have hx := C.1
  have hb := C.2.1
  have hbA : ¬ A b := fun h => by have := hA b h; omega
  refine lv_aload_n hx hb dL_law_305 rfl (lv_at hl 2 rfl) ?_
  refine rd_callL (n := 0) (q := (RX0, TX0, 8)) C hKD hh (mD_arrange l D q K pr n fc fl fp fo fb fa hV.1 (beF (tm fc fl fp) pr) (amF (tm fc fl fp) pr) (TB_F _ hV.1.1)) (lw_V q130 q131 q132 q22 q133) (by decide +kernel) rfl ⟨rfl, rfl⟩ ⟨Nat.le_of_ble_eq_true rfl, Nat.le_of_ble_eq_true rfl⟩ 0 0 rfl rfl rfl hl.1 (Nat.le_of_ble_eq_true rfl) ⟨Nat.le_of_ble_eq_true rfl, Nat.le_of_ble_eq_true rfl⟩ dL_law_306 (fun r u H locs hr hh => ?_)
  obtain ⟨o1, fb1, fa1⟩ := u
  have hh : HH D (dkW q K pr n fc fl fp o1 fb1 fa1 ++ mdW q2 K2 pr fc fl fp n fo fw ff fg) A s.heap H locs := hh
  refine lv_aload_n hx hb dL_law_309 rfl (lv_at hl 3 rfl) ?_
  refine rd_callL (n := 0) (q := (RX1, TX1, 9)) C hKM (rd_swap hh) (mM_arrange l D q2 K2 pr n fc fl fp fo fw ff fg ⟨hV.1, hw⟩) (lw_V q285 q286 q287 q23 q288) (by decide +kernel) rfl ⟨rfl, rfl⟩ ⟨Nat.le_of_ble_eq_true rfl, Nat.le_of_ble_eq_true rfl⟩ 1 0 rfl rfl rfl hl.1 (Nat.le_of_ble_eq_true rfl) ⟨Nat.le_of_ble_eq_true rfl, Nat.le_of_ble_eq_true rfl⟩ dL_law_310 (fun r2 u2 H locs hr2 hh => ?_)
  obtain ⟨o2, w1, f1, g1⟩ := u2
  obtain ⟨rfl, rfl, hV2, hw1⟩ := ll_arrange hV hr hr2
  have hw1 : ∀ j, w1 j < 5 := hw1
  have hV2 : VS pr n fc fl fp o1 := hV2
  have hh : HH D (dkW q K pr n fc fl fp o1 fb1 fa1 ++ mdW q2 K2 pr fc fl fp n o1 w1 f1 g1) A s.heap H locs := rd_swap hh
  refine lv_icmp_eq (tgt := 443) hx hb dL_law_313 (by decide) (fun h313 => ?_) (fun h313 => ?_)
  · exact nxt pr n fc fl fp o1 w1 f1 g1 fb1 fa1 hV2 hw1 _ _ hh ls hl
  · exact absurd rfl h313
set_option maxHeartbeats 4000000 in
set_option maxRecDepth 100000 in
/-- the law's case 10: canBeLast -/
theorem law_canBeLast {p : Program} {l : Launch} {e : Env} {s : State} {m : MethodId} {below : List Frame} {meth : Method} {c : Code} {b L : Nat} {xs : Nat → Int32} {D : va_G} {q q2 : Nat → Nat} {K K2 : Nat → ClassId} {A : Nat → Prop} (hL : L ≤ 256) (C : CX p s m #[Value.ref b] meth c cL_law 4 ret R_law) (hX : va_X b L xs s s.heap) (hbl : b < s.heap.size) (hKD : va_K D cl2 (dtys K) s) (hKM : va_K D cl2 (mtys K2) s) (hA : ∀ z, A z → s.heap.size ≤ z) (i : Nat) (hi : i + 4 ≤ L) (nxt : ∀ (pr n : Nat) (fc fl fp fo fw ff fg : Nat → Nat) (fb fa : Nat → Int32), VS pr n fc fl fp fo → (∀ j, fw j < 5) → ∀ (H : Heap) (locs : List Loc), HH D (dkW q K pr n fc fl fp fo fb fa ++ mdW q2 K2 pr fc fl fp n fo fw ff fg) A s.heap H locs → ∀ (ls : Array Slot), lv_has ls 4 [(3, .int (nI i)), (0, .ref b), (1, .ref (q 0)), (2, .ref (q2 0))] → W p l e room_1 s m #[Value.ref b] below meth c H locs 16 141 (lw_Z below #[Value.ref b] s) (F0 m 443 ls [])) : ∀ (pr n : Nat) (fc fl fp fo fw ff fg : Nat → Nat) (fb fa : Nat → Int32), VS pr n fc fl fp fo → (∀ j, fw j < 5) → ∀ (H : Heap) (locs : List Loc), HH D (dkW q K pr n fc fl fp fo fb fa ++ mdW q2 K2 pr fc fl fp n fo fw ff fg) A s.heap H locs → ∀ (ls : Array Slot), lv_has ls 4 [(3, .int (nI i)), (0, .ref b), (1, .ref (q 0)), (2, .ref (q2 0))] → W p l e room_1 s m #[Value.ref b] below meth c H locs 16 141 (lw_Z below #[Value.ref b] s) (F0 m 318 ls []) := by
  intro pr n fc fl fp fo fw ff fg fb fa hV hw H locs hh ls hl
  have hx := C.1
  have hb := C.2.1
  have hbA : ¬ A b := fun h => by have := hA b h; omega
  refine lv_aload_n hx hb dL_law_318 rfl (lv_at hl 2 rfl) ?_
  refine rd_callL (n := 0) (q := (RX0, TX0, 8)) C hKD hh (mD_canBeLast l D q K pr n fc fl fp fo fb fa hV.1 (beF (tm fc fl fp) pr) (amF (tm fc fl fp) pr) (TB_F _ hV.1.1)) (lw_V q138 q139 q140 q22 q141) (by decide +kernel) rfl ⟨rfl, rfl⟩ ⟨Nat.le_of_ble_eq_true rfl, Nat.le_of_ble_eq_true rfl⟩ 0 0 rfl rfl rfl hl.1 (Nat.le_of_ble_eq_true rfl) ⟨Nat.le_of_ble_eq_true rfl, Nat.le_of_ble_eq_true rfl⟩ dL_law_319 (fun r u H locs hr hh => ?_)
  obtain ⟨fb1, fa1⟩ := u
  have hr : r = nI (clL (tm fc fl fp) pr (amF (tm fc fl fp) pr) 5) := hr
  subst hr
  have hh : HH D (dkW q K pr n fc fl fp fo fb1 fa1 ++ mdW q2 K2 pr fc fl fp n fo fw ff fg) A s.heap H locs := hh
  refine lv_aload_n hx hb dL_law_322 rfl (lv_at hl 3 rfl) ?_
  refine rd_callL (n := 0) (q := (RX1, TX1, 9)) C hKM (rd_swap hh) (mM_canBeLast l D q2 K2 pr n fc fl fp fo fw ff fg ⟨hV.1, hw⟩) (lw_V q289 q290 q291 q23 q292) (by decide +kernel) rfl ⟨rfl, rfl⟩ ⟨Nat.le_of_ble_eq_true rfl, Nat.le_of_ble_eq_true rfl⟩ 1 0 rfl rfl rfl hl.1 (Nat.le_of_ble_eq_true rfl) ⟨Nat.le_of_ble_eq_true rfl, Nat.le_of_ble_eq_true rfl⟩ dL_law_323 (fun r2 u2 H locs hr2 hh => ?_)
  obtain ⟨w1, f1, g1⟩ := u2
  obtain ⟨hr2, hw1⟩ := hr2
  have hw1 : ∀ j, w1 j < 5 := hw1
  have hr2 := hr2.trans (congrArg nI (ll_canBeLast hV))
  subst hr2
  have hh : HH D (dkW q K pr n fc fl fp fo fb1 fa1 ++ mdW q2 K2 pr fc fl fp n fo w1 f1 g1) A s.heap H locs := rd_swap hh
  refine lv_icmp_eq (tgt := 443) hx hb dL_law_326 (by decide) (fun h326 => ?_) (fun h326 => ?_)
  · exact nxt pr n fc fl fp fo w1 f1 g1 fb1 fa1 hV hw1 _ _ hh ls hl
  · exact absurd rfl h326
set_option maxHeartbeats 4000000 in
set_option maxRecDepth 100000 in
/-- the law's case 11: greatestCost -/
theorem law_greatestCost {p : Program} {l : Launch} {e : Env} {s : State} {m : MethodId} {below : List Frame} {meth : Method} {c : Code} {b L : Nat} {xs : Nat → Int32} {D : va_G} {q q2 : Nat → Nat} {K K2 : Nat → ClassId} {A : Nat → Prop} (hL : L ≤ 256) (C : CX p s m #[Value.ref b] meth c cL_law 4 ret R_law) (hX : va_X b L xs s s.heap) (hbl : b < s.heap.size) (hKD : va_K D cl2 (dtys K) s) (hKM : va_K D cl2 (mtys K2) s) (hA : ∀ z, A z → s.heap.size ≤ z) (i : Nat) (hi : i + 4 ≤ L) (nxt : ∀ (pr n : Nat) (fc fl fp fo fw ff fg : Nat → Nat) (fb fa : Nat → Int32), VS pr n fc fl fp fo → (∀ j, fw j < 5) → ∀ (H : Heap) (locs : List Loc), HH D (dkW q K pr n fc fl fp fo fb fa ++ mdW q2 K2 pr fc fl fp n fo fw ff fg) A s.heap H locs → ∀ (ls : Array Slot), lv_has ls 4 [(3, .int (nI i)), (0, .ref b), (1, .ref (q 0)), (2, .ref (q2 0))] → W p l e room_1 s m #[Value.ref b] below meth c H locs 16 141 (lw_Z below #[Value.ref b] s) (F0 m 443 ls [])) : ∀ (pr n : Nat) (fc fl fp fo fw ff fg : Nat → Nat) (fb fa : Nat → Int32), VS pr n fc fl fp fo → (∀ j, fw j < 5) → ∀ (H : Heap) (locs : List Loc), HH D (dkW q K pr n fc fl fp fo fb fa ++ mdW q2 K2 pr fc fl fp n fo fw ff fg) A s.heap H locs → ∀ (ls : Array Slot), lv_has ls 4 [(3, .int (nI i)), (0, .ref b), (1, .ref (q 0)), (2, .ref (q2 0))] → W p l e room_1 s m #[Value.ref b] below meth c H locs 16 141 (lw_Z below #[Value.ref b] s) (F0 m 331 ls []) := by
  intro pr n fc fl fp fo fw ff fg fb fa hV hw H locs hh ls hl
  have hx := C.1
  have hb := C.2.1
  have hbA : ¬ A b := fun h => by have := hA b h; omega
  refine lv_aload_n hx hb dL_law_331 rfl (lv_at hl 2 rfl) ?_
  refine lv_aload_n hx hb dL_law_332 rfl (lv_at hl 1 rfl) ?_
  refine lv_iload_n hx hb dL_law_333 rfl (lv_at hl 0 rfl) ?_
  refine lv_iconst (v := nI 1) hx hb dL_law_334 (by decide) ?_
  refine rd_iadd hx hb dL_law_335 ?_
  refine rd_sld C hX hbl hbA hh hL (by omega) dL_law_336 ?_
  refine rd_callL (n := 1) (q := (RX0, TX0, 8)) C hKD hh (mD_greatestCost l D q K pr n fc fl fp fo fb fa hV.1 hV.2.1 (xs (i + 1))) (lw_V q142 q143 q144 q22 q145) (by decide +kernel) rfl ⟨rfl, rfl⟩ ⟨Nat.le_of_ble_eq_true rfl, Nat.le_of_ble_eq_true rfl⟩ 0 0 rfl rfl rfl hl.1 (Nat.le_of_ble_eq_true rfl) ⟨Nat.le_of_ble_eq_true rfl, Nat.le_of_ble_eq_true rfl⟩ dL_law_337 (fun r u H locs hr hh => ?_)
  have hr := hr
  subst hr
  have hh : HH D (dkW q K pr n fc fl fp fo fb fa ++ mdW q2 K2 pr fc fl fp n fo fw ff fg) A s.heap H locs := hh
  refine lv_aload_n hx hb dL_law_340 rfl (lv_at hl 3 rfl) ?_
  refine lv_aload_n hx hb dL_law_341 rfl (lv_at hl 1 rfl) ?_
  refine lv_iload_n hx hb dL_law_342 rfl (lv_at hl 0 rfl) ?_
  refine lv_iconst (v := nI 1) hx hb dL_law_343 (by decide) ?_
  refine rd_iadd hx hb dL_law_344 ?_
  refine rd_sld C hX hbl hbA hh hL (by omega) dL_law_345 ?_
  refine rd_callL (n := 1) (q := (RX1, TX1, 9)) C hKM (rd_swap hh) (mM_greatestCost l D q2 K2 pr n fc fl fp fo fw ff fg ⟨hV.1, hw⟩ (xs (i + 1))) (lw_V q293 q294 q295 q23 q296) (by decide +kernel) rfl ⟨rfl, rfl⟩ ⟨Nat.le_of_ble_eq_true rfl, Nat.le_of_ble_eq_true rfl⟩ 1 0 rfl rfl rfl hl.1 (Nat.le_of_ble_eq_true rfl) ⟨Nat.le_of_ble_eq_true rfl, Nat.le_of_ble_eq_true rfl⟩ dL_law_346 (fun r2 u2 H locs hr2 hh => ?_)
  obtain ⟨w1, f1, g1⟩ := u2
  obtain ⟨hr2, hw1⟩ := hr2
  have hw1 : ∀ j, w1 j < 5 := hw1
  have hr2 := hr2.trans (ll_greatestCost hV fw (xs (i + 1)))
  subst hr2
  have hh : HH D (dkW q K pr n fc fl fp fo fb fa ++ mdW q2 K2 pr fc fl fp n fo w1 f1 g1) A s.heap H locs := rd_swap hh
  refine lv_icmp_eq (tgt := 443) hx hb dL_law_349 (by decide) (fun h349 => ?_) (fun h349 => ?_)
  · exact nxt pr n fc fl fp fo w1 f1 g1 fb fa hV hw1 _ _ hh ls hl
  · exact absurd rfl h349
set_option maxHeartbeats 4000000 in
set_option maxRecDepth 100000 in
/-- the law's case 12: leastPeriod -/
theorem law_leastPeriod {p : Program} {l : Launch} {e : Env} {s : State} {m : MethodId} {below : List Frame} {meth : Method} {c : Code} {b L : Nat} {xs : Nat → Int32} {D : va_G} {q q2 : Nat → Nat} {K K2 : Nat → ClassId} {A : Nat → Prop} (hL : L ≤ 256) (C : CX p s m #[Value.ref b] meth c cL_law 4 ret R_law) (hX : va_X b L xs s s.heap) (hbl : b < s.heap.size) (hKD : va_K D cl2 (dtys K) s) (hKM : va_K D cl2 (mtys K2) s) (hA : ∀ z, A z → s.heap.size ≤ z) (i : Nat) (hi : i + 4 ≤ L) (nxt : ∀ (pr n : Nat) (fc fl fp fo fw ff fg : Nat → Nat) (fb fa : Nat → Int32), VS pr n fc fl fp fo → (∀ j, fw j < 5) → ∀ (H : Heap) (locs : List Loc), HH D (dkW q K pr n fc fl fp fo fb fa ++ mdW q2 K2 pr fc fl fp n fo fw ff fg) A s.heap H locs → ∀ (ls : Array Slot), lv_has ls 4 [(3, .int (nI i)), (0, .ref b), (1, .ref (q 0)), (2, .ref (q2 0))] → W p l e room_1 s m #[Value.ref b] below meth c H locs 16 141 (lw_Z below #[Value.ref b] s) (F0 m 443 ls [])) : ∀ (pr n : Nat) (fc fl fp fo fw ff fg : Nat → Nat) (fb fa : Nat → Int32), VS pr n fc fl fp fo → (∀ j, fw j < 5) → ∀ (H : Heap) (locs : List Loc), HH D (dkW q K pr n fc fl fp fo fb fa ++ mdW q2 K2 pr fc fl fp n fo fw ff fg) A s.heap H locs → ∀ (ls : Array Slot), lv_has ls 4 [(3, .int (nI i)), (0, .ref b), (1, .ref (q 0)), (2, .ref (q2 0))] → W p l e room_1 s m #[Value.ref b] below meth c H locs 16 141 (lw_Z below #[Value.ref b] s) (F0 m 354 ls []) := by
  intro pr n fc fl fp fo fw ff fg fb fa hV hw H locs hh ls hl
  have hx := C.1
  have hb := C.2.1
  have hbA : ¬ A b := fun h => by have := hA b h; omega
  refine lv_aload_n hx hb dL_law_354 rfl (lv_at hl 2 rfl) ?_
  refine lv_aload_n hx hb dL_law_355 rfl (lv_at hl 1 rfl) ?_
  refine lv_iload_n hx hb dL_law_356 rfl (lv_at hl 0 rfl) ?_
  refine lv_iconst (v := nI 1) hx hb dL_law_357 (by decide) ?_
  refine rd_iadd hx hb dL_law_358 ?_
  refine rd_sld C hX hbl hbA hh hL (by omega) dL_law_359 ?_
  refine rd_callL (n := 1) (q := (RX0, TX0, 8)) C hKD hh (mD_leastPeriod l D q K pr n fc fl fp fo fb fa hV.1 hV.2.1 hV.lim (xs (i + 1))) (lw_V q147 q148 q149 q22 q150) (by decide +kernel) rfl ⟨rfl, rfl⟩ ⟨Nat.le_of_ble_eq_true rfl, Nat.le_of_ble_eq_true rfl⟩ 0 0 rfl rfl rfl hl.1 (Nat.le_of_ble_eq_true rfl) ⟨Nat.le_of_ble_eq_true rfl, Nat.le_of_ble_eq_true rfl⟩ dL_law_360 (fun r u H locs hr hh => ?_)
  have hr := hr
  subst hr
  have hh : HH D (dkW q K pr n fc fl fp fo fb fa ++ mdW q2 K2 pr fc fl fp n fo fw ff fg) A s.heap H locs := hh
  refine lv_aload_n hx hb dL_law_363 rfl (lv_at hl 3 rfl) ?_
  refine lv_aload_n hx hb dL_law_364 rfl (lv_at hl 1 rfl) ?_
  refine lv_iload_n hx hb dL_law_365 rfl (lv_at hl 0 rfl) ?_
  refine lv_iconst (v := nI 1) hx hb dL_law_366 (by decide) ?_
  refine rd_iadd hx hb dL_law_367 ?_
  refine rd_sld C hX hbl hbA hh hL (by omega) dL_law_368 ?_
  refine rd_callL (n := 1) (q := (RX1, TX1, 9)) C hKM (rd_swap hh) (mM_leastPeriod l D q2 K2 pr n fc fl fp fo fw ff fg ⟨hV.1, hw⟩ hV.lim (xs (i + 1))) (lw_V q297 q298 q299 q23 q300) (by decide +kernel) rfl ⟨rfl, rfl⟩ ⟨Nat.le_of_ble_eq_true rfl, Nat.le_of_ble_eq_true rfl⟩ 1 0 rfl rfl rfl hl.1 (Nat.le_of_ble_eq_true rfl) ⟨Nat.le_of_ble_eq_true rfl, Nat.le_of_ble_eq_true rfl⟩ dL_law_369 (fun r2 u2 H locs hr2 hh => ?_)
  obtain ⟨w1, f1, g1⟩ := u2
  obtain ⟨hr2, hw1⟩ := hr2
  have hw1 : ∀ j, w1 j < 5 := hw1
  have hr2 := hr2.trans (ll_leastPeriod hV fw (xs (i + 1)))
  subst hr2
  have hh : HH D (dkW q K pr n fc fl fp fo fb fa ++ mdW q2 K2 pr fc fl fp n fo w1 f1 g1) A s.heap H locs := rd_swap hh
  refine lv_icmp_eq (tgt := 443) hx hb dL_law_372 (by decide) (fun h372 => ?_) (fun h372 => ?_)
  · exact nxt pr n fc fl fp fo w1 f1 g1 fb fa hV hw1 _ _ hh ls hl
  · exact absurd rfl h372
set_option maxHeartbeats 4000000 in
set_option maxRecDepth 100000 in
/-- the law's case 13: idle -/
theorem law_idle {p : Program} {l : Launch} {e : Env} {s : State} {m : MethodId} {below : List Frame} {meth : Method} {c : Code} {b L : Nat} {xs : Nat → Int32} {D : va_G} {q q2 : Nat → Nat} {K K2 : Nat → ClassId} {A : Nat → Prop} (hL : L ≤ 256) (C : CX p s m #[Value.ref b] meth c cL_law 4 ret R_law) (hX : va_X b L xs s s.heap) (hbl : b < s.heap.size) (hKD : va_K D cl2 (dtys K) s) (hKM : va_K D cl2 (mtys K2) s) (hA : ∀ z, A z → s.heap.size ≤ z) (i : Nat) (hi : i + 4 ≤ L) (nxt : ∀ (pr n : Nat) (fc fl fp fo fw ff fg : Nat → Nat) (fb fa : Nat → Int32), VS pr n fc fl fp fo → (∀ j, fw j < 5) → ∀ (H : Heap) (locs : List Loc), HH D (dkW q K pr n fc fl fp fo fb fa ++ mdW q2 K2 pr fc fl fp n fo fw ff fg) A s.heap H locs → ∀ (ls : Array Slot), lv_has ls 4 [(3, .int (nI i)), (0, .ref b), (1, .ref (q 0)), (2, .ref (q2 0))] → W p l e room_1 s m #[Value.ref b] below meth c H locs 16 141 (lw_Z below #[Value.ref b] s) (F0 m 443 ls [])) : ∀ (pr n : Nat) (fc fl fp fo fw ff fg : Nat → Nat) (fb fa : Nat → Int32), VS pr n fc fl fp fo → (∀ j, fw j < 5) → ∀ (H : Heap) (locs : List Loc), HH D (dkW q K pr n fc fl fp fo fb fa ++ mdW q2 K2 pr fc fl fp n fo fw ff fg) A s.heap H locs → ∀ (ls : Array Slot), lv_has ls 4 [(3, .int (nI i)), (0, .ref b), (1, .ref (q 0)), (2, .ref (q2 0))] → W p l e room_1 s m #[Value.ref b] below meth c H locs 16 141 (lw_Z below #[Value.ref b] s) (F0 m 377 ls []) := by
  intro pr n fc fl fp fo fw ff fg fb fa hV hw H locs hh ls hl
  have hx := C.1
  have hb := C.2.1
  have hbA : ¬ A b := fun h => by have := hA b h; omega
  refine lv_aload_n hx hb dL_law_377 rfl (lv_at hl 2 rfl) ?_
  refine lv_aload_n hx hb dL_law_378 rfl (lv_at hl 1 rfl) ?_
  refine lv_iload_n hx hb dL_law_379 rfl (lv_at hl 0 rfl) ?_
  refine lv_iconst (v := nI 1) hx hb dL_law_380 (by decide) ?_
  refine rd_iadd hx hb dL_law_381 ?_
  refine rd_sld C hX hbl hbA hh hL (by omega) dL_law_382 ?_
  refine rd_callP (n := 1) (q := (RX0, TX0, 8)) C hKD (rd_left hh).1 (mD_idle l D q K pr n fc fl fp fo fb fa hV.1 (xs (i + 1))) (lw_V q151 q152 q153 q22 q154) (by decide +kernel) rfl ⟨rfl, rfl⟩ ⟨Nat.le_of_ble_eq_true rfl, Nat.le_of_ble_eq_true rfl⟩ 0 0 rfl rfl rfl hl.1 (Nat.le_of_ble_eq_true rfl) ⟨Nat.le_of_ble_eq_true rfl, Nat.le_of_ble_eq_true rfl⟩ dL_law_383 (fun r hr => ?_)
  subst hr
  refine lv_aload_n hx hb dL_law_386 rfl (lv_at hl 3 rfl) ?_
  refine lv_aload_n hx hb dL_law_387 rfl (lv_at hl 1 rfl) ?_
  refine lv_iload_n hx hb dL_law_388 rfl (lv_at hl 0 rfl) ?_
  refine lv_iconst (v := nI 1) hx hb dL_law_389 (by decide) ?_
  refine rd_iadd hx hb dL_law_390 ?_
  refine rd_sld C hX hbl hbA hh hL (by omega) dL_law_391 ?_
  refine rd_callL (n := 1) (q := (RX1, TX1, 9)) C hKM (rd_swap hh) (mM_idle l D q2 K2 pr n fc fl fp fo fw ff fg ⟨hV.1, hw⟩ (xs (i + 1))) (lw_V q301 q302 q303 q23 q304) (by decide +kernel) rfl ⟨rfl, rfl⟩ ⟨Nat.le_of_ble_eq_true rfl, Nat.le_of_ble_eq_true rfl⟩ 1 0 rfl rfl rfl hl.1 (Nat.le_of_ble_eq_true rfl) ⟨Nat.le_of_ble_eq_true rfl, Nat.le_of_ble_eq_true rfl⟩ dL_law_392 (fun r2 u2 H locs hr2 hh => ?_)
  obtain ⟨f1, g1⟩ := u2
  have hr2 := hr2.trans (congrArg nI (ll_idle hV hw _))
  subst hr2
  have hh : HH D (dkW q K pr n fc fl fp fo fb fa ++ mdW q2 K2 pr fc fl fp n fo (cpO fo fw n) f1 g1) A s.heap H locs := rd_swap hh
  refine lv_icmp_eq (tgt := 443) hx hb dL_law_395 (by decide) (fun h395 => ?_) (fun h395 => ?_)
  · exact nxt pr n fc fl fp fo (cpO fo fw n) f1 g1 fb fa hV (cpO_lt hV.1.2.2.2.2.2 hw n) _ _ hh ls hl
  · exact absurd rfl h395
set_option maxHeartbeats 4000000 in
set_option maxRecDepth 100000 in
/-- the law's case 14: fits -/
theorem law_fits {p : Program} {l : Launch} {e : Env} {s : State} {m : MethodId} {below : List Frame} {meth : Method} {c : Code} {b L : Nat} {xs : Nat → Int32} {D : va_G} {q q2 : Nat → Nat} {K K2 : Nat → ClassId} {A : Nat → Prop} (hL : L ≤ 256) (C : CX p s m #[Value.ref b] meth c cL_law 4 ret R_law) (hX : va_X b L xs s s.heap) (hbl : b < s.heap.size) (hKD : va_K D cl2 (dtys K) s) (hKM : va_K D cl2 (mtys K2) s) (hA : ∀ z, A z → s.heap.size ≤ z) (i : Nat) (hi : i + 4 ≤ L) (nxt : ∀ (pr n : Nat) (fc fl fp fo fw ff fg : Nat → Nat) (fb fa : Nat → Int32), VS pr n fc fl fp fo → (∀ j, fw j < 5) → ∀ (H : Heap) (locs : List Loc), HH D (dkW q K pr n fc fl fp fo fb fa ++ mdW q2 K2 pr fc fl fp n fo fw ff fg) A s.heap H locs → ∀ (ls : Array Slot), lv_has ls 4 [(3, .int (nI i)), (0, .ref b), (1, .ref (q 0)), (2, .ref (q2 0))] → W p l e room_1 s m #[Value.ref b] below meth c H locs 16 141 (lw_Z below #[Value.ref b] s) (F0 m 443 ls [])) : ∀ (pr n : Nat) (fc fl fp fo fw ff fg : Nat → Nat) (fb fa : Nat → Int32), VS pr n fc fl fp fo → (∀ j, fw j < 5) → ∀ (H : Heap) (locs : List Loc), HH D (dkW q K pr n fc fl fp fo fb fa ++ mdW q2 K2 pr fc fl fp n fo fw ff fg) A s.heap H locs → ∀ (ls : Array Slot), lv_has ls 4 [(3, .int (nI i)), (0, .ref b), (1, .ref (q 0)), (2, .ref (q2 0))] → W p l e room_1 s m #[Value.ref b] below meth c H locs 16 141 (lw_Z below #[Value.ref b] s) (F0 m 400 ls []) := by
  intro pr n fc fl fp fo fw ff fg fb fa hV hw H locs hh ls hl
  have hx := C.1
  have hb := C.2.1
  have hbA : ¬ A b := fun h => by have := hA b h; omega
  refine lv_aload_n hx hb dL_law_400 rfl (lv_at hl 2 rfl) ?_
  refine lv_aload_n hx hb dL_law_401 rfl (lv_at hl 1 rfl) ?_
  refine lv_iload_n hx hb dL_law_402 rfl (lv_at hl 0 rfl) ?_
  refine lv_iconst (v := nI 1) hx hb dL_law_403 (by decide) ?_
  refine rd_iadd hx hb dL_law_404 ?_
  refine rd_sld C hX hbl hbA hh hL (by omega) dL_law_405 ?_
  refine lv_aload_n hx hb dL_law_406 rfl (lv_at hl 1 rfl) ?_
  refine lv_iload_n hx hb dL_law_407 rfl (lv_at hl 0 rfl) ?_
  refine lv_iconst (v := nI 2) hx hb dL_law_408 (by decide) ?_
  refine rd_iadd hx hb dL_law_409 ?_
  refine rd_sld C hX hbl hbA hh hL (by omega) dL_law_410 ?_
  refine lv_aload_n hx hb dL_law_411 rfl (lv_at hl 1 rfl) ?_
  refine lv_iload_n hx hb dL_law_412 rfl (lv_at hl 0 rfl) ?_
  refine lv_iconst (v := nI 3) hx hb dL_law_413 (by decide) ?_
  refine rd_iadd hx hb dL_law_414 ?_
  refine rd_sld C hX hbl hbA hh hL (by omega) dL_law_415 ?_
  refine rd_callL (n := 3) (q := (RX0, TX0, 8)) C hKD hh (mD_fits l D q K pr n fc fl fp fo fb fa hV.1 hV.2.1 hV.cap (fbe pr fc fl fp (xs (i + 1)) (xs (i + 2)) (xs (i + 3))) (fam pr fc fl fp (xs (i + 1)) (xs (i + 2)) (xs (i + 3))) (xs (i + 1)) (xs (i + 2)) (xs (i + 3)) (ll_fitO hV) (ll_fitT hV (xs (i + 1)) (xs (i + 2)) (xs (i + 3)))) (lw_V q155 q156 q157 q22 q158) (by decide +kernel) rfl ⟨rfl, rfl⟩ ⟨Nat.le_of_ble_eq_true rfl, Nat.le_of_ble_eq_true rfl⟩ 0 0 rfl rfl rfl hl.1 (Nat.le_of_ble_eq_true rfl) ⟨Nat.le_of_ble_eq_true rfl, Nat.le_of_ble_eq_true rfl⟩ dL_law_416 (fun r u H locs hr hh => ?_)
  obtain ⟨⟨pr1, n1, c1, l1, p1, o1⟩, fb1, fa1⟩ := u
  have hr : (r, pr1, n1, c1, l1, p1, o1) = fitR pr n fc fl fp fo (fbe pr fc fl fp (xs (i + 1)) (xs (i + 2)) (xs (i + 3))) (xs (i + 1)) (xs (i + 2)) (xs (i + 3)) := hr
  have hh : HH D (dkW q K pr1 n1 c1 l1 p1 o1 fb1 fa1 ++ mdW q2 K2 pr fc fl fp n fo fw ff fg) A s.heap H locs := hh
  refine lv_aload_n hx hb dL_law_419 rfl (lv_at hl 3 rfl) ?_
  refine lv_aload_n hx hb dL_law_420 rfl (lv_at hl 1 rfl) ?_
  refine lv_iload_n hx hb dL_law_421 rfl (lv_at hl 0 rfl) ?_
  refine lv_iconst (v := nI 1) hx hb dL_law_422 (by decide) ?_
  refine rd_iadd hx hb dL_law_423 ?_
  refine rd_sld C hX hbl hbA hh hL (by omega) dL_law_424 ?_
  refine lv_aload_n hx hb dL_law_425 rfl (lv_at hl 1 rfl) ?_
  refine lv_iload_n hx hb dL_law_426 rfl (lv_at hl 0 rfl) ?_
  refine lv_iconst (v := nI 2) hx hb dL_law_427 (by decide) ?_
  refine rd_iadd hx hb dL_law_428 ?_
  refine rd_sld C hX hbl hbA hh hL (by omega) dL_law_429 ?_
  refine lv_aload_n hx hb dL_law_430 rfl (lv_at hl 1 rfl) ?_
  refine lv_iload_n hx hb dL_law_431 rfl (lv_at hl 0 rfl) ?_
  refine lv_iconst (v := nI 3) hx hb dL_law_432 (by decide) ?_
  refine rd_iadd hx hb dL_law_433 ?_
  refine rd_sld C hX hbl hbA hh hL (by omega) dL_law_434 ?_
  refine rd_callL (n := 3) (q := (RX1, TX1, 9)) C hKM (rd_swap hh) (mM_fits l D q2 K2 pr n fc fl fp fo fw ff fg ⟨hV.1, hw⟩ hV.2.1 hV.cap (fbe pr fc fl fp (xs (i + 1)) (xs (i + 2)) (xs (i + 3))) (xs (i + 1)) (xs (i + 2)) (xs (i + 3)) (ll_fitO hV) (ll_fitG hV (xs (i + 1)) (xs (i + 2)) (xs (i + 3)))) (lw_V q305 q306 q307 q23 q308) (by decide +kernel) rfl ⟨rfl, rfl⟩ ⟨Nat.le_of_ble_eq_true rfl, Nat.le_of_ble_eq_true rfl⟩ 1 0 rfl rfl rfl hl.1 (Nat.le_of_ble_eq_true rfl) ⟨Nat.le_of_ble_eq_true rfl, Nat.le_of_ble_eq_true rfl⟩ dL_law_435 (fun r2 u2 H locs hr2 hh => ?_)
  obtain ⟨u2, w1, f1, g1⟩ := u2
  obtain ⟨hr2, hw1⟩ := hr2
  have hw1 : ∀ j, w1 j < 5 := hw1
  have hr2 : (r2, u2) = fitR pr n fc fl fp fo (fbe pr fc fl fp (xs (i + 1)) (xs (i + 2)) (xs (i + 3))) (xs (i + 1)) (xs (i + 2)) (xs (i + 3)) := hr2
  rw [← hr] at hr2
  obtain ⟨rfl, rfl⟩ := Prod.mk.inj hr2
  have hV2 := VS_fitR (be := (fbe pr fc fl fp (xs (i + 1)) (xs (i + 2)) (xs (i + 3)))) hV (xs (i + 1)) (xs (i + 2)) (xs (i + 3))
  rw [← hr] at hV2
  have hh : HH D (dkW q K pr1 n1 c1 l1 p1 o1 fb1 fa1 ++ mdW q2 K2 pr1 c1 l1 p1 n1 o1 w1 f1 g1) A s.heap H locs := rd_swap hh
  refine lv_icmp_eq (tgt := 443) hx hb dL_law_438 (by decide) (fun h438 => ?_) (fun h438 => ?_)
  · exact nxt pr1 n1 c1 l1 p1 o1 w1 f1 g1 fb1 fa1 hV2 hw1 _ _ hh ls hl
  · exact absurd rfl h438
set_option maxHeartbeats 4000000 in
set_option maxRecDepth 100000 in
/-- the law's loop -/
theorem law_loop {p : Program} {l : Launch} {e : Env} {s : State} {m : MethodId} {below : List Frame} {meth : Method} {c : Code} {b L : Nat} {xs : Nat → Int32} {D : va_G} {q q2 : Nat → Nat} {K K2 : Nat → ClassId} {A : Nat → Prop} (hL : L ≤ 256) (C : CX p s m #[Value.ref b] meth c cL_law 4 ret R_law) (hX : va_X b L xs s s.heap) (hbl : b < s.heap.size) (hKD : va_K D cl2 (dtys K) s) (hKM : va_K D cl2 (mtys K2) s) (hA : ∀ z, A z → s.heap.size ≤ z) : ∀ (d i : Nat) (pr n : Nat) (fc fl fp fo fw ff fg : Nat → Nat) (fb fa : Nat → Int32), L < i + d → i ≤ L → VS pr n fc fl fp fo → (∀ j, fw j < 5) → ∀ (H : Heap) (locs : List Loc), HH D (dkW q K pr n fc fl fp fo fb fa ++ mdW q2 K2 pr fc fl fp n fo fw ff fg) A s.heap H locs → ∀ (ls : Array Slot), lv_has ls 4 [(3, .int (nI i)), (0, .ref b), (1, .ref (q 0)), (2, .ref (q2 0))] → W p l e room_1 s m #[Value.ref b] below meth c H locs 16 141 (lw_Z below #[Value.ref b] s) (F0 m 18 ls []) := by
  have hx := C.1
  have hb := C.2.1
  have hbA : ¬ A b := fun h => by have := hA b h; omega
  intro d
  induction d with
  | zero => intro i pr n fc fl fp fo fw ff fg fb fa hd hi hV hw H locs hh ls hl; omega
  | succ d ih =>
    intro i pr n fc fl fp fo fw ff fg fb fa hd hi hV hw H locs hh ls hl
    refine lv_iload_n hx hb dL_law_18 rfl (lv_at hl 0 rfl) ?_
    refine lv_aload_n hx hb dL_law_19 rfl (lv_at hl 1 rfl) ?_
    refine rd_slen C hX hbl hbA hh dL_law_20 ?_
    refine lv_iconst (v := nI 4) hx hb dL_law_21 (by decide) ?_
    refine lv_isub hx hb dL_law_22 ?_
    refine lv_icmp_gt (tgt := 449) hx hb dL_law_23 (by decide) (fun h23 => ?_) (fun h23 => ?_)
    · rw [rd_sub_lt (by omega) (by omega) (by omega)] at h23
      refine lv_iconst (v := (1)) hx hb dL_law_449 (by decide) ?_
      exact va_forget (fun z hz => hA _ (hh.2.2.1.2.2 z hz)) (W.widen (k := 600000) (n := 7290000) (Nat.le_of_ble_eq_true rfl) (Nat.le_of_ble_eq_true rfl) (lw_ret hx hb C.2.2.1 C.2.2.2.2.2.2 dL_law_450))
    · rw [rd_sub_lt (by omega) (by omega) (by omega)] at h23
      refine lv_aload_n hx hb dL_law_26 rfl (lv_at hl 1 rfl) ?_
      refine lv_iload_n hx hb dL_law_27 rfl (lv_at hl 0 rfl) ?_
      refine rd_sld C hX hbl hbA hh hL (by omega) dL_law_28 ?_
      refine lv_bipush (v := (15)) hx hb dL_law_29 (by decide) ?_
      refine lv_iand hx hb dL_law_31 ?_
      obtain ⟨j, hj, ej⟩ := pk_andE (xs i) (m := 15) 4 (by decide)
      rw [ej]
      have nxt : ∀ (pr n : Nat) (fc fl fp fo fw ff fg : Nat → Nat) (fb fa : Nat → Int32), VS pr n fc fl fp fo → (∀ j, fw j < 5) → ∀ (H : Heap) (locs : List Loc), HH D (dkW q K pr n fc fl fp fo fb fa ++ mdW q2 K2 pr fc fl fp n fo fw ff fg) A s.heap H locs → ∀ (ls : Array Slot), lv_has ls 4 [(3, .int (nI i)), (0, .ref b), (1, .ref (q 0)), (2, .ref (q2 0))] → W p l e room_1 s m #[Value.ref b] below meth c H locs 16 141 (lw_Z below #[Value.ref b] s) (F0 m 443 ls []) := by
        intro pr n fc fl fp fo fw ff fg fb fa hV hw H locs hh ls hl
        refine lv_iinc (v := nI (i + 4)) (lv' := [(3, .int (nI (i + 4))), (0, .ref b), (1, .ref (q 0)), (2, .ref (q2 0))]) hx hb dL_law_443 hl (k := 0) rfl (rd_inc4 _) (by decide) rfl (fun ls hl => ?_)
        refine lv_goto (tgt := 18) hx hb dL_law_446 (by decide) ?_
        exact ih (i + 4) pr n fc fl fp fo fw ff fg fb fa (by omega) (by omega) hV hw H locs hh ls (lv_sub hl [0, 1, 2, 3] rfl)
      rcases (show j = 0 ∨ j = 1 ∨ j = 2 ∨ j = 3 ∨ j = 4 ∨ j = 5 ∨ j = 6 ∨ j = 7 ∨ j = 8 ∨ j = 9 ∨ j = 10 ∨ j = 11 ∨ j = 12 ∨ j = 13 ∨ j = 14 ∨ j = 15 by omega) with rfl | rfl | rfl | rfl | rfl | rfl | rfl | rfl | rfl | rfl | rfl | rfl | rfl | rfl | rfl | rfl
      · refine lv_tableIn (tgt := 108) hx hb dL_law_32 (by decide) (by decide) rfl (by decide) ?_
        exact law_add hL C hX hbl hKD hKM hA i (by omega) nxt pr n fc fl fp fo fw ff fg fb fa hV hw H locs hh ls (lv_sub hl [0, 1, 2, 3] rfl)
      · refine lv_tableIn (tgt := 151) hx hb dL_law_32 (by decide) (by decide) rfl (by decide) ?_
        exact law_remove hL C hX hbl hKD hKM hA i (by omega) nxt pr n fc fl fp fo fw ff fg fb fa hV hw H locs hh ls (lv_sub hl [0, 1, 2, 3] rfl)
      · refine lv_tableIn (tgt := 174) hx hb dL_law_32 (by decide) (by decide) rfl (by decide) ?_
        exact law_place hL C hX hbl hKD hKM hA i (by omega) nxt pr n fc fl fp fo fw ff fg fb fa hV hw H locs hh ls (lv_sub hl [0, 1, 2, 3] rfl)
      · refine lv_tableIn (tgt := 207) hx hb dL_law_32 (by decide) (by decide) rfl (by decide) ?_
        exact law_tasks hL C hX hbl hKD hKM hA i (by omega) nxt pr n fc fl fp fo fw ff fg fb fa hV hw H locs hh ls (lv_sub hl [0, 1, 2, 3] rfl)
      · refine lv_tableIn (tgt := 220) hx hb dL_law_32 (by decide) (by decide) rfl (by decide) ?_
        exact law_at hL C hX hbl hKD hKM hA i (by omega) nxt pr n fc fl fp fo fw ff fg fb fa hV hw H locs hh ls (lv_sub hl [0, 1, 2, 3] rfl)
      · refine lv_tableIn (tgt := 243) hx hb dL_law_32 (by decide) (by decide) rfl (by decide) ?_
        exact law_response hL C hX hbl hKD hKM hA i (by omega) nxt pr n fc fl fp fo fw ff fg fb fa hV hw H locs hh ls (lv_sub hl [0, 1, 2, 3] rfl)
      · refine lv_tableIn (tgt := 266) hx hb dL_law_32 (by decide) (by decide) rfl (by decide) ?_
        exact law_good hL C hX hbl hKD hKM hA i (by omega) nxt pr n fc fl fp fo fw ff fg fb fa hV hw H locs hh ls (lv_sub hl [0, 1, 2, 3] rfl)
      · refine lv_tableIn (tgt := 279) hx hb dL_law_32 (by decide) (by decide) rfl (by decide) ?_
        exact law_inTime hL C hX hbl hKD hKM hA i (by omega) nxt pr n fc fl fp fo fw ff fg fb fa hV hw H locs hh ls (lv_sub hl [0, 1, 2, 3] rfl)
      · refine lv_tableIn (tgt := 292) hx hb dL_law_32 (by decide) (by decide) rfl (by decide) ?_
        exact law_goodOrders hL C hX hbl hKD hKM hA i (by omega) nxt pr n fc fl fp fo fw ff fg fb fa hV hw H locs hh ls (lv_sub hl [0, 1, 2, 3] rfl)
      · refine lv_tableIn (tgt := 305) hx hb dL_law_32 (by decide) (by decide) rfl (by decide) ?_
        exact law_arrange hL C hX hbl hKD hKM hA i (by omega) nxt pr n fc fl fp fo fw ff fg fb fa hV hw H locs hh ls (lv_sub hl [0, 1, 2, 3] rfl)
      · refine lv_tableIn (tgt := 318) hx hb dL_law_32 (by decide) (by decide) rfl (by decide) ?_
        exact law_canBeLast hL C hX hbl hKD hKM hA i (by omega) nxt pr n fc fl fp fo fw ff fg fb fa hV hw H locs hh ls (lv_sub hl [0, 1, 2, 3] rfl)
      · refine lv_tableIn (tgt := 331) hx hb dL_law_32 (by decide) (by decide) rfl (by decide) ?_
        exact law_greatestCost hL C hX hbl hKD hKM hA i (by omega) nxt pr n fc fl fp fo fw ff fg fb fa hV hw H locs hh ls (lv_sub hl [0, 1, 2, 3] rfl)
      · refine lv_tableIn (tgt := 354) hx hb dL_law_32 (by decide) (by decide) rfl (by decide) ?_
        exact law_leastPeriod hL C hX hbl hKD hKM hA i (by omega) nxt pr n fc fl fp fo fw ff fg fb fa hV hw H locs hh ls (lv_sub hl [0, 1, 2, 3] rfl)
      · refine lv_tableIn (tgt := 377) hx hb dL_law_32 (by decide) (by decide) rfl (by decide) ?_
        exact law_idle hL C hX hbl hKD hKM hA i (by omega) nxt pr n fc fl fp fo fw ff fg fb fa hV hw H locs hh ls (lv_sub hl [0, 1, 2, 3] rfl)
      · refine lv_tableIn (tgt := 400) hx hb dL_law_32 (by decide) (by decide) rfl (by decide) ?_
        exact law_fits hL C hX hbl hKD hKM hA i (by omega) nxt pr n fc fl fp fo fw ff fg fb fa hV hw H locs hh ls (lv_sub hl [0, 1, 2, 3] rfl)
      · refine lv_tableOut (tgt := 443) hx hb dL_law_32 (by decide) (by decide) ?_
        exact nxt pr n fc fl fp fo fw ff fg fb fa hV hw H locs hh ls (lv_sub hl [0, 1, 2, 3] rfl)
end
section
set_option maxRecDepth 100000
set_option maxHeartbeats 4000000 in
/-- YOUR PART: from the entry, for every script of at most 256 ints, the law comes to its end with true -/
theorem whole_start {p : Program} {e : Env} {s : State} {m : MethodId} {below : List Frame} {meth : Method} {c : Code} (l : Launch) {b L : Nat} {xs : Nat → Int32} (hL : L ≤ 256) (C0 : lw_At p s m meth c b L xs) : W p l e room_1 s m #[Value.ref b] below meth c s.heap [] 0 0 (lw_Z below #[Value.ref b] s) (entryFrame m ([Value.ref b] : List Value).toArray 4) := by
  obtain ⟨hx, hb, hr, hml, hown, ht0, hX, hbl, hlocks, hgv⟩ := C0
  have hts : ∀ w ∈ lw_all, w.before #[Value.ref b] s = true := fun w h => ht0 w (lw_all_tbl h)
  have C : CX p s m #[Value.ref b] meth c cL_law 4 ret R_law := ⟨hx, hb, hr, hml, hown, hts, hlocks⟩
  have hA : ∀ q : Nat, s.heap.size ≤ q → (fun q : Nat => s.heap.size ≤ q) q := fun _ h => h
  obtain ⟨c0_, iS0, hKn0⟩ := u_known (C := RX0) (T := TX0) (N := 8) (n := 8) hts in_X0 (hts _ q25)
  obtain ⟨c1_, iS1, hKn1⟩ := u_known (C := RX1) (T := TX1) (N := 9) (n := 9) hts in_X1 (hts _ q163)
  obtain ⟨dC, dI, hKc⟩ : ∃ (dC : Nat → ClassId) (dI : Nat → Nat → Nat), ∀ (k : Nat) (q : vw_C), cl2[k]? = some q → u_Kn s q.1 q.2.1 q.2.2 (dC k) (dI k) := by
    refine ⟨fun k => if k = 0 then c0_ else c1_, fun k => if k = 0 then iS0 else iS1, ?_⟩
    intro k q hq
    match k, hq with
    | 0, hq => cases hq; exact hKn0
    | 1, hq => cases hq; exact hKn1
    | k + 2, hq => simp [cl2] at hq
  have hS : va_S (fun q : Nat => s.heap.size ≤ q) s.heap s.heap [] := va_S.rf
  have hK : va_K (dC, dI) cl2 [] s := ⟨hKc, fun k q h => by simp at h⟩
  have hP : va_P (dC, dI) cl2 [] s.heap := fun k q h => by simp at h
  have hD : va_D (fun q : Nat => s.heap.size ≤ q) [] := ⟨fun i j p q h => by simp at h, fun k q h => by simp at h⟩
  have hl := lv_entry ([.ref b]) (n := 4) (Nat.le_of_ble_eq_true rfl)
  rw [lg_entry_eq]
  generalize (lg_sl ([.ref b]) ++ List.replicate (4 - (lg_sl ([.ref b])).length) Slot.unset).toArray = ls at hl ⊢
  have hl : lv_has ls 4 [(0, .ref b)] := hl
  refine va_new (D := (dC, dI)) (ci := 0) (fs := [.int (nI 0), .null, .null, .null, .null, .int (nI 0), .null, .null]) (C := RX0) (T := TX0) (N := 8) hx hb hts in_X0 tyX0 tyX0_ok hown (hts _ q24) (hts _ q25) (hts _ q22) hK hP hD hS hA rfl (fun j hj => by rcases (show j = 0 ∨ j = 1 ∨ j = 2 ∨ j = 3 ∨ j = 4 ∨ j = 5 ∨ j = 6 ∨ j = 7 by omega) with rfl | rfl | rfl | rfl | rfl | rfl | rfl | rfl <;> rfl) (Nat.le_of_ble_eq_true rfl) (Nat.le_of_ble_eq_true rfl) dL_law_0 (fun qd H hP hD hS => ?_)
  have hP : va_P (dC, dI) cl2 [(qd, .inr (0, [.int (nI 0), .null, .null, .null, .null, .int (nI 0), .null, .null]))] H := hP
  have hD : va_D (fun q : Nat => s.heap.size ≤ q) [(qd, .inr (0, [.int (nI 0), .null, .null, .null, .null, .int (nI 0), .null, .null]))] := hD
  refine W.widen (k := 1) (n := 8) (by omega) (by omega) ?_
  refine lv_dup hx hb dL_law_3 rfl ?_
  have hPc := hP.sub (ws' := [(qd, .inr (0, [.int (nI 0), .null, .null, .null, .null, .int (nI 0), .null, .null]))]) [0] rfl
  have hDc := hD.sub (ws' := [(qd, .inr (0, [.int (nI 0), .null, .null, .null, .null, .int (nI 0), .null, .null]))]) [0] (by decide) rfl
  have hKc := hK.sub (tys' := []) [] rfl
  have hFc := va_free (wc := [(qd, .inr (0, [.int (nI 0), .null, .null, .null, .null, .int (nI 0), .null, .null]))]) hD hS hA [0] rfl
  refine va_callv (va_runI (As := []) (rest := [.ref qd]) ⟨hx, hb, hml, hown, hts⟩ (mD_init l (dC, dI) qd H.size) (cwI 0 hts (lw_meth q28) rfl rfl rfl (hts _ q22) (hts _ q26) (hts _ q27) rfl (by decide +kernel) ⟨Nat.le_of_ble_eq_true rfl, Nat.le_of_ble_eq_true rfl⟩) ⟨fun a U g mk q => by obtain ⟨q0, q1, qP, qK, qD⟩ := q; exact ⟨q0, q1, qP, va_K.moved (u := U) (U := U.calling g mk a) (Vm.Alike.refl U.vm) qK, qD⟩, fun U hU hW => ⟨rfl, by rw [hU], by rw [hU]; exact hPc, va_K.moved hW.alike hKc, hDc.weaken (fun _ _ _ _ => trivial)⟩⟩ rfl rfl hl.1 rfl (lv_room (Nat.le_of_ble_eq_true rfl)) dL_law_4 ⟨Nat.le_of_ble_eq_true rfl, Nat.le_of_ble_eq_true rfl⟩) hS (fun q _ h => hFc q h) hFc (fun u t H1 locs ht hvm hw hB hz1 hk1 hS => ?_)
  obtain ⟨q, K⟩ := u
  have hw : q 0 = qd := hw
  subst hw
  obtain ⟨hP1, hK1, hD1⟩ := hB
  rw [ht] at hP1
  have hK0' : va_K (dC, dI) cl2 (dtys K) s := va_K.moved hvm.symm hK1
  have hP1 : va_P (dC, dI) cl2 (dkW q K 0 0 zz zz zz zz (fun _ => 0) (fun _ => 0)) H1 := hP1
  have hj := va_join (wr := []) (w1 := dkW q K 0 0 zz zz zz zz (fun _ => 0) (fun _ => 0)) hP hD [0] [] rfl rfl (by decide) (by decide) hk1 hFc hP1 hD1
  obtain ⟨hP, hD⟩ := hj
  generalize H1 = H at hP hS ⊢
  have hP : va_P (dC, dI) cl2 (dkW q K 0 0 zz zz zz zz (fun _ => 0) (fun _ => 0)) H := hP
  have hD : va_D (fun q : Nat => s.heap.size ≤ q) (dkW q K 0 0 zz zz zz zz (fun _ => 0) (fun _ => 0)) := hD
  refine W.widen (k := 7) (n := 92) (by omega) (by omega) ?_
  refine lv_astore_n (lv' := [(1, .ref (q 0)), (0, .ref b)]) hx hb dL_law_7 rfl hl (by decide) rfl (fun ls hl => ?_)
  refine va_new (D := (dC, dI)) (ci := 1) (fs := [.null, .null, .null, .null, .int (nI 0), .null, .null, .null, .null]) (C := RX1) (T := TX1) (N := 9) hx hb hts in_X1 tyX1 tyX1_ok hown (hts _ q162) (hts _ q163) (hts _ q23) hK hP hD hS hA rfl (fun j hj => by rcases (show j = 0 ∨ j = 1 ∨ j = 2 ∨ j = 3 ∨ j = 4 ∨ j = 5 ∨ j = 6 ∨ j = 7 ∨ j = 8 by omega) with rfl | rfl | rfl | rfl | rfl | rfl | rfl | rfl | rfl <;> rfl) (Nat.le_of_ble_eq_true rfl) (Nat.le_of_ble_eq_true rfl) dL_law_8 (fun qm H hP hD hS => ?_)
  have hP : va_P (dC, dI) cl2 ((dkW q K 0 0 zz zz zz zz (fun _ => 0) (fun _ => 0)) ++ [(qm, .inr (1, [.null, .null, .null, .null, .int (nI 0), .null, .null, .null, .null]))]) H := hP
  have hD : va_D (fun q : Nat => s.heap.size ≤ q) ((dkW q K 0 0 zz zz zz zz (fun _ => 0) (fun _ => 0)) ++ [(qm, .inr (1, [.null, .null, .null, .null, .int (nI 0), .null, .null, .null, .null]))]) := hD
  refine W.widen (k := 8) (n := 101) (by omega) (by omega) ?_
  refine lv_dup hx hb dL_law_11 rfl ?_
  have hPc := hP.sub (ws' := [(qm, .inr (1, [.null, .null, .null, .null, .int (nI 0), .null, .null, .null, .null]))]) [7] rfl
  have hDc := hD.sub (ws' := [(qm, .inr (1, [.null, .null, .null, .null, .int (nI 0), .null, .null, .null, .null]))]) [7] (by decide) rfl
  have hKc := hK.sub (tys' := []) [] rfl
  have hFc := va_free (wc := [(qm, .inr (1, [.null, .null, .null, .null, .int (nI 0), .null, .null, .null, .null]))]) hD hS hA [7] rfl
  refine va_callv (va_runI (As := []) (rest := [.ref qm]) ⟨hx, hb, hml, hown, hts⟩ (mM_init l (dC, dI) qm H.size) (cwI 0 hts (lw_meth q166) rfl rfl rfl (hts _ q23) (hts _ q164) (hts _ q165) rfl (by decide +kernel) ⟨Nat.le_of_ble_eq_true rfl, Nat.le_of_ble_eq_true rfl⟩) ⟨fun a U g mk q => by obtain ⟨q0, q1, qP, qK, qD⟩ := q; exact ⟨q0, q1, qP, va_K.moved (u := U) (U := U.calling g mk a) (Vm.Alike.refl U.vm) qK, qD⟩, fun U hU hW => ⟨rfl, by rw [hU], by rw [hU]; exact hPc, va_K.moved hW.alike hKc, hDc.weaken (fun _ _ _ _ => trivial)⟩⟩ rfl rfl hl.1 rfl (lv_room (Nat.le_of_ble_eq_true rfl)) dL_law_12 ⟨Nat.le_of_ble_eq_true rfl, Nat.le_of_ble_eq_true rfl⟩) hS (fun q _ h => hFc q h) hFc (fun u t H1 locs ht hvm hw hB hz1 hk1 hS => ?_)
  obtain ⟨q2, K2⟩ := u
  have hw : q2 0 = qm := hw
  subst hw
  obtain ⟨hP1, hK1, hD1⟩ := hB
  rw [ht] at hP1
  have hK1' : va_K (dC, dI) cl2 (mtys K2) s := va_K.moved hvm.symm hK1
  have hP1 : va_P (dC, dI) cl2 (mdW q2 K2 0 zz zz zz 0 zz zz zz zz) H1 := hP1
  have hj := va_join (wr := (dkW q K 0 0 zz zz zz zz (fun _ => 0) (fun _ => 0))) (w1 := mdW q2 K2 0 zz zz zz 0 zz zz zz zz) hP hD [7] [0, 1, 2, 3, 4, 5, 6] rfl rfl (by decide) (by decide) hk1 hFc hP1 hD1
  obtain ⟨hP, hD⟩ := hj
  generalize H1 = H at hP hS ⊢
  have hP : va_P (dC, dI) cl2 (dkW q K 0 0 zz zz zz zz (fun _ => 0) (fun _ => 0) ++ mdW q2 K2 0 zz zz zz 0 zz zz zz zz) H := hP
  have hD : va_D (fun q : Nat => s.heap.size ≤ q) (dkW q K 0 0 zz zz zz zz (fun _ => 0) (fun _ => 0) ++ mdW q2 K2 0 zz zz zz 0 zz zz zz zz) := hD
  refine W.widen (k := 16) (n := 141) (by omega) (by omega) ?_
  refine lv_astore_n (lv' := [(2, .ref (q2 0)), (1, .ref (q 0)), (0, .ref b)]) hx hb dL_law_15 rfl hl (by decide) rfl (fun ls hl => ?_)
  refine lv_iconst (v := nI 0) hx hb dL_law_16 (by decide) ?_
  refine lv_istore_n (lv' := [(3, .int (nI 0)), (2, .ref (q2 0)), (1, .ref (q 0)), (0, .ref b)]) hx hb dL_law_17 rfl hl (by decide) rfl (fun ls hl => ?_)
  exact law_loop hL C hX hbl hK0' hK1' (fun _ h => h) (L + 1) 0 0 0 zz zz zz zz zz zz zz (fun _ => 0) (fun _ => 0) (by omega) (Nat.zero_le _) VS_0 (fun _ => by simp [zz]) H _ ⟨hP, hD, hS, hA⟩ ls (lv_sub hl [0, 3, 2, 1] rfl)
set_option maxHeartbeats 4000000 in
theorem lw_walk (l : Launch) (b : Addr) (xs : List Int32) : MetFree l x (headSpec (Jvm.Cond.code x code maxLocals ret :: tables_1) room_1) (lw_P b xs) (fun _ _ _ _ _ => True) lw_Q := by
  refine MetFree.of_bodyS (code := code) (maxLocals := maxLocals) (ret := ret) (by decide) ?_ ?_
  · intro args s m h hn
    obtain ⟨meth, c, h1, h2, h3, h4, h5, h6, -, -⟩ := Cond.code_spec hn (atoms_spec (ws := Jvm.Cond.code x code maxLocals ret :: tables_1) h _ List.mem_cons_self)
    exact ⟨meth, c, h1, h2, h3, h4, h5, h6⟩
  · intro p e s m args below meth c s₁ B hml0 hP _
    obtain ⟨rfl, hx, hbd, hgv⟩ := hP
    obtain ⟨scr, harrAt, hlist, hof, hsmall⟩ := hx
    obtain ⟨hcb, hkn, -, -⟩ := State.arrayAt?_spec harrAt
    have hown : s.vm.findClass R_law = some m.cls := findClass_of_methodNamed B.named
    have hts0 : ∀ c ∈ (Jvm.Cond.code x code maxLocals ret :: tables_1), c.before #[Value.ref b] s = true := atoms_spec (ws := Jvm.Cond.code x code maxLocals ret :: tables_1) B.pre
    have hts : ∀ w ∈ lw_tbl, w.before #[Value.ref b] s = true := k2_hts_sels lw_privs (fun w hw => hts0 w (List.mem_cons_of_mem _ hw)) lw_privs_ok
    have hml : c.maxLocals = 4 := B.maxLocals_eq (hts0 _ List.mem_cons_self)
    have X₀ : Stand p l e room_1 s m #[Value.ref b] below meth c s₁ [] 0 0 := Stand.of_body B
    have hh0 : s₁.heap = s.heap := by rw [B.state]; rfl
    have hsz : scr.slots.size = xs.length := by rw [← Array.length_toList, hlist, List.length_map]
    have hval : ∀ j : Nat, j < xs.length → scr.slots[j]? = some (.int (xs.getD j 0)) := fun j hj => by
      rw [← Array.getElem?_toList, hlist]
      simp [hj]
    have hbl : b < s.heap.size := (Array.getElem?_eq_some_iff.mp hcb).1
    have hX : va_X b xs.length (fun j => xs.getD j 0) s s.heap := ⟨scr, hcb, hof, hkn, hsz, hval⟩
    have K : W p l e room_1 s m #[Value.ref b] below meth c s₁.heap [] 0 0 (lw_Z below #[Value.ref b] s) (entryFrame m ([Value.ref b] : List Value).toArray 4) := by
      rw [hh0]
      exact whole_start l hbd ⟨B.exec, B.bytes, B.returns, hml, hown, hts, hX, hbl, B.notSynchronized, hgv⟩
    obtain ⟨t, a1, o, b1, b2, b3⟩ := K s₁ rfl X₀
    exact ⟨t, o, a1, b1, b2, b3⟩
theorem lw_pre_spec {args : Array Value} {s : State} (h : (Jvm.Cond.and given_1 narrow_1).before args s = true) (hr : rest_1_c.before args s = true) : ∃ (b : Addr) (xs : List Int32), lw_P b xs args s := by
  have hs := flat_of_before _ h
  have hq := flat_of_before _ hr
  have hc : (Cond.count 1).before args s = true := hs _ (by decide +kernel)
  have harr : (Cond.arrayOf (.arg 0) .int).before args s = true := hs _ (by decide +kernel)
  have hle : (Cond.le (.length (.arg 0)) (.int 256)).before args s = true := hs _ (by decide +kernel)
  have hlen : (Cond.isInt (.length (.arg 0))).before args s = true := hq _ (by decide +kernel)
  have hall : (Cond.all (.arg 0) (.isInt (.elem (.arg 0) (.index 0)))).before args s = true := hq _ (by decide +kernel)
  obtain ⟨b, xs, hb, hx⟩ := State.ints_of_pre rfl harr hlen hall
  have hsm : xs.length < 2 ^ 31 := hx.choose_spec.2.2.2
  have hev : (Term.length (.arg 0)).eval args s none [] s = some (.int xs.length.toInt32) := hx.length_eval hb
  have hv := Cond.le_ints hev (show (Term.int 256).eval args s none [] s = some (.int 256) from rfl)
  have hd : xs.length.toInt32 ≤ 256 := by
    simpa [Cond.before, Cond.holds, hv] using hle
  have hN : xs.length ≤ 256 := (Int32.ofNat_le_ofNat hsm (by decide)).mp (show Int32.ofNat xs.length ≤ Int32.ofNat 256 from hd)
  exact ⟨b, xs, Cond.one_arg hc (show args[0]? = some (.ref b) from hb), hx, hN, h⟩
theorem lw_comes (l : Launch) : Comes l x (Jvm.Cond.code x code maxLocals ret :: tables_1) room_1 (fun tb e args s => Calls_1 tb e args s ∧ rest_1 tb e args s ∧ Pre_1 tb e args s)
    (fun _ _ args s o t => lw_Q args s o t) := by
  intro p e ha hc hk s m args below hf hfit hheap happ hpre
  obtain ⟨b, xs, hP⟩ := lw_pre_spec hpre.2.2 hpre.2.1
  obtain ⟨k, o, h1, h2, h3, hQ⟩ := lw_walk l b xs p e ha hc hk s m args below hf ((Spec.applies_iff_loose hf).mp happ).1 hP trivial
  exact ⟨k, o, h1, h2, h3, hQ⟩
theorem lw_frame {s t : State} {o : Outcome} {args : Array Value} (h : Framed s o t [] 600000 7290000) :
    Framed s o t (fieldLocs frame_1_writes args s ++ arrayLocs frame_1_arrays args s ++ staticLocs frame_1_statics s) 600000 7290000 := h
theorem lw_limb (L : Cond) (hL : ∀ (args : Array Value) (s t : State), L.after args s (.returned (some (.int 1))) t = true) :
    ArmFor flags0 classFile x code maxLocals ret World_1 tables_1 room_1 Calls_1 rest_1 Pre_1
      (fun tb e a s o t => postC L tb e a s o t ∧ Framed s o t (fieldLocs frame_1_writes a s ++ arrayLocs frame_1_arrays a s ++ staticLocs frame_1_statics s) 600000 7290000) := by
  intro l _ _ _ p e ha hc hk s m args below hf hfit hheap happ hpre
  obtain ⟨k, o, h1, h2, h3, rfl, hF⟩ := lw_comes l p e ha hc hk s m args below hf hfit hheap happ hpre
  exact ⟨k, _, h1, h2, h3, hL args s _, lw_frame hF⟩
theorem i_vc : Claimed_1_1 ∧ Claimed_1_2 := ⟨lw_limb limb_1_1 (fun args s t => by simp [limb_1_1, Cond.after, Cond.holds, Cond.value]), lw_limb limb_1_2 (fun args s t => Cond.after_iff.mpr (by
  first | (rw [show limb_1_2 = Cond.eq .result (.int 1) from rfl, Cond.eq_ints (x := 1) (y := 1) rfl rfl]; simp; done) | (simp [limb_1_2, Cond.value, Term.eval]; done)))⟩
end
