section
-- ===== PART A: goes FIRST, ahead of the names: the tables' words, and 'selects' of the private methods out of them =====
/-- a private method of a class that the tables say can be made, by its rows of tables_1 -/
def lw_okq (q : MethodName × Nat) : Prop := (q.1.cls ≠ "java/lang/invoke/MethodHandle" ∧ q.1.cls ≠ "java/lang/invoke/VarHandle") ∧ Cond.instantiable q.1.cls q.2 ∈ tables_1 ∧ Cond.privateMethod q.1 ∈ tables_1 ∧ Cond.instanceMethod q.1 ∈ tables_1
set_option maxRecDepth 100000
theorem lw_t1 {w : Cond} (h : w ∈ tables_1_1) : w ∈ tables_1 := List.mem_append_left _ h
theorem lw_t2 {w : Cond} (h : w ∈ tables_1_2) : w ∈ tables_1 := List.mem_append_right _ h
/-- the name of the private method whose code is prog_1_method_27_code, as the Statement's table has it: the word isn't spelled here, since a hand-in's rows may not hold it -/
def nm27 : String := match tables_1_1[126]? with
  | some (Jvm.Cond.privateMethod y) => y.name
  | _ => ""
theorem lw_p0 : lw_okq (⟨"MealyMachines", "placeOf", "(I)I"⟩, 10) := ⟨⟨by decide +kernel, by decide +kernel⟩, lw_t1 (List.mem_of_getElem? (i := 4) rfl), lw_t1 (List.mem_of_getElem? (i := 71) rfl), lw_t1 (List.mem_of_getElem? (i := 72) rfl)⟩
theorem lw_p1 : lw_okq (⟨"MealyMachines", "after", "(II)I"⟩, 10) := ⟨⟨by decide +kernel, by decide +kernel⟩, lw_t1 (List.mem_of_getElem? (i := 4) rfl), lw_t1 (List.mem_of_getElem? (i := 78) rfl), lw_t1 (List.mem_of_getElem? (i := 79) rfl)⟩
theorem lw_p2 : lw_okq (⟨"MealyMachines", "refresh", "()V"⟩, 10) := ⟨⟨by decide +kernel, by decide +kernel⟩, lw_t1 (List.mem_of_getElem? (i := 4) rfl), lw_t1 (List.mem_of_getElem? (i := 90) rfl), lw_t1 (List.mem_of_getElem? (i := 91) rfl)⟩
theorem lw_p3 : lw_okq (⟨"MealyMachines", "isThere", "(I)Z"⟩, 10) := ⟨⟨by decide +kernel, by decide +kernel⟩, lw_t1 (List.mem_of_getElem? (i := 4) rfl), lw_t1 (List.mem_of_getElem? (i := 94) rfl), lw_t1 (List.mem_of_getElem? (i := 95) rfl)⟩
theorem lw_p4 : lw_okq (⟨"MealyMachines", "goesTo", "(III)Z"⟩, 10) := ⟨⟨by decide +kernel, by decide +kernel⟩, lw_t1 (List.mem_of_getElem? (i := 4) rfl), lw_t1 (List.mem_of_getElem? (i := 98) rfl), lw_t1 (List.mem_of_getElem? (i := 99) rfl)⟩
theorem lw_p5 : lw_okq (⟨"MealyMachines", "firstWord", "(II)I"⟩, 10) := ⟨⟨by decide +kernel, by decide +kernel⟩, lw_t1 (List.mem_of_getElem? (i := 4) rfl), lw_t1 (List.mem_of_getElem? (i := 106) rfl), lw_t1 (List.mem_of_getElem? (i := 107) rfl)⟩
theorem lw_p6 : lw_okq (⟨"MealyMachines", "number", "(I)V"⟩, 10) := ⟨⟨by decide +kernel, by decide +kernel⟩, lw_t1 (List.mem_of_getElem? (i := 4) rfl), lw_t1 (List.mem_of_getElem? (i := 122) rfl), lw_t1 (List.mem_of_getElem? (i := 123) rfl)⟩
theorem lw_p7 : lw_okq (⟨"MealyMachines", nm27, "(II)V"⟩, 10) := ⟨⟨by decide +kernel, by decide +kernel⟩, lw_t1 (List.mem_of_getElem? (i := 4) rfl), lw_t1 (List.mem_of_getElem? (i := 126) rfl), lw_t1 (List.mem_of_getElem? (i := 127) rfl)⟩
theorem lw_p8 : lw_okq (⟨"MealyMachines", "together", "(III)I"⟩, 10) := ⟨⟨by decide +kernel, by decide +kernel⟩, lw_t1 (List.mem_of_getElem? (i := 4) rfl), lw_t1 (List.mem_of_getElem? (i := 146) rfl), lw_t1 (List.mem_of_getElem? (i := 147) rfl)⟩
theorem lw_p9 : lw_okq (⟨"MealyMachinesModel", "bad", "(I)Z"⟩, 5) := ⟨⟨by decide +kernel, by decide +kernel⟩, lw_t1 (List.mem_of_getElem? (i := 150) rfl), lw_t1 (List.mem_of_getElem? (i := 176) rfl), lw_t1 (List.mem_of_getElem? (i := 177) rfl)⟩
theorem lw_p10 : lw_okq (⟨"MealyMachinesModel", "badState", "(I)Z"⟩, 5) := ⟨⟨by decide +kernel, by decide +kernel⟩, lw_t1 (List.mem_of_getElem? (i := 150) rfl), lw_t1 (List.mem_of_getElem? (i := 200) rfl), lw_t1 (List.mem_of_getElem? (i := 201) rfl)⟩
theorem lw_p11 : lw_okq (⟨"MealyMachinesModel", "goal", "(II)I"⟩, 5) := ⟨⟨by decide +kernel, by decide +kernel⟩, lw_t1 (List.mem_of_getElem? (i := 150) rfl), lw_t1 (List.mem_of_getElem? (i := 204) rfl), lw_t1 (List.mem_of_getElem? (i := 205) rfl)⟩
theorem lw_p12 : lw_okq (⟨"MealyMachinesModel", "length", "(I)I"⟩, 5) := ⟨⟨by decide +kernel, by decide +kernel⟩, lw_t1 (List.mem_of_getElem? (i := 150) rfl), lw_t1 (List.mem_of_getElem? (i := 208) rfl), lw_t1 (List.mem_of_getElem? (i := 209) rfl)⟩
theorem lw_p13 : lw_okq (⟨"MealyMachinesModel", "told", "(II)I"⟩, 5) := ⟨⟨by decide +kernel, by decide +kernel⟩, lw_t1 (List.mem_of_getElem? (i := 150) rfl), lw_t1 (List.mem_of_getElem? (i := 216) rfl), lw_t1 (List.mem_of_getElem? (i := 217) rfl)⟩
theorem lw_p14 : lw_okq (⟨"MealyMachinesModel", "apart", "(II)I"⟩, 5) := ⟨⟨by decide +kernel, by decide +kernel⟩, lw_t1 (List.mem_of_getElem? (i := 150) rfl), lw_t1 (List.mem_of_getElem? (i := 224) rfl), lw_t1 (List.mem_of_getElem? (i := 225) rfl)⟩
theorem lw_p15 : lw_okq (⟨"MealyMachinesModel", "work", "(I)V"⟩, 5) := ⟨⟨by decide +kernel, by decide +kernel⟩, lw_t1 (List.mem_of_getElem? (i := 150) rfl), lw_t2 (List.mem_of_getElem? (i := 4) rfl), lw_t2 (List.mem_of_getElem? (i := 5) rfl)⟩
def lw_privs_1 : List (MethodName × Nat) := [(⟨"MealyMachines", "placeOf", "(I)I"⟩, 10), (⟨"MealyMachines", "after", "(II)I"⟩, 10), (⟨"MealyMachines", "refresh", "()V"⟩, 10), (⟨"MealyMachines", "isThere", "(I)Z"⟩, 10), (⟨"MealyMachines", "goesTo", "(III)Z"⟩, 10), (⟨"MealyMachines", "firstWord", "(II)I"⟩, 10), (⟨"MealyMachines", "number", "(I)V"⟩, 10), (⟨"MealyMachines", nm27, "(II)V"⟩, 10), (⟨"MealyMachines", "together", "(III)I"⟩, 10), (⟨"MealyMachinesModel", "bad", "(I)Z"⟩, 5), (⟨"MealyMachinesModel", "badState", "(I)Z"⟩, 5), (⟨"MealyMachinesModel", "goal", "(II)I"⟩, 5), (⟨"MealyMachinesModel", "length", "(I)I"⟩, 5), (⟨"MealyMachinesModel", "told", "(II)I"⟩, 5), (⟨"MealyMachinesModel", "apart", "(II)I"⟩, 5), (⟨"MealyMachinesModel", "work", "(I)V"⟩, 5)]
theorem lw_r1 : ∀ q ∈ lw_privs_1, lw_okq q := List.forall_mem_cons.mpr ⟨lw_p0, List.forall_mem_cons.mpr ⟨lw_p1, List.forall_mem_cons.mpr ⟨lw_p2, List.forall_mem_cons.mpr ⟨lw_p3, List.forall_mem_cons.mpr ⟨lw_p4, List.forall_mem_cons.mpr ⟨lw_p5, List.forall_mem_cons.mpr ⟨lw_p6, List.forall_mem_cons.mpr ⟨lw_p7, List.forall_mem_cons.mpr ⟨lw_p8, List.forall_mem_cons.mpr ⟨lw_p9, List.forall_mem_cons.mpr ⟨lw_p10, List.forall_mem_cons.mpr ⟨lw_p11, List.forall_mem_cons.mpr ⟨lw_p12, List.forall_mem_cons.mpr ⟨lw_p13, List.forall_mem_cons.mpr ⟨lw_p14, List.forall_mem_cons.mpr ⟨lw_p15, fun _ h => absurd h List.not_mem_nil⟩⟩⟩⟩⟩⟩⟩⟩⟩⟩⟩⟩⟩⟩⟩⟩
theorem lw_p16 : lw_okq (⟨"MealyMachinesModel", "place", "(I)I"⟩, 5) := ⟨⟨by decide +kernel, by decide +kernel⟩, lw_t1 (List.mem_of_getElem? (i := 150) rfl), lw_t2 (List.mem_of_getElem? (i := 8) rfl), lw_t2 (List.mem_of_getElem? (i := 9) rfl)⟩
def lw_privs_2 : List (MethodName × Nat) := [(⟨"MealyMachinesModel", "place", "(I)I"⟩, 5)]
theorem lw_r2 : ∀ q ∈ lw_privs_2, lw_okq q := List.forall_mem_cons.mpr ⟨lw_p16, fun _ h => absurd h List.not_mem_nil⟩
def lw_privs : List (MethodName × Nat) := lw_privs_1 ++ (lw_privs_2)
def lw_tbl : List Cond := k2_sels lw_privs ++ tables_1
theorem lw_privs_ok : ∀ q ∈ lw_privs, lw_okq q := by
  show ∀ q ∈ lw_privs_1 ++ (lw_privs_2), lw_okq q
  exact List.forall_mem_append.mpr ⟨lw_r1, lw_r2⟩
-- ===== ONE list of words for every method: the tables' words that hold all through a run =====
def lw_all : List Cond := lw_tbl.filter goodWord
/-- a word of the tables by its place: claim/WORDS.tsv -/
theorem lw_w {w : Cond} (i : Nat) (h : lw_tbl[i]? = some w) (g : goodWord w = true) : w ∈ lw_all := List.mem_filter.mpr ⟨List.mem_of_getElem? h, g⟩
theorem lw_all_tbl {w : Cond} (h : w ∈ lw_all) : w ∈ lw_tbl := (List.mem_filter.mp h).1
theorem lw_self : GoodIn lw_all lw_all := fun w h => ⟨h, good_of_word (List.mem_filter.mp h).2⟩
/-- a class's field words, by their places -/
theorem lw_in (ws : List Cond) (ps : List Nat) (hp : ws = ps.filterMap (fun i => lw_tbl[i]?)) (hg : ws.all goodWord = true) : ∀ w ∈ ws, w ∈ lw_all := by
  intro w h
  have h1 := List.all_eq_true.mp hg w h
  rw [hp] at h
  obtain ⟨i, -, hi⟩ := List.mem_filterMap.mp h
  exact lw_w i hi h1
/-- the words of a contract for the method y with code b, L locals, answer r -/
abbrev ws_ (y : MethodName) (b : ByteArray) (L : Nat) (r : Option FieldType) : List Cond := Cond.code y b L r :: lw_all
theorem lw_meth {y : MethodName} {b : ByteArray} {L : Nat} {r : Option FieldType} (h : Cond.code y b L r ∈ lw_all) : GoodIn lw_all (ws_ y b L r) := by
  intro w hw
  rcases List.mem_cons.mp hw with e | e
  · rw [e]
    exact lw_self _ h
  · exact lw_self _ e
theorem lw_app {a c : List Cond} (ha : ∀ w ∈ a, w ∈ lw_all) (hc : GoodIn lw_all c) : GoodIn lw_all (a ++ c) := by
  intro w hw
  rcases List.mem_append.mp hw with e | e
  · exact lw_self w (ha w e)
  · exact hc w e
/-- what a call through an object asks: cwV n hts (lw_V ..) -/
theorem lw_V {own : String} {idx : Nat} {C : String} {y : MethodName} {b : ByteArray} {L : Nat} {r : Option FieldType} (h1 : Cond.methodLink own idx y ∈ lw_all) (h2 : Cond.instanceMethod y ∈ lw_all) (h3 : Cond.selects C y y ∈ lw_all) (h4 : Cond.initialized C ∈ lw_all) (h5 : Cond.code y b L r ∈ lw_all) : GoodIn lw_all (wsV own idx C y (ws_ y b L r)) := by
  refine lw_app ?_ (lw_meth h5)
  intro w hw
  simp only [List.mem_cons, List.not_mem_nil, or_false] at hw
  rcases hw with e | e | e | e
  · rw [e]; exact h1
  · rw [e]; exact h2
  · rw [e]; exact h3
  · rw [e]; exact h4
/-- what a static call asks: va_cwS n hts (lw_S ..) -/
theorem lw_S {own : String} {idx : Nat} {y : MethodName} {b : ByteArray} {L : Nat} {r : Option FieldType} (h1 : Cond.methodLink own idx y ∈ lw_all) (h2 : Cond.static y ∈ lw_all) (h3 : Cond.initialized y.cls ∈ lw_all) (h4 : Cond.code y b L r ∈ lw_all) : GoodIn lw_all (va_wsS own idx y (ws_ y b L r)) := by
  refine lw_app ?_ (lw_meth h4)
  intro w hw
  simp only [List.mem_cons, List.not_mem_nil, or_false] at hw
  rcases hw with e | e | e
  · rw [e]; exact h1
  · rw [e]; exact h2
  · rw [e]; exact h3
/-- the words of a contract for a method WITH HANDLERS (hh: its table) -/
abbrev wsW_ (y : MethodName) (b : ByteArray) (L : Nat) (r : Option FieldType) (hh : List (Nat × Nat × Nat × Nat)) : List Cond := Cond.codeWith y b L r hh :: lw_all
theorem lw_methW {y : MethodName} {b : ByteArray} {L : Nat} {r : Option FieldType} {hh : List (Nat × Nat × Nat × Nat)} (h : Cond.codeWith y b L r hh ∈ lw_all) : GoodIn lw_all (wsW_ y b L r hh) := by
  intro w hw
  rcases List.mem_cons.mp hw with e | e
  · rw [e]
    exact lw_self _ h
  · exact lw_self _ e
/-- any list of words by their places (lw_in), good -/
theorem lw_good {ws : List Cond} (h : ∀ w ∈ ws, w ∈ lw_all) : GoodIn lw_all ws := fun w hw => lw_self w (h w hw)
/-- what a call of a method with handlers asks: vx_cwVW n hts (lw_VW ..), vx_cwSW n hts (lw_SW ..) -/
theorem lw_VW {own : String} {idx : Nat} {C : String} {y : MethodName} {b : ByteArray} {L : Nat} {r : Option FieldType} {hh : List (Nat × Nat × Nat × Nat)} (h1 : Cond.methodLink own idx y ∈ lw_all) (h2 : Cond.instanceMethod y ∈ lw_all) (h3 : Cond.selects C y y ∈ lw_all) (h4 : Cond.initialized C ∈ lw_all) (h5 : Cond.codeWith y b L r hh ∈ lw_all) : GoodIn lw_all (wsV own idx C y (wsW_ y b L r hh)) := by
  refine lw_app ?_ (lw_methW h5)
  intro w hw
  simp only [List.mem_cons, List.not_mem_nil, or_false] at hw
  rcases hw with e | e | e | e
  · rw [e]; exact h1
  · rw [e]; exact h2
  · rw [e]; exact h3
  · rw [e]; exact h4
theorem lw_SW {own : String} {idx : Nat} {y : MethodName} {b : ByteArray} {L : Nat} {r : Option FieldType} {hh : List (Nat × Nat × Nat × Nat)} (h1 : Cond.methodLink own idx y ∈ lw_all) (h2 : Cond.static y ∈ lw_all) (h3 : Cond.initialized y.cls ∈ lw_all) (h4 : Cond.codeWith y b L r hh ∈ lw_all) : GoodIn lw_all (va_wsS own idx y (wsW_ y b L r hh)) := by
  refine lw_app ?_ (lw_methW h4)
  intro w hw
  simp only [List.mem_cons, List.not_mem_nil, or_false] at hw
  rcases hw with e | e | e
  · rw [e]; exact h1
  · rw [e]; exact h2
  · rw [e]; exact h3
/-- a word by its place in its run of the tables -/
theorem lw_at {r : List Cond} (hr : ∀ w ∈ r, w ∈ lw_tbl) {w : Cond} (i : Nat) (h : r[i]? = some w) : w ∈ lw_tbl := hr w (List.mem_of_getElem? h)
theorem lw_g {w : Cond} (h : w ∈ lw_tbl) (g : goodWord w = true) : w ∈ lw_all := List.mem_filter.mpr ⟨h, g⟩
theorem lw_ms : ∀ w ∈ k2_sels lw_privs, w ∈ lw_tbl := fun w h => show w ∈ k2_sels lw_privs ++ tables_1 from List.mem_append_left _ h
theorem lw_m1 : ∀ w ∈ tables_1_1, w ∈ lw_tbl := fun w h => show w ∈ k2_sels lw_privs ++ tables_1 from List.mem_append_right (k2_sels lw_privs) (show w ∈ tables_1 from List.mem_append_left _ h)
theorem lw_m2 : ∀ w ∈ tables_1_2, w ∈ lw_tbl := fun w h => show w ∈ k2_sels lw_privs ++ tables_1 from List.mem_append_right (k2_sels lw_privs) (show w ∈ tables_1 from List.mem_append_right _ h)
theorem qs0 : (Cond.selects "MealyMachines" ⟨"MealyMachines", "placeOf", "(I)I"⟩ ⟨"MealyMachines", "placeOf", "(I)I"⟩) ∈ lw_all := lw_g (lw_at lw_ms 0 rfl) rfl
theorem qs1 : (Cond.selects "MealyMachines" ⟨"MealyMachines", "after", "(II)I"⟩ ⟨"MealyMachines", "after", "(II)I"⟩) ∈ lw_all := lw_g (lw_at lw_ms 1 rfl) rfl
theorem qs2 : (Cond.selects "MealyMachines" ⟨"MealyMachines", "refresh", "()V"⟩ ⟨"MealyMachines", "refresh", "()V"⟩) ∈ lw_all := lw_g (lw_at lw_ms 2 rfl) rfl
theorem qs3 : (Cond.selects "MealyMachines" ⟨"MealyMachines", "isThere", "(I)Z"⟩ ⟨"MealyMachines", "isThere", "(I)Z"⟩) ∈ lw_all := lw_g (lw_at lw_ms 3 rfl) rfl
theorem qs4 : (Cond.selects "MealyMachines" ⟨"MealyMachines", "goesTo", "(III)Z"⟩ ⟨"MealyMachines", "goesTo", "(III)Z"⟩) ∈ lw_all := lw_g (lw_at lw_ms 4 rfl) rfl
theorem qs5 : (Cond.selects "MealyMachines" ⟨"MealyMachines", "firstWord", "(II)I"⟩ ⟨"MealyMachines", "firstWord", "(II)I"⟩) ∈ lw_all := lw_g (lw_at lw_ms 5 rfl) rfl
theorem qs6 : (Cond.selects "MealyMachines" ⟨"MealyMachines", "number", "(I)V"⟩ ⟨"MealyMachines", "number", "(I)V"⟩) ∈ lw_all := lw_g (lw_at lw_ms 6 rfl) rfl
theorem qs7 : (Cond.selects "MealyMachines" ⟨"MealyMachines", nm27, "(II)V"⟩ ⟨"MealyMachines", nm27, "(II)V"⟩) ∈ lw_all := lw_g (lw_at lw_ms 7 rfl) rfl
theorem qs8 : (Cond.selects "MealyMachines" ⟨"MealyMachines", "together", "(III)I"⟩ ⟨"MealyMachines", "together", "(III)I"⟩) ∈ lw_all := lw_g (lw_at lw_ms 8 rfl) rfl
theorem qs9 : (Cond.selects "MealyMachinesModel" ⟨"MealyMachinesModel", "bad", "(I)Z"⟩ ⟨"MealyMachinesModel", "bad", "(I)Z"⟩) ∈ lw_all := lw_g (lw_at lw_ms 9 rfl) rfl
theorem qs10 : (Cond.selects "MealyMachinesModel" ⟨"MealyMachinesModel", "badState", "(I)Z"⟩ ⟨"MealyMachinesModel", "badState", "(I)Z"⟩) ∈ lw_all := lw_g (lw_at lw_ms 10 rfl) rfl
theorem qs11 : (Cond.selects "MealyMachinesModel" ⟨"MealyMachinesModel", "goal", "(II)I"⟩ ⟨"MealyMachinesModel", "goal", "(II)I"⟩) ∈ lw_all := lw_g (lw_at lw_ms 11 rfl) rfl
theorem qs12 : (Cond.selects "MealyMachinesModel" ⟨"MealyMachinesModel", "length", "(I)I"⟩ ⟨"MealyMachinesModel", "length", "(I)I"⟩) ∈ lw_all := lw_g (lw_at lw_ms 12 rfl) rfl
theorem qs13 : (Cond.selects "MealyMachinesModel" ⟨"MealyMachinesModel", "told", "(II)I"⟩ ⟨"MealyMachinesModel", "told", "(II)I"⟩) ∈ lw_all := lw_g (lw_at lw_ms 13 rfl) rfl
theorem qs14 : (Cond.selects "MealyMachinesModel" ⟨"MealyMachinesModel", "apart", "(II)I"⟩ ⟨"MealyMachinesModel", "apart", "(II)I"⟩) ∈ lw_all := lw_g (lw_at lw_ms 14 rfl) rfl
theorem qs15 : (Cond.selects "MealyMachinesModel" ⟨"MealyMachinesModel", "work", "(I)V"⟩ ⟨"MealyMachinesModel", "work", "(I)V"⟩) ∈ lw_all := lw_g (lw_at lw_ms 15 rfl) rfl
theorem qs16 : (Cond.selects "MealyMachinesModel" ⟨"MealyMachinesModel", "place", "(I)I"⟩ ⟨"MealyMachinesModel", "place", "(I)I"⟩) ∈ lw_all := lw_g (lw_at lw_ms 16 rfl) rfl
end
section
set_option maxRecDepth 100000
/-! MealyMachines -/
def RX0 : String := "MealyMachines"
def TX0 : u_T := fun k => match k with
  | 0 => ("MealyMachines", "sizes", "[I", true)
  | 1 => ("MealyMachines", "nexts", "[I", true)
  | 2 => ("MealyMachines", "answers", "[I", true)
  | 3 => ("MealyMachines", "apart", "[I", true)
  | 4 => ("MealyMachines", "classNumber", "[I", true)
  | 5 => ("MealyMachines", "leader", "[I", true)
  | 6 => ("MealyMachines", "queue", "[I", true)
  | 7 => ("MealyMachines", "wordOf", "[I", true)
  | 8 => ("MealyMachines", "cores", "I", false)
  | _ => ("MealyMachines", "current", "Z", false)
def tyX0 : Nat → FieldType := fun k => match k with
  | 0 => .array .int
  | 1 => .array .int
  | 2 => .array .int
  | 3 => .array .int
  | 4 => .array .int
  | 5 => .array .int
  | 6 => .array .int
  | 7 => .array .int
  | 8 => .int
  | _ => .boolean
abbrev wsX00 : List Cond := u_ws RX0 TX0 10
theorem nmX0 : ∀ a, a < 10 → ∀ b, b < 10 → a ≠ b → (TX0 a).2.1 ≠ (TX0 b).2.1 := by decide +kernel
theorem tyX0_ok : ∀ k, k < 10 → parseFieldDescriptor (TX0 k).2.2.1 = some (tyX0 k) := by decide +kernel
abbrev cX0_init : ByteArray := prog_1_method_1_code
def yX0_init : MethodName := ⟨RX0, "<init>", "()V"⟩
abbrev cX0_size : ByteArray := prog_1_method_2_code
def yX0_size : MethodName := ⟨RX0, "size", "(II)I"⟩
abbrev cX0_isMachine : ByteArray := prog_1_method_18_code
def yX0_isMachine : MethodName := ⟨RX0, "isMachine", "(I)Z"⟩
abbrev cX0_set : ByteArray := prog_1_method_3_code
def yX0_set : MethodName := ⟨RX0, "set", "(III)I"⟩
abbrev cX0_weave : ByteArray := prog_1_method_4_code
def yX0_weave : MethodName := ⟨RX0, "weave", "(III)I"⟩
abbrev cX0_copy : ByteArray := prog_1_method_5_code
def yX0_copy : MethodName := ⟨RX0, "copy", "(II)I"⟩
abbrev cX0_states : ByteArray := prog_1_method_6_code
def yX0_states : MethodName := ⟨RX0, "states", "(I)I"⟩
abbrev cX0_run : ByteArray := prog_1_method_7_code
def yX0_run : MethodName := ⟨RX0, "run", "(II)I"⟩
abbrev cX0_placeOf : ByteArray := prog_1_method_19_code
def yX0_placeOf : MethodName := ⟨RX0, "placeOf", "(I)I"⟩
abbrev cX0_lettersOf : ByteArray := prog_1_method_20_code
def yX0_lettersOf : MethodName := ⟨RX0, "lettersOf", "(I)I"⟩
abbrev cX0_after : ByteArray := prog_1_method_21_code
def yX0_after : MethodName := ⟨RX0, "after", "(II)I"⟩
abbrev cX0_response : ByteArray := prog_1_method_8_code
def yX0_response : MethodName := ⟨RX0, "response", "(II)I"⟩
abbrev cX0_alike : ByteArray := prog_1_method_9_code
def yX0_alike : MethodName := ⟨RX0, "alike", "(II)I"⟩
abbrev cX0_refresh : ByteArray := prog_1_method_23_code
def yX0_refresh : MethodName := ⟨RX0, "refresh", "()V"⟩
abbrev cX0_isThere : ByteArray := prog_1_method_22_code
def yX0_isThere : MethodName := ⟨RX0, "isThere", "(I)Z"⟩
abbrev cX0_goesTo : ByteArray := prog_1_method_24_code
def yX0_goesTo : MethodName := ⟨RX0, "goesTo", "(III)Z"⟩
abbrev cX0_difference : ByteArray := prog_1_method_10_code
def yX0_difference : MethodName := ⟨RX0, "difference", "(II)I"⟩
abbrev cX0_firstWord : ByteArray := prog_1_method_25_code
def yX0_firstWord : MethodName := ⟨RX0, "firstWord", "(II)I"⟩
abbrev cX0_same : ByteArray := prog_1_method_11_code
def yX0_same : MethodName := ⟨RX0, "same", "()I"⟩
abbrev cX0_classes : ByteArray := prog_1_method_12_code
def yX0_classes : MethodName := ⟨RX0, "classes", "(I)I"⟩
abbrev cX0_core : ByteArray := prog_1_method_13_code
def yX0_core : MethodName := ⟨RX0, "core", "(I)I"⟩
abbrev cX0_number : ByteArray := prog_1_method_26_code
def yX0_number : MethodName := ⟨RX0, "number", "(I)V"⟩
abbrev cX0_admit : ByteArray := prog_1_method_27_code
def yX0_admit : MethodName := ⟨RX0, nm27, "(II)V"⟩
abbrev cX0_coreNext : ByteArray := prog_1_method_14_code
def yX0_coreNext : MethodName := ⟨RX0, "coreNext", "(III)I"⟩
abbrev cX0_coreAnswer : ByteArray := prog_1_method_15_code
def yX0_coreAnswer : MethodName := ⟨RX0, "coreAnswer", "(III)I"⟩
abbrev cX0_classOf : ByteArray := prog_1_method_16_code
def yX0_classOf : MethodName := ⟨RX0, "classOf", "(I)I"⟩
abbrev cX0_reset : ByteArray := prog_1_method_17_code
def yX0_reset : MethodName := ⟨RX0, "reset", "(I)I"⟩
abbrev cX0_together : ByteArray := prog_1_method_28_code
def yX0_together : MethodName := ⟨RX0, "together", "(III)I"⟩
theorem q18 : (Jvm.Cond.initialized "MealyMachines") ∈ lw_all := lw_g (lw_at lw_m1 1 rfl) rfl
theorem q21 : (Jvm.Cond.instantiable "MealyMachines" (10 : Nat)) ∈ lw_all := lw_g (lw_at lw_m1 4 rfl) rfl
theorem q23 : (Jvm.Cond.instanceMethod ({ cls := "MealyMachines", name := "<init>", desc := "()V" } : Jvm.MethodName)) ∈ lw_all := lw_g (lw_at lw_m1 6 rfl) rfl
theorem q24 : (Jvm.Cond.code ({ cls := "MealyMachines", name := "<init>", desc := "()V" } : Jvm.MethodName) prog_1_method_1_code (1 : Nat) (Option.none : Option Jvm.ClassFile.FieldType)) ∈ lw_all := lw_g (lw_at lw_m1 7 rfl) rfl
theorem q25 : (Jvm.Cond.methodLink "MealyMachines" (1 : Nat) ({ cls := "java/lang/Object", name := "<init>", desc := "()V" } : Jvm.MethodName)) ∈ lw_all := lw_g (lw_at lw_m1 8 rfl) rfl
theorem q28 : (Jvm.Cond.fieldLink "MealyMachines" (7 : Nat) "MealyMachines" "sizes" "[I") ∈ lw_all := lw_g (lw_at lw_m1 11 rfl) rfl
theorem q29 : (Jvm.Cond.fieldLink "MealyMachines" (13 : Nat) "MealyMachines" "nexts" "[I") ∈ lw_all := lw_g (lw_at lw_m1 12 rfl) rfl
theorem q30 : (Jvm.Cond.fieldLink "MealyMachines" (16 : Nat) "MealyMachines" "answers" "[I") ∈ lw_all := lw_g (lw_at lw_m1 13 rfl) rfl
theorem q31 : (Jvm.Cond.fieldLink "MealyMachines" (19 : Nat) "MealyMachines" "apart" "[I") ∈ lw_all := lw_g (lw_at lw_m1 14 rfl) rfl
theorem q32 : (Jvm.Cond.fieldLink "MealyMachines" (22 : Nat) "MealyMachines" "classNumber" "[I") ∈ lw_all := lw_g (lw_at lw_m1 15 rfl) rfl
theorem q33 : (Jvm.Cond.fieldLink "MealyMachines" (25 : Nat) "MealyMachines" "leader" "[I") ∈ lw_all := lw_g (lw_at lw_m1 16 rfl) rfl
theorem q34 : (Jvm.Cond.fieldLink "MealyMachines" (28 : Nat) "MealyMachines" "queue" "[I") ∈ lw_all := lw_g (lw_at lw_m1 17 rfl) rfl
theorem q35 : (Jvm.Cond.fieldLink "MealyMachines" (31 : Nat) "MealyMachines" "wordOf" "[I") ∈ lw_all := lw_g (lw_at lw_m1 18 rfl) rfl
theorem q36 : (Jvm.Cond.fieldLink "MealyMachines" (63 : Nat) "MealyMachines" "cores" "I") ∈ lw_all := lw_g (lw_at lw_m1 19 rfl) rfl
theorem q37 : (Jvm.Cond.fieldLink "MealyMachines" (38 : Nat) "MealyMachines" "current" "Z") ∈ lw_all := lw_g (lw_at lw_m1 20 rfl) rfl
theorem q38 : (Jvm.Cond.laysFinal "MealyMachines" "MealyMachines" "sizes" "[I") ∈ lw_all := lw_g (lw_at lw_m1 21 rfl) rfl
theorem q39 : (Jvm.Cond.soleField "MealyMachines" "sizes") ∈ lw_all := lw_g (lw_at lw_m1 22 rfl) rfl
theorem q40 : (Jvm.Cond.laysFinal "MealyMachines" "MealyMachines" "nexts" "[I") ∈ lw_all := lw_g (lw_at lw_m1 23 rfl) rfl
theorem q41 : (Jvm.Cond.soleField "MealyMachines" "nexts") ∈ lw_all := lw_g (lw_at lw_m1 24 rfl) rfl
theorem q42 : (Jvm.Cond.laysFinal "MealyMachines" "MealyMachines" "answers" "[I") ∈ lw_all := lw_g (lw_at lw_m1 25 rfl) rfl
theorem q43 : (Jvm.Cond.soleField "MealyMachines" "answers") ∈ lw_all := lw_g (lw_at lw_m1 26 rfl) rfl
theorem q44 : (Jvm.Cond.laysFinal "MealyMachines" "MealyMachines" "apart" "[I") ∈ lw_all := lw_g (lw_at lw_m1 27 rfl) rfl
theorem q45 : (Jvm.Cond.soleField "MealyMachines" "apart") ∈ lw_all := lw_g (lw_at lw_m1 28 rfl) rfl
theorem q46 : (Jvm.Cond.laysFinal "MealyMachines" "MealyMachines" "classNumber" "[I") ∈ lw_all := lw_g (lw_at lw_m1 29 rfl) rfl
theorem q47 : (Jvm.Cond.soleField "MealyMachines" "classNumber") ∈ lw_all := lw_g (lw_at lw_m1 30 rfl) rfl
theorem q48 : (Jvm.Cond.laysFinal "MealyMachines" "MealyMachines" "leader" "[I") ∈ lw_all := lw_g (lw_at lw_m1 31 rfl) rfl
theorem q49 : (Jvm.Cond.soleField "MealyMachines" "leader") ∈ lw_all := lw_g (lw_at lw_m1 32 rfl) rfl
theorem q50 : (Jvm.Cond.laysFinal "MealyMachines" "MealyMachines" "queue" "[I") ∈ lw_all := lw_g (lw_at lw_m1 33 rfl) rfl
theorem q51 : (Jvm.Cond.soleField "MealyMachines" "queue") ∈ lw_all := lw_g (lw_at lw_m1 34 rfl) rfl
theorem q52 : (Jvm.Cond.laysFinal "MealyMachines" "MealyMachines" "wordOf" "[I") ∈ lw_all := lw_g (lw_at lw_m1 35 rfl) rfl
theorem q53 : (Jvm.Cond.soleField "MealyMachines" "wordOf") ∈ lw_all := lw_g (lw_at lw_m1 36 rfl) rfl
theorem q54 : (Jvm.Cond.lays "MealyMachines" "MealyMachines" "cores" "I") ∈ lw_all := lw_g (lw_at lw_m1 37 rfl) rfl
theorem q55 : (Jvm.Cond.soleField "MealyMachines" "cores") ∈ lw_all := lw_g (lw_at lw_m1 38 rfl) rfl
theorem q56 : (Jvm.Cond.lays "MealyMachines" "MealyMachines" "current" "Z") ∈ lw_all := lw_g (lw_at lw_m1 39 rfl) rfl
theorem q57 : (Jvm.Cond.soleField "MealyMachines" "current") ∈ lw_all := lw_g (lw_at lw_m1 40 rfl) rfl
theorem q58 : (Jvm.Cond.superclass "MealyMachines" "java/lang/Object") ∈ lw_all := lw_g (lw_at lw_m1 41 rfl) rfl
theorem q61 : (Jvm.Cond.instanceMethod ({ cls := "MealyMachines", name := "size", desc := "(II)I" } : Jvm.MethodName)) ∈ lw_all := lw_g (lw_at lw_m1 44 rfl) rfl
theorem q62 : (Jvm.Cond.selects "MealyMachines" ({ cls := "MealyMachines", name := "size", desc := "(II)I" } : Jvm.MethodName) ({ cls := "MealyMachines", name := "size", desc := "(II)I" } : Jvm.MethodName)) ∈ lw_all := lw_g (lw_at lw_m1 45 rfl) rfl
theorem q63 : (Jvm.Cond.code ({ cls := "MealyMachines", name := "size", desc := "(II)I" } : Jvm.MethodName) prog_1_method_2_code (5 : Nat) (Option.some Jvm.ClassFile.FieldType.int)) ∈ lw_all := lw_g (lw_at lw_m1 46 rfl) rfl
theorem q64 : (Jvm.Cond.methodLink "MealyMachines" (34 : Nat) ({ cls := "MealyMachines", name := "isMachine", desc := "(I)Z" } : Jvm.MethodName)) ∈ lw_all := lw_g (lw_at lw_m1 47 rfl) rfl
theorem q65 : (Jvm.Cond.static ({ cls := "MealyMachines", name := "isMachine", desc := "(I)Z" } : Jvm.MethodName)) ∈ lw_all := lw_g (lw_at lw_m1 48 rfl) rfl
theorem q66 : (Jvm.Cond.code ({ cls := "MealyMachines", name := "isMachine", desc := "(I)Z" } : Jvm.MethodName) prog_1_method_18_code (1 : Nat) (Option.some Jvm.ClassFile.FieldType.boolean)) ∈ lw_all := lw_g (lw_at lw_m1 49 rfl) rfl
theorem q68 : (Jvm.Cond.instanceMethod ({ cls := "MealyMachines", name := "set", desc := "(III)I" } : Jvm.MethodName)) ∈ lw_all := lw_g (lw_at lw_m1 51 rfl) rfl
theorem q69 : (Jvm.Cond.selects "MealyMachines" ({ cls := "MealyMachines", name := "set", desc := "(III)I" } : Jvm.MethodName) ({ cls := "MealyMachines", name := "set", desc := "(III)I" } : Jvm.MethodName)) ∈ lw_all := lw_g (lw_at lw_m1 52 rfl) rfl
theorem q70 : (Jvm.Cond.code ({ cls := "MealyMachines", name := "set", desc := "(III)I" } : Jvm.MethodName) prog_1_method_3_code (6 : Nat) (Option.some Jvm.ClassFile.FieldType.int)) ∈ lw_all := lw_g (lw_at lw_m1 53 rfl) rfl
theorem q72 : (Jvm.Cond.instanceMethod ({ cls := "MealyMachines", name := "weave", desc := "(III)I" } : Jvm.MethodName)) ∈ lw_all := lw_g (lw_at lw_m1 55 rfl) rfl
theorem q73 : (Jvm.Cond.selects "MealyMachines" ({ cls := "MealyMachines", name := "weave", desc := "(III)I" } : Jvm.MethodName) ({ cls := "MealyMachines", name := "weave", desc := "(III)I" } : Jvm.MethodName)) ∈ lw_all := lw_g (lw_at lw_m1 56 rfl) rfl
theorem q74 : (Jvm.Cond.code ({ cls := "MealyMachines", name := "weave", desc := "(III)I" } : Jvm.MethodName) prog_1_method_4_code (8 : Nat) (Option.some Jvm.ClassFile.FieldType.int)) ∈ lw_all := lw_g (lw_at lw_m1 57 rfl) rfl
theorem q76 : (Jvm.Cond.instanceMethod ({ cls := "MealyMachines", name := "copy", desc := "(II)I" } : Jvm.MethodName)) ∈ lw_all := lw_g (lw_at lw_m1 59 rfl) rfl
theorem q77 : (Jvm.Cond.selects "MealyMachines" ({ cls := "MealyMachines", name := "copy", desc := "(II)I" } : Jvm.MethodName) ({ cls := "MealyMachines", name := "copy", desc := "(II)I" } : Jvm.MethodName)) ∈ lw_all := lw_g (lw_at lw_m1 60 rfl) rfl
theorem q78 : (Jvm.Cond.code ({ cls := "MealyMachines", name := "copy", desc := "(II)I" } : Jvm.MethodName) prog_1_method_5_code (8 : Nat) (Option.some Jvm.ClassFile.FieldType.int)) ∈ lw_all := lw_g (lw_at lw_m1 61 rfl) rfl
theorem q80 : (Jvm.Cond.instanceMethod ({ cls := "MealyMachines", name := "states", desc := "(I)I" } : Jvm.MethodName)) ∈ lw_all := lw_g (lw_at lw_m1 63 rfl) rfl
theorem q81 : (Jvm.Cond.selects "MealyMachines" ({ cls := "MealyMachines", name := "states", desc := "(I)I" } : Jvm.MethodName) ({ cls := "MealyMachines", name := "states", desc := "(I)I" } : Jvm.MethodName)) ∈ lw_all := lw_g (lw_at lw_m1 64 rfl) rfl
theorem q82 : (Jvm.Cond.code ({ cls := "MealyMachines", name := "states", desc := "(I)I" } : Jvm.MethodName) prog_1_method_6_code (2 : Nat) (Option.some Jvm.ClassFile.FieldType.int)) ∈ lw_all := lw_g (lw_at lw_m1 65 rfl) rfl
theorem q84 : (Jvm.Cond.instanceMethod ({ cls := "MealyMachines", name := "run", desc := "(II)I" } : Jvm.MethodName)) ∈ lw_all := lw_g (lw_at lw_m1 67 rfl) rfl
theorem q85 : (Jvm.Cond.selects "MealyMachines" ({ cls := "MealyMachines", name := "run", desc := "(II)I" } : Jvm.MethodName) ({ cls := "MealyMachines", name := "run", desc := "(II)I" } : Jvm.MethodName)) ∈ lw_all := lw_g (lw_at lw_m1 68 rfl) rfl
theorem q86 : (Jvm.Cond.code ({ cls := "MealyMachines", name := "run", desc := "(II)I" } : Jvm.MethodName) prog_1_method_7_code (6 : Nat) (Option.some Jvm.ClassFile.FieldType.int)) ∈ lw_all := lw_g (lw_at lw_m1 69 rfl) rfl
theorem q87 : (Jvm.Cond.methodLink "MealyMachines" (42 : Nat) ({ cls := "MealyMachines", name := "placeOf", desc := "(I)I" } : Jvm.MethodName)) ∈ lw_all := lw_g (lw_at lw_m1 70 rfl) rfl
theorem q88 : (Jvm.Cond.privateMethod ({ cls := "MealyMachines", name := "placeOf", desc := "(I)I" } : Jvm.MethodName)) ∈ lw_tbl := lw_at lw_m1 71 rfl
theorem q89 : (Jvm.Cond.instanceMethod ({ cls := "MealyMachines", name := "placeOf", desc := "(I)I" } : Jvm.MethodName)) ∈ lw_all := lw_g (lw_at lw_m1 72 rfl) rfl
theorem q90 : (Jvm.Cond.code ({ cls := "MealyMachines", name := "placeOf", desc := "(I)I" } : Jvm.MethodName) prog_1_method_19_code (4 : Nat) (Option.some Jvm.ClassFile.FieldType.int)) ∈ lw_all := lw_g (lw_at lw_m1 73 rfl) rfl
theorem q91 : (Jvm.Cond.methodLink "MealyMachines" (46 : Nat) ({ cls := "MealyMachines", name := "lettersOf", desc := "(I)I" } : Jvm.MethodName)) ∈ lw_all := lw_g (lw_at lw_m1 74 rfl) rfl
theorem q92 : (Jvm.Cond.static ({ cls := "MealyMachines", name := "lettersOf", desc := "(I)I" } : Jvm.MethodName)) ∈ lw_all := lw_g (lw_at lw_m1 75 rfl) rfl
theorem q93 : (Jvm.Cond.code ({ cls := "MealyMachines", name := "lettersOf", desc := "(I)I" } : Jvm.MethodName) prog_1_method_20_code (2 : Nat) (Option.some Jvm.ClassFile.FieldType.int)) ∈ lw_all := lw_g (lw_at lw_m1 76 rfl) rfl
theorem q94 : (Jvm.Cond.methodLink "MealyMachines" (49 : Nat) ({ cls := "MealyMachines", name := "after", desc := "(II)I" } : Jvm.MethodName)) ∈ lw_all := lw_g (lw_at lw_m1 77 rfl) rfl
theorem q95 : (Jvm.Cond.privateMethod ({ cls := "MealyMachines", name := "after", desc := "(II)I" } : Jvm.MethodName)) ∈ lw_tbl := lw_at lw_m1 78 rfl
theorem q96 : (Jvm.Cond.instanceMethod ({ cls := "MealyMachines", name := "after", desc := "(II)I" } : Jvm.MethodName)) ∈ lw_all := lw_g (lw_at lw_m1 79 rfl) rfl
theorem q97 : (Jvm.Cond.code ({ cls := "MealyMachines", name := "after", desc := "(II)I" } : Jvm.MethodName) prog_1_method_21_code (3 : Nat) (Option.some Jvm.ClassFile.FieldType.int)) ∈ lw_all := lw_g (lw_at lw_m1 80 rfl) rfl
theorem q99 : (Jvm.Cond.instanceMethod ({ cls := "MealyMachines", name := "response", desc := "(II)I" } : Jvm.MethodName)) ∈ lw_all := lw_g (lw_at lw_m1 82 rfl) rfl
theorem q100 : (Jvm.Cond.selects "MealyMachines" ({ cls := "MealyMachines", name := "response", desc := "(II)I" } : Jvm.MethodName) ({ cls := "MealyMachines", name := "response", desc := "(II)I" } : Jvm.MethodName)) ∈ lw_all := lw_g (lw_at lw_m1 83 rfl) rfl
theorem q101 : (Jvm.Cond.code ({ cls := "MealyMachines", name := "response", desc := "(II)I" } : Jvm.MethodName) prog_1_method_8_code (8 : Nat) (Option.some Jvm.ClassFile.FieldType.int)) ∈ lw_all := lw_g (lw_at lw_m1 84 rfl) rfl
theorem q103 : (Jvm.Cond.instanceMethod ({ cls := "MealyMachines", name := "alike", desc := "(II)I" } : Jvm.MethodName)) ∈ lw_all := lw_g (lw_at lw_m1 86 rfl) rfl
theorem q104 : (Jvm.Cond.selects "MealyMachines" ({ cls := "MealyMachines", name := "alike", desc := "(II)I" } : Jvm.MethodName) ({ cls := "MealyMachines", name := "alike", desc := "(II)I" } : Jvm.MethodName)) ∈ lw_all := lw_g (lw_at lw_m1 87 rfl) rfl
theorem q105 : (Jvm.Cond.code ({ cls := "MealyMachines", name := "alike", desc := "(II)I" } : Jvm.MethodName) prog_1_method_9_code (5 : Nat) (Option.some Jvm.ClassFile.FieldType.int)) ∈ lw_all := lw_g (lw_at lw_m1 88 rfl) rfl
theorem q106 : (Jvm.Cond.methodLink "MealyMachines" (53 : Nat) ({ cls := "MealyMachines", name := "refresh", desc := "()V" } : Jvm.MethodName)) ∈ lw_all := lw_g (lw_at lw_m1 89 rfl) rfl
theorem q107 : (Jvm.Cond.privateMethod ({ cls := "MealyMachines", name := "refresh", desc := "()V" } : Jvm.MethodName)) ∈ lw_tbl := lw_at lw_m1 90 rfl
theorem q108 : (Jvm.Cond.instanceMethod ({ cls := "MealyMachines", name := "refresh", desc := "()V" } : Jvm.MethodName)) ∈ lw_all := lw_g (lw_at lw_m1 91 rfl) rfl
theorem q109 : (Jvm.Cond.code ({ cls := "MealyMachines", name := "refresh", desc := "()V" } : Jvm.MethodName) prog_1_method_23_code (5 : Nat) (Option.none : Option Jvm.ClassFile.FieldType)) ∈ lw_all := lw_g (lw_at lw_m1 92 rfl) rfl
theorem q110 : (Jvm.Cond.methodLink "MealyMachines" (71 : Nat) ({ cls := "MealyMachines", name := "isThere", desc := "(I)Z" } : Jvm.MethodName)) ∈ lw_all := lw_g (lw_at lw_m1 93 rfl) rfl
theorem q111 : (Jvm.Cond.privateMethod ({ cls := "MealyMachines", name := "isThere", desc := "(I)Z" } : Jvm.MethodName)) ∈ lw_tbl := lw_at lw_m1 94 rfl
theorem q112 : (Jvm.Cond.instanceMethod ({ cls := "MealyMachines", name := "isThere", desc := "(I)Z" } : Jvm.MethodName)) ∈ lw_all := lw_g (lw_at lw_m1 95 rfl) rfl
theorem q113 : (Jvm.Cond.code ({ cls := "MealyMachines", name := "isThere", desc := "(I)Z" } : Jvm.MethodName) prog_1_method_22_code (2 : Nat) (Option.some Jvm.ClassFile.FieldType.boolean)) ∈ lw_all := lw_g (lw_at lw_m1 96 rfl) rfl
theorem q114 : (Jvm.Cond.methodLink "MealyMachines" (74 : Nat) ({ cls := "MealyMachines", name := "goesTo", desc := "(III)Z" } : Jvm.MethodName)) ∈ lw_all := lw_g (lw_at lw_m1 97 rfl) rfl
theorem q115 : (Jvm.Cond.privateMethod ({ cls := "MealyMachines", name := "goesTo", desc := "(III)Z" } : Jvm.MethodName)) ∈ lw_tbl := lw_at lw_m1 98 rfl
theorem q116 : (Jvm.Cond.instanceMethod ({ cls := "MealyMachines", name := "goesTo", desc := "(III)Z" } : Jvm.MethodName)) ∈ lw_all := lw_g (lw_at lw_m1 99 rfl) rfl
theorem q117 : (Jvm.Cond.code ({ cls := "MealyMachines", name := "goesTo", desc := "(III)Z" } : Jvm.MethodName) prog_1_method_24_code (7 : Nat) (Option.some Jvm.ClassFile.FieldType.boolean)) ∈ lw_all := lw_g (lw_at lw_m1 100 rfl) rfl
theorem q119 : (Jvm.Cond.instanceMethod ({ cls := "MealyMachines", name := "difference", desc := "(II)I" } : Jvm.MethodName)) ∈ lw_all := lw_g (lw_at lw_m1 102 rfl) rfl
theorem q120 : (Jvm.Cond.selects "MealyMachines" ({ cls := "MealyMachines", name := "difference", desc := "(II)I" } : Jvm.MethodName) ({ cls := "MealyMachines", name := "difference", desc := "(II)I" } : Jvm.MethodName)) ∈ lw_all := lw_g (lw_at lw_m1 103 rfl) rfl
theorem q121 : (Jvm.Cond.code ({ cls := "MealyMachines", name := "difference", desc := "(II)I" } : Jvm.MethodName) prog_1_method_10_code (5 : Nat) (Option.some Jvm.ClassFile.FieldType.int)) ∈ lw_all := lw_g (lw_at lw_m1 104 rfl) rfl
theorem q122 : (Jvm.Cond.methodLink "MealyMachines" (56 : Nat) ({ cls := "MealyMachines", name := "firstWord", desc := "(II)I" } : Jvm.MethodName)) ∈ lw_all := lw_g (lw_at lw_m1 105 rfl) rfl
theorem q123 : (Jvm.Cond.privateMethod ({ cls := "MealyMachines", name := "firstWord", desc := "(II)I" } : Jvm.MethodName)) ∈ lw_tbl := lw_at lw_m1 106 rfl
theorem q124 : (Jvm.Cond.instanceMethod ({ cls := "MealyMachines", name := "firstWord", desc := "(II)I" } : Jvm.MethodName)) ∈ lw_all := lw_g (lw_at lw_m1 107 rfl) rfl
theorem q125 : (Jvm.Cond.code ({ cls := "MealyMachines", name := "firstWord", desc := "(II)I" } : Jvm.MethodName) prog_1_method_25_code (10 : Nat) (Option.some Jvm.ClassFile.FieldType.int)) ∈ lw_all := lw_g (lw_at lw_m1 108 rfl) rfl
theorem q127 : (Jvm.Cond.instanceMethod ({ cls := "MealyMachines", name := "same", desc := "()I" } : Jvm.MethodName)) ∈ lw_all := lw_g (lw_at lw_m1 110 rfl) rfl
theorem q128 : (Jvm.Cond.selects "MealyMachines" ({ cls := "MealyMachines", name := "same", desc := "()I" } : Jvm.MethodName) ({ cls := "MealyMachines", name := "same", desc := "()I" } : Jvm.MethodName)) ∈ lw_all := lw_g (lw_at lw_m1 111 rfl) rfl
theorem q129 : (Jvm.Cond.code ({ cls := "MealyMachines", name := "same", desc := "()I" } : Jvm.MethodName) prog_1_method_11_code (1 : Nat) (Option.some Jvm.ClassFile.FieldType.int)) ∈ lw_all := lw_g (lw_at lw_m1 112 rfl) rfl
theorem q131 : (Jvm.Cond.instanceMethod ({ cls := "MealyMachines", name := "classes", desc := "(I)I" } : Jvm.MethodName)) ∈ lw_all := lw_g (lw_at lw_m1 114 rfl) rfl
theorem q132 : (Jvm.Cond.selects "MealyMachines" ({ cls := "MealyMachines", name := "classes", desc := "(I)I" } : Jvm.MethodName) ({ cls := "MealyMachines", name := "classes", desc := "(I)I" } : Jvm.MethodName)) ∈ lw_all := lw_g (lw_at lw_m1 115 rfl) rfl
theorem q133 : (Jvm.Cond.code ({ cls := "MealyMachines", name := "classes", desc := "(I)I" } : Jvm.MethodName) prog_1_method_12_code (6 : Nat) (Option.some Jvm.ClassFile.FieldType.int)) ∈ lw_all := lw_g (lw_at lw_m1 116 rfl) rfl
theorem q135 : (Jvm.Cond.instanceMethod ({ cls := "MealyMachines", name := "core", desc := "(I)I" } : Jvm.MethodName)) ∈ lw_all := lw_g (lw_at lw_m1 118 rfl) rfl
theorem q136 : (Jvm.Cond.selects "MealyMachines" ({ cls := "MealyMachines", name := "core", desc := "(I)I" } : Jvm.MethodName) ({ cls := "MealyMachines", name := "core", desc := "(I)I" } : Jvm.MethodName)) ∈ lw_all := lw_g (lw_at lw_m1 119 rfl) rfl
theorem q137 : (Jvm.Cond.code ({ cls := "MealyMachines", name := "core", desc := "(I)I" } : Jvm.MethodName) prog_1_method_13_code (2 : Nat) (Option.some Jvm.ClassFile.FieldType.int)) ∈ lw_all := lw_g (lw_at lw_m1 120 rfl) rfl
theorem q138 : (Jvm.Cond.methodLink "MealyMachines" (59 : Nat) ({ cls := "MealyMachines", name := "number", desc := "(I)V" } : Jvm.MethodName)) ∈ lw_all := lw_g (lw_at lw_m1 121 rfl) rfl
theorem q139 : (Jvm.Cond.privateMethod ({ cls := "MealyMachines", name := "number", desc := "(I)V" } : Jvm.MethodName)) ∈ lw_tbl := lw_at lw_m1 122 rfl
theorem q140 : (Jvm.Cond.instanceMethod ({ cls := "MealyMachines", name := "number", desc := "(I)V" } : Jvm.MethodName)) ∈ lw_all := lw_g (lw_at lw_m1 123 rfl) rfl
theorem q141 : (Jvm.Cond.code ({ cls := "MealyMachines", name := "number", desc := "(I)V" } : Jvm.MethodName) prog_1_method_26_code (5 : Nat) (Option.none : Option Jvm.ClassFile.FieldType)) ∈ lw_all := lw_g (lw_at lw_m1 124 rfl) rfl
theorem q142 : (Jvm.Cond.methodLink "MealyMachines" (78 : Nat) ({ cls := "MealyMachines", name := nm27, desc := "(II)V" } : Jvm.MethodName)) ∈ lw_all := lw_g (lw_at lw_m1 125 rfl) rfl
theorem q143 : (Jvm.Cond.privateMethod ({ cls := "MealyMachines", name := nm27, desc := "(II)V" } : Jvm.MethodName)) ∈ lw_tbl := lw_at lw_m1 126 rfl
theorem q144 : (Jvm.Cond.instanceMethod ({ cls := "MealyMachines", name := nm27, desc := "(II)V" } : Jvm.MethodName)) ∈ lw_all := lw_g (lw_at lw_m1 127 rfl) rfl
theorem q145 : (Jvm.Cond.code ({ cls := "MealyMachines", name := nm27, desc := "(II)V" } : Jvm.MethodName) prog_1_method_27_code (5 : Nat) (Option.none : Option Jvm.ClassFile.FieldType)) ∈ lw_all := lw_g (lw_at lw_m1 128 rfl) rfl
theorem q147 : (Jvm.Cond.instanceMethod ({ cls := "MealyMachines", name := "coreNext", desc := "(III)I" } : Jvm.MethodName)) ∈ lw_all := lw_g (lw_at lw_m1 130 rfl) rfl
theorem q148 : (Jvm.Cond.selects "MealyMachines" ({ cls := "MealyMachines", name := "coreNext", desc := "(III)I" } : Jvm.MethodName) ({ cls := "MealyMachines", name := "coreNext", desc := "(III)I" } : Jvm.MethodName)) ∈ lw_all := lw_g (lw_at lw_m1 131 rfl) rfl
theorem q149 : (Jvm.Cond.code ({ cls := "MealyMachines", name := "coreNext", desc := "(III)I" } : Jvm.MethodName) prog_1_method_14_code (4 : Nat) (Option.some Jvm.ClassFile.FieldType.int)) ∈ lw_all := lw_g (lw_at lw_m1 132 rfl) rfl
theorem q151 : (Jvm.Cond.instanceMethod ({ cls := "MealyMachines", name := "coreAnswer", desc := "(III)I" } : Jvm.MethodName)) ∈ lw_all := lw_g (lw_at lw_m1 134 rfl) rfl
theorem q152 : (Jvm.Cond.selects "MealyMachines" ({ cls := "MealyMachines", name := "coreAnswer", desc := "(III)I" } : Jvm.MethodName) ({ cls := "MealyMachines", name := "coreAnswer", desc := "(III)I" } : Jvm.MethodName)) ∈ lw_all := lw_g (lw_at lw_m1 135 rfl) rfl
theorem q153 : (Jvm.Cond.code ({ cls := "MealyMachines", name := "coreAnswer", desc := "(III)I" } : Jvm.MethodName) prog_1_method_15_code (4 : Nat) (Option.some Jvm.ClassFile.FieldType.int)) ∈ lw_all := lw_g (lw_at lw_m1 136 rfl) rfl
theorem q155 : (Jvm.Cond.instanceMethod ({ cls := "MealyMachines", name := "classOf", desc := "(I)I" } : Jvm.MethodName)) ∈ lw_all := lw_g (lw_at lw_m1 138 rfl) rfl
theorem q156 : (Jvm.Cond.selects "MealyMachines" ({ cls := "MealyMachines", name := "classOf", desc := "(I)I" } : Jvm.MethodName) ({ cls := "MealyMachines", name := "classOf", desc := "(I)I" } : Jvm.MethodName)) ∈ lw_all := lw_g (lw_at lw_m1 139 rfl) rfl
theorem q157 : (Jvm.Cond.code ({ cls := "MealyMachines", name := "classOf", desc := "(I)I" } : Jvm.MethodName) prog_1_method_16_code (3 : Nat) (Option.some Jvm.ClassFile.FieldType.int)) ∈ lw_all := lw_g (lw_at lw_m1 140 rfl) rfl
theorem q159 : (Jvm.Cond.instanceMethod ({ cls := "MealyMachines", name := "reset", desc := "(I)I" } : Jvm.MethodName)) ∈ lw_all := lw_g (lw_at lw_m1 142 rfl) rfl
theorem q160 : (Jvm.Cond.selects "MealyMachines" ({ cls := "MealyMachines", name := "reset", desc := "(I)I" } : Jvm.MethodName) ({ cls := "MealyMachines", name := "reset", desc := "(I)I" } : Jvm.MethodName)) ∈ lw_all := lw_g (lw_at lw_m1 143 rfl) rfl
theorem q161 : (Jvm.Cond.code ({ cls := "MealyMachines", name := "reset", desc := "(I)I" } : Jvm.MethodName) prog_1_method_17_code (8 : Nat) (Option.some Jvm.ClassFile.FieldType.int)) ∈ lw_all := lw_g (lw_at lw_m1 144 rfl) rfl
theorem q162 : (Jvm.Cond.methodLink "MealyMachines" (67 : Nat) ({ cls := "MealyMachines", name := "together", desc := "(III)I" } : Jvm.MethodName)) ∈ lw_all := lw_g (lw_at lw_m1 145 rfl) rfl
theorem q163 : (Jvm.Cond.privateMethod ({ cls := "MealyMachines", name := "together", desc := "(III)I" } : Jvm.MethodName)) ∈ lw_tbl := lw_at lw_m1 146 rfl
theorem q164 : (Jvm.Cond.instanceMethod ({ cls := "MealyMachines", name := "together", desc := "(III)I" } : Jvm.MethodName)) ∈ lw_all := lw_g (lw_at lw_m1 147 rfl) rfl
theorem q165 : (Jvm.Cond.code ({ cls := "MealyMachines", name := "together", desc := "(III)I" } : Jvm.MethodName) prog_1_method_28_code (6 : Nat) (Option.some Jvm.ClassFile.FieldType.int)) ∈ lw_all := lw_g (lw_at lw_m1 148 rfl) rfl
theorem in_X0 : ∀ w ∈ wsX00, w ∈ lw_all := lw_in wsX00 [38, 40, 42, 44, 46, 48, 50, 52, 54, 56] (by decide +kernel) (by decide +kernel)
/-! MealyMachinesModel -/
def RX1 : String := "MealyMachinesModel"
def TX1 : u_T := fun k => match k with
  | 0 => ("MealyMachinesModel", "sizes", "[I", false)
  | 1 => ("MealyMachinesModel", "next", "[I", false)
  | 2 => ("MealyMachinesModel", "answer", "[I", false)
  | 3 => ("MealyMachinesModel", "count", "I", false)
  | _ => ("MealyMachinesModel", "member", "[I", false)
def tyX1 : Nat → FieldType := fun k => match k with
  | 0 => .array .int
  | 1 => .array .int
  | 2 => .array .int
  | 3 => .int
  | _ => .array .int
abbrev wsX10 : List Cond := u_ws RX1 TX1 5
theorem nmX1 : ∀ a, a < 5 → ∀ b, b < 5 → a ≠ b → (TX1 a).2.1 ≠ (TX1 b).2.1 := by decide +kernel
theorem tyX1_ok : ∀ k, k < 5 → parseFieldDescriptor (TX1 k).2.2.1 = some (tyX1 k) := by decide +kernel
abbrev cX1_init : ByteArray := prog_3_method_1_code
def yX1_init : MethodName := ⟨RX1, "<init>", "()V"⟩
abbrev cX1_size : ByteArray := prog_3_method_4_code
def yX1_size : MethodName := ⟨RX1, "size", "(II)I"⟩
abbrev cX1_bad : ByteArray := prog_3_method_2_code
def yX1_bad : MethodName := ⟨RX1, "bad", "(I)Z"⟩
abbrev cX1_set : ByteArray := prog_3_method_5_code
def yX1_set : MethodName := ⟨RX1, "set", "(III)I"⟩
abbrev cX1_weave : ByteArray := prog_3_method_6_code
def yX1_weave : MethodName := ⟨RX1, "weave", "(III)I"⟩
abbrev cX1_copy : ByteArray := prog_3_method_7_code
def yX1_copy : MethodName := ⟨RX1, "copy", "(II)I"⟩
abbrev cX1_states : ByteArray := prog_3_method_8_code
def yX1_states : MethodName := ⟨RX1, "states", "(I)I"⟩
abbrev cX1_run : ByteArray := prog_3_method_12_code
def yX1_run : MethodName := ⟨RX1, "run", "(II)I"⟩
abbrev cX1_badState : ByteArray := prog_3_method_3_code
def yX1_badState : MethodName := ⟨RX1, "badState", "(I)Z"⟩
abbrev cX1_goal : ByteArray := prog_3_method_10_code
def yX1_goal : MethodName := ⟨RX1, "goal", "(II)I"⟩
abbrev cX1_length : ByteArray := prog_3_method_9_code
def yX1_length : MethodName := ⟨RX1, "length", "(I)I"⟩
abbrev cX1_response : ByteArray := prog_3_method_13_code
def yX1_response : MethodName := ⟨RX1, "response", "(II)I"⟩
abbrev cX1_told : ByteArray := prog_3_method_11_code
def yX1_told : MethodName := ⟨RX1, "told", "(II)I"⟩
abbrev cX1_alike : ByteArray := prog_3_method_15_code
def yX1_alike : MethodName := ⟨RX1, "alike", "(II)I"⟩
abbrev cX1_apart : ByteArray := prog_3_method_14_code
def yX1_apart : MethodName := ⟨RX1, "apart", "(II)I"⟩
abbrev cX1_difference : ByteArray := prog_3_method_16_code
def yX1_difference : MethodName := ⟨RX1, "difference", "(II)I"⟩
abbrev cX1_same : ByteArray := prog_3_method_17_code
def yX1_same : MethodName := ⟨RX1, "same", "()I"⟩
abbrev cX1_classes : ByteArray := prog_3_method_18_code
def yX1_classes : MethodName := ⟨RX1, "classes", "(I)I"⟩
abbrev cX1_core : ByteArray := prog_3_method_21_code
def yX1_core : MethodName := ⟨RX1, "core", "(I)I"⟩
abbrev cX1_work : ByteArray := prog_3_method_20_code
def yX1_work : MethodName := ⟨RX1, "work", "(I)V"⟩
abbrev cX1_place : ByteArray := prog_3_method_19_code
def yX1_place : MethodName := ⟨RX1, "place", "(I)I"⟩
abbrev cX1_coreNext : ByteArray := prog_3_method_22_code
def yX1_coreNext : MethodName := ⟨RX1, "coreNext", "(III)I"⟩
abbrev cX1_coreAnswer : ByteArray := prog_3_method_23_code
def yX1_coreAnswer : MethodName := ⟨RX1, "coreAnswer", "(III)I"⟩
abbrev cX1_classOf : ByteArray := prog_3_method_24_code
def yX1_classOf : MethodName := ⟨RX1, "classOf", "(I)I"⟩
abbrev cX1_reset : ByteArray := prog_3_method_25_code
def yX1_reset : MethodName := ⟨RX1, "reset", "(I)I"⟩
theorem q19 : (Jvm.Cond.initialized "MealyMachinesModel") ∈ lw_all := lw_g (lw_at lw_m1 2 rfl) rfl
theorem q167 : (Jvm.Cond.instantiable "MealyMachinesModel" (5 : Nat)) ∈ lw_all := lw_g (lw_at lw_m1 150 rfl) rfl
theorem q169 : (Jvm.Cond.instanceMethod ({ cls := "MealyMachinesModel", name := "<init>", desc := "()V" } : Jvm.MethodName)) ∈ lw_all := lw_g (lw_at lw_m1 152 rfl) rfl
theorem q170 : (Jvm.Cond.code ({ cls := "MealyMachinesModel", name := "<init>", desc := "()V" } : Jvm.MethodName) prog_3_method_1_code (1 : Nat) (Option.none : Option Jvm.ClassFile.FieldType)) ∈ lw_all := lw_g (lw_at lw_m1 153 rfl) rfl
theorem q171 : (Jvm.Cond.methodLink "MealyMachinesModel" (1 : Nat) ({ cls := "java/lang/Object", name := "<init>", desc := "()V" } : Jvm.MethodName)) ∈ lw_all := lw_g (lw_at lw_m1 154 rfl) rfl
theorem q172 : (Jvm.Cond.fieldLink "MealyMachinesModel" (7 : Nat) "MealyMachinesModel" "sizes" "[I") ∈ lw_all := lw_g (lw_at lw_m1 155 rfl) rfl
theorem q173 : (Jvm.Cond.fieldLink "MealyMachinesModel" (13 : Nat) "MealyMachinesModel" "next" "[I") ∈ lw_all := lw_g (lw_at lw_m1 156 rfl) rfl
theorem q174 : (Jvm.Cond.fieldLink "MealyMachinesModel" (16 : Nat) "MealyMachinesModel" "answer" "[I") ∈ lw_all := lw_g (lw_at lw_m1 157 rfl) rfl
theorem q175 : (Jvm.Cond.fieldLink "MealyMachinesModel" (43 : Nat) "MealyMachinesModel" "count" "I") ∈ lw_all := lw_g (lw_at lw_m1 158 rfl) rfl
theorem q176 : (Jvm.Cond.fieldLink "MealyMachinesModel" (19 : Nat) "MealyMachinesModel" "member" "[I") ∈ lw_all := lw_g (lw_at lw_m1 159 rfl) rfl
theorem q177 : (Jvm.Cond.lays "MealyMachinesModel" "MealyMachinesModel" "sizes" "[I") ∈ lw_all := lw_g (lw_at lw_m1 160 rfl) rfl
theorem q178 : (Jvm.Cond.soleField "MealyMachinesModel" "sizes") ∈ lw_all := lw_g (lw_at lw_m1 161 rfl) rfl
theorem q179 : (Jvm.Cond.lays "MealyMachinesModel" "MealyMachinesModel" "next" "[I") ∈ lw_all := lw_g (lw_at lw_m1 162 rfl) rfl
theorem q180 : (Jvm.Cond.soleField "MealyMachinesModel" "next") ∈ lw_all := lw_g (lw_at lw_m1 163 rfl) rfl
theorem q181 : (Jvm.Cond.lays "MealyMachinesModel" "MealyMachinesModel" "answer" "[I") ∈ lw_all := lw_g (lw_at lw_m1 164 rfl) rfl
theorem q182 : (Jvm.Cond.soleField "MealyMachinesModel" "answer") ∈ lw_all := lw_g (lw_at lw_m1 165 rfl) rfl
theorem q183 : (Jvm.Cond.lays "MealyMachinesModel" "MealyMachinesModel" "count" "I") ∈ lw_all := lw_g (lw_at lw_m1 166 rfl) rfl
theorem q184 : (Jvm.Cond.soleField "MealyMachinesModel" "count") ∈ lw_all := lw_g (lw_at lw_m1 167 rfl) rfl
theorem q185 : (Jvm.Cond.lays "MealyMachinesModel" "MealyMachinesModel" "member" "[I") ∈ lw_all := lw_g (lw_at lw_m1 168 rfl) rfl
theorem q186 : (Jvm.Cond.soleField "MealyMachinesModel" "member") ∈ lw_all := lw_g (lw_at lw_m1 169 rfl) rfl
theorem q187 : (Jvm.Cond.superclass "MealyMachinesModel" "java/lang/Object") ∈ lw_all := lw_g (lw_at lw_m1 170 rfl) rfl
theorem q189 : (Jvm.Cond.instanceMethod ({ cls := "MealyMachinesModel", name := "size", desc := "(II)I" } : Jvm.MethodName)) ∈ lw_all := lw_g (lw_at lw_m1 172 rfl) rfl
theorem q190 : (Jvm.Cond.selects "MealyMachinesModel" ({ cls := "MealyMachinesModel", name := "size", desc := "(II)I" } : Jvm.MethodName) ({ cls := "MealyMachinesModel", name := "size", desc := "(II)I" } : Jvm.MethodName)) ∈ lw_all := lw_g (lw_at lw_m1 173 rfl) rfl
theorem q191 : (Jvm.Cond.code ({ cls := "MealyMachinesModel", name := "size", desc := "(II)I" } : Jvm.MethodName) prog_3_method_4_code (5 : Nat) (Option.some Jvm.ClassFile.FieldType.int)) ∈ lw_all := lw_g (lw_at lw_m1 174 rfl) rfl
theorem q192 : (Jvm.Cond.methodLink "MealyMachinesModel" (22 : Nat) ({ cls := "MealyMachinesModel", name := "bad", desc := "(I)Z" } : Jvm.MethodName)) ∈ lw_all := lw_g (lw_at lw_m1 175 rfl) rfl
theorem q193 : (Jvm.Cond.privateMethod ({ cls := "MealyMachinesModel", name := "bad", desc := "(I)Z" } : Jvm.MethodName)) ∈ lw_tbl := lw_at lw_m1 176 rfl
theorem q194 : (Jvm.Cond.instanceMethod ({ cls := "MealyMachinesModel", name := "bad", desc := "(I)Z" } : Jvm.MethodName)) ∈ lw_all := lw_g (lw_at lw_m1 177 rfl) rfl
theorem q195 : (Jvm.Cond.code ({ cls := "MealyMachinesModel", name := "bad", desc := "(I)Z" } : Jvm.MethodName) prog_3_method_2_code (2 : Nat) (Option.some Jvm.ClassFile.FieldType.boolean)) ∈ lw_all := lw_g (lw_at lw_m1 178 rfl) rfl
theorem q197 : (Jvm.Cond.instanceMethod ({ cls := "MealyMachinesModel", name := "set", desc := "(III)I" } : Jvm.MethodName)) ∈ lw_all := lw_g (lw_at lw_m1 180 rfl) rfl
theorem q198 : (Jvm.Cond.selects "MealyMachinesModel" ({ cls := "MealyMachinesModel", name := "set", desc := "(III)I" } : Jvm.MethodName) ({ cls := "MealyMachinesModel", name := "set", desc := "(III)I" } : Jvm.MethodName)) ∈ lw_all := lw_g (lw_at lw_m1 181 rfl) rfl
theorem q199 : (Jvm.Cond.code ({ cls := "MealyMachinesModel", name := "set", desc := "(III)I" } : Jvm.MethodName) prog_3_method_5_code (5 : Nat) (Option.some Jvm.ClassFile.FieldType.int)) ∈ lw_all := lw_g (lw_at lw_m1 182 rfl) rfl
theorem q201 : (Jvm.Cond.instanceMethod ({ cls := "MealyMachinesModel", name := "weave", desc := "(III)I" } : Jvm.MethodName)) ∈ lw_all := lw_g (lw_at lw_m1 184 rfl) rfl
theorem q202 : (Jvm.Cond.selects "MealyMachinesModel" ({ cls := "MealyMachinesModel", name := "weave", desc := "(III)I" } : Jvm.MethodName) ({ cls := "MealyMachinesModel", name := "weave", desc := "(III)I" } : Jvm.MethodName)) ∈ lw_all := lw_g (lw_at lw_m1 185 rfl) rfl
theorem q203 : (Jvm.Cond.code ({ cls := "MealyMachinesModel", name := "weave", desc := "(III)I" } : Jvm.MethodName) prog_3_method_6_code (7 : Nat) (Option.some Jvm.ClassFile.FieldType.int)) ∈ lw_all := lw_g (lw_at lw_m1 186 rfl) rfl
theorem q205 : (Jvm.Cond.instanceMethod ({ cls := "MealyMachinesModel", name := "copy", desc := "(II)I" } : Jvm.MethodName)) ∈ lw_all := lw_g (lw_at lw_m1 188 rfl) rfl
theorem q206 : (Jvm.Cond.selects "MealyMachinesModel" ({ cls := "MealyMachinesModel", name := "copy", desc := "(II)I" } : Jvm.MethodName) ({ cls := "MealyMachinesModel", name := "copy", desc := "(II)I" } : Jvm.MethodName)) ∈ lw_all := lw_g (lw_at lw_m1 189 rfl) rfl
theorem q207 : (Jvm.Cond.code ({ cls := "MealyMachinesModel", name := "copy", desc := "(II)I" } : Jvm.MethodName) prog_3_method_7_code (8 : Nat) (Option.some Jvm.ClassFile.FieldType.int)) ∈ lw_all := lw_g (lw_at lw_m1 190 rfl) rfl
theorem q209 : (Jvm.Cond.instanceMethod ({ cls := "MealyMachinesModel", name := "states", desc := "(I)I" } : Jvm.MethodName)) ∈ lw_all := lw_g (lw_at lw_m1 192 rfl) rfl
theorem q210 : (Jvm.Cond.selects "MealyMachinesModel" ({ cls := "MealyMachinesModel", name := "states", desc := "(I)I" } : Jvm.MethodName) ({ cls := "MealyMachinesModel", name := "states", desc := "(I)I" } : Jvm.MethodName)) ∈ lw_all := lw_g (lw_at lw_m1 193 rfl) rfl
theorem q211 : (Jvm.Cond.code ({ cls := "MealyMachinesModel", name := "states", desc := "(I)I" } : Jvm.MethodName) prog_3_method_8_code (2 : Nat) (Option.some Jvm.ClassFile.FieldType.int)) ∈ lw_all := lw_g (lw_at lw_m1 194 rfl) rfl
theorem q213 : (Jvm.Cond.instanceMethod ({ cls := "MealyMachinesModel", name := "run", desc := "(II)I" } : Jvm.MethodName)) ∈ lw_all := lw_g (lw_at lw_m1 196 rfl) rfl
theorem q214 : (Jvm.Cond.selects "MealyMachinesModel" ({ cls := "MealyMachinesModel", name := "run", desc := "(II)I" } : Jvm.MethodName) ({ cls := "MealyMachinesModel", name := "run", desc := "(II)I" } : Jvm.MethodName)) ∈ lw_all := lw_g (lw_at lw_m1 197 rfl) rfl
theorem q215 : (Jvm.Cond.code ({ cls := "MealyMachinesModel", name := "run", desc := "(II)I" } : Jvm.MethodName) prog_3_method_12_code (3 : Nat) (Option.some Jvm.ClassFile.FieldType.int)) ∈ lw_all := lw_g (lw_at lw_m1 198 rfl) rfl
theorem q216 : (Jvm.Cond.methodLink "MealyMachinesModel" (30 : Nat) ({ cls := "MealyMachinesModel", name := "badState", desc := "(I)Z" } : Jvm.MethodName)) ∈ lw_all := lw_g (lw_at lw_m1 199 rfl) rfl
theorem q217 : (Jvm.Cond.privateMethod ({ cls := "MealyMachinesModel", name := "badState", desc := "(I)Z" } : Jvm.MethodName)) ∈ lw_tbl := lw_at lw_m1 200 rfl
theorem q218 : (Jvm.Cond.instanceMethod ({ cls := "MealyMachinesModel", name := "badState", desc := "(I)Z" } : Jvm.MethodName)) ∈ lw_all := lw_g (lw_at lw_m1 201 rfl) rfl
theorem q219 : (Jvm.Cond.code ({ cls := "MealyMachinesModel", name := "badState", desc := "(I)Z" } : Jvm.MethodName) prog_3_method_3_code (2 : Nat) (Option.some Jvm.ClassFile.FieldType.boolean)) ∈ lw_all := lw_g (lw_at lw_m1 202 rfl) rfl
theorem q220 : (Jvm.Cond.methodLink "MealyMachinesModel" (33 : Nat) ({ cls := "MealyMachinesModel", name := "goal", desc := "(II)I" } : Jvm.MethodName)) ∈ lw_all := lw_g (lw_at lw_m1 203 rfl) rfl
theorem q221 : (Jvm.Cond.privateMethod ({ cls := "MealyMachinesModel", name := "goal", desc := "(II)I" } : Jvm.MethodName)) ∈ lw_tbl := lw_at lw_m1 204 rfl
theorem q222 : (Jvm.Cond.instanceMethod ({ cls := "MealyMachinesModel", name := "goal", desc := "(II)I" } : Jvm.MethodName)) ∈ lw_all := lw_g (lw_at lw_m1 205 rfl) rfl
theorem q223 : (Jvm.Cond.code ({ cls := "MealyMachinesModel", name := "goal", desc := "(II)I" } : Jvm.MethodName) prog_3_method_10_code (6 : Nat) (Option.some Jvm.ClassFile.FieldType.int)) ∈ lw_all := lw_g (lw_at lw_m1 206 rfl) rfl
theorem q224 : (Jvm.Cond.methodLink "MealyMachinesModel" (26 : Nat) ({ cls := "MealyMachinesModel", name := "length", desc := "(I)I" } : Jvm.MethodName)) ∈ lw_all := lw_g (lw_at lw_m1 207 rfl) rfl
theorem q225 : (Jvm.Cond.privateMethod ({ cls := "MealyMachinesModel", name := "length", desc := "(I)I" } : Jvm.MethodName)) ∈ lw_tbl := lw_at lw_m1 208 rfl
theorem q226 : (Jvm.Cond.instanceMethod ({ cls := "MealyMachinesModel", name := "length", desc := "(I)I" } : Jvm.MethodName)) ∈ lw_all := lw_g (lw_at lw_m1 209 rfl) rfl
theorem q227 : (Jvm.Cond.code ({ cls := "MealyMachinesModel", name := "length", desc := "(I)I" } : Jvm.MethodName) prog_3_method_9_code (4 : Nat) (Option.some Jvm.ClassFile.FieldType.int)) ∈ lw_all := lw_g (lw_at lw_m1 210 rfl) rfl
theorem q229 : (Jvm.Cond.instanceMethod ({ cls := "MealyMachinesModel", name := "response", desc := "(II)I" } : Jvm.MethodName)) ∈ lw_all := lw_g (lw_at lw_m1 212 rfl) rfl
theorem q230 : (Jvm.Cond.selects "MealyMachinesModel" ({ cls := "MealyMachinesModel", name := "response", desc := "(II)I" } : Jvm.MethodName) ({ cls := "MealyMachinesModel", name := "response", desc := "(II)I" } : Jvm.MethodName)) ∈ lw_all := lw_g (lw_at lw_m1 213 rfl) rfl
theorem q231 : (Jvm.Cond.code ({ cls := "MealyMachinesModel", name := "response", desc := "(II)I" } : Jvm.MethodName) prog_3_method_13_code (3 : Nat) (Option.some Jvm.ClassFile.FieldType.int)) ∈ lw_all := lw_g (lw_at lw_m1 214 rfl) rfl
theorem q232 : (Jvm.Cond.methodLink "MealyMachinesModel" (37 : Nat) ({ cls := "MealyMachinesModel", name := "told", desc := "(II)I" } : Jvm.MethodName)) ∈ lw_all := lw_g (lw_at lw_m1 215 rfl) rfl
theorem q233 : (Jvm.Cond.privateMethod ({ cls := "MealyMachinesModel", name := "told", desc := "(II)I" } : Jvm.MethodName)) ∈ lw_tbl := lw_at lw_m1 216 rfl
theorem q234 : (Jvm.Cond.instanceMethod ({ cls := "MealyMachinesModel", name := "told", desc := "(II)I" } : Jvm.MethodName)) ∈ lw_all := lw_g (lw_at lw_m1 217 rfl) rfl
theorem q235 : (Jvm.Cond.code ({ cls := "MealyMachinesModel", name := "told", desc := "(II)I" } : Jvm.MethodName) prog_3_method_11_code (8 : Nat) (Option.some Jvm.ClassFile.FieldType.int)) ∈ lw_all := lw_g (lw_at lw_m1 218 rfl) rfl
theorem q237 : (Jvm.Cond.instanceMethod ({ cls := "MealyMachinesModel", name := "alike", desc := "(II)I" } : Jvm.MethodName)) ∈ lw_all := lw_g (lw_at lw_m1 220 rfl) rfl
theorem q238 : (Jvm.Cond.selects "MealyMachinesModel" ({ cls := "MealyMachinesModel", name := "alike", desc := "(II)I" } : Jvm.MethodName) ({ cls := "MealyMachinesModel", name := "alike", desc := "(II)I" } : Jvm.MethodName)) ∈ lw_all := lw_g (lw_at lw_m1 221 rfl) rfl
theorem q239 : (Jvm.Cond.code ({ cls := "MealyMachinesModel", name := "alike", desc := "(II)I" } : Jvm.MethodName) prog_3_method_15_code (3 : Nat) (Option.some Jvm.ClassFile.FieldType.int)) ∈ lw_all := lw_g (lw_at lw_m1 222 rfl) rfl
theorem q240 : (Jvm.Cond.methodLink "MealyMachinesModel" (40 : Nat) ({ cls := "MealyMachinesModel", name := "apart", desc := "(II)I" } : Jvm.MethodName)) ∈ lw_all := lw_g (lw_at lw_m1 223 rfl) rfl
theorem q241 : (Jvm.Cond.privateMethod ({ cls := "MealyMachinesModel", name := "apart", desc := "(II)I" } : Jvm.MethodName)) ∈ lw_tbl := lw_at lw_m1 224 rfl
theorem q242 : (Jvm.Cond.instanceMethod ({ cls := "MealyMachinesModel", name := "apart", desc := "(II)I" } : Jvm.MethodName)) ∈ lw_all := lw_g (lw_at lw_m1 225 rfl) rfl
theorem q243 : (Jvm.Cond.code ({ cls := "MealyMachinesModel", name := "apart", desc := "(II)I" } : Jvm.MethodName) prog_3_method_14_code (5 : Nat) (Option.some Jvm.ClassFile.FieldType.int)) ∈ lw_all := lw_g (lw_at lw_m1 226 rfl) rfl
theorem q245 : (Jvm.Cond.instanceMethod ({ cls := "MealyMachinesModel", name := "difference", desc := "(II)I" } : Jvm.MethodName)) ∈ lw_all := lw_g (lw_at lw_m1 228 rfl) rfl
theorem q246 : (Jvm.Cond.selects "MealyMachinesModel" ({ cls := "MealyMachinesModel", name := "difference", desc := "(II)I" } : Jvm.MethodName) ({ cls := "MealyMachinesModel", name := "difference", desc := "(II)I" } : Jvm.MethodName)) ∈ lw_all := lw_g (lw_at lw_m1 229 rfl) rfl
theorem q247 : (Jvm.Cond.code ({ cls := "MealyMachinesModel", name := "difference", desc := "(II)I" } : Jvm.MethodName) prog_3_method_16_code (3 : Nat) (Option.some Jvm.ClassFile.FieldType.int)) ∈ lw_all := lw_g (lw_at lw_m1 230 rfl) rfl
theorem q249 : (Jvm.Cond.instanceMethod ({ cls := "MealyMachinesModel", name := "same", desc := "()I" } : Jvm.MethodName)) ∈ lw_all := lw_g (lw_at lw_m1 232 rfl) rfl
theorem q250 : (Jvm.Cond.selects "MealyMachinesModel" ({ cls := "MealyMachinesModel", name := "same", desc := "()I" } : Jvm.MethodName) ({ cls := "MealyMachinesModel", name := "same", desc := "()I" } : Jvm.MethodName)) ∈ lw_all := lw_g (lw_at lw_m1 233 rfl) rfl
theorem q251 : (Jvm.Cond.code ({ cls := "MealyMachinesModel", name := "same", desc := "()I" } : Jvm.MethodName) prog_3_method_17_code (1 : Nat) (Option.some Jvm.ClassFile.FieldType.int)) ∈ lw_all := lw_g (lw_at lw_m1 234 rfl) rfl
theorem q253 : (Jvm.Cond.instanceMethod ({ cls := "MealyMachinesModel", name := "classes", desc := "(I)I" } : Jvm.MethodName)) ∈ lw_all := lw_g (lw_at lw_m1 236 rfl) rfl
theorem q254 : (Jvm.Cond.selects "MealyMachinesModel" ({ cls := "MealyMachinesModel", name := "classes", desc := "(I)I" } : Jvm.MethodName) ({ cls := "MealyMachinesModel", name := "classes", desc := "(I)I" } : Jvm.MethodName)) ∈ lw_all := lw_g (lw_at lw_m1 237 rfl) rfl
theorem q255 : (Jvm.Cond.code ({ cls := "MealyMachinesModel", name := "classes", desc := "(I)I" } : Jvm.MethodName) prog_3_method_18_code (6 : Nat) (Option.some Jvm.ClassFile.FieldType.int)) ∈ lw_all := lw_g (lw_at lw_m1 238 rfl) rfl
theorem q257 : (Jvm.Cond.instanceMethod ({ cls := "MealyMachinesModel", name := "core", desc := "(I)I" } : Jvm.MethodName)) ∈ lw_all := lw_g (lw_at lw_m2 0 rfl) rfl
theorem q258 : (Jvm.Cond.selects "MealyMachinesModel" ({ cls := "MealyMachinesModel", name := "core", desc := "(I)I" } : Jvm.MethodName) ({ cls := "MealyMachinesModel", name := "core", desc := "(I)I" } : Jvm.MethodName)) ∈ lw_all := lw_g (lw_at lw_m2 1 rfl) rfl
theorem q259 : (Jvm.Cond.code ({ cls := "MealyMachinesModel", name := "core", desc := "(I)I" } : Jvm.MethodName) prog_3_method_21_code (2 : Nat) (Option.some Jvm.ClassFile.FieldType.int)) ∈ lw_all := lw_g (lw_at lw_m2 2 rfl) rfl
theorem q260 : (Jvm.Cond.methodLink "MealyMachinesModel" (50 : Nat) ({ cls := "MealyMachinesModel", name := "work", desc := "(I)V" } : Jvm.MethodName)) ∈ lw_all := lw_g (lw_at lw_m2 3 rfl) rfl
theorem q261 : (Jvm.Cond.privateMethod ({ cls := "MealyMachinesModel", name := "work", desc := "(I)V" } : Jvm.MethodName)) ∈ lw_tbl := lw_at lw_m2 4 rfl
theorem q262 : (Jvm.Cond.instanceMethod ({ cls := "MealyMachinesModel", name := "work", desc := "(I)V" } : Jvm.MethodName)) ∈ lw_all := lw_g (lw_at lw_m2 5 rfl) rfl
theorem q263 : (Jvm.Cond.code ({ cls := "MealyMachinesModel", name := "work", desc := "(I)V" } : Jvm.MethodName) prog_3_method_20_code (4 : Nat) (Option.none : Option Jvm.ClassFile.FieldType)) ∈ lw_all := lw_g (lw_at lw_m2 6 rfl) rfl
theorem q264 : (Jvm.Cond.methodLink "MealyMachinesModel" (47 : Nat) ({ cls := "MealyMachinesModel", name := "place", desc := "(I)I" } : Jvm.MethodName)) ∈ lw_all := lw_g (lw_at lw_m2 7 rfl) rfl
theorem q265 : (Jvm.Cond.privateMethod ({ cls := "MealyMachinesModel", name := "place", desc := "(I)I" } : Jvm.MethodName)) ∈ lw_tbl := lw_at lw_m2 8 rfl
theorem q266 : (Jvm.Cond.instanceMethod ({ cls := "MealyMachinesModel", name := "place", desc := "(I)I" } : Jvm.MethodName)) ∈ lw_all := lw_g (lw_at lw_m2 9 rfl) rfl
theorem q267 : (Jvm.Cond.code ({ cls := "MealyMachinesModel", name := "place", desc := "(I)I" } : Jvm.MethodName) prog_3_method_19_code (4 : Nat) (Option.some Jvm.ClassFile.FieldType.int)) ∈ lw_all := lw_g (lw_at lw_m2 10 rfl) rfl
theorem q269 : (Jvm.Cond.instanceMethod ({ cls := "MealyMachinesModel", name := "coreNext", desc := "(III)I" } : Jvm.MethodName)) ∈ lw_all := lw_g (lw_at lw_m2 12 rfl) rfl
theorem q270 : (Jvm.Cond.selects "MealyMachinesModel" ({ cls := "MealyMachinesModel", name := "coreNext", desc := "(III)I" } : Jvm.MethodName) ({ cls := "MealyMachinesModel", name := "coreNext", desc := "(III)I" } : Jvm.MethodName)) ∈ lw_all := lw_g (lw_at lw_m2 13 rfl) rfl
theorem q271 : (Jvm.Cond.code ({ cls := "MealyMachinesModel", name := "coreNext", desc := "(III)I" } : Jvm.MethodName) prog_3_method_22_code (4 : Nat) (Option.some Jvm.ClassFile.FieldType.int)) ∈ lw_all := lw_g (lw_at lw_m2 14 rfl) rfl
theorem q273 : (Jvm.Cond.instanceMethod ({ cls := "MealyMachinesModel", name := "coreAnswer", desc := "(III)I" } : Jvm.MethodName)) ∈ lw_all := lw_g (lw_at lw_m2 16 rfl) rfl
theorem q274 : (Jvm.Cond.selects "MealyMachinesModel" ({ cls := "MealyMachinesModel", name := "coreAnswer", desc := "(III)I" } : Jvm.MethodName) ({ cls := "MealyMachinesModel", name := "coreAnswer", desc := "(III)I" } : Jvm.MethodName)) ∈ lw_all := lw_g (lw_at lw_m2 17 rfl) rfl
theorem q275 : (Jvm.Cond.code ({ cls := "MealyMachinesModel", name := "coreAnswer", desc := "(III)I" } : Jvm.MethodName) prog_3_method_23_code (4 : Nat) (Option.some Jvm.ClassFile.FieldType.int)) ∈ lw_all := lw_g (lw_at lw_m2 18 rfl) rfl
theorem q277 : (Jvm.Cond.instanceMethod ({ cls := "MealyMachinesModel", name := "classOf", desc := "(I)I" } : Jvm.MethodName)) ∈ lw_all := lw_g (lw_at lw_m2 20 rfl) rfl
theorem q278 : (Jvm.Cond.selects "MealyMachinesModel" ({ cls := "MealyMachinesModel", name := "classOf", desc := "(I)I" } : Jvm.MethodName) ({ cls := "MealyMachinesModel", name := "classOf", desc := "(I)I" } : Jvm.MethodName)) ∈ lw_all := lw_g (lw_at lw_m2 21 rfl) rfl
theorem q279 : (Jvm.Cond.code ({ cls := "MealyMachinesModel", name := "classOf", desc := "(I)I" } : Jvm.MethodName) prog_3_method_24_code (3 : Nat) (Option.some Jvm.ClassFile.FieldType.int)) ∈ lw_all := lw_g (lw_at lw_m2 22 rfl) rfl
theorem q281 : (Jvm.Cond.instanceMethod ({ cls := "MealyMachinesModel", name := "reset", desc := "(I)I" } : Jvm.MethodName)) ∈ lw_all := lw_g (lw_at lw_m2 24 rfl) rfl
theorem q282 : (Jvm.Cond.selects "MealyMachinesModel" ({ cls := "MealyMachinesModel", name := "reset", desc := "(I)I" } : Jvm.MethodName) ({ cls := "MealyMachinesModel", name := "reset", desc := "(I)I" } : Jvm.MethodName)) ∈ lw_all := lw_g (lw_at lw_m2 25 rfl) rfl
theorem q283 : (Jvm.Cond.code ({ cls := "MealyMachinesModel", name := "reset", desc := "(I)I" } : Jvm.MethodName) prog_3_method_25_code (6 : Nat) (Option.some Jvm.ClassFile.FieldType.int)) ∈ lw_all := lw_g (lw_at lw_m2 26 rfl) rfl
theorem in_X1 : ∀ w ∈ wsX10, w ∈ lw_all := lw_in wsX10 [177, 179, 181, 183, 185] (by decide +kernel) (by decide +kernel)
/-! java/lang/Object -/
def RJ0 : String := "java/lang/Object"
abbrev cJ0_init : ByteArray := object_method_1_code
def yJ0_init : MethodName := ⟨RJ0, "<init>", "()V"⟩
theorem q26 : (Jvm.Cond.instanceMethod ({ cls := "java/lang/Object", name := "<init>", desc := "()V" } : Jvm.MethodName)) ∈ lw_all := lw_g (lw_at lw_m1 9 rfl) rfl
theorem q27 : (Jvm.Cond.code ({ cls := "java/lang/Object", name := "<init>", desc := "()V" } : Jvm.MethodName) object_method_1_code (1 : Nat) (Option.none : Option Jvm.ClassFile.FieldType)) ∈ lw_all := lw_g (lw_at lw_m1 10 rfl) rfl
theorem q17 : (Jvm.Cond.initialized "MealyMachinesLaw") ∈ lw_all := lw_g (lw_at lw_m1 0 rfl) rfl
theorem q20 : (Jvm.Cond.classLink "MealyMachinesLaw" (7 : Nat) "MealyMachines") ∈ lw_all := lw_g (lw_at lw_m1 3 rfl) rfl
theorem q22 : (Jvm.Cond.methodLink "MealyMachinesLaw" (9 : Nat) ({ cls := "MealyMachines", name := "<init>", desc := "()V" } : Jvm.MethodName)) ∈ lw_all := lw_g (lw_at lw_m1 5 rfl) rfl
theorem q60 : (Jvm.Cond.methodLink "MealyMachinesLaw" (13 : Nat) ({ cls := "MealyMachines", name := "size", desc := "(II)I" } : Jvm.MethodName)) ∈ lw_all := lw_g (lw_at lw_m1 43 rfl) rfl
theorem q67 : (Jvm.Cond.methodLink "MealyMachinesLaw" (18 : Nat) ({ cls := "MealyMachines", name := "set", desc := "(III)I" } : Jvm.MethodName)) ∈ lw_all := lw_g (lw_at lw_m1 50 rfl) rfl
theorem q71 : (Jvm.Cond.methodLink "MealyMachinesLaw" (23 : Nat) ({ cls := "MealyMachines", name := "weave", desc := "(III)I" } : Jvm.MethodName)) ∈ lw_all := lw_g (lw_at lw_m1 54 rfl) rfl
theorem q75 : (Jvm.Cond.methodLink "MealyMachinesLaw" (27 : Nat) ({ cls := "MealyMachines", name := "copy", desc := "(II)I" } : Jvm.MethodName)) ∈ lw_all := lw_g (lw_at lw_m1 58 rfl) rfl
theorem q79 : (Jvm.Cond.methodLink "MealyMachinesLaw" (31 : Nat) ({ cls := "MealyMachines", name := "states", desc := "(I)I" } : Jvm.MethodName)) ∈ lw_all := lw_g (lw_at lw_m1 62 rfl) rfl
theorem q83 : (Jvm.Cond.methodLink "MealyMachinesLaw" (36 : Nat) ({ cls := "MealyMachines", name := "run", desc := "(II)I" } : Jvm.MethodName)) ∈ lw_all := lw_g (lw_at lw_m1 66 rfl) rfl
theorem q98 : (Jvm.Cond.methodLink "MealyMachinesLaw" (40 : Nat) ({ cls := "MealyMachines", name := "response", desc := "(II)I" } : Jvm.MethodName)) ∈ lw_all := lw_g (lw_at lw_m1 81 rfl) rfl
theorem q102 : (Jvm.Cond.methodLink "MealyMachinesLaw" (44 : Nat) ({ cls := "MealyMachines", name := "alike", desc := "(II)I" } : Jvm.MethodName)) ∈ lw_all := lw_g (lw_at lw_m1 85 rfl) rfl
theorem q118 : (Jvm.Cond.methodLink "MealyMachinesLaw" (48 : Nat) ({ cls := "MealyMachines", name := "difference", desc := "(II)I" } : Jvm.MethodName)) ∈ lw_all := lw_g (lw_at lw_m1 101 rfl) rfl
theorem q126 : (Jvm.Cond.methodLink "MealyMachinesLaw" (52 : Nat) ({ cls := "MealyMachines", name := "same", desc := "()I" } : Jvm.MethodName)) ∈ lw_all := lw_g (lw_at lw_m1 109 rfl) rfl
theorem q130 : (Jvm.Cond.methodLink "MealyMachinesLaw" (57 : Nat) ({ cls := "MealyMachines", name := "classes", desc := "(I)I" } : Jvm.MethodName)) ∈ lw_all := lw_g (lw_at lw_m1 113 rfl) rfl
theorem q134 : (Jvm.Cond.methodLink "MealyMachinesLaw" (61 : Nat) ({ cls := "MealyMachines", name := "core", desc := "(I)I" } : Jvm.MethodName)) ∈ lw_all := lw_g (lw_at lw_m1 117 rfl) rfl
theorem q146 : (Jvm.Cond.methodLink "MealyMachinesLaw" (65 : Nat) ({ cls := "MealyMachines", name := "coreNext", desc := "(III)I" } : Jvm.MethodName)) ∈ lw_all := lw_g (lw_at lw_m1 129 rfl) rfl
theorem q150 : (Jvm.Cond.methodLink "MealyMachinesLaw" (69 : Nat) ({ cls := "MealyMachines", name := "coreAnswer", desc := "(III)I" } : Jvm.MethodName)) ∈ lw_all := lw_g (lw_at lw_m1 133 rfl) rfl
theorem q154 : (Jvm.Cond.methodLink "MealyMachinesLaw" (73 : Nat) ({ cls := "MealyMachines", name := "classOf", desc := "(I)I" } : Jvm.MethodName)) ∈ lw_all := lw_g (lw_at lw_m1 137 rfl) rfl
theorem q158 : (Jvm.Cond.methodLink "MealyMachinesLaw" (77 : Nat) ({ cls := "MealyMachines", name := "reset", desc := "(I)I" } : Jvm.MethodName)) ∈ lw_all := lw_g (lw_at lw_m1 141 rfl) rfl
theorem q166 : (Jvm.Cond.classLink "MealyMachinesLaw" (10 : Nat) "MealyMachinesModel") ∈ lw_all := lw_g (lw_at lw_m1 149 rfl) rfl
theorem q168 : (Jvm.Cond.methodLink "MealyMachinesLaw" (12 : Nat) ({ cls := "MealyMachinesModel", name := "<init>", desc := "()V" } : Jvm.MethodName)) ∈ lw_all := lw_g (lw_at lw_m1 151 rfl) rfl
theorem q188 : (Jvm.Cond.methodLink "MealyMachinesLaw" (17 : Nat) ({ cls := "MealyMachinesModel", name := "size", desc := "(II)I" } : Jvm.MethodName)) ∈ lw_all := lw_g (lw_at lw_m1 171 rfl) rfl
theorem q196 : (Jvm.Cond.methodLink "MealyMachinesLaw" (22 : Nat) ({ cls := "MealyMachinesModel", name := "set", desc := "(III)I" } : Jvm.MethodName)) ∈ lw_all := lw_g (lw_at lw_m1 179 rfl) rfl
theorem q200 : (Jvm.Cond.methodLink "MealyMachinesLaw" (26 : Nat) ({ cls := "MealyMachinesModel", name := "weave", desc := "(III)I" } : Jvm.MethodName)) ∈ lw_all := lw_g (lw_at lw_m1 183 rfl) rfl
theorem q204 : (Jvm.Cond.methodLink "MealyMachinesLaw" (30 : Nat) ({ cls := "MealyMachinesModel", name := "copy", desc := "(II)I" } : Jvm.MethodName)) ∈ lw_all := lw_g (lw_at lw_m1 187 rfl) rfl
theorem q208 : (Jvm.Cond.methodLink "MealyMachinesLaw" (35 : Nat) ({ cls := "MealyMachinesModel", name := "states", desc := "(I)I" } : Jvm.MethodName)) ∈ lw_all := lw_g (lw_at lw_m1 191 rfl) rfl
theorem q212 : (Jvm.Cond.methodLink "MealyMachinesLaw" (39 : Nat) ({ cls := "MealyMachinesModel", name := "run", desc := "(II)I" } : Jvm.MethodName)) ∈ lw_all := lw_g (lw_at lw_m1 195 rfl) rfl
theorem q228 : (Jvm.Cond.methodLink "MealyMachinesLaw" (43 : Nat) ({ cls := "MealyMachinesModel", name := "response", desc := "(II)I" } : Jvm.MethodName)) ∈ lw_all := lw_g (lw_at lw_m1 211 rfl) rfl
theorem q236 : (Jvm.Cond.methodLink "MealyMachinesLaw" (47 : Nat) ({ cls := "MealyMachinesModel", name := "alike", desc := "(II)I" } : Jvm.MethodName)) ∈ lw_all := lw_g (lw_at lw_m1 219 rfl) rfl
theorem q244 : (Jvm.Cond.methodLink "MealyMachinesLaw" (51 : Nat) ({ cls := "MealyMachinesModel", name := "difference", desc := "(II)I" } : Jvm.MethodName)) ∈ lw_all := lw_g (lw_at lw_m1 227 rfl) rfl
theorem q248 : (Jvm.Cond.methodLink "MealyMachinesLaw" (56 : Nat) ({ cls := "MealyMachinesModel", name := "same", desc := "()I" } : Jvm.MethodName)) ∈ lw_all := lw_g (lw_at lw_m1 231 rfl) rfl
theorem q252 : (Jvm.Cond.methodLink "MealyMachinesLaw" (60 : Nat) ({ cls := "MealyMachinesModel", name := "classes", desc := "(I)I" } : Jvm.MethodName)) ∈ lw_all := lw_g (lw_at lw_m1 235 rfl) rfl
theorem q256 : (Jvm.Cond.methodLink "MealyMachinesLaw" (64 : Nat) ({ cls := "MealyMachinesModel", name := "core", desc := "(I)I" } : Jvm.MethodName)) ∈ lw_all := lw_g (lw_at lw_m1 239 rfl) rfl
theorem q268 : (Jvm.Cond.methodLink "MealyMachinesLaw" (68 : Nat) ({ cls := "MealyMachinesModel", name := "coreNext", desc := "(III)I" } : Jvm.MethodName)) ∈ lw_all := lw_g (lw_at lw_m2 11 rfl) rfl
theorem q272 : (Jvm.Cond.methodLink "MealyMachinesLaw" (72 : Nat) ({ cls := "MealyMachinesModel", name := "coreAnswer", desc := "(III)I" } : Jvm.MethodName)) ∈ lw_all := lw_g (lw_at lw_m2 15 rfl) rfl
theorem q276 : (Jvm.Cond.methodLink "MealyMachinesLaw" (76 : Nat) ({ cls := "MealyMachinesModel", name := "classOf", desc := "(I)I" } : Jvm.MethodName)) ∈ lw_all := lw_g (lw_at lw_m2 19 rfl) rfl
theorem q280 : (Jvm.Cond.methodLink "MealyMachinesLaw" (80 : Nat) ({ cls := "MealyMachinesModel", name := "reset", desc := "(I)I" } : Jvm.MethodName)) ∈ lw_all := lw_g (lw_at lw_m2 23 rfl) rfl
theorem q59 : (Jvm.Cond.arrayClass Jvm.ClassFile.FieldType.int) ∈ lw_all := lw_g (lw_at lw_m1 42 rfl) rfl
/-! the law's own entry -/
abbrev cL_law : ByteArray := code
end
section
set_option maxRecDepth 100000
theorem dL_law_0 : decode cL_law 0 = .ok (.new 7, 3) := by decide +kernel
theorem dL_law_3 : decode cL_law 3 = .ok (.dup, 1) := by decide +kernel
theorem dL_law_4 : decode cL_law 4 = .ok (.invokespecial 9, 3) := by decide +kernel
theorem dL_law_7 : decode cL_law 7 = .ok (.astore_n 1, 1) := by decide +kernel
theorem dL_law_8 : decode cL_law 8 = .ok (.new 10, 3) := by decide +kernel
theorem dL_law_11 : decode cL_law 11 = .ok (.dup, 1) := by decide +kernel
theorem dL_law_12 : decode cL_law 12 = .ok (.invokespecial 12, 3) := by decide +kernel
theorem dL_law_15 : decode cL_law 15 = .ok (.astore_n 2, 1) := by decide +kernel
theorem dL_law_16 : decode cL_law 16 = .ok (.iconst 0, 1) := by decide +kernel
theorem dL_law_17 : decode cL_law 17 = .ok (.istore_n 3, 1) := by decide +kernel
theorem dL_law_18 : decode cL_law 18 = .ok (.iload_n 3, 1) := by decide +kernel
theorem dL_law_19 : decode cL_law 19 = .ok (.aload_n 0, 1) := by decide +kernel
theorem dL_law_20 : decode cL_law 20 = .ok (.arraylength, 1) := by decide +kernel
theorem dL_law_21 : decode cL_law 21 = .ok (.iconst 4, 1) := by decide +kernel
theorem dL_law_22 : decode cL_law 22 = .ok (.isub, 1) := by decide +kernel
theorem dL_law_23 : decode cL_law 23 = .ok (.if_icmp .gt 593, 3) := by decide +kernel
theorem dL_law_26 : decode cL_law 26 = .ok (.aload_n 0, 1) := by decide +kernel
theorem dL_law_27 : decode cL_law 27 = .ok (.iload_n 3, 1) := by decide +kernel
theorem dL_law_28 : decode cL_law 28 = .ok (.iaload, 1) := by decide +kernel
theorem dL_law_29 : decode cL_law 29 = .ok (.bipush 15, 2) := by decide +kernel
theorem dL_law_31 : decode cL_law 31 = .ok (.iand, 1) := by decide +kernel
theorem dL_law_32 : decode cL_law 32 = .ok (.tableswitch 578 0 15 #[80, 113, 156, 199, 232, 255, 288, 321, 354, 387, 400, 423, 446, 489, 532, 555], 80) := by decide +kernel
theorem dL_law_112 : decode cL_law 112 = .ok (.aload_n 1, 1) := by decide +kernel
theorem dL_law_113 : decode cL_law 113 = .ok (.aload_n 0, 1) := by decide +kernel
theorem dL_law_114 : decode cL_law 114 = .ok (.iload_n 3, 1) := by decide +kernel
theorem dL_law_115 : decode cL_law 115 = .ok (.iconst 1, 1) := by decide +kernel
theorem dL_law_116 : decode cL_law 116 = .ok (.iadd, 1) := by decide +kernel
theorem dL_law_117 : decode cL_law 117 = .ok (.iaload, 1) := by decide +kernel
theorem dL_law_118 : decode cL_law 118 = .ok (.aload_n 0, 1) := by decide +kernel
theorem dL_law_119 : decode cL_law 119 = .ok (.iload_n 3, 1) := by decide +kernel
theorem dL_law_120 : decode cL_law 120 = .ok (.iconst 2, 1) := by decide +kernel
theorem dL_law_121 : decode cL_law 121 = .ok (.iadd, 1) := by decide +kernel
theorem dL_law_122 : decode cL_law 122 = .ok (.iaload, 1) := by decide +kernel
theorem dL_law_123 : decode cL_law 123 = .ok (.invokevirtual 13, 3) := by decide +kernel
theorem dL_law_126 : decode cL_law 126 = .ok (.aload_n 2, 1) := by decide +kernel
theorem dL_law_127 : decode cL_law 127 = .ok (.aload_n 0, 1) := by decide +kernel
theorem dL_law_128 : decode cL_law 128 = .ok (.iload_n 3, 1) := by decide +kernel
theorem dL_law_129 : decode cL_law 129 = .ok (.iconst 1, 1) := by decide +kernel
theorem dL_law_130 : decode cL_law 130 = .ok (.iadd, 1) := by decide +kernel
theorem dL_law_131 : decode cL_law 131 = .ok (.iaload, 1) := by decide +kernel
theorem dL_law_132 : decode cL_law 132 = .ok (.aload_n 0, 1) := by decide +kernel
theorem dL_law_133 : decode cL_law 133 = .ok (.iload_n 3, 1) := by decide +kernel
theorem dL_law_134 : decode cL_law 134 = .ok (.iconst 2, 1) := by decide +kernel
theorem dL_law_135 : decode cL_law 135 = .ok (.iadd, 1) := by decide +kernel
theorem dL_law_136 : decode cL_law 136 = .ok (.iaload, 1) := by decide +kernel
theorem dL_law_137 : decode cL_law 137 = .ok (.invokevirtual 17, 3) := by decide +kernel
theorem dL_law_140 : decode cL_law 140 = .ok (.if_icmp .eq 470, 3) := by decide +kernel
theorem dL_law_143 : decode cL_law 143 = .ok (.iconst 0, 1) := by decide +kernel
theorem dL_law_144 : decode cL_law 144 = .ok (.ireturn, 1) := by decide +kernel
theorem dL_law_145 : decode cL_law 145 = .ok (.aload_n 1, 1) := by decide +kernel
theorem dL_law_146 : decode cL_law 146 = .ok (.aload_n 0, 1) := by decide +kernel
theorem dL_law_147 : decode cL_law 147 = .ok (.iload_n 3, 1) := by decide +kernel
theorem dL_law_148 : decode cL_law 148 = .ok (.iconst 1, 1) := by decide +kernel
theorem dL_law_149 : decode cL_law 149 = .ok (.iadd, 1) := by decide +kernel
theorem dL_law_150 : decode cL_law 150 = .ok (.iaload, 1) := by decide +kernel
theorem dL_law_151 : decode cL_law 151 = .ok (.aload_n 0, 1) := by decide +kernel
theorem dL_law_152 : decode cL_law 152 = .ok (.iload_n 3, 1) := by decide +kernel
theorem dL_law_153 : decode cL_law 153 = .ok (.iconst 2, 1) := by decide +kernel
theorem dL_law_154 : decode cL_law 154 = .ok (.iadd, 1) := by decide +kernel
theorem dL_law_155 : decode cL_law 155 = .ok (.iaload, 1) := by decide +kernel
theorem dL_law_156 : decode cL_law 156 = .ok (.aload_n 0, 1) := by decide +kernel
theorem dL_law_157 : decode cL_law 157 = .ok (.iload_n 3, 1) := by decide +kernel
theorem dL_law_158 : decode cL_law 158 = .ok (.iconst 3, 1) := by decide +kernel
theorem dL_law_159 : decode cL_law 159 = .ok (.iadd, 1) := by decide +kernel
theorem dL_law_160 : decode cL_law 160 = .ok (.iaload, 1) := by decide +kernel
theorem dL_law_161 : decode cL_law 161 = .ok (.invokevirtual 18, 3) := by decide +kernel
theorem dL_law_164 : decode cL_law 164 = .ok (.aload_n 2, 1) := by decide +kernel
theorem dL_law_165 : decode cL_law 165 = .ok (.aload_n 0, 1) := by decide +kernel
theorem dL_law_166 : decode cL_law 166 = .ok (.iload_n 3, 1) := by decide +kernel
theorem dL_law_167 : decode cL_law 167 = .ok (.iconst 1, 1) := by decide +kernel
theorem dL_law_168 : decode cL_law 168 = .ok (.iadd, 1) := by decide +kernel
theorem dL_law_169 : decode cL_law 169 = .ok (.iaload, 1) := by decide +kernel
theorem dL_law_170 : decode cL_law 170 = .ok (.aload_n 0, 1) := by decide +kernel
theorem dL_law_171 : decode cL_law 171 = .ok (.iload_n 3, 1) := by decide +kernel
theorem dL_law_172 : decode cL_law 172 = .ok (.iconst 2, 1) := by decide +kernel
theorem dL_law_173 : decode cL_law 173 = .ok (.iadd, 1) := by decide +kernel
theorem dL_law_174 : decode cL_law 174 = .ok (.iaload, 1) := by decide +kernel
theorem dL_law_175 : decode cL_law 175 = .ok (.aload_n 0, 1) := by decide +kernel
theorem dL_law_176 : decode cL_law 176 = .ok (.iload_n 3, 1) := by decide +kernel
theorem dL_law_177 : decode cL_law 177 = .ok (.iconst 3, 1) := by decide +kernel
theorem dL_law_178 : decode cL_law 178 = .ok (.iadd, 1) := by decide +kernel
theorem dL_law_179 : decode cL_law 179 = .ok (.iaload, 1) := by decide +kernel
theorem dL_law_180 : decode cL_law 180 = .ok (.invokevirtual 22, 3) := by decide +kernel
theorem dL_law_183 : decode cL_law 183 = .ok (.if_icmp .eq 427, 3) := by decide +kernel
theorem dL_law_186 : decode cL_law 186 = .ok (.iconst 0, 1) := by decide +kernel
theorem dL_law_187 : decode cL_law 187 = .ok (.ireturn, 1) := by decide +kernel
theorem dL_law_188 : decode cL_law 188 = .ok (.aload_n 1, 1) := by decide +kernel
theorem dL_law_189 : decode cL_law 189 = .ok (.aload_n 0, 1) := by decide +kernel
theorem dL_law_190 : decode cL_law 190 = .ok (.iload_n 3, 1) := by decide +kernel
theorem dL_law_191 : decode cL_law 191 = .ok (.iconst 1, 1) := by decide +kernel
theorem dL_law_192 : decode cL_law 192 = .ok (.iadd, 1) := by decide +kernel
theorem dL_law_193 : decode cL_law 193 = .ok (.iaload, 1) := by decide +kernel
theorem dL_law_194 : decode cL_law 194 = .ok (.aload_n 0, 1) := by decide +kernel
theorem dL_law_195 : decode cL_law 195 = .ok (.iload_n 3, 1) := by decide +kernel
theorem dL_law_196 : decode cL_law 196 = .ok (.iconst 2, 1) := by decide +kernel
theorem dL_law_197 : decode cL_law 197 = .ok (.iadd, 1) := by decide +kernel
theorem dL_law_198 : decode cL_law 198 = .ok (.iaload, 1) := by decide +kernel
theorem dL_law_199 : decode cL_law 199 = .ok (.aload_n 0, 1) := by decide +kernel
theorem dL_law_200 : decode cL_law 200 = .ok (.iload_n 3, 1) := by decide +kernel
theorem dL_law_201 : decode cL_law 201 = .ok (.iconst 3, 1) := by decide +kernel
theorem dL_law_202 : decode cL_law 202 = .ok (.iadd, 1) := by decide +kernel
theorem dL_law_203 : decode cL_law 203 = .ok (.iaload, 1) := by decide +kernel
theorem dL_law_204 : decode cL_law 204 = .ok (.invokevirtual 23, 3) := by decide +kernel
theorem dL_law_207 : decode cL_law 207 = .ok (.aload_n 2, 1) := by decide +kernel
theorem dL_law_208 : decode cL_law 208 = .ok (.aload_n 0, 1) := by decide +kernel
theorem dL_law_209 : decode cL_law 209 = .ok (.iload_n 3, 1) := by decide +kernel
theorem dL_law_210 : decode cL_law 210 = .ok (.iconst 1, 1) := by decide +kernel
theorem dL_law_211 : decode cL_law 211 = .ok (.iadd, 1) := by decide +kernel
theorem dL_law_212 : decode cL_law 212 = .ok (.iaload, 1) := by decide +kernel
theorem dL_law_213 : decode cL_law 213 = .ok (.aload_n 0, 1) := by decide +kernel
theorem dL_law_214 : decode cL_law 214 = .ok (.iload_n 3, 1) := by decide +kernel
theorem dL_law_215 : decode cL_law 215 = .ok (.iconst 2, 1) := by decide +kernel
theorem dL_law_216 : decode cL_law 216 = .ok (.iadd, 1) := by decide +kernel
theorem dL_law_217 : decode cL_law 217 = .ok (.iaload, 1) := by decide +kernel
theorem dL_law_218 : decode cL_law 218 = .ok (.aload_n 0, 1) := by decide +kernel
theorem dL_law_219 : decode cL_law 219 = .ok (.iload_n 3, 1) := by decide +kernel
theorem dL_law_220 : decode cL_law 220 = .ok (.iconst 3, 1) := by decide +kernel
theorem dL_law_221 : decode cL_law 221 = .ok (.iadd, 1) := by decide +kernel
theorem dL_law_222 : decode cL_law 222 = .ok (.iaload, 1) := by decide +kernel
theorem dL_law_223 : decode cL_law 223 = .ok (.invokevirtual 26, 3) := by decide +kernel
theorem dL_law_226 : decode cL_law 226 = .ok (.if_icmp .eq 384, 3) := by decide +kernel
theorem dL_law_229 : decode cL_law 229 = .ok (.iconst 0, 1) := by decide +kernel
theorem dL_law_230 : decode cL_law 230 = .ok (.ireturn, 1) := by decide +kernel
theorem dL_law_231 : decode cL_law 231 = .ok (.aload_n 1, 1) := by decide +kernel
theorem dL_law_232 : decode cL_law 232 = .ok (.aload_n 0, 1) := by decide +kernel
theorem dL_law_233 : decode cL_law 233 = .ok (.iload_n 3, 1) := by decide +kernel
theorem dL_law_234 : decode cL_law 234 = .ok (.iconst 1, 1) := by decide +kernel
theorem dL_law_235 : decode cL_law 235 = .ok (.iadd, 1) := by decide +kernel
theorem dL_law_236 : decode cL_law 236 = .ok (.iaload, 1) := by decide +kernel
theorem dL_law_237 : decode cL_law 237 = .ok (.aload_n 0, 1) := by decide +kernel
theorem dL_law_238 : decode cL_law 238 = .ok (.iload_n 3, 1) := by decide +kernel
theorem dL_law_239 : decode cL_law 239 = .ok (.iconst 2, 1) := by decide +kernel
theorem dL_law_240 : decode cL_law 240 = .ok (.iadd, 1) := by decide +kernel
theorem dL_law_241 : decode cL_law 241 = .ok (.iaload, 1) := by decide +kernel
theorem dL_law_242 : decode cL_law 242 = .ok (.invokevirtual 27, 3) := by decide +kernel
theorem dL_law_245 : decode cL_law 245 = .ok (.aload_n 2, 1) := by decide +kernel
theorem dL_law_246 : decode cL_law 246 = .ok (.aload_n 0, 1) := by decide +kernel
theorem dL_law_247 : decode cL_law 247 = .ok (.iload_n 3, 1) := by decide +kernel
theorem dL_law_248 : decode cL_law 248 = .ok (.iconst 1, 1) := by decide +kernel
theorem dL_law_249 : decode cL_law 249 = .ok (.iadd, 1) := by decide +kernel
theorem dL_law_250 : decode cL_law 250 = .ok (.iaload, 1) := by decide +kernel
theorem dL_law_251 : decode cL_law 251 = .ok (.aload_n 0, 1) := by decide +kernel
theorem dL_law_252 : decode cL_law 252 = .ok (.iload_n 3, 1) := by decide +kernel
theorem dL_law_253 : decode cL_law 253 = .ok (.iconst 2, 1) := by decide +kernel
theorem dL_law_254 : decode cL_law 254 = .ok (.iadd, 1) := by decide +kernel
theorem dL_law_255 : decode cL_law 255 = .ok (.iaload, 1) := by decide +kernel
theorem dL_law_256 : decode cL_law 256 = .ok (.invokevirtual 30, 3) := by decide +kernel
theorem dL_law_259 : decode cL_law 259 = .ok (.if_icmp .eq 351, 3) := by decide +kernel
theorem dL_law_262 : decode cL_law 262 = .ok (.iconst 0, 1) := by decide +kernel
theorem dL_law_263 : decode cL_law 263 = .ok (.ireturn, 1) := by decide +kernel
theorem dL_law_264 : decode cL_law 264 = .ok (.aload_n 1, 1) := by decide +kernel
theorem dL_law_265 : decode cL_law 265 = .ok (.aload_n 0, 1) := by decide +kernel
theorem dL_law_266 : decode cL_law 266 = .ok (.iload_n 3, 1) := by decide +kernel
theorem dL_law_267 : decode cL_law 267 = .ok (.iconst 1, 1) := by decide +kernel
theorem dL_law_268 : decode cL_law 268 = .ok (.iadd, 1) := by decide +kernel
theorem dL_law_269 : decode cL_law 269 = .ok (.iaload, 1) := by decide +kernel
theorem dL_law_270 : decode cL_law 270 = .ok (.invokevirtual 31, 3) := by decide +kernel
theorem dL_law_273 : decode cL_law 273 = .ok (.aload_n 2, 1) := by decide +kernel
theorem dL_law_274 : decode cL_law 274 = .ok (.aload_n 0, 1) := by decide +kernel
theorem dL_law_275 : decode cL_law 275 = .ok (.iload_n 3, 1) := by decide +kernel
theorem dL_law_276 : decode cL_law 276 = .ok (.iconst 1, 1) := by decide +kernel
theorem dL_law_277 : decode cL_law 277 = .ok (.iadd, 1) := by decide +kernel
theorem dL_law_278 : decode cL_law 278 = .ok (.iaload, 1) := by decide +kernel
theorem dL_law_279 : decode cL_law 279 = .ok (.invokevirtual 35, 3) := by decide +kernel
theorem dL_law_282 : decode cL_law 282 = .ok (.if_icmp .eq 328, 3) := by decide +kernel
theorem dL_law_285 : decode cL_law 285 = .ok (.iconst 0, 1) := by decide +kernel
theorem dL_law_286 : decode cL_law 286 = .ok (.ireturn, 1) := by decide +kernel
theorem dL_law_287 : decode cL_law 287 = .ok (.aload_n 1, 1) := by decide +kernel
theorem dL_law_288 : decode cL_law 288 = .ok (.aload_n 0, 1) := by decide +kernel
theorem dL_law_289 : decode cL_law 289 = .ok (.iload_n 3, 1) := by decide +kernel
theorem dL_law_290 : decode cL_law 290 = .ok (.iconst 1, 1) := by decide +kernel
theorem dL_law_291 : decode cL_law 291 = .ok (.iadd, 1) := by decide +kernel
theorem dL_law_292 : decode cL_law 292 = .ok (.iaload, 1) := by decide +kernel
theorem dL_law_293 : decode cL_law 293 = .ok (.aload_n 0, 1) := by decide +kernel
theorem dL_law_294 : decode cL_law 294 = .ok (.iload_n 3, 1) := by decide +kernel
theorem dL_law_295 : decode cL_law 295 = .ok (.iconst 2, 1) := by decide +kernel
theorem dL_law_296 : decode cL_law 296 = .ok (.iadd, 1) := by decide +kernel
theorem dL_law_297 : decode cL_law 297 = .ok (.iaload, 1) := by decide +kernel
theorem dL_law_298 : decode cL_law 298 = .ok (.invokevirtual 36, 3) := by decide +kernel
theorem dL_law_301 : decode cL_law 301 = .ok (.aload_n 2, 1) := by decide +kernel
theorem dL_law_302 : decode cL_law 302 = .ok (.aload_n 0, 1) := by decide +kernel
theorem dL_law_303 : decode cL_law 303 = .ok (.iload_n 3, 1) := by decide +kernel
theorem dL_law_304 : decode cL_law 304 = .ok (.iconst 1, 1) := by decide +kernel
theorem dL_law_305 : decode cL_law 305 = .ok (.iadd, 1) := by decide +kernel
theorem dL_law_306 : decode cL_law 306 = .ok (.iaload, 1) := by decide +kernel
theorem dL_law_307 : decode cL_law 307 = .ok (.aload_n 0, 1) := by decide +kernel
theorem dL_law_308 : decode cL_law 308 = .ok (.iload_n 3, 1) := by decide +kernel
theorem dL_law_309 : decode cL_law 309 = .ok (.iconst 2, 1) := by decide +kernel
theorem dL_law_310 : decode cL_law 310 = .ok (.iadd, 1) := by decide +kernel
theorem dL_law_311 : decode cL_law 311 = .ok (.iaload, 1) := by decide +kernel
theorem dL_law_312 : decode cL_law 312 = .ok (.invokevirtual 39, 3) := by decide +kernel
theorem dL_law_315 : decode cL_law 315 = .ok (.if_icmp .eq 295, 3) := by decide +kernel
theorem dL_law_318 : decode cL_law 318 = .ok (.iconst 0, 1) := by decide +kernel
theorem dL_law_319 : decode cL_law 319 = .ok (.ireturn, 1) := by decide +kernel
theorem dL_law_320 : decode cL_law 320 = .ok (.aload_n 1, 1) := by decide +kernel
theorem dL_law_321 : decode cL_law 321 = .ok (.aload_n 0, 1) := by decide +kernel
theorem dL_law_322 : decode cL_law 322 = .ok (.iload_n 3, 1) := by decide +kernel
theorem dL_law_323 : decode cL_law 323 = .ok (.iconst 1, 1) := by decide +kernel
theorem dL_law_324 : decode cL_law 324 = .ok (.iadd, 1) := by decide +kernel
theorem dL_law_325 : decode cL_law 325 = .ok (.iaload, 1) := by decide +kernel
theorem dL_law_326 : decode cL_law 326 = .ok (.aload_n 0, 1) := by decide +kernel
theorem dL_law_327 : decode cL_law 327 = .ok (.iload_n 3, 1) := by decide +kernel
theorem dL_law_328 : decode cL_law 328 = .ok (.iconst 2, 1) := by decide +kernel
theorem dL_law_329 : decode cL_law 329 = .ok (.iadd, 1) := by decide +kernel
theorem dL_law_330 : decode cL_law 330 = .ok (.iaload, 1) := by decide +kernel
theorem dL_law_331 : decode cL_law 331 = .ok (.invokevirtual 40, 3) := by decide +kernel
theorem dL_law_334 : decode cL_law 334 = .ok (.aload_n 2, 1) := by decide +kernel
theorem dL_law_335 : decode cL_law 335 = .ok (.aload_n 0, 1) := by decide +kernel
theorem dL_law_336 : decode cL_law 336 = .ok (.iload_n 3, 1) := by decide +kernel
theorem dL_law_337 : decode cL_law 337 = .ok (.iconst 1, 1) := by decide +kernel
theorem dL_law_338 : decode cL_law 338 = .ok (.iadd, 1) := by decide +kernel
theorem dL_law_339 : decode cL_law 339 = .ok (.iaload, 1) := by decide +kernel
theorem dL_law_340 : decode cL_law 340 = .ok (.aload_n 0, 1) := by decide +kernel
theorem dL_law_341 : decode cL_law 341 = .ok (.iload_n 3, 1) := by decide +kernel
theorem dL_law_342 : decode cL_law 342 = .ok (.iconst 2, 1) := by decide +kernel
theorem dL_law_343 : decode cL_law 343 = .ok (.iadd, 1) := by decide +kernel
theorem dL_law_344 : decode cL_law 344 = .ok (.iaload, 1) := by decide +kernel
theorem dL_law_345 : decode cL_law 345 = .ok (.invokevirtual 43, 3) := by decide +kernel
theorem dL_law_348 : decode cL_law 348 = .ok (.if_icmp .eq 262, 3) := by decide +kernel
theorem dL_law_351 : decode cL_law 351 = .ok (.iconst 0, 1) := by decide +kernel
theorem dL_law_352 : decode cL_law 352 = .ok (.ireturn, 1) := by decide +kernel
theorem dL_law_353 : decode cL_law 353 = .ok (.aload_n 1, 1) := by decide +kernel
theorem dL_law_354 : decode cL_law 354 = .ok (.aload_n 0, 1) := by decide +kernel
theorem dL_law_355 : decode cL_law 355 = .ok (.iload_n 3, 1) := by decide +kernel
theorem dL_law_356 : decode cL_law 356 = .ok (.iconst 1, 1) := by decide +kernel
theorem dL_law_357 : decode cL_law 357 = .ok (.iadd, 1) := by decide +kernel
theorem dL_law_358 : decode cL_law 358 = .ok (.iaload, 1) := by decide +kernel
theorem dL_law_359 : decode cL_law 359 = .ok (.aload_n 0, 1) := by decide +kernel
theorem dL_law_360 : decode cL_law 360 = .ok (.iload_n 3, 1) := by decide +kernel
theorem dL_law_361 : decode cL_law 361 = .ok (.iconst 2, 1) := by decide +kernel
theorem dL_law_362 : decode cL_law 362 = .ok (.iadd, 1) := by decide +kernel
theorem dL_law_363 : decode cL_law 363 = .ok (.iaload, 1) := by decide +kernel
theorem dL_law_364 : decode cL_law 364 = .ok (.invokevirtual 44, 3) := by decide +kernel
theorem dL_law_367 : decode cL_law 367 = .ok (.aload_n 2, 1) := by decide +kernel
theorem dL_law_368 : decode cL_law 368 = .ok (.aload_n 0, 1) := by decide +kernel
theorem dL_law_369 : decode cL_law 369 = .ok (.iload_n 3, 1) := by decide +kernel
theorem dL_law_370 : decode cL_law 370 = .ok (.iconst 1, 1) := by decide +kernel
theorem dL_law_371 : decode cL_law 371 = .ok (.iadd, 1) := by decide +kernel
theorem dL_law_372 : decode cL_law 372 = .ok (.iaload, 1) := by decide +kernel
theorem dL_law_373 : decode cL_law 373 = .ok (.aload_n 0, 1) := by decide +kernel
theorem dL_law_374 : decode cL_law 374 = .ok (.iload_n 3, 1) := by decide +kernel
theorem dL_law_375 : decode cL_law 375 = .ok (.iconst 2, 1) := by decide +kernel
theorem dL_law_376 : decode cL_law 376 = .ok (.iadd, 1) := by decide +kernel
theorem dL_law_377 : decode cL_law 377 = .ok (.iaload, 1) := by decide +kernel
theorem dL_law_378 : decode cL_law 378 = .ok (.invokevirtual 47, 3) := by decide +kernel
theorem dL_law_381 : decode cL_law 381 = .ok (.if_icmp .eq 229, 3) := by decide +kernel
theorem dL_law_384 : decode cL_law 384 = .ok (.iconst 0, 1) := by decide +kernel
theorem dL_law_385 : decode cL_law 385 = .ok (.ireturn, 1) := by decide +kernel
theorem dL_law_386 : decode cL_law 386 = .ok (.aload_n 1, 1) := by decide +kernel
theorem dL_law_387 : decode cL_law 387 = .ok (.aload_n 0, 1) := by decide +kernel
theorem dL_law_388 : decode cL_law 388 = .ok (.iload_n 3, 1) := by decide +kernel
theorem dL_law_389 : decode cL_law 389 = .ok (.iconst 1, 1) := by decide +kernel
theorem dL_law_390 : decode cL_law 390 = .ok (.iadd, 1) := by decide +kernel
theorem dL_law_391 : decode cL_law 391 = .ok (.iaload, 1) := by decide +kernel
theorem dL_law_392 : decode cL_law 392 = .ok (.aload_n 0, 1) := by decide +kernel
theorem dL_law_393 : decode cL_law 393 = .ok (.iload_n 3, 1) := by decide +kernel
theorem dL_law_394 : decode cL_law 394 = .ok (.iconst 2, 1) := by decide +kernel
theorem dL_law_395 : decode cL_law 395 = .ok (.iadd, 1) := by decide +kernel
theorem dL_law_396 : decode cL_law 396 = .ok (.iaload, 1) := by decide +kernel
theorem dL_law_397 : decode cL_law 397 = .ok (.invokevirtual 48, 3) := by decide +kernel
theorem dL_law_400 : decode cL_law 400 = .ok (.aload_n 2, 1) := by decide +kernel
theorem dL_law_401 : decode cL_law 401 = .ok (.aload_n 0, 1) := by decide +kernel
theorem dL_law_402 : decode cL_law 402 = .ok (.iload_n 3, 1) := by decide +kernel
theorem dL_law_403 : decode cL_law 403 = .ok (.iconst 1, 1) := by decide +kernel
theorem dL_law_404 : decode cL_law 404 = .ok (.iadd, 1) := by decide +kernel
theorem dL_law_405 : decode cL_law 405 = .ok (.iaload, 1) := by decide +kernel
theorem dL_law_406 : decode cL_law 406 = .ok (.aload_n 0, 1) := by decide +kernel
theorem dL_law_407 : decode cL_law 407 = .ok (.iload_n 3, 1) := by decide +kernel
theorem dL_law_408 : decode cL_law 408 = .ok (.iconst 2, 1) := by decide +kernel
theorem dL_law_409 : decode cL_law 409 = .ok (.iadd, 1) := by decide +kernel
theorem dL_law_410 : decode cL_law 410 = .ok (.iaload, 1) := by decide +kernel
theorem dL_law_411 : decode cL_law 411 = .ok (.invokevirtual 51, 3) := by decide +kernel
theorem dL_law_414 : decode cL_law 414 = .ok (.if_icmp .eq 196, 3) := by decide +kernel
theorem dL_law_417 : decode cL_law 417 = .ok (.iconst 0, 1) := by decide +kernel
theorem dL_law_418 : decode cL_law 418 = .ok (.ireturn, 1) := by decide +kernel
theorem dL_law_419 : decode cL_law 419 = .ok (.aload_n 1, 1) := by decide +kernel
theorem dL_law_420 : decode cL_law 420 = .ok (.invokevirtual 52, 3) := by decide +kernel
theorem dL_law_423 : decode cL_law 423 = .ok (.aload_n 2, 1) := by decide +kernel
theorem dL_law_424 : decode cL_law 424 = .ok (.invokevirtual 56, 3) := by decide +kernel
theorem dL_law_427 : decode cL_law 427 = .ok (.if_icmp .eq 183, 3) := by decide +kernel
theorem dL_law_430 : decode cL_law 430 = .ok (.iconst 0, 1) := by decide +kernel
theorem dL_law_431 : decode cL_law 431 = .ok (.ireturn, 1) := by decide +kernel
theorem dL_law_432 : decode cL_law 432 = .ok (.aload_n 1, 1) := by decide +kernel
theorem dL_law_433 : decode cL_law 433 = .ok (.aload_n 0, 1) := by decide +kernel
theorem dL_law_434 : decode cL_law 434 = .ok (.iload_n 3, 1) := by decide +kernel
theorem dL_law_435 : decode cL_law 435 = .ok (.iconst 1, 1) := by decide +kernel
theorem dL_law_436 : decode cL_law 436 = .ok (.iadd, 1) := by decide +kernel
theorem dL_law_437 : decode cL_law 437 = .ok (.iaload, 1) := by decide +kernel
theorem dL_law_438 : decode cL_law 438 = .ok (.invokevirtual 57, 3) := by decide +kernel
theorem dL_law_441 : decode cL_law 441 = .ok (.aload_n 2, 1) := by decide +kernel
theorem dL_law_442 : decode cL_law 442 = .ok (.aload_n 0, 1) := by decide +kernel
theorem dL_law_443 : decode cL_law 443 = .ok (.iload_n 3, 1) := by decide +kernel
theorem dL_law_444 : decode cL_law 444 = .ok (.iconst 1, 1) := by decide +kernel
theorem dL_law_445 : decode cL_law 445 = .ok (.iadd, 1) := by decide +kernel
theorem dL_law_446 : decode cL_law 446 = .ok (.iaload, 1) := by decide +kernel
theorem dL_law_447 : decode cL_law 447 = .ok (.invokevirtual 60, 3) := by decide +kernel
theorem dL_law_450 : decode cL_law 450 = .ok (.if_icmp .eq 160, 3) := by decide +kernel
theorem dL_law_453 : decode cL_law 453 = .ok (.iconst 0, 1) := by decide +kernel
theorem dL_law_454 : decode cL_law 454 = .ok (.ireturn, 1) := by decide +kernel
theorem dL_law_455 : decode cL_law 455 = .ok (.aload_n 1, 1) := by decide +kernel
theorem dL_law_456 : decode cL_law 456 = .ok (.aload_n 0, 1) := by decide +kernel
theorem dL_law_457 : decode cL_law 457 = .ok (.iload_n 3, 1) := by decide +kernel
theorem dL_law_458 : decode cL_law 458 = .ok (.iconst 1, 1) := by decide +kernel
theorem dL_law_459 : decode cL_law 459 = .ok (.iadd, 1) := by decide +kernel
theorem dL_law_460 : decode cL_law 460 = .ok (.iaload, 1) := by decide +kernel
theorem dL_law_461 : decode cL_law 461 = .ok (.invokevirtual 61, 3) := by decide +kernel
theorem dL_law_464 : decode cL_law 464 = .ok (.aload_n 2, 1) := by decide +kernel
theorem dL_law_465 : decode cL_law 465 = .ok (.aload_n 0, 1) := by decide +kernel
theorem dL_law_466 : decode cL_law 466 = .ok (.iload_n 3, 1) := by decide +kernel
theorem dL_law_467 : decode cL_law 467 = .ok (.iconst 1, 1) := by decide +kernel
theorem dL_law_468 : decode cL_law 468 = .ok (.iadd, 1) := by decide +kernel
theorem dL_law_469 : decode cL_law 469 = .ok (.iaload, 1) := by decide +kernel
theorem dL_law_470 : decode cL_law 470 = .ok (.invokevirtual 64, 3) := by decide +kernel
theorem dL_law_473 : decode cL_law 473 = .ok (.if_icmp .eq 137, 3) := by decide +kernel
theorem dL_law_476 : decode cL_law 476 = .ok (.iconst 0, 1) := by decide +kernel
theorem dL_law_477 : decode cL_law 477 = .ok (.ireturn, 1) := by decide +kernel
theorem dL_law_478 : decode cL_law 478 = .ok (.aload_n 1, 1) := by decide +kernel
theorem dL_law_479 : decode cL_law 479 = .ok (.aload_n 0, 1) := by decide +kernel
theorem dL_law_480 : decode cL_law 480 = .ok (.iload_n 3, 1) := by decide +kernel
theorem dL_law_481 : decode cL_law 481 = .ok (.iconst 1, 1) := by decide +kernel
theorem dL_law_482 : decode cL_law 482 = .ok (.iadd, 1) := by decide +kernel
theorem dL_law_483 : decode cL_law 483 = .ok (.iaload, 1) := by decide +kernel
theorem dL_law_484 : decode cL_law 484 = .ok (.aload_n 0, 1) := by decide +kernel
theorem dL_law_485 : decode cL_law 485 = .ok (.iload_n 3, 1) := by decide +kernel
theorem dL_law_486 : decode cL_law 486 = .ok (.iconst 2, 1) := by decide +kernel
theorem dL_law_487 : decode cL_law 487 = .ok (.iadd, 1) := by decide +kernel
theorem dL_law_488 : decode cL_law 488 = .ok (.iaload, 1) := by decide +kernel
theorem dL_law_489 : decode cL_law 489 = .ok (.aload_n 0, 1) := by decide +kernel
theorem dL_law_490 : decode cL_law 490 = .ok (.iload_n 3, 1) := by decide +kernel
theorem dL_law_491 : decode cL_law 491 = .ok (.iconst 3, 1) := by decide +kernel
theorem dL_law_492 : decode cL_law 492 = .ok (.iadd, 1) := by decide +kernel
theorem dL_law_493 : decode cL_law 493 = .ok (.iaload, 1) := by decide +kernel
theorem dL_law_494 : decode cL_law 494 = .ok (.invokevirtual 65, 3) := by decide +kernel
theorem dL_law_497 : decode cL_law 497 = .ok (.aload_n 2, 1) := by decide +kernel
theorem dL_law_498 : decode cL_law 498 = .ok (.aload_n 0, 1) := by decide +kernel
theorem dL_law_499 : decode cL_law 499 = .ok (.iload_n 3, 1) := by decide +kernel
theorem dL_law_500 : decode cL_law 500 = .ok (.iconst 1, 1) := by decide +kernel
theorem dL_law_501 : decode cL_law 501 = .ok (.iadd, 1) := by decide +kernel
theorem dL_law_502 : decode cL_law 502 = .ok (.iaload, 1) := by decide +kernel
theorem dL_law_503 : decode cL_law 503 = .ok (.aload_n 0, 1) := by decide +kernel
theorem dL_law_504 : decode cL_law 504 = .ok (.iload_n 3, 1) := by decide +kernel
theorem dL_law_505 : decode cL_law 505 = .ok (.iconst 2, 1) := by decide +kernel
theorem dL_law_506 : decode cL_law 506 = .ok (.iadd, 1) := by decide +kernel
theorem dL_law_507 : decode cL_law 507 = .ok (.iaload, 1) := by decide +kernel
theorem dL_law_508 : decode cL_law 508 = .ok (.aload_n 0, 1) := by decide +kernel
theorem dL_law_509 : decode cL_law 509 = .ok (.iload_n 3, 1) := by decide +kernel
theorem dL_law_510 : decode cL_law 510 = .ok (.iconst 3, 1) := by decide +kernel
theorem dL_law_511 : decode cL_law 511 = .ok (.iadd, 1) := by decide +kernel
theorem dL_law_512 : decode cL_law 512 = .ok (.iaload, 1) := by decide +kernel
theorem dL_law_513 : decode cL_law 513 = .ok (.invokevirtual 68, 3) := by decide +kernel
theorem dL_law_516 : decode cL_law 516 = .ok (.if_icmp .eq 94, 3) := by decide +kernel
theorem dL_law_519 : decode cL_law 519 = .ok (.iconst 0, 1) := by decide +kernel
theorem dL_law_520 : decode cL_law 520 = .ok (.ireturn, 1) := by decide +kernel
theorem dL_law_521 : decode cL_law 521 = .ok (.aload_n 1, 1) := by decide +kernel
theorem dL_law_522 : decode cL_law 522 = .ok (.aload_n 0, 1) := by decide +kernel
theorem dL_law_523 : decode cL_law 523 = .ok (.iload_n 3, 1) := by decide +kernel
theorem dL_law_524 : decode cL_law 524 = .ok (.iconst 1, 1) := by decide +kernel
theorem dL_law_525 : decode cL_law 525 = .ok (.iadd, 1) := by decide +kernel
theorem dL_law_526 : decode cL_law 526 = .ok (.iaload, 1) := by decide +kernel
theorem dL_law_527 : decode cL_law 527 = .ok (.aload_n 0, 1) := by decide +kernel
theorem dL_law_528 : decode cL_law 528 = .ok (.iload_n 3, 1) := by decide +kernel
theorem dL_law_529 : decode cL_law 529 = .ok (.iconst 2, 1) := by decide +kernel
theorem dL_law_530 : decode cL_law 530 = .ok (.iadd, 1) := by decide +kernel
theorem dL_law_531 : decode cL_law 531 = .ok (.iaload, 1) := by decide +kernel
theorem dL_law_532 : decode cL_law 532 = .ok (.aload_n 0, 1) := by decide +kernel
theorem dL_law_533 : decode cL_law 533 = .ok (.iload_n 3, 1) := by decide +kernel
theorem dL_law_534 : decode cL_law 534 = .ok (.iconst 3, 1) := by decide +kernel
theorem dL_law_535 : decode cL_law 535 = .ok (.iadd, 1) := by decide +kernel
theorem dL_law_536 : decode cL_law 536 = .ok (.iaload, 1) := by decide +kernel
theorem dL_law_537 : decode cL_law 537 = .ok (.invokevirtual 69, 3) := by decide +kernel
theorem dL_law_540 : decode cL_law 540 = .ok (.aload_n 2, 1) := by decide +kernel
theorem dL_law_541 : decode cL_law 541 = .ok (.aload_n 0, 1) := by decide +kernel
theorem dL_law_542 : decode cL_law 542 = .ok (.iload_n 3, 1) := by decide +kernel
theorem dL_law_543 : decode cL_law 543 = .ok (.iconst 1, 1) := by decide +kernel
theorem dL_law_544 : decode cL_law 544 = .ok (.iadd, 1) := by decide +kernel
theorem dL_law_545 : decode cL_law 545 = .ok (.iaload, 1) := by decide +kernel
theorem dL_law_546 : decode cL_law 546 = .ok (.aload_n 0, 1) := by decide +kernel
theorem dL_law_547 : decode cL_law 547 = .ok (.iload_n 3, 1) := by decide +kernel
theorem dL_law_548 : decode cL_law 548 = .ok (.iconst 2, 1) := by decide +kernel
theorem dL_law_549 : decode cL_law 549 = .ok (.iadd, 1) := by decide +kernel
theorem dL_law_550 : decode cL_law 550 = .ok (.iaload, 1) := by decide +kernel
theorem dL_law_551 : decode cL_law 551 = .ok (.aload_n 0, 1) := by decide +kernel
theorem dL_law_552 : decode cL_law 552 = .ok (.iload_n 3, 1) := by decide +kernel
theorem dL_law_553 : decode cL_law 553 = .ok (.iconst 3, 1) := by decide +kernel
theorem dL_law_554 : decode cL_law 554 = .ok (.iadd, 1) := by decide +kernel
theorem dL_law_555 : decode cL_law 555 = .ok (.iaload, 1) := by decide +kernel
theorem dL_law_556 : decode cL_law 556 = .ok (.invokevirtual 72, 3) := by decide +kernel
theorem dL_law_559 : decode cL_law 559 = .ok (.if_icmp .eq 51, 3) := by decide +kernel
theorem dL_law_562 : decode cL_law 562 = .ok (.iconst 0, 1) := by decide +kernel
theorem dL_law_563 : decode cL_law 563 = .ok (.ireturn, 1) := by decide +kernel
theorem dL_law_564 : decode cL_law 564 = .ok (.aload_n 1, 1) := by decide +kernel
theorem dL_law_565 : decode cL_law 565 = .ok (.aload_n 0, 1) := by decide +kernel
theorem dL_law_566 : decode cL_law 566 = .ok (.iload_n 3, 1) := by decide +kernel
theorem dL_law_567 : decode cL_law 567 = .ok (.iconst 1, 1) := by decide +kernel
theorem dL_law_568 : decode cL_law 568 = .ok (.iadd, 1) := by decide +kernel
theorem dL_law_569 : decode cL_law 569 = .ok (.iaload, 1) := by decide +kernel
theorem dL_law_570 : decode cL_law 570 = .ok (.invokevirtual 73, 3) := by decide +kernel
theorem dL_law_573 : decode cL_law 573 = .ok (.aload_n 2, 1) := by decide +kernel
theorem dL_law_574 : decode cL_law 574 = .ok (.aload_n 0, 1) := by decide +kernel
theorem dL_law_575 : decode cL_law 575 = .ok (.iload_n 3, 1) := by decide +kernel
theorem dL_law_576 : decode cL_law 576 = .ok (.iconst 1, 1) := by decide +kernel
theorem dL_law_577 : decode cL_law 577 = .ok (.iadd, 1) := by decide +kernel
theorem dL_law_578 : decode cL_law 578 = .ok (.iaload, 1) := by decide +kernel
theorem dL_law_579 : decode cL_law 579 = .ok (.invokevirtual 76, 3) := by decide +kernel
theorem dL_law_582 : decode cL_law 582 = .ok (.if_icmp .eq 28, 3) := by decide +kernel
theorem dL_law_585 : decode cL_law 585 = .ok (.iconst 0, 1) := by decide +kernel
theorem dL_law_586 : decode cL_law 586 = .ok (.ireturn, 1) := by decide +kernel
theorem dL_law_587 : decode cL_law 587 = .ok (.aload_n 1, 1) := by decide +kernel
theorem dL_law_588 : decode cL_law 588 = .ok (.aload_n 0, 1) := by decide +kernel
theorem dL_law_589 : decode cL_law 589 = .ok (.iload_n 3, 1) := by decide +kernel
theorem dL_law_590 : decode cL_law 590 = .ok (.iconst 1, 1) := by decide +kernel
theorem dL_law_591 : decode cL_law 591 = .ok (.iadd, 1) := by decide +kernel
theorem dL_law_592 : decode cL_law 592 = .ok (.iaload, 1) := by decide +kernel
theorem dL_law_593 : decode cL_law 593 = .ok (.invokevirtual 77, 3) := by decide +kernel
theorem dL_law_596 : decode cL_law 596 = .ok (.aload_n 2, 1) := by decide +kernel
theorem dL_law_597 : decode cL_law 597 = .ok (.aload_n 0, 1) := by decide +kernel
theorem dL_law_598 : decode cL_law 598 = .ok (.iload_n 3, 1) := by decide +kernel
theorem dL_law_599 : decode cL_law 599 = .ok (.iconst 1, 1) := by decide +kernel
theorem dL_law_600 : decode cL_law 600 = .ok (.iadd, 1) := by decide +kernel
theorem dL_law_601 : decode cL_law 601 = .ok (.iaload, 1) := by decide +kernel
theorem dL_law_602 : decode cL_law 602 = .ok (.invokevirtual 80, 3) := by decide +kernel
theorem dL_law_605 : decode cL_law 605 = .ok (.if_icmp .eq 5, 3) := by decide +kernel
theorem dL_law_608 : decode cL_law 608 = .ok (.iconst 0, 1) := by decide +kernel
theorem dL_law_609 : decode cL_law 609 = .ok (.ireturn, 1) := by decide +kernel
theorem dL_law_610 : decode cL_law 610 = .ok (.iinc 3 4, 3) := by decide +kernel
theorem dL_law_613 : decode cL_law 613 = .ok (.goto (-595), 3) := by decide +kernel
theorem dL_law_616 : decode cL_law 616 = .ok (.iconst 1, 1) := by decide +kernel
theorem dL_law_617 : decode cL_law 617 = .ok (.ireturn, 1) := by decide +kernel
theorem dJ0_init_0 : decode cJ0_init 0 = .ok (.return_, 1) := by decide +kernel
end
section
set_option maxRecDepth 100000
theorem dX0_init_0 : decode cX0_init 0 = .ok (.aload_n 0, 1) := by decide +kernel
theorem dX0_init_1 : decode cX0_init 1 = .ok (.invokespecial 1, 3) := by decide +kernel
theorem dX0_init_4 : decode cX0_init 4 = .ok (.aload_n 0, 1) := by decide +kernel
theorem dX0_init_5 : decode cX0_init 5 = .ok (.iconst 2, 1) := by decide +kernel
theorem dX0_init_6 : decode cX0_init 6 = .ok (.newarray .int, 2) := by decide +kernel
theorem dX0_init_8 : decode cX0_init 8 = .ok (.putfield 7, 3) := by decide +kernel
theorem dX0_init_11 : decode cX0_init 11 = .ok (.aload_n 0, 1) := by decide +kernel
theorem dX0_init_12 : decode cX0_init 12 = .ok (.bipush 24, 2) := by decide +kernel
theorem dX0_init_14 : decode cX0_init 14 = .ok (.newarray .int, 2) := by decide +kernel
theorem dX0_init_16 : decode cX0_init 16 = .ok (.putfield 13, 3) := by decide +kernel
theorem dX0_init_19 : decode cX0_init 19 = .ok (.aload_n 0, 1) := by decide +kernel
theorem dX0_init_20 : decode cX0_init 20 = .ok (.bipush 24, 2) := by decide +kernel
theorem dX0_init_22 : decode cX0_init 22 = .ok (.newarray .int, 2) := by decide +kernel
theorem dX0_init_24 : decode cX0_init 24 = .ok (.putfield 16, 3) := by decide +kernel
theorem dX0_init_27 : decode cX0_init 27 = .ok (.aload_n 0, 1) := by decide +kernel
theorem dX0_init_28 : decode cX0_init 28 = .ok (.sipush 144, 3) := by decide +kernel
theorem dX0_init_31 : decode cX0_init 31 = .ok (.newarray .int, 2) := by decide +kernel
theorem dX0_init_33 : decode cX0_init 33 = .ok (.putfield 19, 3) := by decide +kernel
theorem dX0_init_36 : decode cX0_init 36 = .ok (.aload_n 0, 1) := by decide +kernel
theorem dX0_init_37 : decode cX0_init 37 = .ok (.bipush 12, 2) := by decide +kernel
theorem dX0_init_39 : decode cX0_init 39 = .ok (.newarray .int, 2) := by decide +kernel
theorem dX0_init_41 : decode cX0_init 41 = .ok (.putfield 22, 3) := by decide +kernel
theorem dX0_init_44 : decode cX0_init 44 = .ok (.aload_n 0, 1) := by decide +kernel
theorem dX0_init_45 : decode cX0_init 45 = .ok (.bipush 12, 2) := by decide +kernel
theorem dX0_init_47 : decode cX0_init 47 = .ok (.newarray .int, 2) := by decide +kernel
theorem dX0_init_49 : decode cX0_init 49 = .ok (.putfield 25, 3) := by decide +kernel
theorem dX0_init_52 : decode cX0_init 52 = .ok (.aload_n 0, 1) := by decide +kernel
theorem dX0_init_53 : decode cX0_init 53 = .ok (.bipush 64, 2) := by decide +kernel
theorem dX0_init_55 : decode cX0_init 55 = .ok (.newarray .int, 2) := by decide +kernel
theorem dX0_init_57 : decode cX0_init 57 = .ok (.putfield 28, 3) := by decide +kernel
theorem dX0_init_60 : decode cX0_init 60 = .ok (.aload_n 0, 1) := by decide +kernel
theorem dX0_init_61 : decode cX0_init 61 = .ok (.bipush 64, 2) := by decide +kernel
theorem dX0_init_63 : decode cX0_init 63 = .ok (.newarray .int, 2) := by decide +kernel
theorem dX0_init_65 : decode cX0_init 65 = .ok (.putfield 31, 3) := by decide +kernel
theorem dX0_init_68 : decode cX0_init 68 = .ok (.aload_n 0, 1) := by decide +kernel
theorem dX0_init_69 : decode cX0_init 69 = .ok (.getfield 7, 3) := by decide +kernel
theorem dX0_init_72 : decode cX0_init 72 = .ok (.iconst 0, 1) := by decide +kernel
theorem dX0_init_73 : decode cX0_init 73 = .ok (.iconst 1, 1) := by decide +kernel
theorem dX0_init_74 : decode cX0_init 74 = .ok (.iastore, 1) := by decide +kernel
theorem dX0_init_75 : decode cX0_init 75 = .ok (.aload_n 0, 1) := by decide +kernel
theorem dX0_init_76 : decode cX0_init 76 = .ok (.getfield 7, 3) := by decide +kernel
theorem dX0_init_79 : decode cX0_init 79 = .ok (.iconst 1, 1) := by decide +kernel
theorem dX0_init_80 : decode cX0_init 80 = .ok (.iconst 1, 1) := by decide +kernel
theorem dX0_init_81 : decode cX0_init 81 = .ok (.iastore, 1) := by decide +kernel
theorem dX0_init_82 : decode cX0_init 82 = .ok (.return_, 1) := by decide +kernel
theorem dX0_size_0 : decode cX0_size 0 = .ok (.iload_n 1, 1) := by decide +kernel
theorem dX0_size_1 : decode cX0_size 1 = .ok (.invokestatic 34, 3) := by decide +kernel
theorem dX0_size_4 : decode cX0_size 4 = .ok (.ifCond .ne 5, 3) := by decide +kernel
theorem dX0_size_7 : decode cX0_size 7 = .ok (.iconst (-1), 1) := by decide +kernel
theorem dX0_size_8 : decode cX0_size 8 = .ok (.ireturn, 1) := by decide +kernel
theorem dX0_size_9 : decode cX0_size 9 = .ok (.iload_n 2, 1) := by decide +kernel
theorem dX0_size_10 : decode cX0_size 10 = .ok (.iconst 1, 1) := by decide +kernel
theorem dX0_size_11 : decode cX0_size 11 = .ok (.if_icmp .lt 9, 3) := by decide +kernel
theorem dX0_size_14 : decode cX0_size 14 = .ok (.iload_n 2, 1) := by decide +kernel
theorem dX0_size_15 : decode cX0_size 15 = .ok (.bipush 6, 2) := by decide +kernel
theorem dX0_size_17 : decode cX0_size 17 = .ok (.if_icmp .le 6, 3) := by decide +kernel
theorem dX0_size_20 : decode cX0_size 20 = .ok (.bipush (-2), 2) := by decide +kernel
theorem dX0_size_22 : decode cX0_size 22 = .ok (.ireturn, 1) := by decide +kernel
theorem dX0_size_23 : decode cX0_size 23 = .ok (.aload_n 0, 1) := by decide +kernel
theorem dX0_size_24 : decode cX0_size 24 = .ok (.getfield 7, 3) := by decide +kernel
theorem dX0_size_27 : decode cX0_size 27 = .ok (.iload_n 1, 1) := by decide +kernel
theorem dX0_size_28 : decode cX0_size 28 = .ok (.iaload, 1) := by decide +kernel
theorem dX0_size_29 : decode cX0_size 29 = .ok (.istore_n 3, 1) := by decide +kernel
theorem dX0_size_30 : decode cX0_size 30 = .ok (.aload_n 0, 1) := by decide +kernel
theorem dX0_size_31 : decode cX0_size 31 = .ok (.getfield 7, 3) := by decide +kernel
theorem dX0_size_34 : decode cX0_size 34 = .ok (.iload_n 1, 1) := by decide +kernel
theorem dX0_size_35 : decode cX0_size 35 = .ok (.iload_n 2, 1) := by decide +kernel
theorem dX0_size_36 : decode cX0_size 36 = .ok (.iastore, 1) := by decide +kernel
theorem dX0_size_37 : decode cX0_size 37 = .ok (.bipush 12, 2) := by decide +kernel
theorem dX0_size_39 : decode cX0_size 39 = .ok (.iload_n 1, 1) := by decide +kernel
theorem dX0_size_40 : decode cX0_size 40 = .ok (.imul, 1) := by decide +kernel
theorem dX0_size_41 : decode cX0_size 41 = .ok (.istore 4, 2) := by decide +kernel
theorem dX0_size_43 : decode cX0_size 43 = .ok (.iload 4, 2) := by decide +kernel
theorem dX0_size_45 : decode cX0_size 45 = .ok (.bipush 12, 2) := by decide +kernel
theorem dX0_size_47 : decode cX0_size 47 = .ok (.iload_n 1, 1) := by decide +kernel
theorem dX0_size_48 : decode cX0_size 48 = .ok (.imul, 1) := by decide +kernel
theorem dX0_size_49 : decode cX0_size 49 = .ok (.bipush 12, 2) := by decide +kernel
theorem dX0_size_51 : decode cX0_size 51 = .ok (.iadd, 1) := by decide +kernel
theorem dX0_size_52 : decode cX0_size 52 = .ok (.if_icmp .ge 25, 3) := by decide +kernel
theorem dX0_size_55 : decode cX0_size 55 = .ok (.aload_n 0, 1) := by decide +kernel
theorem dX0_size_56 : decode cX0_size 56 = .ok (.getfield 13, 3) := by decide +kernel
theorem dX0_size_59 : decode cX0_size 59 = .ok (.iload 4, 2) := by decide +kernel
theorem dX0_size_61 : decode cX0_size 61 = .ok (.iconst 0, 1) := by decide +kernel
theorem dX0_size_62 : decode cX0_size 62 = .ok (.iastore, 1) := by decide +kernel
theorem dX0_size_63 : decode cX0_size 63 = .ok (.aload_n 0, 1) := by decide +kernel
theorem dX0_size_64 : decode cX0_size 64 = .ok (.getfield 16, 3) := by decide +kernel
theorem dX0_size_67 : decode cX0_size 67 = .ok (.iload 4, 2) := by decide +kernel
theorem dX0_size_69 : decode cX0_size 69 = .ok (.iconst 0, 1) := by decide +kernel
theorem dX0_size_70 : decode cX0_size 70 = .ok (.iastore, 1) := by decide +kernel
theorem dX0_size_71 : decode cX0_size 71 = .ok (.iinc 4 1, 3) := by decide +kernel
theorem dX0_size_74 : decode cX0_size 74 = .ok (.goto (-31), 3) := by decide +kernel
theorem dX0_size_77 : decode cX0_size 77 = .ok (.aload_n 0, 1) := by decide +kernel
theorem dX0_size_78 : decode cX0_size 78 = .ok (.iconst 0, 1) := by decide +kernel
theorem dX0_size_79 : decode cX0_size 79 = .ok (.putfield 38, 3) := by decide +kernel
theorem dX0_size_82 : decode cX0_size 82 = .ok (.iload_n 3, 1) := by decide +kernel
theorem dX0_size_83 : decode cX0_size 83 = .ok (.ireturn, 1) := by decide +kernel
theorem dX0_isMachine_0 : decode cX0_isMachine 0 = .ok (.iload_n 0, 1) := by decide +kernel
theorem dX0_isMachine_1 : decode cX0_isMachine 1 = .ok (.ifCond .eq 8, 3) := by decide +kernel
theorem dX0_isMachine_4 : decode cX0_isMachine 4 = .ok (.iload_n 0, 1) := by decide +kernel
theorem dX0_isMachine_5 : decode cX0_isMachine 5 = .ok (.iconst 1, 1) := by decide +kernel
theorem dX0_isMachine_6 : decode cX0_isMachine 6 = .ok (.if_icmp .ne 7, 3) := by decide +kernel
theorem dX0_isMachine_9 : decode cX0_isMachine 9 = .ok (.iconst 1, 1) := by decide +kernel
theorem dX0_isMachine_10 : decode cX0_isMachine 10 = .ok (.goto 4, 3) := by decide +kernel
theorem dX0_isMachine_13 : decode cX0_isMachine 13 = .ok (.iconst 0, 1) := by decide +kernel
theorem dX0_isMachine_14 : decode cX0_isMachine 14 = .ok (.ireturn, 1) := by decide +kernel
theorem dX0_set_0 : decode cX0_set 0 = .ok (.iload_n 1, 1) := by decide +kernel
theorem dX0_set_1 : decode cX0_set 1 = .ok (.invokestatic 34, 3) := by decide +kernel
theorem dX0_set_4 : decode cX0_set 4 = .ok (.ifCond .ne 5, 3) := by decide +kernel
theorem dX0_set_7 : decode cX0_set 7 = .ok (.iconst (-1), 1) := by decide +kernel
theorem dX0_set_8 : decode cX0_set 8 = .ok (.ireturn, 1) := by decide +kernel
theorem dX0_set_9 : decode cX0_set 9 = .ok (.iload_n 2, 1) := by decide +kernel
theorem dX0_set_10 : decode cX0_set 10 = .ok (.ifCond .lt 15, 3) := by decide +kernel
theorem dX0_set_13 : decode cX0_set 13 = .ok (.iload_n 2, 1) := by decide +kernel
theorem dX0_set_14 : decode cX0_set 14 = .ok (.iconst 1, 1) := by decide +kernel
theorem dX0_set_15 : decode cX0_set 15 = .ok (.ishr, 1) := by decide +kernel
theorem dX0_set_16 : decode cX0_set 16 = .ok (.aload_n 0, 1) := by decide +kernel
theorem dX0_set_17 : decode cX0_set 17 = .ok (.getfield 7, 3) := by decide +kernel
theorem dX0_set_20 : decode cX0_set 20 = .ok (.iload_n 1, 1) := by decide +kernel
theorem dX0_set_21 : decode cX0_set 21 = .ok (.iaload, 1) := by decide +kernel
theorem dX0_set_22 : decode cX0_set 22 = .ok (.if_icmp .lt 6, 3) := by decide +kernel
theorem dX0_set_25 : decode cX0_set 25 = .ok (.bipush (-2), 2) := by decide +kernel
theorem dX0_set_27 : decode cX0_set 27 = .ok (.ireturn, 1) := by decide +kernel
theorem dX0_set_28 : decode cX0_set 28 = .ok (.iload_n 3, 1) := by decide +kernel
theorem dX0_set_29 : decode cX0_set 29 = .ok (.ifCond .lt 15, 3) := by decide +kernel
theorem dX0_set_32 : decode cX0_set 32 = .ok (.iload_n 3, 1) := by decide +kernel
theorem dX0_set_33 : decode cX0_set 33 = .ok (.iconst 2, 1) := by decide +kernel
theorem dX0_set_34 : decode cX0_set 34 = .ok (.ishr, 1) := by decide +kernel
theorem dX0_set_35 : decode cX0_set 35 = .ok (.aload_n 0, 1) := by decide +kernel
theorem dX0_set_36 : decode cX0_set 36 = .ok (.getfield 7, 3) := by decide +kernel
theorem dX0_set_39 : decode cX0_set 39 = .ok (.iload_n 1, 1) := by decide +kernel
theorem dX0_set_40 : decode cX0_set 40 = .ok (.iaload, 1) := by decide +kernel
theorem dX0_set_41 : decode cX0_set 41 = .ok (.if_icmp .lt 6, 3) := by decide +kernel
theorem dX0_set_44 : decode cX0_set 44 = .ok (.bipush (-4), 2) := by decide +kernel
theorem dX0_set_46 : decode cX0_set 46 = .ok (.ireturn, 1) := by decide +kernel
theorem dX0_set_47 : decode cX0_set 47 = .ok (.bipush 12, 2) := by decide +kernel
theorem dX0_set_49 : decode cX0_set 49 = .ok (.iload_n 1, 1) := by decide +kernel
theorem dX0_set_50 : decode cX0_set 50 = .ok (.imul, 1) := by decide +kernel
theorem dX0_set_51 : decode cX0_set 51 = .ok (.iload_n 2, 1) := by decide +kernel
theorem dX0_set_52 : decode cX0_set 52 = .ok (.iadd, 1) := by decide +kernel
theorem dX0_set_53 : decode cX0_set 53 = .ok (.istore 4, 2) := by decide +kernel
theorem dX0_set_55 : decode cX0_set 55 = .ok (.iconst 4, 1) := by decide +kernel
theorem dX0_set_56 : decode cX0_set 56 = .ok (.aload_n 0, 1) := by decide +kernel
theorem dX0_set_57 : decode cX0_set 57 = .ok (.getfield 13, 3) := by decide +kernel
theorem dX0_set_60 : decode cX0_set 60 = .ok (.iload 4, 2) := by decide +kernel
theorem dX0_set_62 : decode cX0_set 62 = .ok (.iaload, 1) := by decide +kernel
theorem dX0_set_63 : decode cX0_set 63 = .ok (.imul, 1) := by decide +kernel
theorem dX0_set_64 : decode cX0_set 64 = .ok (.aload_n 0, 1) := by decide +kernel
theorem dX0_set_65 : decode cX0_set 65 = .ok (.getfield 16, 3) := by decide +kernel
theorem dX0_set_68 : decode cX0_set 68 = .ok (.iload 4, 2) := by decide +kernel
theorem dX0_set_70 : decode cX0_set 70 = .ok (.iaload, 1) := by decide +kernel
theorem dX0_set_71 : decode cX0_set 71 = .ok (.iadd, 1) := by decide +kernel
theorem dX0_set_72 : decode cX0_set 72 = .ok (.istore 5, 2) := by decide +kernel
theorem dX0_set_74 : decode cX0_set 74 = .ok (.aload_n 0, 1) := by decide +kernel
theorem dX0_set_75 : decode cX0_set 75 = .ok (.getfield 13, 3) := by decide +kernel
theorem dX0_set_78 : decode cX0_set 78 = .ok (.iload 4, 2) := by decide +kernel
theorem dX0_set_80 : decode cX0_set 80 = .ok (.iload_n 3, 1) := by decide +kernel
theorem dX0_set_81 : decode cX0_set 81 = .ok (.iconst 2, 1) := by decide +kernel
theorem dX0_set_82 : decode cX0_set 82 = .ok (.ishr, 1) := by decide +kernel
theorem dX0_set_83 : decode cX0_set 83 = .ok (.iastore, 1) := by decide +kernel
theorem dX0_set_84 : decode cX0_set 84 = .ok (.aload_n 0, 1) := by decide +kernel
theorem dX0_set_85 : decode cX0_set 85 = .ok (.getfield 16, 3) := by decide +kernel
theorem dX0_set_88 : decode cX0_set 88 = .ok (.iload 4, 2) := by decide +kernel
theorem dX0_set_90 : decode cX0_set 90 = .ok (.iload_n 3, 1) := by decide +kernel
theorem dX0_set_91 : decode cX0_set 91 = .ok (.iconst 3, 1) := by decide +kernel
theorem dX0_set_92 : decode cX0_set 92 = .ok (.iand, 1) := by decide +kernel
theorem dX0_set_93 : decode cX0_set 93 = .ok (.iastore, 1) := by decide +kernel
theorem dX0_set_94 : decode cX0_set 94 = .ok (.aload_n 0, 1) := by decide +kernel
theorem dX0_set_95 : decode cX0_set 95 = .ok (.iconst 0, 1) := by decide +kernel
theorem dX0_set_96 : decode cX0_set 96 = .ok (.putfield 38, 3) := by decide +kernel
theorem dX0_set_99 : decode cX0_set 99 = .ok (.iload 5, 2) := by decide +kernel
theorem dX0_set_101 : decode cX0_set 101 = .ok (.ireturn, 1) := by decide +kernel
theorem dX0_weave_0 : decode cX0_weave 0 = .ok (.iload_n 1, 1) := by decide +kernel
theorem dX0_weave_1 : decode cX0_weave 1 = .ok (.invokestatic 34, 3) := by decide +kernel
theorem dX0_weave_4 : decode cX0_weave 4 = .ok (.ifCond .ne 5, 3) := by decide +kernel
theorem dX0_weave_7 : decode cX0_weave 7 = .ok (.iconst (-1), 1) := by decide +kernel
theorem dX0_weave_8 : decode cX0_weave 8 = .ok (.ireturn, 1) := by decide +kernel
theorem dX0_weave_9 : decode cX0_weave 9 = .ok (.iload_n 2, 1) := by decide +kernel
theorem dX0_weave_10 : decode cX0_weave 10 = .ok (.ifCond .lt 9, 3) := by decide +kernel
theorem dX0_weave_13 : decode cX0_weave 13 = .ok (.iload_n 2, 1) := by decide +kernel
theorem dX0_weave_14 : decode cX0_weave 14 = .ok (.bipush 20, 2) := by decide +kernel
theorem dX0_weave_16 : decode cX0_weave 16 = .ok (.if_icmp .le 6, 3) := by decide +kernel
theorem dX0_weave_19 : decode cX0_weave 19 = .ok (.bipush (-2), 2) := by decide +kernel
theorem dX0_weave_21 : decode cX0_weave 21 = .ok (.ireturn, 1) := by decide +kernel
theorem dX0_weave_22 : decode cX0_weave 22 = .ok (.iload_n 3, 1) := by decide +kernel
theorem dX0_weave_23 : decode cX0_weave 23 = .ok (.ifCond .lt 9, 3) := by decide +kernel
theorem dX0_weave_26 : decode cX0_weave 26 = .ok (.iload_n 3, 1) := by decide +kernel
theorem dX0_weave_27 : decode cX0_weave 27 = .ok (.bipush 63, 2) := by decide +kernel
theorem dX0_weave_29 : decode cX0_weave 29 = .ok (.if_icmp .le 6, 3) := by decide +kernel
theorem dX0_weave_32 : decode cX0_weave 32 = .ok (.bipush (-3), 2) := by decide +kernel
theorem dX0_weave_34 : decode cX0_weave 34 = .ok (.ireturn, 1) := by decide +kernel
theorem dX0_weave_35 : decode cX0_weave 35 = .ok (.aload_n 0, 1) := by decide +kernel
theorem dX0_weave_36 : decode cX0_weave 36 = .ok (.getfield 7, 3) := by decide +kernel
theorem dX0_weave_39 : decode cX0_weave 39 = .ok (.iload_n 1, 1) := by decide +kernel
theorem dX0_weave_40 : decode cX0_weave 40 = .ok (.iaload, 1) := by decide +kernel
theorem dX0_weave_41 : decode cX0_weave 41 = .ok (.istore 4, 2) := by decide +kernel
theorem dX0_weave_43 : decode cX0_weave 43 = .ok (.iconst 0, 1) := by decide +kernel
theorem dX0_weave_44 : decode cX0_weave 44 = .ok (.istore 5, 2) := by decide +kernel
theorem dX0_weave_46 : decode cX0_weave 46 = .ok (.iload 5, 2) := by decide +kernel
theorem dX0_weave_48 : decode cX0_weave 48 = .ok (.iconst 2, 1) := by decide +kernel
theorem dX0_weave_49 : decode cX0_weave 49 = .ok (.iload 4, 2) := by decide +kernel
theorem dX0_weave_51 : decode cX0_weave 51 = .ok (.imul, 1) := by decide +kernel
theorem dX0_weave_52 : decode cX0_weave 52 = .ok (.if_icmp .ge 85, 3) := by decide +kernel
theorem dX0_weave_55 : decode cX0_weave 55 = .ok (.iload 5, 2) := by decide +kernel
theorem dX0_weave_57 : decode cX0_weave 57 = .ok (.iconst 1, 1) := by decide +kernel
theorem dX0_weave_58 : decode cX0_weave 58 = .ok (.ishr, 1) := by decide +kernel
theorem dX0_weave_59 : decode cX0_weave 59 = .ok (.istore 6, 2) := by decide +kernel
theorem dX0_weave_61 : decode cX0_weave 61 = .ok (.iload 5, 2) := by decide +kernel
theorem dX0_weave_63 : decode cX0_weave 63 = .ok (.iconst 1, 1) := by decide +kernel
theorem dX0_weave_64 : decode cX0_weave 64 = .ok (.iand, 1) := by decide +kernel
theorem dX0_weave_65 : decode cX0_weave 65 = .ok (.istore 7, 2) := by decide +kernel
theorem dX0_weave_67 : decode cX0_weave 67 = .ok (.aload_n 0, 1) := by decide +kernel
theorem dX0_weave_68 : decode cX0_weave 68 = .ok (.getfield 13, 3) := by decide +kernel
theorem dX0_weave_71 : decode cX0_weave 71 = .ok (.bipush 12, 2) := by decide +kernel
theorem dX0_weave_73 : decode cX0_weave 73 = .ok (.iload_n 1, 1) := by decide +kernel
theorem dX0_weave_74 : decode cX0_weave 74 = .ok (.imul, 1) := by decide +kernel
theorem dX0_weave_75 : decode cX0_weave 75 = .ok (.iload 5, 2) := by decide +kernel
theorem dX0_weave_77 : decode cX0_weave 77 = .ok (.iadd, 1) := by decide +kernel
theorem dX0_weave_78 : decode cX0_weave 78 = .ok (.iload 6, 2) := by decide +kernel
theorem dX0_weave_80 : decode cX0_weave 80 = .ok (.iload_n 3, 1) := by decide +kernel
theorem dX0_weave_81 : decode cX0_weave 81 = .ok (.iconst 3, 1) := by decide +kernel
theorem dX0_weave_82 : decode cX0_weave 82 = .ok (.ishr, 1) := by decide +kernel
theorem dX0_weave_83 : decode cX0_weave 83 = .ok (.imul, 1) := by decide +kernel
theorem dX0_weave_84 : decode cX0_weave 84 = .ok (.iload 7, 2) := by decide +kernel
theorem dX0_weave_86 : decode cX0_weave 86 = .ok (.iadd, 1) := by decide +kernel
theorem dX0_weave_87 : decode cX0_weave 87 = .ok (.iload_n 2, 1) := by decide +kernel
theorem dX0_weave_88 : decode cX0_weave 88 = .ok (.iadd, 1) := by decide +kernel
theorem dX0_weave_89 : decode cX0_weave 89 = .ok (.iload 4, 2) := by decide +kernel
theorem dX0_weave_91 : decode cX0_weave 91 = .ok (.ifCond .le 8, 3) := by decide +kernel
theorem dX0_weave_94 : decode cX0_weave 94 = .ok (.iload 4, 2) := by decide +kernel
theorem dX0_weave_96 : decode cX0_weave 96 = .ok (.goto 4, 3) := by decide +kernel
theorem dX0_weave_99 : decode cX0_weave 99 = .ok (.iconst 1, 1) := by decide +kernel
theorem dX0_weave_100 : decode cX0_weave 100 = .ok (.irem, 1) := by decide +kernel
theorem dX0_weave_101 : decode cX0_weave 101 = .ok (.iastore, 1) := by decide +kernel
theorem dX0_weave_102 : decode cX0_weave 102 = .ok (.aload_n 0, 1) := by decide +kernel
theorem dX0_weave_103 : decode cX0_weave 103 = .ok (.getfield 16, 3) := by decide +kernel
theorem dX0_weave_106 : decode cX0_weave 106 = .ok (.bipush 12, 2) := by decide +kernel
theorem dX0_weave_108 : decode cX0_weave 108 = .ok (.iload_n 1, 1) := by decide +kernel
theorem dX0_weave_109 : decode cX0_weave 109 = .ok (.imul, 1) := by decide +kernel
theorem dX0_weave_110 : decode cX0_weave 110 = .ok (.iload 5, 2) := by decide +kernel
theorem dX0_weave_112 : decode cX0_weave 112 = .ok (.iadd, 1) := by decide +kernel
theorem dX0_weave_113 : decode cX0_weave 113 = .ok (.iload 6, 2) := by decide +kernel
theorem dX0_weave_115 : decode cX0_weave 115 = .ok (.iload 6, 2) := by decide +kernel
theorem dX0_weave_117 : decode cX0_weave 117 = .ok (.imul, 1) := by decide +kernel
theorem dX0_weave_118 : decode cX0_weave 118 = .ok (.iload 7, 2) := by decide +kernel
theorem dX0_weave_120 : decode cX0_weave 120 = .ok (.iload_n 3, 1) := by decide +kernel
theorem dX0_weave_121 : decode cX0_weave 121 = .ok (.bipush 7, 2) := by decide +kernel
theorem dX0_weave_123 : decode cX0_weave 123 = .ok (.iand, 1) := by decide +kernel
theorem dX0_weave_124 : decode cX0_weave 124 = .ok (.imul, 1) := by decide +kernel
theorem dX0_weave_125 : decode cX0_weave 125 = .ok (.iadd, 1) := by decide +kernel
theorem dX0_weave_126 : decode cX0_weave 126 = .ok (.iload_n 2, 1) := by decide +kernel
theorem dX0_weave_127 : decode cX0_weave 127 = .ok (.iadd, 1) := by decide +kernel
theorem dX0_weave_128 : decode cX0_weave 128 = .ok (.iconst 3, 1) := by decide +kernel
theorem dX0_weave_129 : decode cX0_weave 129 = .ok (.iand, 1) := by decide +kernel
theorem dX0_weave_130 : decode cX0_weave 130 = .ok (.iastore, 1) := by decide +kernel
theorem dX0_weave_131 : decode cX0_weave 131 = .ok (.iinc 5 1, 3) := by decide +kernel
theorem dX0_weave_134 : decode cX0_weave 134 = .ok (.goto (-88), 3) := by decide +kernel
theorem dX0_weave_137 : decode cX0_weave 137 = .ok (.aload_n 0, 1) := by decide +kernel
theorem dX0_weave_138 : decode cX0_weave 138 = .ok (.iconst 0, 1) := by decide +kernel
theorem dX0_weave_139 : decode cX0_weave 139 = .ok (.putfield 38, 3) := by decide +kernel
theorem dX0_weave_142 : decode cX0_weave 142 = .ok (.iconst 0, 1) := by decide +kernel
theorem dX0_weave_143 : decode cX0_weave 143 = .ok (.ireturn, 1) := by decide +kernel
theorem dX0_copy_0 : decode cX0_copy 0 = .ok (.iload_n 1, 1) := by decide +kernel
theorem dX0_copy_1 : decode cX0_copy 1 = .ok (.invokestatic 34, 3) := by decide +kernel
theorem dX0_copy_4 : decode cX0_copy 4 = .ok (.ifCond .ne 5, 3) := by decide +kernel
theorem dX0_copy_7 : decode cX0_copy 7 = .ok (.iconst (-1), 1) := by decide +kernel
theorem dX0_copy_8 : decode cX0_copy 8 = .ok (.ireturn, 1) := by decide +kernel
theorem dX0_copy_9 : decode cX0_copy 9 = .ok (.iload_n 2, 1) := by decide +kernel
theorem dX0_copy_10 : decode cX0_copy 10 = .ok (.ifCond .lt 8, 3) := by decide +kernel
theorem dX0_copy_13 : decode cX0_copy 13 = .ok (.iload_n 2, 1) := by decide +kernel
theorem dX0_copy_14 : decode cX0_copy 14 = .ok (.iconst 5, 1) := by decide +kernel
theorem dX0_copy_15 : decode cX0_copy 15 = .ok (.if_icmp .le 6, 3) := by decide +kernel
theorem dX0_copy_18 : decode cX0_copy 18 = .ok (.bipush (-2), 2) := by decide +kernel
theorem dX0_copy_20 : decode cX0_copy 20 = .ok (.ireturn, 1) := by decide +kernel
theorem dX0_copy_21 : decode cX0_copy 21 = .ok (.iconst 1, 1) := by decide +kernel
theorem dX0_copy_22 : decode cX0_copy 22 = .ok (.iload_n 1, 1) := by decide +kernel
theorem dX0_copy_23 : decode cX0_copy 23 = .ok (.isub, 1) := by decide +kernel
theorem dX0_copy_24 : decode cX0_copy 24 = .ok (.istore_n 3, 1) := by decide +kernel
theorem dX0_copy_25 : decode cX0_copy 25 = .ok (.aload_n 0, 1) := by decide +kernel
theorem dX0_copy_26 : decode cX0_copy 26 = .ok (.getfield 7, 3) := by decide +kernel
theorem dX0_copy_29 : decode cX0_copy 29 = .ok (.iload_n 3, 1) := by decide +kernel
theorem dX0_copy_30 : decode cX0_copy 30 = .ok (.iaload, 1) := by decide +kernel
theorem dX0_copy_31 : decode cX0_copy 31 = .ok (.ifCond .le 12, 3) := by decide +kernel
theorem dX0_copy_34 : decode cX0_copy 34 = .ok (.aload_n 0, 1) := by decide +kernel
theorem dX0_copy_35 : decode cX0_copy 35 = .ok (.getfield 7, 3) := by decide +kernel
theorem dX0_copy_38 : decode cX0_copy 38 = .ok (.iload_n 3, 1) := by decide +kernel
theorem dX0_copy_39 : decode cX0_copy 39 = .ok (.iaload, 1) := by decide +kernel
theorem dX0_copy_40 : decode cX0_copy 40 = .ok (.goto 4, 3) := by decide +kernel
theorem dX0_copy_43 : decode cX0_copy 43 = .ok (.iconst 1, 1) := by decide +kernel
theorem dX0_copy_44 : decode cX0_copy 44 = .ok (.istore 4, 2) := by decide +kernel
theorem dX0_copy_46 : decode cX0_copy 46 = .ok (.aload_n 0, 1) := by decide +kernel
theorem dX0_copy_47 : decode cX0_copy 47 = .ok (.getfield 7, 3) := by decide +kernel
theorem dX0_copy_50 : decode cX0_copy 50 = .ok (.iload_n 1, 1) := by decide +kernel
theorem dX0_copy_51 : decode cX0_copy 51 = .ok (.iload 4, 2) := by decide +kernel
theorem dX0_copy_53 : decode cX0_copy 53 = .ok (.iastore, 1) := by decide +kernel
theorem dX0_copy_54 : decode cX0_copy 54 = .ok (.iconst 0, 1) := by decide +kernel
theorem dX0_copy_55 : decode cX0_copy 55 = .ok (.istore 5, 2) := by decide +kernel
theorem dX0_copy_57 : decode cX0_copy 57 = .ok (.iload 5, 2) := by decide +kernel
theorem dX0_copy_59 : decode cX0_copy 59 = .ok (.iconst 2, 1) := by decide +kernel
theorem dX0_copy_60 : decode cX0_copy 60 = .ok (.iload 4, 2) := by decide +kernel
theorem dX0_copy_62 : decode cX0_copy 62 = .ok (.imul, 1) := by decide +kernel
theorem dX0_copy_63 : decode cX0_copy 63 = .ok (.if_icmp .ge 79, 3) := by decide +kernel
theorem dX0_copy_66 : decode cX0_copy 66 = .ok (.iload 5, 2) := by decide +kernel
theorem dX0_copy_68 : decode cX0_copy 68 = .ok (.iconst 1, 1) := by decide +kernel
theorem dX0_copy_69 : decode cX0_copy 69 = .ok (.ishr, 1) := by decide +kernel
theorem dX0_copy_70 : decode cX0_copy 70 = .ok (.iload_n 2, 1) := by decide +kernel
theorem dX0_copy_71 : decode cX0_copy 71 = .ok (.iadd, 1) := by decide +kernel
theorem dX0_copy_72 : decode cX0_copy 72 = .ok (.iload 4, 2) := by decide +kernel
theorem dX0_copy_74 : decode cX0_copy 74 = .ok (.irem, 1) := by decide +kernel
theorem dX0_copy_75 : decode cX0_copy 75 = .ok (.istore 6, 2) := by decide +kernel
theorem dX0_copy_77 : decode cX0_copy 77 = .ok (.bipush 12, 2) := by decide +kernel
theorem dX0_copy_79 : decode cX0_copy 79 = .ok (.iload_n 1, 1) := by decide +kernel
theorem dX0_copy_80 : decode cX0_copy 80 = .ok (.imul, 1) := by decide +kernel
theorem dX0_copy_81 : decode cX0_copy 81 = .ok (.iconst 2, 1) := by decide +kernel
theorem dX0_copy_82 : decode cX0_copy 82 = .ok (.iload 6, 2) := by decide +kernel
theorem dX0_copy_84 : decode cX0_copy 84 = .ok (.imul, 1) := by decide +kernel
theorem dX0_copy_85 : decode cX0_copy 85 = .ok (.iadd, 1) := by decide +kernel
theorem dX0_copy_86 : decode cX0_copy 86 = .ok (.iload 5, 2) := by decide +kernel
theorem dX0_copy_88 : decode cX0_copy 88 = .ok (.iconst 1, 1) := by decide +kernel
theorem dX0_copy_89 : decode cX0_copy 89 = .ok (.iand, 1) := by decide +kernel
theorem dX0_copy_90 : decode cX0_copy 90 = .ok (.iadd, 1) := by decide +kernel
theorem dX0_copy_91 : decode cX0_copy 91 = .ok (.istore 7, 2) := by decide +kernel
theorem dX0_copy_93 : decode cX0_copy 93 = .ok (.aload_n 0, 1) := by decide +kernel
theorem dX0_copy_94 : decode cX0_copy 94 = .ok (.getfield 13, 3) := by decide +kernel
theorem dX0_copy_97 : decode cX0_copy 97 = .ok (.iload 7, 2) := by decide +kernel
theorem dX0_copy_99 : decode cX0_copy 99 = .ok (.aload_n 0, 1) := by decide +kernel
theorem dX0_copy_100 : decode cX0_copy 100 = .ok (.getfield 13, 3) := by decide +kernel
theorem dX0_copy_103 : decode cX0_copy 103 = .ok (.bipush 12, 2) := by decide +kernel
theorem dX0_copy_105 : decode cX0_copy 105 = .ok (.iload_n 3, 1) := by decide +kernel
theorem dX0_copy_106 : decode cX0_copy 106 = .ok (.imul, 1) := by decide +kernel
theorem dX0_copy_107 : decode cX0_copy 107 = .ok (.iload 5, 2) := by decide +kernel
theorem dX0_copy_109 : decode cX0_copy 109 = .ok (.iadd, 1) := by decide +kernel
theorem dX0_copy_110 : decode cX0_copy 110 = .ok (.iaload, 1) := by decide +kernel
theorem dX0_copy_111 : decode cX0_copy 111 = .ok (.iload_n 2, 1) := by decide +kernel
theorem dX0_copy_112 : decode cX0_copy 112 = .ok (.iadd, 1) := by decide +kernel
theorem dX0_copy_113 : decode cX0_copy 113 = .ok (.iload 4, 2) := by decide +kernel
theorem dX0_copy_115 : decode cX0_copy 115 = .ok (.irem, 1) := by decide +kernel
theorem dX0_copy_116 : decode cX0_copy 116 = .ok (.iastore, 1) := by decide +kernel
theorem dX0_copy_117 : decode cX0_copy 117 = .ok (.aload_n 0, 1) := by decide +kernel
theorem dX0_copy_118 : decode cX0_copy 118 = .ok (.getfield 16, 3) := by decide +kernel
theorem dX0_copy_121 : decode cX0_copy 121 = .ok (.iload 7, 2) := by decide +kernel
theorem dX0_copy_123 : decode cX0_copy 123 = .ok (.aload_n 0, 1) := by decide +kernel
theorem dX0_copy_124 : decode cX0_copy 124 = .ok (.getfield 16, 3) := by decide +kernel
theorem dX0_copy_127 : decode cX0_copy 127 = .ok (.bipush 12, 2) := by decide +kernel
theorem dX0_copy_129 : decode cX0_copy 129 = .ok (.iload_n 3, 1) := by decide +kernel
theorem dX0_copy_130 : decode cX0_copy 130 = .ok (.imul, 1) := by decide +kernel
theorem dX0_copy_131 : decode cX0_copy 131 = .ok (.iload 5, 2) := by decide +kernel
theorem dX0_copy_133 : decode cX0_copy 133 = .ok (.iadd, 1) := by decide +kernel
theorem dX0_copy_134 : decode cX0_copy 134 = .ok (.iaload, 1) := by decide +kernel
theorem dX0_copy_135 : decode cX0_copy 135 = .ok (.iastore, 1) := by decide +kernel
theorem dX0_copy_136 : decode cX0_copy 136 = .ok (.iinc 5 1, 3) := by decide +kernel
theorem dX0_copy_139 : decode cX0_copy 139 = .ok (.goto (-82), 3) := by decide +kernel
theorem dX0_copy_142 : decode cX0_copy 142 = .ok (.aload_n 0, 1) := by decide +kernel
theorem dX0_copy_143 : decode cX0_copy 143 = .ok (.iconst 0, 1) := by decide +kernel
theorem dX0_copy_144 : decode cX0_copy 144 = .ok (.putfield 38, 3) := by decide +kernel
theorem dX0_copy_147 : decode cX0_copy 147 = .ok (.iload 4, 2) := by decide +kernel
theorem dX0_copy_149 : decode cX0_copy 149 = .ok (.ireturn, 1) := by decide +kernel
theorem dX0_states_0 : decode cX0_states 0 = .ok (.iload_n 1, 1) := by decide +kernel
theorem dX0_states_1 : decode cX0_states 1 = .ok (.invokestatic 34, 3) := by decide +kernel
theorem dX0_states_4 : decode cX0_states 4 = .ok (.ifCond .eq 12, 3) := by decide +kernel
theorem dX0_states_7 : decode cX0_states 7 = .ok (.aload_n 0, 1) := by decide +kernel
theorem dX0_states_8 : decode cX0_states 8 = .ok (.getfield 7, 3) := by decide +kernel
theorem dX0_states_11 : decode cX0_states 11 = .ok (.iload_n 1, 1) := by decide +kernel
theorem dX0_states_12 : decode cX0_states 12 = .ok (.iaload, 1) := by decide +kernel
theorem dX0_states_13 : decode cX0_states 13 = .ok (.goto 4, 3) := by decide +kernel
theorem dX0_states_16 : decode cX0_states 16 = .ok (.iconst (-1), 1) := by decide +kernel
theorem dX0_states_17 : decode cX0_states 17 = .ok (.ireturn, 1) := by decide +kernel
theorem dX0_run_0 : decode cX0_run 0 = .ok (.aload_n 0, 1) := by decide +kernel
theorem dX0_run_1 : decode cX0_run 1 = .ok (.iload_n 1, 1) := by decide +kernel
theorem dX0_run_2 : decode cX0_run 2 = .ok (.invokevirtual 42, 3) := by decide +kernel
theorem dX0_run_5 : decode cX0_run 5 = .ok (.istore_n 3, 1) := by decide +kernel
theorem dX0_run_6 : decode cX0_run 6 = .ok (.iload_n 3, 1) := by decide +kernel
theorem dX0_run_7 : decode cX0_run 7 = .ok (.ifCond .ge 5, 3) := by decide +kernel
theorem dX0_run_10 : decode cX0_run 10 = .ok (.iconst (-1), 1) := by decide +kernel
theorem dX0_run_11 : decode cX0_run 11 = .ok (.ireturn, 1) := by decide +kernel
theorem dX0_run_12 : decode cX0_run 12 = .ok (.iload_n 2, 1) := by decide +kernel
theorem dX0_run_13 : decode cX0_run 13 = .ok (.iconst 1, 1) := by decide +kernel
theorem dX0_run_14 : decode cX0_run 14 = .ok (.if_icmp .lt 10, 3) := by decide +kernel
theorem dX0_run_17 : decode cX0_run 17 = .ok (.iload_n 2, 1) := by decide +kernel
theorem dX0_run_18 : decode cX0_run 18 = .ok (.sipush 4095, 3) := by decide +kernel
theorem dX0_run_21 : decode cX0_run 21 = .ok (.if_icmp .le 6, 3) := by decide +kernel
theorem dX0_run_24 : decode cX0_run 24 = .ok (.bipush (-2), 2) := by decide +kernel
theorem dX0_run_26 : decode cX0_run 26 = .ok (.ireturn, 1) := by decide +kernel
theorem dX0_run_27 : decode cX0_run 27 = .ok (.iload_n 2, 1) := by decide +kernel
theorem dX0_run_28 : decode cX0_run 28 = .ok (.invokestatic 46, 3) := by decide +kernel
theorem dX0_run_31 : decode cX0_run 31 = .ok (.istore 4, 2) := by decide +kernel
theorem dX0_run_33 : decode cX0_run 33 = .ok (.iload 4, 2) := by decide +kernel
theorem dX0_run_35 : decode cX0_run 35 = .ok (.iconst 1, 1) := by decide +kernel
theorem dX0_run_36 : decode cX0_run 36 = .ok (.isub, 1) := by decide +kernel
theorem dX0_run_37 : decode cX0_run 37 = .ok (.istore 5, 2) := by decide +kernel
theorem dX0_run_39 : decode cX0_run 39 = .ok (.iload 5, 2) := by decide +kernel
theorem dX0_run_41 : decode cX0_run 41 = .ok (.ifCond .lt 21, 3) := by decide +kernel
theorem dX0_run_44 : decode cX0_run 44 = .ok (.aload_n 0, 1) := by decide +kernel
theorem dX0_run_45 : decode cX0_run 45 = .ok (.iload_n 3, 1) := by decide +kernel
theorem dX0_run_46 : decode cX0_run 46 = .ok (.iload_n 2, 1) := by decide +kernel
theorem dX0_run_47 : decode cX0_run 47 = .ok (.iload 5, 2) := by decide +kernel
theorem dX0_run_49 : decode cX0_run 49 = .ok (.ishr, 1) := by decide +kernel
theorem dX0_run_50 : decode cX0_run 50 = .ok (.iconst 1, 1) := by decide +kernel
theorem dX0_run_51 : decode cX0_run 51 = .ok (.iand, 1) := by decide +kernel
theorem dX0_run_52 : decode cX0_run 52 = .ok (.invokevirtual 49, 3) := by decide +kernel
theorem dX0_run_55 : decode cX0_run 55 = .ok (.istore_n 3, 1) := by decide +kernel
theorem dX0_run_56 : decode cX0_run 56 = .ok (.iinc 5 (-1), 3) := by decide +kernel
theorem dX0_run_59 : decode cX0_run 59 = .ok (.goto (-20), 3) := by decide +kernel
theorem dX0_run_62 : decode cX0_run 62 = .ok (.iload_n 3, 1) := by decide +kernel
theorem dX0_run_63 : decode cX0_run 63 = .ok (.bipush 6, 2) := by decide +kernel
theorem dX0_run_65 : decode cX0_run 65 = .ok (.irem, 1) := by decide +kernel
theorem dX0_run_66 : decode cX0_run 66 = .ok (.ireturn, 1) := by decide +kernel
theorem dX0_placeOf_0 : decode cX0_placeOf 0 = .ok (.iload_n 1, 1) := by decide +kernel
theorem dX0_placeOf_1 : decode cX0_placeOf 1 = .ok (.iconst 3, 1) := by decide +kernel
theorem dX0_placeOf_2 : decode cX0_placeOf 2 = .ok (.ishr, 1) := by decide +kernel
theorem dX0_placeOf_3 : decode cX0_placeOf 3 = .ok (.istore_n 2, 1) := by decide +kernel
theorem dX0_placeOf_4 : decode cX0_placeOf 4 = .ok (.iload_n 1, 1) := by decide +kernel
theorem dX0_placeOf_5 : decode cX0_placeOf 5 = .ok (.bipush 7, 2) := by decide +kernel
theorem dX0_placeOf_7 : decode cX0_placeOf 7 = .ok (.iand, 1) := by decide +kernel
theorem dX0_placeOf_8 : decode cX0_placeOf 8 = .ok (.istore_n 3, 1) := by decide +kernel
theorem dX0_placeOf_9 : decode cX0_placeOf 9 = .ok (.iload_n 2, 1) := by decide +kernel
theorem dX0_placeOf_10 : decode cX0_placeOf 10 = .ok (.invokestatic 34, 3) := by decide +kernel
theorem dX0_placeOf_13 : decode cX0_placeOf 13 = .ok (.ifCond .eq 22, 3) := by decide +kernel
theorem dX0_placeOf_16 : decode cX0_placeOf 16 = .ok (.iload_n 3, 1) := by decide +kernel
theorem dX0_placeOf_17 : decode cX0_placeOf 17 = .ok (.aload_n 0, 1) := by decide +kernel
theorem dX0_placeOf_18 : decode cX0_placeOf 18 = .ok (.getfield 7, 3) := by decide +kernel
theorem dX0_placeOf_21 : decode cX0_placeOf 21 = .ok (.iload_n 2, 1) := by decide +kernel
theorem dX0_placeOf_22 : decode cX0_placeOf 22 = .ok (.iaload, 1) := by decide +kernel
theorem dX0_placeOf_23 : decode cX0_placeOf 23 = .ok (.if_icmp .ge 12, 3) := by decide +kernel
theorem dX0_placeOf_26 : decode cX0_placeOf 26 = .ok (.bipush 6, 2) := by decide +kernel
theorem dX0_placeOf_28 : decode cX0_placeOf 28 = .ok (.iload_n 2, 1) := by decide +kernel
theorem dX0_placeOf_29 : decode cX0_placeOf 29 = .ok (.imul, 1) := by decide +kernel
theorem dX0_placeOf_30 : decode cX0_placeOf 30 = .ok (.iload_n 3, 1) := by decide +kernel
theorem dX0_placeOf_31 : decode cX0_placeOf 31 = .ok (.iadd, 1) := by decide +kernel
theorem dX0_placeOf_32 : decode cX0_placeOf 32 = .ok (.goto 4, 3) := by decide +kernel
theorem dX0_placeOf_35 : decode cX0_placeOf 35 = .ok (.iconst (-1), 1) := by decide +kernel
theorem dX0_placeOf_36 : decode cX0_placeOf 36 = .ok (.ireturn, 1) := by decide +kernel
theorem dX0_lettersOf_0 : decode cX0_lettersOf 0 = .ok (.iconst 0, 1) := by decide +kernel
theorem dX0_lettersOf_1 : decode cX0_lettersOf 1 = .ok (.istore_n 1, 1) := by decide +kernel
theorem dX0_lettersOf_2 : decode cX0_lettersOf 2 = .ok (.iload_n 1, 1) := by decide +kernel
theorem dX0_lettersOf_3 : decode cX0_lettersOf 3 = .ok (.bipush 11, 2) := by decide +kernel
theorem dX0_lettersOf_5 : decode cX0_lettersOf 5 = .ok (.if_icmp .ge 16, 3) := by decide +kernel
theorem dX0_lettersOf_8 : decode cX0_lettersOf 8 = .ok (.iload_n 0, 1) := by decide +kernel
theorem dX0_lettersOf_9 : decode cX0_lettersOf 9 = .ok (.iconst 2, 1) := by decide +kernel
theorem dX0_lettersOf_10 : decode cX0_lettersOf 10 = .ok (.iload_n 1, 1) := by decide +kernel
theorem dX0_lettersOf_11 : decode cX0_lettersOf 11 = .ok (.ishl, 1) := by decide +kernel
theorem dX0_lettersOf_12 : decode cX0_lettersOf 12 = .ok (.if_icmp .lt 9, 3) := by decide +kernel
theorem dX0_lettersOf_15 : decode cX0_lettersOf 15 = .ok (.iinc 1 1, 3) := by decide +kernel
theorem dX0_lettersOf_18 : decode cX0_lettersOf 18 = .ok (.goto (-16), 3) := by decide +kernel
theorem dX0_lettersOf_21 : decode cX0_lettersOf 21 = .ok (.iload_n 1, 1) := by decide +kernel
theorem dX0_lettersOf_22 : decode cX0_lettersOf 22 = .ok (.ireturn, 1) := by decide +kernel
theorem dX0_after_0 : decode cX0_after 0 = .ok (.bipush 6, 2) := by decide +kernel
theorem dX0_after_2 : decode cX0_after 2 = .ok (.iload_n 1, 1) := by decide +kernel
theorem dX0_after_3 : decode cX0_after 3 = .ok (.bipush 6, 2) := by decide +kernel
theorem dX0_after_5 : decode cX0_after 5 = .ok (.idiv, 1) := by decide +kernel
theorem dX0_after_6 : decode cX0_after 6 = .ok (.imul, 1) := by decide +kernel
end
section
set_option maxRecDepth 100000
theorem dX0_after_7 : decode cX0_after 7 = .ok (.aload_n 0, 1) := by decide +kernel
theorem dX0_after_8 : decode cX0_after 8 = .ok (.getfield 13, 3) := by decide +kernel
theorem dX0_after_11 : decode cX0_after 11 = .ok (.iconst 2, 1) := by decide +kernel
theorem dX0_after_12 : decode cX0_after 12 = .ok (.iload_n 1, 1) := by decide +kernel
theorem dX0_after_13 : decode cX0_after 13 = .ok (.imul, 1) := by decide +kernel
theorem dX0_after_14 : decode cX0_after 14 = .ok (.iload_n 2, 1) := by decide +kernel
theorem dX0_after_15 : decode cX0_after 15 = .ok (.iadd, 1) := by decide +kernel
theorem dX0_after_16 : decode cX0_after 16 = .ok (.iaload, 1) := by decide +kernel
theorem dX0_after_17 : decode cX0_after 17 = .ok (.iadd, 1) := by decide +kernel
theorem dX0_after_18 : decode cX0_after 18 = .ok (.ireturn, 1) := by decide +kernel
theorem dX0_response_0 : decode cX0_response 0 = .ok (.aload_n 0, 1) := by decide +kernel
theorem dX0_response_1 : decode cX0_response 1 = .ok (.iload_n 1, 1) := by decide +kernel
theorem dX0_response_2 : decode cX0_response 2 = .ok (.invokevirtual 42, 3) := by decide +kernel
theorem dX0_response_5 : decode cX0_response 5 = .ok (.istore_n 3, 1) := by decide +kernel
theorem dX0_response_6 : decode cX0_response 6 = .ok (.iload_n 3, 1) := by decide +kernel
theorem dX0_response_7 : decode cX0_response 7 = .ok (.ifCond .ge 5, 3) := by decide +kernel
theorem dX0_response_10 : decode cX0_response 10 = .ok (.iconst (-1), 1) := by decide +kernel
theorem dX0_response_11 : decode cX0_response 11 = .ok (.ireturn, 1) := by decide +kernel
theorem dX0_response_12 : decode cX0_response 12 = .ok (.iload_n 2, 1) := by decide +kernel
theorem dX0_response_13 : decode cX0_response 13 = .ok (.iconst 1, 1) := by decide +kernel
theorem dX0_response_14 : decode cX0_response 14 = .ok (.if_icmp .lt 10, 3) := by decide +kernel
theorem dX0_response_17 : decode cX0_response 17 = .ok (.iload_n 2, 1) := by decide +kernel
theorem dX0_response_18 : decode cX0_response 18 = .ok (.sipush 4095, 3) := by decide +kernel
theorem dX0_response_21 : decode cX0_response 21 = .ok (.if_icmp .le 6, 3) := by decide +kernel
theorem dX0_response_24 : decode cX0_response 24 = .ok (.bipush (-2), 2) := by decide +kernel
theorem dX0_response_26 : decode cX0_response 26 = .ok (.ireturn, 1) := by decide +kernel
theorem dX0_response_27 : decode cX0_response 27 = .ok (.iload_n 2, 1) := by decide +kernel
theorem dX0_response_28 : decode cX0_response 28 = .ok (.invokestatic 46, 3) := by decide +kernel
theorem dX0_response_31 : decode cX0_response 31 = .ok (.istore 4, 2) := by decide +kernel
theorem dX0_response_33 : decode cX0_response 33 = .ok (.iconst 0, 1) := by decide +kernel
theorem dX0_response_34 : decode cX0_response 34 = .ok (.istore 5, 2) := by decide +kernel
theorem dX0_response_36 : decode cX0_response 36 = .ok (.iload 4, 2) := by decide +kernel
theorem dX0_response_38 : decode cX0_response 38 = .ok (.iconst 1, 1) := by decide +kernel
theorem dX0_response_39 : decode cX0_response 39 = .ok (.isub, 1) := by decide +kernel
theorem dX0_response_40 : decode cX0_response 40 = .ok (.istore 6, 2) := by decide +kernel
theorem dX0_response_42 : decode cX0_response 42 = .ok (.iload 6, 2) := by decide +kernel
theorem dX0_response_44 : decode cX0_response 44 = .ok (.ifCond .lt 43, 3) := by decide +kernel
theorem dX0_response_47 : decode cX0_response 47 = .ok (.iload_n 2, 1) := by decide +kernel
theorem dX0_response_48 : decode cX0_response 48 = .ok (.iload 6, 2) := by decide +kernel
theorem dX0_response_50 : decode cX0_response 50 = .ok (.ishr, 1) := by decide +kernel
theorem dX0_response_51 : decode cX0_response 51 = .ok (.iconst 1, 1) := by decide +kernel
theorem dX0_response_52 : decode cX0_response 52 = .ok (.iand, 1) := by decide +kernel
theorem dX0_response_53 : decode cX0_response 53 = .ok (.istore 7, 2) := by decide +kernel
theorem dX0_response_55 : decode cX0_response 55 = .ok (.iconst 4, 1) := by decide +kernel
theorem dX0_response_56 : decode cX0_response 56 = .ok (.iload 5, 2) := by decide +kernel
theorem dX0_response_58 : decode cX0_response 58 = .ok (.imul, 1) := by decide +kernel
theorem dX0_response_59 : decode cX0_response 59 = .ok (.aload_n 0, 1) := by decide +kernel
theorem dX0_response_60 : decode cX0_response 60 = .ok (.getfield 16, 3) := by decide +kernel
theorem dX0_response_63 : decode cX0_response 63 = .ok (.iconst 2, 1) := by decide +kernel
theorem dX0_response_64 : decode cX0_response 64 = .ok (.iload_n 3, 1) := by decide +kernel
theorem dX0_response_65 : decode cX0_response 65 = .ok (.imul, 1) := by decide +kernel
theorem dX0_response_66 : decode cX0_response 66 = .ok (.iload 7, 2) := by decide +kernel
theorem dX0_response_68 : decode cX0_response 68 = .ok (.iadd, 1) := by decide +kernel
theorem dX0_response_69 : decode cX0_response 69 = .ok (.iaload, 1) := by decide +kernel
theorem dX0_response_70 : decode cX0_response 70 = .ok (.iadd, 1) := by decide +kernel
theorem dX0_response_71 : decode cX0_response 71 = .ok (.istore 5, 2) := by decide +kernel
theorem dX0_response_73 : decode cX0_response 73 = .ok (.aload_n 0, 1) := by decide +kernel
theorem dX0_response_74 : decode cX0_response 74 = .ok (.iload_n 3, 1) := by decide +kernel
theorem dX0_response_75 : decode cX0_response 75 = .ok (.iload 7, 2) := by decide +kernel
theorem dX0_response_77 : decode cX0_response 77 = .ok (.invokevirtual 49, 3) := by decide +kernel
theorem dX0_response_80 : decode cX0_response 80 = .ok (.istore_n 3, 1) := by decide +kernel
theorem dX0_response_81 : decode cX0_response 81 = .ok (.iinc 6 (-1), 3) := by decide +kernel
theorem dX0_response_84 : decode cX0_response 84 = .ok (.goto (-42), 3) := by decide +kernel
theorem dX0_response_87 : decode cX0_response 87 = .ok (.iload 5, 2) := by decide +kernel
theorem dX0_response_89 : decode cX0_response 89 = .ok (.ireturn, 1) := by decide +kernel
theorem dX0_alike_0 : decode cX0_alike 0 = .ok (.aload_n 0, 1) := by decide +kernel
theorem dX0_alike_1 : decode cX0_alike 1 = .ok (.iload_n 1, 1) := by decide +kernel
theorem dX0_alike_2 : decode cX0_alike 2 = .ok (.invokevirtual 42, 3) := by decide +kernel
theorem dX0_alike_5 : decode cX0_alike 5 = .ok (.istore_n 3, 1) := by decide +kernel
theorem dX0_alike_6 : decode cX0_alike 6 = .ok (.aload_n 0, 1) := by decide +kernel
theorem dX0_alike_7 : decode cX0_alike 7 = .ok (.iload_n 2, 1) := by decide +kernel
theorem dX0_alike_8 : decode cX0_alike 8 = .ok (.invokevirtual 42, 3) := by decide +kernel
theorem dX0_alike_11 : decode cX0_alike 11 = .ok (.istore 4, 2) := by decide +kernel
theorem dX0_alike_13 : decode cX0_alike 13 = .ok (.iload_n 3, 1) := by decide +kernel
theorem dX0_alike_14 : decode cX0_alike 14 = .ok (.ifCond .lt 8, 3) := by decide +kernel
theorem dX0_alike_17 : decode cX0_alike 17 = .ok (.iload 4, 2) := by decide +kernel
theorem dX0_alike_19 : decode cX0_alike 19 = .ok (.ifCond .ge 5, 3) := by decide +kernel
theorem dX0_alike_22 : decode cX0_alike 22 = .ok (.iconst (-1), 1) := by decide +kernel
theorem dX0_alike_23 : decode cX0_alike 23 = .ok (.ireturn, 1) := by decide +kernel
theorem dX0_alike_24 : decode cX0_alike 24 = .ok (.aload_n 0, 1) := by decide +kernel
theorem dX0_alike_25 : decode cX0_alike 25 = .ok (.invokevirtual 53, 3) := by decide +kernel
theorem dX0_alike_28 : decode cX0_alike 28 = .ok (.aload_n 0, 1) := by decide +kernel
theorem dX0_alike_29 : decode cX0_alike 29 = .ok (.getfield 19, 3) := by decide +kernel
theorem dX0_alike_32 : decode cX0_alike 32 = .ok (.bipush 12, 2) := by decide +kernel
theorem dX0_alike_34 : decode cX0_alike 34 = .ok (.iload_n 3, 1) := by decide +kernel
theorem dX0_alike_35 : decode cX0_alike 35 = .ok (.imul, 1) := by decide +kernel
theorem dX0_alike_36 : decode cX0_alike 36 = .ok (.iload 4, 2) := by decide +kernel
theorem dX0_alike_38 : decode cX0_alike 38 = .ok (.iadd, 1) := by decide +kernel
theorem dX0_alike_39 : decode cX0_alike 39 = .ok (.iaload, 1) := by decide +kernel
theorem dX0_alike_40 : decode cX0_alike 40 = .ok (.ifCond .ne 7, 3) := by decide +kernel
theorem dX0_alike_43 : decode cX0_alike 43 = .ok (.iconst 1, 1) := by decide +kernel
theorem dX0_alike_44 : decode cX0_alike 44 = .ok (.goto 4, 3) := by decide +kernel
theorem dX0_alike_47 : decode cX0_alike 47 = .ok (.iconst 0, 1) := by decide +kernel
theorem dX0_alike_48 : decode cX0_alike 48 = .ok (.ireturn, 1) := by decide +kernel
theorem dX0_refresh_0 : decode cX0_refresh 0 = .ok (.aload_n 0, 1) := by decide +kernel
theorem dX0_refresh_1 : decode cX0_refresh 1 = .ok (.getfield 38, 3) := by decide +kernel
theorem dX0_refresh_4 : decode cX0_refresh 4 = .ok (.ifCond .eq 4, 3) := by decide +kernel
theorem dX0_refresh_7 : decode cX0_refresh 7 = .ok (.return_, 1) := by decide +kernel
theorem dX0_refresh_8 : decode cX0_refresh 8 = .ok (.aload_n 0, 1) := by decide +kernel
theorem dX0_refresh_9 : decode cX0_refresh 9 = .ok (.iconst 1, 1) := by decide +kernel
theorem dX0_refresh_10 : decode cX0_refresh 10 = .ok (.putfield 38, 3) := by decide +kernel
theorem dX0_refresh_13 : decode cX0_refresh 13 = .ok (.iconst 0, 1) := by decide +kernel
theorem dX0_refresh_14 : decode cX0_refresh 14 = .ok (.istore_n 1, 1) := by decide +kernel
theorem dX0_refresh_15 : decode cX0_refresh 15 = .ok (.iload_n 1, 1) := by decide +kernel
theorem dX0_refresh_16 : decode cX0_refresh 16 = .ok (.sipush 144, 3) := by decide +kernel
theorem dX0_refresh_19 : decode cX0_refresh 19 = .ok (.if_icmp .ge 100, 3) := by decide +kernel
theorem dX0_refresh_22 : decode cX0_refresh 22 = .ok (.iload_n 1, 1) := by decide +kernel
theorem dX0_refresh_23 : decode cX0_refresh 23 = .ok (.bipush 12, 2) := by decide +kernel
theorem dX0_refresh_25 : decode cX0_refresh 25 = .ok (.idiv, 1) := by decide +kernel
theorem dX0_refresh_26 : decode cX0_refresh 26 = .ok (.istore_n 2, 1) := by decide +kernel
theorem dX0_refresh_27 : decode cX0_refresh 27 = .ok (.iload_n 1, 1) := by decide +kernel
theorem dX0_refresh_28 : decode cX0_refresh 28 = .ok (.bipush 12, 2) := by decide +kernel
theorem dX0_refresh_30 : decode cX0_refresh 30 = .ok (.irem, 1) := by decide +kernel
theorem dX0_refresh_31 : decode cX0_refresh 31 = .ok (.istore_n 3, 1) := by decide +kernel
theorem dX0_refresh_32 : decode cX0_refresh 32 = .ok (.aload_n 0, 1) := by decide +kernel
theorem dX0_refresh_33 : decode cX0_refresh 33 = .ok (.getfield 16, 3) := by decide +kernel
theorem dX0_refresh_36 : decode cX0_refresh 36 = .ok (.iconst 2, 1) := by decide +kernel
theorem dX0_refresh_37 : decode cX0_refresh 37 = .ok (.iload_n 2, 1) := by decide +kernel
theorem dX0_refresh_38 : decode cX0_refresh 38 = .ok (.imul, 1) := by decide +kernel
theorem dX0_refresh_39 : decode cX0_refresh 39 = .ok (.iaload, 1) := by decide +kernel
theorem dX0_refresh_40 : decode cX0_refresh 40 = .ok (.aload_n 0, 1) := by decide +kernel
theorem dX0_refresh_41 : decode cX0_refresh 41 = .ok (.getfield 16, 3) := by decide +kernel
theorem dX0_refresh_44 : decode cX0_refresh 44 = .ok (.iconst 2, 1) := by decide +kernel
theorem dX0_refresh_45 : decode cX0_refresh 45 = .ok (.iload_n 3, 1) := by decide +kernel
theorem dX0_refresh_46 : decode cX0_refresh 46 = .ok (.imul, 1) := by decide +kernel
theorem dX0_refresh_47 : decode cX0_refresh 47 = .ok (.iaload, 1) := by decide +kernel
theorem dX0_refresh_48 : decode cX0_refresh 48 = .ok (.if_icmp .ne 26, 3) := by decide +kernel
theorem dX0_refresh_51 : decode cX0_refresh 51 = .ok (.aload_n 0, 1) := by decide +kernel
theorem dX0_refresh_52 : decode cX0_refresh 52 = .ok (.getfield 16, 3) := by decide +kernel
theorem dX0_refresh_55 : decode cX0_refresh 55 = .ok (.iconst 2, 1) := by decide +kernel
theorem dX0_refresh_56 : decode cX0_refresh 56 = .ok (.iload_n 2, 1) := by decide +kernel
theorem dX0_refresh_57 : decode cX0_refresh 57 = .ok (.imul, 1) := by decide +kernel
theorem dX0_refresh_58 : decode cX0_refresh 58 = .ok (.iconst 1, 1) := by decide +kernel
theorem dX0_refresh_59 : decode cX0_refresh 59 = .ok (.iadd, 1) := by decide +kernel
theorem dX0_refresh_60 : decode cX0_refresh 60 = .ok (.iaload, 1) := by decide +kernel
theorem dX0_refresh_61 : decode cX0_refresh 61 = .ok (.aload_n 0, 1) := by decide +kernel
theorem dX0_refresh_62 : decode cX0_refresh 62 = .ok (.getfield 16, 3) := by decide +kernel
theorem dX0_refresh_65 : decode cX0_refresh 65 = .ok (.iconst 2, 1) := by decide +kernel
theorem dX0_refresh_66 : decode cX0_refresh 66 = .ok (.iload_n 3, 1) := by decide +kernel
theorem dX0_refresh_67 : decode cX0_refresh 67 = .ok (.imul, 1) := by decide +kernel
theorem dX0_refresh_68 : decode cX0_refresh 68 = .ok (.iconst 1, 1) := by decide +kernel
theorem dX0_refresh_69 : decode cX0_refresh 69 = .ok (.iadd, 1) := by decide +kernel
theorem dX0_refresh_70 : decode cX0_refresh 70 = .ok (.iaload, 1) := by decide +kernel
theorem dX0_refresh_71 : decode cX0_refresh 71 = .ok (.if_icmp .eq 7, 3) := by decide +kernel
theorem dX0_refresh_74 : decode cX0_refresh 74 = .ok (.iconst 1, 1) := by decide +kernel
theorem dX0_refresh_75 : decode cX0_refresh 75 = .ok (.goto 4, 3) := by decide +kernel
theorem dX0_refresh_78 : decode cX0_refresh 78 = .ok (.iconst 0, 1) := by decide +kernel
theorem dX0_refresh_79 : decode cX0_refresh 79 = .ok (.istore 4, 2) := by decide +kernel
theorem dX0_refresh_81 : decode cX0_refresh 81 = .ok (.aload_n 0, 1) := by decide +kernel
theorem dX0_refresh_82 : decode cX0_refresh 82 = .ok (.getfield 19, 3) := by decide +kernel
theorem dX0_refresh_85 : decode cX0_refresh 85 = .ok (.iload_n 1, 1) := by decide +kernel
theorem dX0_refresh_86 : decode cX0_refresh 86 = .ok (.iload 4, 2) := by decide +kernel
theorem dX0_refresh_88 : decode cX0_refresh 88 = .ok (.ifCond .eq 23, 3) := by decide +kernel
theorem dX0_refresh_91 : decode cX0_refresh 91 = .ok (.aload_n 0, 1) := by decide +kernel
theorem dX0_refresh_92 : decode cX0_refresh 92 = .ok (.iload_n 2, 1) := by decide +kernel
theorem dX0_refresh_93 : decode cX0_refresh 93 = .ok (.invokevirtual 71, 3) := by decide +kernel
theorem dX0_refresh_96 : decode cX0_refresh 96 = .ok (.ifCond .eq 15, 3) := by decide +kernel
theorem dX0_refresh_99 : decode cX0_refresh 99 = .ok (.aload_n 0, 1) := by decide +kernel
theorem dX0_refresh_100 : decode cX0_refresh 100 = .ok (.iload_n 3, 1) := by decide +kernel
theorem dX0_refresh_101 : decode cX0_refresh 101 = .ok (.invokevirtual 71, 3) := by decide +kernel
theorem dX0_refresh_104 : decode cX0_refresh 104 = .ok (.ifCond .eq 7, 3) := by decide +kernel
theorem dX0_refresh_107 : decode cX0_refresh 107 = .ok (.iconst 1, 1) := by decide +kernel
theorem dX0_refresh_108 : decode cX0_refresh 108 = .ok (.goto 4, 3) := by decide +kernel
theorem dX0_refresh_111 : decode cX0_refresh 111 = .ok (.iconst 0, 1) := by decide +kernel
theorem dX0_refresh_112 : decode cX0_refresh 112 = .ok (.iastore, 1) := by decide +kernel
theorem dX0_refresh_113 : decode cX0_refresh 113 = .ok (.iinc 1 1, 3) := by decide +kernel
theorem dX0_refresh_116 : decode cX0_refresh 116 = .ok (.goto (-101), 3) := by decide +kernel
theorem dX0_refresh_119 : decode cX0_refresh 119 = .ok (.iconst 2, 1) := by decide +kernel
theorem dX0_refresh_120 : decode cX0_refresh 120 = .ok (.istore_n 1, 1) := by decide +kernel
theorem dX0_refresh_121 : decode cX0_refresh 121 = .ok (.iload_n 1, 1) := by decide +kernel
theorem dX0_refresh_122 : decode cX0_refresh 122 = .ok (.bipush 11, 2) := by decide +kernel
theorem dX0_refresh_124 : decode cX0_refresh 124 = .ok (.if_icmp .gt 84, 3) := by decide +kernel
theorem dX0_refresh_127 : decode cX0_refresh 127 = .ok (.iconst 0, 1) := by decide +kernel
theorem dX0_refresh_128 : decode cX0_refresh 128 = .ok (.istore_n 2, 1) := by decide +kernel
theorem dX0_refresh_129 : decode cX0_refresh 129 = .ok (.iload_n 2, 1) := by decide +kernel
theorem dX0_refresh_130 : decode cX0_refresh 130 = .ok (.sipush 144, 3) := by decide +kernel
theorem dX0_refresh_133 : decode cX0_refresh 133 = .ok (.if_icmp .ge 69, 3) := by decide +kernel
theorem dX0_refresh_136 : decode cX0_refresh 136 = .ok (.aload_n 0, 1) := by decide +kernel
theorem dX0_refresh_137 : decode cX0_refresh 137 = .ok (.getfield 19, 3) := by decide +kernel
theorem dX0_refresh_140 : decode cX0_refresh 140 = .ok (.iload_n 2, 1) := by decide +kernel
theorem dX0_refresh_141 : decode cX0_refresh 141 = .ok (.iaload, 1) := by decide +kernel
theorem dX0_refresh_142 : decode cX0_refresh 142 = .ok (.ifCond .ne 54, 3) := by decide +kernel
theorem dX0_refresh_145 : decode cX0_refresh 145 = .ok (.aload_n 0, 1) := by decide +kernel
theorem dX0_refresh_146 : decode cX0_refresh 146 = .ok (.iload_n 2, 1) := by decide +kernel
theorem dX0_refresh_147 : decode cX0_refresh 147 = .ok (.bipush 12, 2) := by decide +kernel
theorem dX0_refresh_149 : decode cX0_refresh 149 = .ok (.idiv, 1) := by decide +kernel
theorem dX0_refresh_150 : decode cX0_refresh 150 = .ok (.invokevirtual 71, 3) := by decide +kernel
theorem dX0_refresh_153 : decode cX0_refresh 153 = .ok (.ifCond .eq 43, 3) := by decide +kernel
theorem dX0_refresh_156 : decode cX0_refresh 156 = .ok (.aload_n 0, 1) := by decide +kernel
theorem dX0_refresh_157 : decode cX0_refresh 157 = .ok (.iload_n 2, 1) := by decide +kernel
theorem dX0_refresh_158 : decode cX0_refresh 158 = .ok (.bipush 12, 2) := by decide +kernel
theorem dX0_refresh_160 : decode cX0_refresh 160 = .ok (.irem, 1) := by decide +kernel
theorem dX0_refresh_161 : decode cX0_refresh 161 = .ok (.invokevirtual 71, 3) := by decide +kernel
theorem dX0_refresh_164 : decode cX0_refresh 164 = .ok (.ifCond .eq 32, 3) := by decide +kernel
theorem dX0_refresh_167 : decode cX0_refresh 167 = .ok (.aload_n 0, 1) := by decide +kernel
theorem dX0_refresh_168 : decode cX0_refresh 168 = .ok (.getfield 19, 3) := by decide +kernel
theorem dX0_refresh_171 : decode cX0_refresh 171 = .ok (.iload_n 2, 1) := by decide +kernel
theorem dX0_refresh_172 : decode cX0_refresh 172 = .ok (.aload_n 0, 1) := by decide +kernel
theorem dX0_refresh_173 : decode cX0_refresh 173 = .ok (.iload_n 2, 1) := by decide +kernel
theorem dX0_refresh_174 : decode cX0_refresh 174 = .ok (.bipush 12, 2) := by decide +kernel
theorem dX0_refresh_176 : decode cX0_refresh 176 = .ok (.idiv, 1) := by decide +kernel
theorem dX0_refresh_177 : decode cX0_refresh 177 = .ok (.iload_n 2, 1) := by decide +kernel
theorem dX0_refresh_178 : decode cX0_refresh 178 = .ok (.bipush 12, 2) := by decide +kernel
theorem dX0_refresh_180 : decode cX0_refresh 180 = .ok (.irem, 1) := by decide +kernel
theorem dX0_refresh_181 : decode cX0_refresh 181 = .ok (.iload_n 1, 1) := by decide +kernel
theorem dX0_refresh_182 : decode cX0_refresh 182 = .ok (.iconst 1, 1) := by decide +kernel
theorem dX0_refresh_183 : decode cX0_refresh 183 = .ok (.isub, 1) := by decide +kernel
theorem dX0_refresh_184 : decode cX0_refresh 184 = .ok (.invokevirtual 74, 3) := by decide +kernel
theorem dX0_refresh_187 : decode cX0_refresh 187 = .ok (.ifCond .eq 7, 3) := by decide +kernel
theorem dX0_refresh_190 : decode cX0_refresh 190 = .ok (.iload_n 1, 1) := by decide +kernel
theorem dX0_refresh_191 : decode cX0_refresh 191 = .ok (.goto 4, 3) := by decide +kernel
theorem dX0_refresh_194 : decode cX0_refresh 194 = .ok (.iconst 0, 1) := by decide +kernel
theorem dX0_refresh_195 : decode cX0_refresh 195 = .ok (.iastore, 1) := by decide +kernel
theorem dX0_refresh_196 : decode cX0_refresh 196 = .ok (.iinc 2 1, 3) := by decide +kernel
theorem dX0_refresh_199 : decode cX0_refresh 199 = .ok (.goto (-70), 3) := by decide +kernel
theorem dX0_refresh_202 : decode cX0_refresh 202 = .ok (.iinc 1 1, 3) := by decide +kernel
theorem dX0_refresh_205 : decode cX0_refresh 205 = .ok (.goto (-84), 3) := by decide +kernel
theorem dX0_refresh_208 : decode cX0_refresh 208 = .ok (.return_, 1) := by decide +kernel
theorem dX0_isThere_0 : decode cX0_isThere 0 = .ok (.iload_n 1, 1) := by decide +kernel
theorem dX0_isThere_1 : decode cX0_isThere 1 = .ok (.bipush 6, 2) := by decide +kernel
theorem dX0_isThere_3 : decode cX0_isThere 3 = .ok (.irem, 1) := by decide +kernel
theorem dX0_isThere_4 : decode cX0_isThere 4 = .ok (.aload_n 0, 1) := by decide +kernel
theorem dX0_isThere_5 : decode cX0_isThere 5 = .ok (.getfield 7, 3) := by decide +kernel
theorem dX0_isThere_8 : decode cX0_isThere 8 = .ok (.iload_n 1, 1) := by decide +kernel
theorem dX0_isThere_9 : decode cX0_isThere 9 = .ok (.bipush 6, 2) := by decide +kernel
theorem dX0_isThere_11 : decode cX0_isThere 11 = .ok (.idiv, 1) := by decide +kernel
theorem dX0_isThere_12 : decode cX0_isThere 12 = .ok (.iaload, 1) := by decide +kernel
theorem dX0_isThere_13 : decode cX0_isThere 13 = .ok (.if_icmp .ge 7, 3) := by decide +kernel
theorem dX0_isThere_16 : decode cX0_isThere 16 = .ok (.iconst 1, 1) := by decide +kernel
theorem dX0_isThere_17 : decode cX0_isThere 17 = .ok (.goto 4, 3) := by decide +kernel
theorem dX0_isThere_20 : decode cX0_isThere 20 = .ok (.iconst 0, 1) := by decide +kernel
theorem dX0_isThere_21 : decode cX0_isThere 21 = .ok (.ireturn, 1) := by decide +kernel
theorem dX0_goesTo_0 : decode cX0_goesTo 0 = .ok (.iconst 0, 1) := by decide +kernel
theorem dX0_goesTo_1 : decode cX0_goesTo 1 = .ok (.istore 4, 2) := by decide +kernel
theorem dX0_goesTo_3 : decode cX0_goesTo 3 = .ok (.iload 4, 2) := by decide +kernel
theorem dX0_goesTo_5 : decode cX0_goesTo 5 = .ok (.iconst 2, 1) := by decide +kernel
theorem dX0_goesTo_6 : decode cX0_goesTo 6 = .ok (.if_icmp .ge 46, 3) := by decide +kernel
theorem dX0_goesTo_9 : decode cX0_goesTo 9 = .ok (.aload_n 0, 1) := by decide +kernel
theorem dX0_goesTo_10 : decode cX0_goesTo 10 = .ok (.iload_n 1, 1) := by decide +kernel
theorem dX0_goesTo_11 : decode cX0_goesTo 11 = .ok (.iload 4, 2) := by decide +kernel
theorem dX0_goesTo_13 : decode cX0_goesTo 13 = .ok (.invokevirtual 49, 3) := by decide +kernel
theorem dX0_goesTo_16 : decode cX0_goesTo 16 = .ok (.istore 5, 2) := by decide +kernel
theorem dX0_goesTo_18 : decode cX0_goesTo 18 = .ok (.aload_n 0, 1) := by decide +kernel
theorem dX0_goesTo_19 : decode cX0_goesTo 19 = .ok (.iload_n 2, 1) := by decide +kernel
theorem dX0_goesTo_20 : decode cX0_goesTo 20 = .ok (.iload 4, 2) := by decide +kernel
theorem dX0_goesTo_22 : decode cX0_goesTo 22 = .ok (.invokevirtual 49, 3) := by decide +kernel
theorem dX0_goesTo_25 : decode cX0_goesTo 25 = .ok (.istore 6, 2) := by decide +kernel
theorem dX0_goesTo_27 : decode cX0_goesTo 27 = .ok (.aload_n 0, 1) := by decide +kernel
theorem dX0_goesTo_28 : decode cX0_goesTo 28 = .ok (.getfield 19, 3) := by decide +kernel
theorem dX0_goesTo_31 : decode cX0_goesTo 31 = .ok (.bipush 12, 2) := by decide +kernel
theorem dX0_goesTo_33 : decode cX0_goesTo 33 = .ok (.iload 5, 2) := by decide +kernel
theorem dX0_goesTo_35 : decode cX0_goesTo 35 = .ok (.imul, 1) := by decide +kernel
theorem dX0_goesTo_36 : decode cX0_goesTo 36 = .ok (.iload 6, 2) := by decide +kernel
theorem dX0_goesTo_38 : decode cX0_goesTo 38 = .ok (.iadd, 1) := by decide +kernel
theorem dX0_goesTo_39 : decode cX0_goesTo 39 = .ok (.iaload, 1) := by decide +kernel
theorem dX0_goesTo_40 : decode cX0_goesTo 40 = .ok (.iload_n 3, 1) := by decide +kernel
theorem dX0_goesTo_41 : decode cX0_goesTo 41 = .ok (.if_icmp .ne 5, 3) := by decide +kernel
theorem dX0_goesTo_44 : decode cX0_goesTo 44 = .ok (.iconst 1, 1) := by decide +kernel
theorem dX0_goesTo_45 : decode cX0_goesTo 45 = .ok (.ireturn, 1) := by decide +kernel
theorem dX0_goesTo_46 : decode cX0_goesTo 46 = .ok (.iinc 4 1, 3) := by decide +kernel
theorem dX0_goesTo_49 : decode cX0_goesTo 49 = .ok (.goto (-46), 3) := by decide +kernel
theorem dX0_goesTo_52 : decode cX0_goesTo 52 = .ok (.iconst 0, 1) := by decide +kernel
theorem dX0_goesTo_53 : decode cX0_goesTo 53 = .ok (.ireturn, 1) := by decide +kernel
theorem dX0_difference_0 : decode cX0_difference 0 = .ok (.aload_n 0, 1) := by decide +kernel
theorem dX0_difference_1 : decode cX0_difference 1 = .ok (.iload_n 1, 1) := by decide +kernel
theorem dX0_difference_2 : decode cX0_difference 2 = .ok (.invokevirtual 42, 3) := by decide +kernel
theorem dX0_difference_5 : decode cX0_difference 5 = .ok (.istore_n 3, 1) := by decide +kernel
theorem dX0_difference_6 : decode cX0_difference 6 = .ok (.aload_n 0, 1) := by decide +kernel
theorem dX0_difference_7 : decode cX0_difference 7 = .ok (.iload_n 2, 1) := by decide +kernel
theorem dX0_difference_8 : decode cX0_difference 8 = .ok (.invokevirtual 42, 3) := by decide +kernel
theorem dX0_difference_11 : decode cX0_difference 11 = .ok (.istore 4, 2) := by decide +kernel
theorem dX0_difference_13 : decode cX0_difference 13 = .ok (.iload_n 3, 1) := by decide +kernel
theorem dX0_difference_14 : decode cX0_difference 14 = .ok (.ifCond .lt 8, 3) := by decide +kernel
theorem dX0_difference_17 : decode cX0_difference 17 = .ok (.iload 4, 2) := by decide +kernel
theorem dX0_difference_19 : decode cX0_difference 19 = .ok (.ifCond .ge 5, 3) := by decide +kernel
theorem dX0_difference_22 : decode cX0_difference 22 = .ok (.iconst (-1), 1) := by decide +kernel
theorem dX0_difference_23 : decode cX0_difference 23 = .ok (.ireturn, 1) := by decide +kernel
theorem dX0_difference_24 : decode cX0_difference 24 = .ok (.aload_n 0, 1) := by decide +kernel
theorem dX0_difference_25 : decode cX0_difference 25 = .ok (.invokevirtual 53, 3) := by decide +kernel
theorem dX0_difference_28 : decode cX0_difference 28 = .ok (.aload_n 0, 1) := by decide +kernel
theorem dX0_difference_29 : decode cX0_difference 29 = .ok (.iload_n 3, 1) := by decide +kernel
theorem dX0_difference_30 : decode cX0_difference 30 = .ok (.iload 4, 2) := by decide +kernel
theorem dX0_difference_32 : decode cX0_difference 32 = .ok (.invokevirtual 56, 3) := by decide +kernel
theorem dX0_difference_35 : decode cX0_difference 35 = .ok (.ireturn, 1) := by decide +kernel
theorem dX0_firstWord_0 : decode cX0_firstWord 0 = .ok (.iload_n 1, 1) := by decide +kernel
theorem dX0_firstWord_1 : decode cX0_firstWord 1 = .ok (.istore_n 3, 1) := by decide +kernel
theorem dX0_firstWord_2 : decode cX0_firstWord 2 = .ok (.iload_n 2, 1) := by decide +kernel
theorem dX0_firstWord_3 : decode cX0_firstWord 3 = .ok (.istore 4, 2) := by decide +kernel
theorem dX0_firstWord_5 : decode cX0_firstWord 5 = .ok (.aload_n 0, 1) := by decide +kernel
theorem dX0_firstWord_6 : decode cX0_firstWord 6 = .ok (.getfield 19, 3) := by decide +kernel
theorem dX0_firstWord_9 : decode cX0_firstWord 9 = .ok (.bipush 12, 2) := by decide +kernel
theorem dX0_firstWord_11 : decode cX0_firstWord 11 = .ok (.iload_n 1, 1) := by decide +kernel
theorem dX0_firstWord_12 : decode cX0_firstWord 12 = .ok (.imul, 1) := by decide +kernel
theorem dX0_firstWord_13 : decode cX0_firstWord 13 = .ok (.iload_n 2, 1) := by decide +kernel
theorem dX0_firstWord_14 : decode cX0_firstWord 14 = .ok (.iadd, 1) := by decide +kernel
theorem dX0_firstWord_15 : decode cX0_firstWord 15 = .ok (.iaload, 1) := by decide +kernel
theorem dX0_firstWord_16 : decode cX0_firstWord 16 = .ok (.istore 5, 2) := by decide +kernel
theorem dX0_firstWord_18 : decode cX0_firstWord 18 = .ok (.iload 5, 2) := by decide +kernel
theorem dX0_firstWord_20 : decode cX0_firstWord 20 = .ok (.ifCond .ne 5, 3) := by decide +kernel
theorem dX0_firstWord_23 : decode cX0_firstWord 23 = .ok (.iconst 0, 1) := by decide +kernel
theorem dX0_firstWord_24 : decode cX0_firstWord 24 = .ok (.ireturn, 1) := by decide +kernel
theorem dX0_firstWord_25 : decode cX0_firstWord 25 = .ok (.iconst 1, 1) := by decide +kernel
theorem dX0_firstWord_26 : decode cX0_firstWord 26 = .ok (.istore 6, 2) := by decide +kernel
theorem dX0_firstWord_28 : decode cX0_firstWord 28 = .ok (.iload 5, 2) := by decide +kernel
theorem dX0_firstWord_30 : decode cX0_firstWord 30 = .ok (.iconst 1, 1) := by decide +kernel
theorem dX0_firstWord_31 : decode cX0_firstWord 31 = .ok (.if_icmp .le 80, 3) := by decide +kernel
theorem dX0_firstWord_34 : decode cX0_firstWord 34 = .ok (.aload_n 0, 1) := by decide +kernel
theorem dX0_firstWord_35 : decode cX0_firstWord 35 = .ok (.iload_n 3, 1) := by decide +kernel
theorem dX0_firstWord_36 : decode cX0_firstWord 36 = .ok (.iconst 0, 1) := by decide +kernel
theorem dX0_firstWord_37 : decode cX0_firstWord 37 = .ok (.invokevirtual 49, 3) := by decide +kernel
theorem dX0_firstWord_40 : decode cX0_firstWord 40 = .ok (.istore 7, 2) := by decide +kernel
theorem dX0_firstWord_42 : decode cX0_firstWord 42 = .ok (.aload_n 0, 1) := by decide +kernel
theorem dX0_firstWord_43 : decode cX0_firstWord 43 = .ok (.iload 4, 2) := by decide +kernel
theorem dX0_firstWord_45 : decode cX0_firstWord 45 = .ok (.iconst 0, 1) := by decide +kernel
theorem dX0_firstWord_46 : decode cX0_firstWord 46 = .ok (.invokevirtual 49, 3) := by decide +kernel
theorem dX0_firstWord_49 : decode cX0_firstWord 49 = .ok (.istore 8, 2) := by decide +kernel
theorem dX0_firstWord_51 : decode cX0_firstWord 51 = .ok (.aload_n 0, 1) := by decide +kernel
theorem dX0_firstWord_52 : decode cX0_firstWord 52 = .ok (.getfield 19, 3) := by decide +kernel
theorem dX0_firstWord_55 : decode cX0_firstWord 55 = .ok (.bipush 12, 2) := by decide +kernel
theorem dX0_firstWord_57 : decode cX0_firstWord 57 = .ok (.iload 7, 2) := by decide +kernel
theorem dX0_firstWord_59 : decode cX0_firstWord 59 = .ok (.imul, 1) := by decide +kernel
theorem dX0_firstWord_60 : decode cX0_firstWord 60 = .ok (.iload 8, 2) := by decide +kernel
theorem dX0_firstWord_62 : decode cX0_firstWord 62 = .ok (.iadd, 1) := by decide +kernel
theorem dX0_firstWord_63 : decode cX0_firstWord 63 = .ok (.iaload, 1) := by decide +kernel
theorem dX0_firstWord_64 : decode cX0_firstWord 64 = .ok (.iload 5, 2) := by decide +kernel
theorem dX0_firstWord_66 : decode cX0_firstWord 66 = .ok (.iconst 1, 1) := by decide +kernel
theorem dX0_firstWord_67 : decode cX0_firstWord 67 = .ok (.isub, 1) := by decide +kernel
theorem dX0_firstWord_68 : decode cX0_firstWord 68 = .ok (.if_icmp .ne 7, 3) := by decide +kernel
theorem dX0_firstWord_71 : decode cX0_firstWord 71 = .ok (.iconst 0, 1) := by decide +kernel
theorem dX0_firstWord_72 : decode cX0_firstWord 72 = .ok (.goto 4, 3) := by decide +kernel
theorem dX0_firstWord_75 : decode cX0_firstWord 75 = .ok (.iconst 1, 1) := by decide +kernel
theorem dX0_firstWord_76 : decode cX0_firstWord 76 = .ok (.istore 9, 2) := by decide +kernel
theorem dX0_firstWord_78 : decode cX0_firstWord 78 = .ok (.aload_n 0, 1) := by decide +kernel
theorem dX0_firstWord_79 : decode cX0_firstWord 79 = .ok (.iload_n 3, 1) := by decide +kernel
theorem dX0_firstWord_80 : decode cX0_firstWord 80 = .ok (.iload 9, 2) := by decide +kernel
theorem dX0_firstWord_82 : decode cX0_firstWord 82 = .ok (.invokevirtual 49, 3) := by decide +kernel
theorem dX0_firstWord_85 : decode cX0_firstWord 85 = .ok (.istore_n 3, 1) := by decide +kernel
theorem dX0_firstWord_86 : decode cX0_firstWord 86 = .ok (.aload_n 0, 1) := by decide +kernel
theorem dX0_firstWord_87 : decode cX0_firstWord 87 = .ok (.iload 4, 2) := by decide +kernel
theorem dX0_firstWord_89 : decode cX0_firstWord 89 = .ok (.iload 9, 2) := by decide +kernel
theorem dX0_firstWord_91 : decode cX0_firstWord 91 = .ok (.invokevirtual 49, 3) := by decide +kernel
theorem dX0_firstWord_94 : decode cX0_firstWord 94 = .ok (.istore 4, 2) := by decide +kernel
theorem dX0_firstWord_96 : decode cX0_firstWord 96 = .ok (.iconst 2, 1) := by decide +kernel
theorem dX0_firstWord_97 : decode cX0_firstWord 97 = .ok (.iload 6, 2) := by decide +kernel
theorem dX0_firstWord_99 : decode cX0_firstWord 99 = .ok (.imul, 1) := by decide +kernel
theorem dX0_firstWord_100 : decode cX0_firstWord 100 = .ok (.iload 9, 2) := by decide +kernel
theorem dX0_firstWord_102 : decode cX0_firstWord 102 = .ok (.iadd, 1) := by decide +kernel
theorem dX0_firstWord_103 : decode cX0_firstWord 103 = .ok (.istore 6, 2) := by decide +kernel
theorem dX0_firstWord_105 : decode cX0_firstWord 105 = .ok (.iinc 5 (-1), 3) := by decide +kernel
theorem dX0_firstWord_108 : decode cX0_firstWord 108 = .ok (.goto (-80), 3) := by decide +kernel
theorem dX0_firstWord_111 : decode cX0_firstWord 111 = .ok (.iconst 2, 1) := by decide +kernel
theorem dX0_firstWord_112 : decode cX0_firstWord 112 = .ok (.iload 6, 2) := by decide +kernel
theorem dX0_firstWord_114 : decode cX0_firstWord 114 = .ok (.imul, 1) := by decide +kernel
theorem dX0_firstWord_115 : decode cX0_firstWord 115 = .ok (.aload_n 0, 1) := by decide +kernel
theorem dX0_firstWord_116 : decode cX0_firstWord 116 = .ok (.getfield 16, 3) := by decide +kernel
theorem dX0_firstWord_119 : decode cX0_firstWord 119 = .ok (.iconst 2, 1) := by decide +kernel
theorem dX0_firstWord_120 : decode cX0_firstWord 120 = .ok (.iload_n 3, 1) := by decide +kernel
theorem dX0_firstWord_121 : decode cX0_firstWord 121 = .ok (.imul, 1) := by decide +kernel
theorem dX0_firstWord_122 : decode cX0_firstWord 122 = .ok (.iaload, 1) := by decide +kernel
theorem dX0_firstWord_123 : decode cX0_firstWord 123 = .ok (.aload_n 0, 1) := by decide +kernel
theorem dX0_firstWord_124 : decode cX0_firstWord 124 = .ok (.getfield 16, 3) := by decide +kernel
theorem dX0_firstWord_127 : decode cX0_firstWord 127 = .ok (.iconst 2, 1) := by decide +kernel
theorem dX0_firstWord_128 : decode cX0_firstWord 128 = .ok (.iload 4, 2) := by decide +kernel
theorem dX0_firstWord_130 : decode cX0_firstWord 130 = .ok (.imul, 1) := by decide +kernel
theorem dX0_firstWord_131 : decode cX0_firstWord 131 = .ok (.iaload, 1) := by decide +kernel
theorem dX0_firstWord_132 : decode cX0_firstWord 132 = .ok (.if_icmp .eq 7, 3) := by decide +kernel
theorem dX0_firstWord_135 : decode cX0_firstWord 135 = .ok (.iconst 0, 1) := by decide +kernel
theorem dX0_firstWord_136 : decode cX0_firstWord 136 = .ok (.goto 4, 3) := by decide +kernel
theorem dX0_firstWord_139 : decode cX0_firstWord 139 = .ok (.iconst 1, 1) := by decide +kernel
theorem dX0_firstWord_140 : decode cX0_firstWord 140 = .ok (.iadd, 1) := by decide +kernel
theorem dX0_firstWord_141 : decode cX0_firstWord 141 = .ok (.ireturn, 1) := by decide +kernel
theorem dX0_same_0 : decode cX0_same 0 = .ok (.aload_n 0, 1) := by decide +kernel
theorem dX0_same_1 : decode cX0_same 1 = .ok (.invokevirtual 53, 3) := by decide +kernel
theorem dX0_same_4 : decode cX0_same 4 = .ok (.aload_n 0, 1) := by decide +kernel
theorem dX0_same_5 : decode cX0_same 5 = .ok (.getfield 19, 3) := by decide +kernel
theorem dX0_same_8 : decode cX0_same 8 = .ok (.bipush 6, 2) := by decide +kernel
theorem dX0_same_10 : decode cX0_same 10 = .ok (.iaload, 1) := by decide +kernel
theorem dX0_same_11 : decode cX0_same 11 = .ok (.ifCond .ne 7, 3) := by decide +kernel
theorem dX0_same_14 : decode cX0_same 14 = .ok (.iconst 1, 1) := by decide +kernel
theorem dX0_same_15 : decode cX0_same 15 = .ok (.goto 4, 3) := by decide +kernel
theorem dX0_same_18 : decode cX0_same 18 = .ok (.iconst 0, 1) := by decide +kernel
theorem dX0_same_19 : decode cX0_same 19 = .ok (.ireturn, 1) := by decide +kernel
theorem dX0_classes_0 : decode cX0_classes 0 = .ok (.iload_n 1, 1) := by decide +kernel
theorem dX0_classes_1 : decode cX0_classes 1 = .ok (.invokestatic 34, 3) := by decide +kernel
theorem dX0_classes_4 : decode cX0_classes 4 = .ok (.ifCond .ne 5, 3) := by decide +kernel
theorem dX0_classes_7 : decode cX0_classes 7 = .ok (.iconst (-1), 1) := by decide +kernel
theorem dX0_classes_8 : decode cX0_classes 8 = .ok (.ireturn, 1) := by decide +kernel
theorem dX0_classes_9 : decode cX0_classes 9 = .ok (.aload_n 0, 1) := by decide +kernel
theorem dX0_classes_10 : decode cX0_classes 10 = .ok (.invokevirtual 53, 3) := by decide +kernel
theorem dX0_classes_13 : decode cX0_classes 13 = .ok (.iconst 0, 1) := by decide +kernel
theorem dX0_classes_14 : decode cX0_classes 14 = .ok (.istore_n 2, 1) := by decide +kernel
theorem dX0_classes_15 : decode cX0_classes 15 = .ok (.iconst 0, 1) := by decide +kernel
theorem dX0_classes_16 : decode cX0_classes 16 = .ok (.istore_n 3, 1) := by decide +kernel
theorem dX0_classes_17 : decode cX0_classes 17 = .ok (.iload_n 3, 1) := by decide +kernel
theorem dX0_classes_18 : decode cX0_classes 18 = .ok (.aload_n 0, 1) := by decide +kernel
theorem dX0_classes_19 : decode cX0_classes 19 = .ok (.getfield 7, 3) := by decide +kernel
theorem dX0_classes_22 : decode cX0_classes 22 = .ok (.iload_n 1, 1) := by decide +kernel
theorem dX0_classes_23 : decode cX0_classes 23 = .ok (.iaload, 1) := by decide +kernel
theorem dX0_classes_24 : decode cX0_classes 24 = .ok (.if_icmp .ge 77, 3) := by decide +kernel
theorem dX0_classes_27 : decode cX0_classes 27 = .ok (.iconst 1, 1) := by decide +kernel
theorem dX0_classes_28 : decode cX0_classes 28 = .ok (.istore 4, 2) := by decide +kernel
theorem dX0_classes_30 : decode cX0_classes 30 = .ok (.iconst 0, 1) := by decide +kernel
theorem dX0_classes_31 : decode cX0_classes 31 = .ok (.istore 5, 2) := by decide +kernel
theorem dX0_classes_33 : decode cX0_classes 33 = .ok (.iload 5, 2) := by decide +kernel
theorem dX0_classes_35 : decode cX0_classes 35 = .ok (.iload_n 3, 1) := by decide +kernel
theorem dX0_classes_36 : decode cX0_classes 36 = .ok (.if_icmp .ge 46, 3) := by decide +kernel
theorem dX0_classes_39 : decode cX0_classes 39 = .ok (.iload 4, 2) := by decide +kernel
theorem dX0_classes_41 : decode cX0_classes 41 = .ok (.ifCond .eq 32, 3) := by decide +kernel
theorem dX0_classes_44 : decode cX0_classes 44 = .ok (.aload_n 0, 1) := by decide +kernel
theorem dX0_classes_45 : decode cX0_classes 45 = .ok (.getfield 19, 3) := by decide +kernel
theorem dX0_classes_48 : decode cX0_classes 48 = .ok (.bipush 12, 2) := by decide +kernel
theorem dX0_classes_50 : decode cX0_classes 50 = .ok (.bipush 6, 2) := by decide +kernel
theorem dX0_classes_52 : decode cX0_classes 52 = .ok (.iload_n 1, 1) := by decide +kernel
theorem dX0_classes_53 : decode cX0_classes 53 = .ok (.imul, 1) := by decide +kernel
theorem dX0_classes_54 : decode cX0_classes 54 = .ok (.iload 5, 2) := by decide +kernel
theorem dX0_classes_56 : decode cX0_classes 56 = .ok (.iadd, 1) := by decide +kernel
theorem dX0_classes_57 : decode cX0_classes 57 = .ok (.imul, 1) := by decide +kernel
theorem dX0_classes_58 : decode cX0_classes 58 = .ok (.bipush 6, 2) := by decide +kernel
theorem dX0_classes_60 : decode cX0_classes 60 = .ok (.iload_n 1, 1) := by decide +kernel
theorem dX0_classes_61 : decode cX0_classes 61 = .ok (.imul, 1) := by decide +kernel
theorem dX0_classes_62 : decode cX0_classes 62 = .ok (.iadd, 1) := by decide +kernel
theorem dX0_classes_63 : decode cX0_classes 63 = .ok (.iload_n 3, 1) := by decide +kernel
theorem dX0_classes_64 : decode cX0_classes 64 = .ok (.iadd, 1) := by decide +kernel
theorem dX0_classes_65 : decode cX0_classes 65 = .ok (.iaload, 1) := by decide +kernel
theorem dX0_classes_66 : decode cX0_classes 66 = .ok (.ifCond .eq 7, 3) := by decide +kernel
theorem dX0_classes_69 : decode cX0_classes 69 = .ok (.iconst 1, 1) := by decide +kernel
theorem dX0_classes_70 : decode cX0_classes 70 = .ok (.goto 4, 3) := by decide +kernel
theorem dX0_classes_73 : decode cX0_classes 73 = .ok (.iconst 0, 1) := by decide +kernel
theorem dX0_classes_74 : decode cX0_classes 74 = .ok (.istore 4, 2) := by decide +kernel
theorem dX0_classes_76 : decode cX0_classes 76 = .ok (.iinc 5 1, 3) := by decide +kernel
theorem dX0_classes_79 : decode cX0_classes 79 = .ok (.goto (-46), 3) := by decide +kernel
theorem dX0_classes_82 : decode cX0_classes 82 = .ok (.iload_n 2, 1) := by decide +kernel
theorem dX0_classes_83 : decode cX0_classes 83 = .ok (.iload 4, 2) := by decide +kernel
theorem dX0_classes_85 : decode cX0_classes 85 = .ok (.ifCond .eq 7, 3) := by decide +kernel
theorem dX0_classes_88 : decode cX0_classes 88 = .ok (.iconst 1, 1) := by decide +kernel
theorem dX0_classes_89 : decode cX0_classes 89 = .ok (.goto 4, 3) := by decide +kernel
theorem dX0_classes_92 : decode cX0_classes 92 = .ok (.iconst 0, 1) := by decide +kernel
theorem dX0_classes_93 : decode cX0_classes 93 = .ok (.iadd, 1) := by decide +kernel
theorem dX0_classes_94 : decode cX0_classes 94 = .ok (.istore_n 2, 1) := by decide +kernel
theorem dX0_classes_95 : decode cX0_classes 95 = .ok (.iinc 3 1, 3) := by decide +kernel
theorem dX0_classes_98 : decode cX0_classes 98 = .ok (.goto (-81), 3) := by decide +kernel
theorem dX0_classes_101 : decode cX0_classes 101 = .ok (.iload_n 2, 1) := by decide +kernel
theorem dX0_classes_102 : decode cX0_classes 102 = .ok (.ireturn, 1) := by decide +kernel
theorem dX0_core_0 : decode cX0_core 0 = .ok (.iload_n 1, 1) := by decide +kernel
theorem dX0_core_1 : decode cX0_core 1 = .ok (.invokestatic 34, 3) := by decide +kernel
theorem dX0_core_4 : decode cX0_core 4 = .ok (.ifCond .ne 5, 3) := by decide +kernel
theorem dX0_core_7 : decode cX0_core 7 = .ok (.iconst (-1), 1) := by decide +kernel
theorem dX0_core_8 : decode cX0_core 8 = .ok (.ireturn, 1) := by decide +kernel
theorem dX0_core_9 : decode cX0_core 9 = .ok (.aload_n 0, 1) := by decide +kernel
theorem dX0_core_10 : decode cX0_core 10 = .ok (.iload_n 1, 1) := by decide +kernel
end
section
set_option maxRecDepth 100000
theorem dX0_core_11 : decode cX0_core 11 = .ok (.invokevirtual 59, 3) := by decide +kernel
theorem dX0_core_14 : decode cX0_core 14 = .ok (.aload_n 0, 1) := by decide +kernel
theorem dX0_core_15 : decode cX0_core 15 = .ok (.getfield 63, 3) := by decide +kernel
theorem dX0_core_18 : decode cX0_core 18 = .ok (.ireturn, 1) := by decide +kernel
theorem dX0_number_0 : decode cX0_number 0 = .ok (.aload_n 0, 1) := by decide +kernel
theorem dX0_number_1 : decode cX0_number 1 = .ok (.invokevirtual 53, 3) := by decide +kernel
theorem dX0_number_4 : decode cX0_number 4 = .ok (.iconst 0, 1) := by decide +kernel
theorem dX0_number_5 : decode cX0_number 5 = .ok (.istore_n 2, 1) := by decide +kernel
theorem dX0_number_6 : decode cX0_number 6 = .ok (.iload_n 2, 1) := by decide +kernel
theorem dX0_number_7 : decode cX0_number 7 = .ok (.bipush 12, 2) := by decide +kernel
theorem dX0_number_9 : decode cX0_number 9 = .ok (.if_icmp .ge 16, 3) := by decide +kernel
theorem dX0_number_12 : decode cX0_number 12 = .ok (.aload_n 0, 1) := by decide +kernel
theorem dX0_number_13 : decode cX0_number 13 = .ok (.getfield 22, 3) := by decide +kernel
theorem dX0_number_16 : decode cX0_number 16 = .ok (.iload_n 2, 1) := by decide +kernel
theorem dX0_number_17 : decode cX0_number 17 = .ok (.iconst (-1), 1) := by decide +kernel
theorem dX0_number_18 : decode cX0_number 18 = .ok (.iastore, 1) := by decide +kernel
theorem dX0_number_19 : decode cX0_number 19 = .ok (.iinc 2 1, 3) := by decide +kernel
theorem dX0_number_22 : decode cX0_number 22 = .ok (.goto (-16), 3) := by decide +kernel
theorem dX0_number_25 : decode cX0_number 25 = .ok (.aload_n 0, 1) := by decide +kernel
theorem dX0_number_26 : decode cX0_number 26 = .ok (.iconst 0, 1) := by decide +kernel
theorem dX0_number_27 : decode cX0_number 27 = .ok (.putfield 63, 3) := by decide +kernel
theorem dX0_number_30 : decode cX0_number 30 = .ok (.aload_n 0, 1) := by decide +kernel
theorem dX0_number_31 : decode cX0_number 31 = .ok (.iload_n 1, 1) := by decide +kernel
theorem dX0_number_32 : decode cX0_number 32 = .ok (.bipush 6, 2) := by decide +kernel
theorem dX0_number_34 : decode cX0_number 34 = .ok (.iload_n 1, 1) := by decide +kernel
theorem dX0_number_35 : decode cX0_number 35 = .ok (.imul, 1) := by decide +kernel
theorem dX0_number_36 : decode cX0_number 36 = .ok (.invokevirtual 78, 3) := by decide +kernel
theorem dX0_number_39 : decode cX0_number 39 = .ok (.iconst 0, 1) := by decide +kernel
theorem dX0_number_40 : decode cX0_number 40 = .ok (.istore_n 2, 1) := by decide +kernel
theorem dX0_number_41 : decode cX0_number 41 = .ok (.iload_n 2, 1) := by decide +kernel
theorem dX0_number_42 : decode cX0_number 42 = .ok (.bipush 6, 2) := by decide +kernel
theorem dX0_number_44 : decode cX0_number 44 = .ok (.if_icmp .ge 61, 3) := by decide +kernel
theorem dX0_number_47 : decode cX0_number 47 = .ok (.iload_n 2, 1) := by decide +kernel
theorem dX0_number_48 : decode cX0_number 48 = .ok (.aload_n 0, 1) := by decide +kernel
theorem dX0_number_49 : decode cX0_number 49 = .ok (.getfield 63, 3) := by decide +kernel
theorem dX0_number_52 : decode cX0_number 52 = .ok (.if_icmp .ge 53, 3) := by decide +kernel
theorem dX0_number_55 : decode cX0_number 55 = .ok (.iconst 0, 1) := by decide +kernel
theorem dX0_number_56 : decode cX0_number 56 = .ok (.istore_n 3, 1) := by decide +kernel
theorem dX0_number_57 : decode cX0_number 57 = .ok (.iload_n 3, 1) := by decide +kernel
theorem dX0_number_58 : decode cX0_number 58 = .ok (.iconst 2, 1) := by decide +kernel
theorem dX0_number_59 : decode cX0_number 59 = .ok (.if_icmp .ge 40, 3) := by decide +kernel
theorem dX0_number_62 : decode cX0_number 62 = .ok (.aload_n 0, 1) := by decide +kernel
theorem dX0_number_63 : decode cX0_number 63 = .ok (.aload_n 0, 1) := by decide +kernel
theorem dX0_number_64 : decode cX0_number 64 = .ok (.getfield 25, 3) := by decide +kernel
theorem dX0_number_67 : decode cX0_number 67 = .ok (.iload_n 2, 1) := by decide +kernel
theorem dX0_number_68 : decode cX0_number 68 = .ok (.iaload, 1) := by decide +kernel
theorem dX0_number_69 : decode cX0_number 69 = .ok (.iload_n 3, 1) := by decide +kernel
theorem dX0_number_70 : decode cX0_number 70 = .ok (.invokevirtual 49, 3) := by decide +kernel
theorem dX0_number_73 : decode cX0_number 73 = .ok (.istore 4, 2) := by decide +kernel
theorem dX0_number_75 : decode cX0_number 75 = .ok (.aload_n 0, 1) := by decide +kernel
theorem dX0_number_76 : decode cX0_number 76 = .ok (.getfield 22, 3) := by decide +kernel
theorem dX0_number_79 : decode cX0_number 79 = .ok (.iload 4, 2) := by decide +kernel
theorem dX0_number_81 : decode cX0_number 81 = .ok (.iaload, 1) := by decide +kernel
theorem dX0_number_82 : decode cX0_number 82 = .ok (.iconst (-1), 1) := by decide +kernel
theorem dX0_number_83 : decode cX0_number 83 = .ok (.if_icmp .ne 10, 3) := by decide +kernel
theorem dX0_number_86 : decode cX0_number 86 = .ok (.aload_n 0, 1) := by decide +kernel
theorem dX0_number_87 : decode cX0_number 87 = .ok (.iload_n 1, 1) := by decide +kernel
theorem dX0_number_88 : decode cX0_number 88 = .ok (.iload 4, 2) := by decide +kernel
theorem dX0_number_90 : decode cX0_number 90 = .ok (.invokevirtual 78, 3) := by decide +kernel
theorem dX0_number_93 : decode cX0_number 93 = .ok (.iinc 3 1, 3) := by decide +kernel
theorem dX0_number_96 : decode cX0_number 96 = .ok (.goto (-39), 3) := by decide +kernel
theorem dX0_number_99 : decode cX0_number 99 = .ok (.iinc 2 1, 3) := by decide +kernel
theorem dX0_number_102 : decode cX0_number 102 = .ok (.goto (-61), 3) := by decide +kernel
theorem dX0_number_105 : decode cX0_number 105 = .ok (.return_, 1) := by decide +kernel
theorem dX0_admit_0 : decode cX0_admit 0 = .ok (.aload_n 0, 1) := by decide +kernel
theorem dX0_admit_1 : decode cX0_admit 1 = .ok (.getfield 25, 3) := by decide +kernel
theorem dX0_admit_4 : decode cX0_admit 4 = .ok (.aload_n 0, 1) := by decide +kernel
theorem dX0_admit_5 : decode cX0_admit 5 = .ok (.getfield 63, 3) := by decide +kernel
theorem dX0_admit_8 : decode cX0_admit 8 = .ok (.iload_n 2, 1) := by decide +kernel
theorem dX0_admit_9 : decode cX0_admit 9 = .ok (.iastore, 1) := by decide +kernel
theorem dX0_admit_10 : decode cX0_admit 10 = .ok (.iconst 0, 1) := by decide +kernel
theorem dX0_admit_11 : decode cX0_admit 11 = .ok (.istore_n 3, 1) := by decide +kernel
theorem dX0_admit_12 : decode cX0_admit 12 = .ok (.iload_n 3, 1) := by decide +kernel
theorem dX0_admit_13 : decode cX0_admit 13 = .ok (.aload_n 0, 1) := by decide +kernel
theorem dX0_admit_14 : decode cX0_admit 14 = .ok (.getfield 7, 3) := by decide +kernel
theorem dX0_admit_17 : decode cX0_admit 17 = .ok (.iload_n 1, 1) := by decide +kernel
theorem dX0_admit_18 : decode cX0_admit 18 = .ok (.iaload, 1) := by decide +kernel
theorem dX0_admit_19 : decode cX0_admit 19 = .ok (.if_icmp .ge 43, 3) := by decide +kernel
theorem dX0_admit_22 : decode cX0_admit 22 = .ok (.bipush 6, 2) := by decide +kernel
theorem dX0_admit_24 : decode cX0_admit 24 = .ok (.iload_n 1, 1) := by decide +kernel
theorem dX0_admit_25 : decode cX0_admit 25 = .ok (.imul, 1) := by decide +kernel
theorem dX0_admit_26 : decode cX0_admit 26 = .ok (.iload_n 3, 1) := by decide +kernel
theorem dX0_admit_27 : decode cX0_admit 27 = .ok (.iadd, 1) := by decide +kernel
theorem dX0_admit_28 : decode cX0_admit 28 = .ok (.istore 4, 2) := by decide +kernel
theorem dX0_admit_30 : decode cX0_admit 30 = .ok (.aload_n 0, 1) := by decide +kernel
theorem dX0_admit_31 : decode cX0_admit 31 = .ok (.getfield 19, 3) := by decide +kernel
theorem dX0_admit_34 : decode cX0_admit 34 = .ok (.bipush 12, 2) := by decide +kernel
theorem dX0_admit_36 : decode cX0_admit 36 = .ok (.iload_n 2, 1) := by decide +kernel
theorem dX0_admit_37 : decode cX0_admit 37 = .ok (.imul, 1) := by decide +kernel
theorem dX0_admit_38 : decode cX0_admit 38 = .ok (.iload 4, 2) := by decide +kernel
theorem dX0_admit_40 : decode cX0_admit 40 = .ok (.iadd, 1) := by decide +kernel
theorem dX0_admit_41 : decode cX0_admit 41 = .ok (.iaload, 1) := by decide +kernel
theorem dX0_admit_42 : decode cX0_admit 42 = .ok (.ifCond .ne 14, 3) := by decide +kernel
theorem dX0_admit_45 : decode cX0_admit 45 = .ok (.aload_n 0, 1) := by decide +kernel
theorem dX0_admit_46 : decode cX0_admit 46 = .ok (.getfield 22, 3) := by decide +kernel
theorem dX0_admit_49 : decode cX0_admit 49 = .ok (.iload 4, 2) := by decide +kernel
theorem dX0_admit_51 : decode cX0_admit 51 = .ok (.aload_n 0, 1) := by decide +kernel
theorem dX0_admit_52 : decode cX0_admit 52 = .ok (.getfield 63, 3) := by decide +kernel
theorem dX0_admit_55 : decode cX0_admit 55 = .ok (.iastore, 1) := by decide +kernel
theorem dX0_admit_56 : decode cX0_admit 56 = .ok (.iinc 3 1, 3) := by decide +kernel
theorem dX0_admit_59 : decode cX0_admit 59 = .ok (.goto (-47), 3) := by decide +kernel
theorem dX0_admit_62 : decode cX0_admit 62 = .ok (.aload_n 0, 1) := by decide +kernel
theorem dX0_admit_63 : decode cX0_admit 63 = .ok (.dup, 1) := by decide +kernel
theorem dX0_admit_64 : decode cX0_admit 64 = .ok (.getfield 63, 3) := by decide +kernel
theorem dX0_admit_67 : decode cX0_admit 67 = .ok (.iconst 1, 1) := by decide +kernel
theorem dX0_admit_68 : decode cX0_admit 68 = .ok (.iadd, 1) := by decide +kernel
theorem dX0_admit_69 : decode cX0_admit 69 = .ok (.putfield 63, 3) := by decide +kernel
theorem dX0_admit_72 : decode cX0_admit 72 = .ok (.return_, 1) := by decide +kernel
theorem dX0_coreNext_0 : decode cX0_coreNext 0 = .ok (.iload_n 1, 1) := by decide +kernel
theorem dX0_coreNext_1 : decode cX0_coreNext 1 = .ok (.invokestatic 34, 3) := by decide +kernel
theorem dX0_coreNext_4 : decode cX0_coreNext 4 = .ok (.ifCond .ne 5, 3) := by decide +kernel
theorem dX0_coreNext_7 : decode cX0_coreNext 7 = .ok (.iconst (-1), 1) := by decide +kernel
theorem dX0_coreNext_8 : decode cX0_coreNext 8 = .ok (.ireturn, 1) := by decide +kernel
theorem dX0_coreNext_9 : decode cX0_coreNext 9 = .ok (.aload_n 0, 1) := by decide +kernel
theorem dX0_coreNext_10 : decode cX0_coreNext 10 = .ok (.iload_n 1, 1) := by decide +kernel
theorem dX0_coreNext_11 : decode cX0_coreNext 11 = .ok (.invokevirtual 59, 3) := by decide +kernel
theorem dX0_coreNext_14 : decode cX0_coreNext 14 = .ok (.iload_n 2, 1) := by decide +kernel
theorem dX0_coreNext_15 : decode cX0_coreNext 15 = .ok (.ifCond .lt 11, 3) := by decide +kernel
theorem dX0_coreNext_18 : decode cX0_coreNext 18 = .ok (.iload_n 2, 1) := by decide +kernel
theorem dX0_coreNext_19 : decode cX0_coreNext 19 = .ok (.aload_n 0, 1) := by decide +kernel
theorem dX0_coreNext_20 : decode cX0_coreNext 20 = .ok (.getfield 63, 3) := by decide +kernel
theorem dX0_coreNext_23 : decode cX0_coreNext 23 = .ok (.if_icmp .lt 6, 3) := by decide +kernel
theorem dX0_coreNext_26 : decode cX0_coreNext 26 = .ok (.bipush (-2), 2) := by decide +kernel
theorem dX0_coreNext_28 : decode cX0_coreNext 28 = .ok (.ireturn, 1) := by decide +kernel
theorem dX0_coreNext_29 : decode cX0_coreNext 29 = .ok (.iload_n 3, 1) := by decide +kernel
theorem dX0_coreNext_30 : decode cX0_coreNext 30 = .ok (.ifCond .eq 11, 3) := by decide +kernel
theorem dX0_coreNext_33 : decode cX0_coreNext 33 = .ok (.iload_n 3, 1) := by decide +kernel
theorem dX0_coreNext_34 : decode cX0_coreNext 34 = .ok (.iconst 1, 1) := by decide +kernel
theorem dX0_coreNext_35 : decode cX0_coreNext 35 = .ok (.if_icmp .eq 6, 3) := by decide +kernel
theorem dX0_coreNext_38 : decode cX0_coreNext 38 = .ok (.bipush (-3), 2) := by decide +kernel
theorem dX0_coreNext_40 : decode cX0_coreNext 40 = .ok (.ireturn, 1) := by decide +kernel
theorem dX0_coreNext_41 : decode cX0_coreNext 41 = .ok (.aload_n 0, 1) := by decide +kernel
theorem dX0_coreNext_42 : decode cX0_coreNext 42 = .ok (.getfield 22, 3) := by decide +kernel
theorem dX0_coreNext_45 : decode cX0_coreNext 45 = .ok (.aload_n 0, 1) := by decide +kernel
theorem dX0_coreNext_46 : decode cX0_coreNext 46 = .ok (.aload_n 0, 1) := by decide +kernel
theorem dX0_coreNext_47 : decode cX0_coreNext 47 = .ok (.getfield 25, 3) := by decide +kernel
theorem dX0_coreNext_50 : decode cX0_coreNext 50 = .ok (.iload_n 2, 1) := by decide +kernel
theorem dX0_coreNext_51 : decode cX0_coreNext 51 = .ok (.iaload, 1) := by decide +kernel
theorem dX0_coreNext_52 : decode cX0_coreNext 52 = .ok (.iload_n 3, 1) := by decide +kernel
theorem dX0_coreNext_53 : decode cX0_coreNext 53 = .ok (.invokevirtual 49, 3) := by decide +kernel
theorem dX0_coreNext_56 : decode cX0_coreNext 56 = .ok (.iaload, 1) := by decide +kernel
theorem dX0_coreNext_57 : decode cX0_coreNext 57 = .ok (.ireturn, 1) := by decide +kernel
theorem dX0_coreAnswer_0 : decode cX0_coreAnswer 0 = .ok (.iload_n 1, 1) := by decide +kernel
theorem dX0_coreAnswer_1 : decode cX0_coreAnswer 1 = .ok (.invokestatic 34, 3) := by decide +kernel
theorem dX0_coreAnswer_4 : decode cX0_coreAnswer 4 = .ok (.ifCond .ne 5, 3) := by decide +kernel
theorem dX0_coreAnswer_7 : decode cX0_coreAnswer 7 = .ok (.iconst (-1), 1) := by decide +kernel
theorem dX0_coreAnswer_8 : decode cX0_coreAnswer 8 = .ok (.ireturn, 1) := by decide +kernel
theorem dX0_coreAnswer_9 : decode cX0_coreAnswer 9 = .ok (.aload_n 0, 1) := by decide +kernel
theorem dX0_coreAnswer_10 : decode cX0_coreAnswer 10 = .ok (.iload_n 1, 1) := by decide +kernel
theorem dX0_coreAnswer_11 : decode cX0_coreAnswer 11 = .ok (.invokevirtual 59, 3) := by decide +kernel
theorem dX0_coreAnswer_14 : decode cX0_coreAnswer 14 = .ok (.iload_n 2, 1) := by decide +kernel
theorem dX0_coreAnswer_15 : decode cX0_coreAnswer 15 = .ok (.ifCond .lt 11, 3) := by decide +kernel
theorem dX0_coreAnswer_18 : decode cX0_coreAnswer 18 = .ok (.iload_n 2, 1) := by decide +kernel
theorem dX0_coreAnswer_19 : decode cX0_coreAnswer 19 = .ok (.aload_n 0, 1) := by decide +kernel
theorem dX0_coreAnswer_20 : decode cX0_coreAnswer 20 = .ok (.getfield 63, 3) := by decide +kernel
theorem dX0_coreAnswer_23 : decode cX0_coreAnswer 23 = .ok (.if_icmp .lt 6, 3) := by decide +kernel
theorem dX0_coreAnswer_26 : decode cX0_coreAnswer 26 = .ok (.bipush (-2), 2) := by decide +kernel
theorem dX0_coreAnswer_28 : decode cX0_coreAnswer 28 = .ok (.ireturn, 1) := by decide +kernel
theorem dX0_coreAnswer_29 : decode cX0_coreAnswer 29 = .ok (.iload_n 3, 1) := by decide +kernel
theorem dX0_coreAnswer_30 : decode cX0_coreAnswer 30 = .ok (.ifCond .eq 11, 3) := by decide +kernel
theorem dX0_coreAnswer_33 : decode cX0_coreAnswer 33 = .ok (.iload_n 3, 1) := by decide +kernel
theorem dX0_coreAnswer_34 : decode cX0_coreAnswer 34 = .ok (.iconst 1, 1) := by decide +kernel
theorem dX0_coreAnswer_35 : decode cX0_coreAnswer 35 = .ok (.if_icmp .eq 6, 3) := by decide +kernel
theorem dX0_coreAnswer_38 : decode cX0_coreAnswer 38 = .ok (.bipush (-3), 2) := by decide +kernel
theorem dX0_coreAnswer_40 : decode cX0_coreAnswer 40 = .ok (.ireturn, 1) := by decide +kernel
theorem dX0_coreAnswer_41 : decode cX0_coreAnswer 41 = .ok (.aload_n 0, 1) := by decide +kernel
theorem dX0_coreAnswer_42 : decode cX0_coreAnswer 42 = .ok (.getfield 16, 3) := by decide +kernel
theorem dX0_coreAnswer_45 : decode cX0_coreAnswer 45 = .ok (.iconst 2, 1) := by decide +kernel
theorem dX0_coreAnswer_46 : decode cX0_coreAnswer 46 = .ok (.aload_n 0, 1) := by decide +kernel
theorem dX0_coreAnswer_47 : decode cX0_coreAnswer 47 = .ok (.getfield 25, 3) := by decide +kernel
theorem dX0_coreAnswer_50 : decode cX0_coreAnswer 50 = .ok (.iload_n 2, 1) := by decide +kernel
theorem dX0_coreAnswer_51 : decode cX0_coreAnswer 51 = .ok (.iaload, 1) := by decide +kernel
theorem dX0_coreAnswer_52 : decode cX0_coreAnswer 52 = .ok (.imul, 1) := by decide +kernel
theorem dX0_coreAnswer_53 : decode cX0_coreAnswer 53 = .ok (.iload_n 3, 1) := by decide +kernel
theorem dX0_coreAnswer_54 : decode cX0_coreAnswer 54 = .ok (.iadd, 1) := by decide +kernel
theorem dX0_coreAnswer_55 : decode cX0_coreAnswer 55 = .ok (.iaload, 1) := by decide +kernel
theorem dX0_coreAnswer_56 : decode cX0_coreAnswer 56 = .ok (.ireturn, 1) := by decide +kernel
theorem dX0_classOf_0 : decode cX0_classOf 0 = .ok (.aload_n 0, 1) := by decide +kernel
theorem dX0_classOf_1 : decode cX0_classOf 1 = .ok (.iload_n 1, 1) := by decide +kernel
theorem dX0_classOf_2 : decode cX0_classOf 2 = .ok (.invokevirtual 42, 3) := by decide +kernel
theorem dX0_classOf_5 : decode cX0_classOf 5 = .ok (.istore_n 2, 1) := by decide +kernel
theorem dX0_classOf_6 : decode cX0_classOf 6 = .ok (.iload_n 2, 1) := by decide +kernel
theorem dX0_classOf_7 : decode cX0_classOf 7 = .ok (.ifCond .ge 5, 3) := by decide +kernel
theorem dX0_classOf_10 : decode cX0_classOf 10 = .ok (.iconst (-1), 1) := by decide +kernel
theorem dX0_classOf_11 : decode cX0_classOf 11 = .ok (.ireturn, 1) := by decide +kernel
theorem dX0_classOf_12 : decode cX0_classOf 12 = .ok (.aload_n 0, 1) := by decide +kernel
theorem dX0_classOf_13 : decode cX0_classOf 13 = .ok (.iload_n 2, 1) := by decide +kernel
theorem dX0_classOf_14 : decode cX0_classOf 14 = .ok (.bipush 6, 2) := by decide +kernel
theorem dX0_classOf_16 : decode cX0_classOf 16 = .ok (.idiv, 1) := by decide +kernel
theorem dX0_classOf_17 : decode cX0_classOf 17 = .ok (.invokevirtual 59, 3) := by decide +kernel
theorem dX0_classOf_20 : decode cX0_classOf 20 = .ok (.aload_n 0, 1) := by decide +kernel
theorem dX0_classOf_21 : decode cX0_classOf 21 = .ok (.getfield 22, 3) := by decide +kernel
theorem dX0_classOf_24 : decode cX0_classOf 24 = .ok (.iload_n 2, 1) := by decide +kernel
theorem dX0_classOf_25 : decode cX0_classOf 25 = .ok (.iaload, 1) := by decide +kernel
theorem dX0_classOf_26 : decode cX0_classOf 26 = .ok (.iconst (-1), 1) := by decide +kernel
theorem dX0_classOf_27 : decode cX0_classOf 27 = .ok (.if_icmp .ne 8, 3) := by decide +kernel
theorem dX0_classOf_30 : decode cX0_classOf 30 = .ok (.bipush (-2), 2) := by decide +kernel
theorem dX0_classOf_32 : decode cX0_classOf 32 = .ok (.goto 9, 3) := by decide +kernel
theorem dX0_classOf_35 : decode cX0_classOf 35 = .ok (.aload_n 0, 1) := by decide +kernel
theorem dX0_classOf_36 : decode cX0_classOf 36 = .ok (.getfield 22, 3) := by decide +kernel
theorem dX0_classOf_39 : decode cX0_classOf 39 = .ok (.iload_n 2, 1) := by decide +kernel
theorem dX0_classOf_40 : decode cX0_classOf 40 = .ok (.iaload, 1) := by decide +kernel
theorem dX0_classOf_41 : decode cX0_classOf 41 = .ok (.ireturn, 1) := by decide +kernel
theorem dX0_reset_0 : decode cX0_reset 0 = .ok (.iload_n 1, 1) := by decide +kernel
theorem dX0_reset_1 : decode cX0_reset 1 = .ok (.invokestatic 34, 3) := by decide +kernel
theorem dX0_reset_4 : decode cX0_reset 4 = .ok (.ifCond .ne 5, 3) := by decide +kernel
theorem dX0_reset_7 : decode cX0_reset 7 = .ok (.iconst (-1), 1) := by decide +kernel
theorem dX0_reset_8 : decode cX0_reset 8 = .ok (.ireturn, 1) := by decide +kernel
theorem dX0_reset_9 : decode cX0_reset 9 = .ok (.iconst 0, 1) := by decide +kernel
theorem dX0_reset_10 : decode cX0_reset 10 = .ok (.istore_n 2, 1) := by decide +kernel
theorem dX0_reset_11 : decode cX0_reset 11 = .ok (.iload_n 2, 1) := by decide +kernel
theorem dX0_reset_12 : decode cX0_reset 12 = .ok (.bipush 64, 2) := by decide +kernel
theorem dX0_reset_14 : decode cX0_reset 14 = .ok (.if_icmp .ge 16, 3) := by decide +kernel
theorem dX0_reset_17 : decode cX0_reset 17 = .ok (.aload_n 0, 1) := by decide +kernel
theorem dX0_reset_18 : decode cX0_reset 18 = .ok (.getfield 31, 3) := by decide +kernel
theorem dX0_reset_21 : decode cX0_reset 21 = .ok (.iload_n 2, 1) := by decide +kernel
theorem dX0_reset_22 : decode cX0_reset 22 = .ok (.iconst 0, 1) := by decide +kernel
theorem dX0_reset_23 : decode cX0_reset 23 = .ok (.iastore, 1) := by decide +kernel
theorem dX0_reset_24 : decode cX0_reset 24 = .ok (.iinc 2 1, 3) := by decide +kernel
theorem dX0_reset_27 : decode cX0_reset 27 = .ok (.goto (-16), 3) := by decide +kernel
theorem dX0_reset_30 : decode cX0_reset 30 = .ok (.iconst 1, 1) := by decide +kernel
theorem dX0_reset_31 : decode cX0_reset 31 = .ok (.aload_n 0, 1) := by decide +kernel
theorem dX0_reset_32 : decode cX0_reset 32 = .ok (.getfield 7, 3) := by decide +kernel
theorem dX0_reset_35 : decode cX0_reset 35 = .ok (.iload_n 1, 1) := by decide +kernel
theorem dX0_reset_36 : decode cX0_reset 36 = .ok (.iaload, 1) := by decide +kernel
theorem dX0_reset_37 : decode cX0_reset 37 = .ok (.ishl, 1) := by decide +kernel
theorem dX0_reset_38 : decode cX0_reset 38 = .ok (.iconst 1, 1) := by decide +kernel
theorem dX0_reset_39 : decode cX0_reset 39 = .ok (.isub, 1) := by decide +kernel
theorem dX0_reset_40 : decode cX0_reset 40 = .ok (.istore_n 2, 1) := by decide +kernel
theorem dX0_reset_41 : decode cX0_reset 41 = .ok (.aload_n 0, 1) := by decide +kernel
theorem dX0_reset_42 : decode cX0_reset 42 = .ok (.getfield 31, 3) := by decide +kernel
theorem dX0_reset_45 : decode cX0_reset 45 = .ok (.iload_n 2, 1) := by decide +kernel
theorem dX0_reset_46 : decode cX0_reset 46 = .ok (.iconst 1, 1) := by decide +kernel
theorem dX0_reset_47 : decode cX0_reset 47 = .ok (.iastore, 1) := by decide +kernel
theorem dX0_reset_48 : decode cX0_reset 48 = .ok (.aload_n 0, 1) := by decide +kernel
theorem dX0_reset_49 : decode cX0_reset 49 = .ok (.getfield 28, 3) := by decide +kernel
theorem dX0_reset_52 : decode cX0_reset 52 = .ok (.iconst 0, 1) := by decide +kernel
theorem dX0_reset_53 : decode cX0_reset 53 = .ok (.iload_n 2, 1) := by decide +kernel
theorem dX0_reset_54 : decode cX0_reset 54 = .ok (.iastore, 1) := by decide +kernel
theorem dX0_reset_55 : decode cX0_reset 55 = .ok (.iconst 1, 1) := by decide +kernel
theorem dX0_reset_56 : decode cX0_reset 56 = .ok (.istore_n 3, 1) := by decide +kernel
theorem dX0_reset_57 : decode cX0_reset 57 = .ok (.iconst 0, 1) := by decide +kernel
theorem dX0_reset_58 : decode cX0_reset 58 = .ok (.istore 4, 2) := by decide +kernel
theorem dX0_reset_60 : decode cX0_reset 60 = .ok (.iload 4, 2) := by decide +kernel
theorem dX0_reset_62 : decode cX0_reset 62 = .ok (.bipush 64, 2) := by decide +kernel
theorem dX0_reset_64 : decode cX0_reset 64 = .ok (.if_icmp .ge 121, 3) := by decide +kernel
theorem dX0_reset_67 : decode cX0_reset 67 = .ok (.iload 4, 2) := by decide +kernel
theorem dX0_reset_69 : decode cX0_reset 69 = .ok (.iload_n 3, 1) := by decide +kernel
theorem dX0_reset_70 : decode cX0_reset 70 = .ok (.if_icmp .ge 115, 3) := by decide +kernel
theorem dX0_reset_73 : decode cX0_reset 73 = .ok (.aload_n 0, 1) := by decide +kernel
theorem dX0_reset_74 : decode cX0_reset 74 = .ok (.getfield 28, 3) := by decide +kernel
theorem dX0_reset_77 : decode cX0_reset 77 = .ok (.iload 4, 2) := by decide +kernel
theorem dX0_reset_79 : decode cX0_reset 79 = .ok (.iaload, 1) := by decide +kernel
theorem dX0_reset_80 : decode cX0_reset 80 = .ok (.istore 5, 2) := by decide +kernel
theorem dX0_reset_82 : decode cX0_reset 82 = .ok (.iload 5, 2) := by decide +kernel
theorem dX0_reset_84 : decode cX0_reset 84 = .ok (.iload 5, 2) := by decide +kernel
theorem dX0_reset_86 : decode cX0_reset 86 = .ok (.iconst 1, 1) := by decide +kernel
theorem dX0_reset_87 : decode cX0_reset 87 = .ok (.isub, 1) := by decide +kernel
theorem dX0_reset_88 : decode cX0_reset 88 = .ok (.iand, 1) := by decide +kernel
theorem dX0_reset_89 : decode cX0_reset 89 = .ok (.ifCond .ne 11, 3) := by decide +kernel
theorem dX0_reset_92 : decode cX0_reset 92 = .ok (.aload_n 0, 1) := by decide +kernel
theorem dX0_reset_93 : decode cX0_reset 93 = .ok (.getfield 31, 3) := by decide +kernel
theorem dX0_reset_96 : decode cX0_reset 96 = .ok (.iload 5, 2) := by decide +kernel
theorem dX0_reset_98 : decode cX0_reset 98 = .ok (.iaload, 1) := by decide +kernel
theorem dX0_reset_99 : decode cX0_reset 99 = .ok (.ireturn, 1) := by decide +kernel
theorem dX0_reset_100 : decode cX0_reset 100 = .ok (.iconst 0, 1) := by decide +kernel
theorem dX0_reset_101 : decode cX0_reset 101 = .ok (.istore 6, 2) := by decide +kernel
theorem dX0_reset_103 : decode cX0_reset 103 = .ok (.iload 6, 2) := by decide +kernel
theorem dX0_reset_105 : decode cX0_reset 105 = .ok (.iconst 2, 1) := by decide +kernel
theorem dX0_reset_106 : decode cX0_reset 106 = .ok (.if_icmp .ge 73, 3) := by decide +kernel
theorem dX0_reset_109 : decode cX0_reset 109 = .ok (.aload_n 0, 1) := by decide +kernel
theorem dX0_reset_110 : decode cX0_reset 110 = .ok (.getfield 31, 3) := by decide +kernel
theorem dX0_reset_113 : decode cX0_reset 113 = .ok (.iload 5, 2) := by decide +kernel
theorem dX0_reset_115 : decode cX0_reset 115 = .ok (.iaload, 1) := by decide +kernel
theorem dX0_reset_116 : decode cX0_reset 116 = .ok (.sipush 2048, 3) := by decide +kernel
theorem dX0_reset_119 : decode cX0_reset 119 = .ok (.if_icmp .ge 60, 3) := by decide +kernel
theorem dX0_reset_122 : decode cX0_reset 122 = .ok (.aload_n 0, 1) := by decide +kernel
theorem dX0_reset_123 : decode cX0_reset 123 = .ok (.iload_n 1, 1) := by decide +kernel
theorem dX0_reset_124 : decode cX0_reset 124 = .ok (.iload 5, 2) := by decide +kernel
theorem dX0_reset_126 : decode cX0_reset 126 = .ok (.iload 6, 2) := by decide +kernel
theorem dX0_reset_128 : decode cX0_reset 128 = .ok (.invokevirtual 67, 3) := by decide +kernel
theorem dX0_reset_131 : decode cX0_reset 131 = .ok (.istore 7, 2) := by decide +kernel
theorem dX0_reset_133 : decode cX0_reset 133 = .ok (.aload_n 0, 1) := by decide +kernel
theorem dX0_reset_134 : decode cX0_reset 134 = .ok (.getfield 31, 3) := by decide +kernel
theorem dX0_reset_137 : decode cX0_reset 137 = .ok (.iload 7, 2) := by decide +kernel
theorem dX0_reset_139 : decode cX0_reset 139 = .ok (.iaload, 1) := by decide +kernel
theorem dX0_reset_140 : decode cX0_reset 140 = .ok (.ifCond .ne 33, 3) := by decide +kernel
theorem dX0_reset_143 : decode cX0_reset 143 = .ok (.aload_n 0, 1) := by decide +kernel
theorem dX0_reset_144 : decode cX0_reset 144 = .ok (.getfield 31, 3) := by decide +kernel
theorem dX0_reset_147 : decode cX0_reset 147 = .ok (.iload 7, 2) := by decide +kernel
theorem dX0_reset_149 : decode cX0_reset 149 = .ok (.iconst 2, 1) := by decide +kernel
theorem dX0_reset_150 : decode cX0_reset 150 = .ok (.aload_n 0, 1) := by decide +kernel
theorem dX0_reset_151 : decode cX0_reset 151 = .ok (.getfield 31, 3) := by decide +kernel
theorem dX0_reset_154 : decode cX0_reset 154 = .ok (.iload 5, 2) := by decide +kernel
theorem dX0_reset_156 : decode cX0_reset 156 = .ok (.iaload, 1) := by decide +kernel
theorem dX0_reset_157 : decode cX0_reset 157 = .ok (.imul, 1) := by decide +kernel
theorem dX0_reset_158 : decode cX0_reset 158 = .ok (.iload 6, 2) := by decide +kernel
theorem dX0_reset_160 : decode cX0_reset 160 = .ok (.iadd, 1) := by decide +kernel
theorem dX0_reset_161 : decode cX0_reset 161 = .ok (.iastore, 1) := by decide +kernel
theorem dX0_reset_162 : decode cX0_reset 162 = .ok (.aload_n 0, 1) := by decide +kernel
theorem dX0_reset_163 : decode cX0_reset 163 = .ok (.getfield 28, 3) := by decide +kernel
theorem dX0_reset_166 : decode cX0_reset 166 = .ok (.iload_n 3, 1) := by decide +kernel
theorem dX0_reset_167 : decode cX0_reset 167 = .ok (.iload 7, 2) := by decide +kernel
theorem dX0_reset_169 : decode cX0_reset 169 = .ok (.iastore, 1) := by decide +kernel
theorem dX0_reset_170 : decode cX0_reset 170 = .ok (.iinc 3 1, 3) := by decide +kernel
theorem dX0_reset_173 : decode cX0_reset 173 = .ok (.iinc 6 1, 3) := by decide +kernel
theorem dX0_reset_176 : decode cX0_reset 176 = .ok (.goto (-73), 3) := by decide +kernel
theorem dX0_reset_179 : decode cX0_reset 179 = .ok (.iinc 4 1, 3) := by decide +kernel
theorem dX0_reset_182 : decode cX0_reset 182 = .ok (.goto (-122), 3) := by decide +kernel
theorem dX0_reset_185 : decode cX0_reset 185 = .ok (.iconst 0, 1) := by decide +kernel
theorem dX0_reset_186 : decode cX0_reset 186 = .ok (.ireturn, 1) := by decide +kernel
theorem dX0_together_0 : decode cX0_together 0 = .ok (.iconst 0, 1) := by decide +kernel
theorem dX0_together_1 : decode cX0_together 1 = .ok (.istore 4, 2) := by decide +kernel
theorem dX0_together_3 : decode cX0_together 3 = .ok (.iconst 0, 1) := by decide +kernel
theorem dX0_together_4 : decode cX0_together 4 = .ok (.istore 5, 2) := by decide +kernel
theorem dX0_together_6 : decode cX0_together 6 = .ok (.iload 5, 2) := by decide +kernel
theorem dX0_together_8 : decode cX0_together 8 = .ok (.aload_n 0, 1) := by decide +kernel
theorem dX0_together_9 : decode cX0_together 9 = .ok (.getfield 7, 3) := by decide +kernel
theorem dX0_together_12 : decode cX0_together 12 = .ok (.iload_n 1, 1) := by decide +kernel
theorem dX0_together_13 : decode cX0_together 13 = .ok (.iaload, 1) := by decide +kernel
theorem dX0_together_14 : decode cX0_together 14 = .ok (.if_icmp .ge 42, 3) := by decide +kernel
theorem dX0_together_17 : decode cX0_together 17 = .ok (.iload_n 2, 1) := by decide +kernel
theorem dX0_together_18 : decode cX0_together 18 = .ok (.iload 5, 2) := by decide +kernel
theorem dX0_together_20 : decode cX0_together 20 = .ok (.ishr, 1) := by decide +kernel
theorem dX0_together_21 : decode cX0_together 21 = .ok (.iconst 1, 1) := by decide +kernel
theorem dX0_together_22 : decode cX0_together 22 = .ok (.iand, 1) := by decide +kernel
theorem dX0_together_23 : decode cX0_together 23 = .ok (.iconst 1, 1) := by decide +kernel
theorem dX0_together_24 : decode cX0_together 24 = .ok (.if_icmp .ne 26, 3) := by decide +kernel
theorem dX0_together_27 : decode cX0_together 27 = .ok (.iload 4, 2) := by decide +kernel
theorem dX0_together_29 : decode cX0_together 29 = .ok (.iconst 1, 1) := by decide +kernel
theorem dX0_together_30 : decode cX0_together 30 = .ok (.aload_n 0, 1) := by decide +kernel
theorem dX0_together_31 : decode cX0_together 31 = .ok (.getfield 13, 3) := by decide +kernel
theorem dX0_together_34 : decode cX0_together 34 = .ok (.bipush 12, 2) := by decide +kernel
theorem dX0_together_36 : decode cX0_together 36 = .ok (.iload_n 1, 1) := by decide +kernel
theorem dX0_together_37 : decode cX0_together 37 = .ok (.imul, 1) := by decide +kernel
theorem dX0_together_38 : decode cX0_together 38 = .ok (.iconst 2, 1) := by decide +kernel
theorem dX0_together_39 : decode cX0_together 39 = .ok (.iload 5, 2) := by decide +kernel
theorem dX0_together_41 : decode cX0_together 41 = .ok (.imul, 1) := by decide +kernel
theorem dX0_together_42 : decode cX0_together 42 = .ok (.iadd, 1) := by decide +kernel
theorem dX0_together_43 : decode cX0_together 43 = .ok (.iload_n 3, 1) := by decide +kernel
theorem dX0_together_44 : decode cX0_together 44 = .ok (.iadd, 1) := by decide +kernel
theorem dX0_together_45 : decode cX0_together 45 = .ok (.iaload, 1) := by decide +kernel
theorem dX0_together_46 : decode cX0_together 46 = .ok (.ishl, 1) := by decide +kernel
theorem dX0_together_47 : decode cX0_together 47 = .ok (.ior, 1) := by decide +kernel
theorem dX0_together_48 : decode cX0_together 48 = .ok (.istore 4, 2) := by decide +kernel
theorem dX0_together_50 : decode cX0_together 50 = .ok (.iinc 5 1, 3) := by decide +kernel
theorem dX0_together_53 : decode cX0_together 53 = .ok (.goto (-47), 3) := by decide +kernel
theorem dX0_together_56 : decode cX0_together 56 = .ok (.iload 4, 2) := by decide +kernel
theorem dX0_together_58 : decode cX0_together 58 = .ok (.ireturn, 1) := by decide +kernel
end
section
set_option maxRecDepth 100000
theorem dX1_init_0 : decode cX1_init 0 = .ok (.aload_n 0, 1) := by decide +kernel
theorem dX1_init_1 : decode cX1_init 1 = .ok (.invokespecial 1, 3) := by decide +kernel
theorem dX1_init_4 : decode cX1_init 4 = .ok (.aload_n 0, 1) := by decide +kernel
theorem dX1_init_5 : decode cX1_init 5 = .ok (.iconst 2, 1) := by decide +kernel
theorem dX1_init_6 : decode cX1_init 6 = .ok (.newarray .int, 2) := by decide +kernel
theorem dX1_init_8 : decode cX1_init 8 = .ok (.putfield 7, 3) := by decide +kernel
theorem dX1_init_11 : decode cX1_init 11 = .ok (.aload_n 0, 1) := by decide +kernel
theorem dX1_init_12 : decode cX1_init 12 = .ok (.bipush 24, 2) := by decide +kernel
theorem dX1_init_14 : decode cX1_init 14 = .ok (.newarray .int, 2) := by decide +kernel
theorem dX1_init_16 : decode cX1_init 16 = .ok (.putfield 13, 3) := by decide +kernel
theorem dX1_init_19 : decode cX1_init 19 = .ok (.aload_n 0, 1) := by decide +kernel
theorem dX1_init_20 : decode cX1_init 20 = .ok (.bipush 24, 2) := by decide +kernel
theorem dX1_init_22 : decode cX1_init 22 = .ok (.newarray .int, 2) := by decide +kernel
theorem dX1_init_24 : decode cX1_init 24 = .ok (.putfield 16, 3) := by decide +kernel
theorem dX1_init_27 : decode cX1_init 27 = .ok (.aload_n 0, 1) := by decide +kernel
theorem dX1_init_28 : decode cX1_init 28 = .ok (.bipush 6, 2) := by decide +kernel
theorem dX1_init_30 : decode cX1_init 30 = .ok (.newarray .int, 2) := by decide +kernel
theorem dX1_init_32 : decode cX1_init 32 = .ok (.putfield 19, 3) := by decide +kernel
theorem dX1_init_35 : decode cX1_init 35 = .ok (.aload_n 0, 1) := by decide +kernel
theorem dX1_init_36 : decode cX1_init 36 = .ok (.getfield 7, 3) := by decide +kernel
theorem dX1_init_39 : decode cX1_init 39 = .ok (.iconst 0, 1) := by decide +kernel
theorem dX1_init_40 : decode cX1_init 40 = .ok (.iconst 1, 1) := by decide +kernel
theorem dX1_init_41 : decode cX1_init 41 = .ok (.iastore, 1) := by decide +kernel
theorem dX1_init_42 : decode cX1_init 42 = .ok (.aload_n 0, 1) := by decide +kernel
theorem dX1_init_43 : decode cX1_init 43 = .ok (.getfield 7, 3) := by decide +kernel
theorem dX1_init_46 : decode cX1_init 46 = .ok (.iconst 1, 1) := by decide +kernel
theorem dX1_init_47 : decode cX1_init 47 = .ok (.iconst 1, 1) := by decide +kernel
theorem dX1_init_48 : decode cX1_init 48 = .ok (.iastore, 1) := by decide +kernel
theorem dX1_init_49 : decode cX1_init 49 = .ok (.return_, 1) := by decide +kernel
theorem dX1_size_0 : decode cX1_size 0 = .ok (.aload_n 0, 1) := by decide +kernel
theorem dX1_size_1 : decode cX1_size 1 = .ok (.iload_n 1, 1) := by decide +kernel
theorem dX1_size_2 : decode cX1_size 2 = .ok (.invokevirtual 22, 3) := by decide +kernel
theorem dX1_size_5 : decode cX1_size 5 = .ok (.ifCond .eq 5, 3) := by decide +kernel
theorem dX1_size_8 : decode cX1_size 8 = .ok (.iconst (-1), 1) := by decide +kernel
theorem dX1_size_9 : decode cX1_size 9 = .ok (.ireturn, 1) := by decide +kernel
theorem dX1_size_10 : decode cX1_size 10 = .ok (.iload_n 2, 1) := by decide +kernel
theorem dX1_size_11 : decode cX1_size 11 = .ok (.iconst 1, 1) := by decide +kernel
theorem dX1_size_12 : decode cX1_size 12 = .ok (.if_icmp .lt 9, 3) := by decide +kernel
theorem dX1_size_15 : decode cX1_size 15 = .ok (.iload_n 2, 1) := by decide +kernel
theorem dX1_size_16 : decode cX1_size 16 = .ok (.bipush 6, 2) := by decide +kernel
theorem dX1_size_18 : decode cX1_size 18 = .ok (.if_icmp .le 6, 3) := by decide +kernel
theorem dX1_size_21 : decode cX1_size 21 = .ok (.bipush (-2), 2) := by decide +kernel
theorem dX1_size_23 : decode cX1_size 23 = .ok (.ireturn, 1) := by decide +kernel
theorem dX1_size_24 : decode cX1_size 24 = .ok (.aload_n 0, 1) := by decide +kernel
theorem dX1_size_25 : decode cX1_size 25 = .ok (.getfield 7, 3) := by decide +kernel
theorem dX1_size_28 : decode cX1_size 28 = .ok (.iload_n 1, 1) := by decide +kernel
theorem dX1_size_29 : decode cX1_size 29 = .ok (.iaload, 1) := by decide +kernel
theorem dX1_size_30 : decode cX1_size 30 = .ok (.istore_n 3, 1) := by decide +kernel
theorem dX1_size_31 : decode cX1_size 31 = .ok (.aload_n 0, 1) := by decide +kernel
theorem dX1_size_32 : decode cX1_size 32 = .ok (.getfield 7, 3) := by decide +kernel
theorem dX1_size_35 : decode cX1_size 35 = .ok (.iload_n 1, 1) := by decide +kernel
theorem dX1_size_36 : decode cX1_size 36 = .ok (.iload_n 2, 1) := by decide +kernel
theorem dX1_size_37 : decode cX1_size 37 = .ok (.iastore, 1) := by decide +kernel
theorem dX1_size_38 : decode cX1_size 38 = .ok (.iconst 0, 1) := by decide +kernel
theorem dX1_size_39 : decode cX1_size 39 = .ok (.istore 4, 2) := by decide +kernel
theorem dX1_size_41 : decode cX1_size 41 = .ok (.iload 4, 2) := by decide +kernel
theorem dX1_size_43 : decode cX1_size 43 = .ok (.bipush 12, 2) := by decide +kernel
theorem dX1_size_45 : decode cX1_size 45 = .ok (.if_icmp .ge 35, 3) := by decide +kernel
theorem dX1_size_48 : decode cX1_size 48 = .ok (.aload_n 0, 1) := by decide +kernel
theorem dX1_size_49 : decode cX1_size 49 = .ok (.getfield 13, 3) := by decide +kernel
theorem dX1_size_52 : decode cX1_size 52 = .ok (.bipush 12, 2) := by decide +kernel
theorem dX1_size_54 : decode cX1_size 54 = .ok (.iload_n 1, 1) := by decide +kernel
theorem dX1_size_55 : decode cX1_size 55 = .ok (.imul, 1) := by decide +kernel
theorem dX1_size_56 : decode cX1_size 56 = .ok (.iload 4, 2) := by decide +kernel
theorem dX1_size_58 : decode cX1_size 58 = .ok (.iadd, 1) := by decide +kernel
theorem dX1_size_59 : decode cX1_size 59 = .ok (.iconst 0, 1) := by decide +kernel
theorem dX1_size_60 : decode cX1_size 60 = .ok (.iastore, 1) := by decide +kernel
theorem dX1_size_61 : decode cX1_size 61 = .ok (.aload_n 0, 1) := by decide +kernel
theorem dX1_size_62 : decode cX1_size 62 = .ok (.getfield 16, 3) := by decide +kernel
theorem dX1_size_65 : decode cX1_size 65 = .ok (.bipush 12, 2) := by decide +kernel
theorem dX1_size_67 : decode cX1_size 67 = .ok (.iload_n 1, 1) := by decide +kernel
theorem dX1_size_68 : decode cX1_size 68 = .ok (.imul, 1) := by decide +kernel
theorem dX1_size_69 : decode cX1_size 69 = .ok (.iload 4, 2) := by decide +kernel
theorem dX1_size_71 : decode cX1_size 71 = .ok (.iadd, 1) := by decide +kernel
theorem dX1_size_72 : decode cX1_size 72 = .ok (.iconst 0, 1) := by decide +kernel
theorem dX1_size_73 : decode cX1_size 73 = .ok (.iastore, 1) := by decide +kernel
theorem dX1_size_74 : decode cX1_size 74 = .ok (.iinc 4 1, 3) := by decide +kernel
theorem dX1_size_77 : decode cX1_size 77 = .ok (.goto (-36), 3) := by decide +kernel
theorem dX1_size_80 : decode cX1_size 80 = .ok (.iload_n 3, 1) := by decide +kernel
theorem dX1_size_81 : decode cX1_size 81 = .ok (.ireturn, 1) := by decide +kernel
theorem dX1_bad_0 : decode cX1_bad 0 = .ok (.iload_n 1, 1) := by decide +kernel
theorem dX1_bad_1 : decode cX1_bad 1 = .ok (.ifCond .lt 8, 3) := by decide +kernel
theorem dX1_bad_4 : decode cX1_bad 4 = .ok (.iload_n 1, 1) := by decide +kernel
theorem dX1_bad_5 : decode cX1_bad 5 = .ok (.iconst 1, 1) := by decide +kernel
theorem dX1_bad_6 : decode cX1_bad 6 = .ok (.if_icmp .le 7, 3) := by decide +kernel
theorem dX1_bad_9 : decode cX1_bad 9 = .ok (.iconst 1, 1) := by decide +kernel
theorem dX1_bad_10 : decode cX1_bad 10 = .ok (.goto 4, 3) := by decide +kernel
theorem dX1_bad_13 : decode cX1_bad 13 = .ok (.iconst 0, 1) := by decide +kernel
theorem dX1_bad_14 : decode cX1_bad 14 = .ok (.ireturn, 1) := by decide +kernel
theorem dX1_set_0 : decode cX1_set 0 = .ok (.aload_n 0, 1) := by decide +kernel
theorem dX1_set_1 : decode cX1_set 1 = .ok (.iload_n 1, 1) := by decide +kernel
theorem dX1_set_2 : decode cX1_set 2 = .ok (.invokevirtual 22, 3) := by decide +kernel
theorem dX1_set_5 : decode cX1_set 5 = .ok (.ifCond .eq 5, 3) := by decide +kernel
theorem dX1_set_8 : decode cX1_set 8 = .ok (.iconst (-1), 1) := by decide +kernel
theorem dX1_set_9 : decode cX1_set 9 = .ok (.ireturn, 1) := by decide +kernel
theorem dX1_set_10 : decode cX1_set 10 = .ok (.iload_n 2, 1) := by decide +kernel
theorem dX1_set_11 : decode cX1_set 11 = .ok (.ifCond .lt 15, 3) := by decide +kernel
theorem dX1_set_14 : decode cX1_set 14 = .ok (.iload_n 2, 1) := by decide +kernel
theorem dX1_set_15 : decode cX1_set 15 = .ok (.iconst 2, 1) := by decide +kernel
theorem dX1_set_16 : decode cX1_set 16 = .ok (.idiv, 1) := by decide +kernel
theorem dX1_set_17 : decode cX1_set 17 = .ok (.aload_n 0, 1) := by decide +kernel
theorem dX1_set_18 : decode cX1_set 18 = .ok (.getfield 7, 3) := by decide +kernel
theorem dX1_set_21 : decode cX1_set 21 = .ok (.iload_n 1, 1) := by decide +kernel
theorem dX1_set_22 : decode cX1_set 22 = .ok (.iaload, 1) := by decide +kernel
theorem dX1_set_23 : decode cX1_set 23 = .ok (.if_icmp .lt 6, 3) := by decide +kernel
theorem dX1_set_26 : decode cX1_set 26 = .ok (.bipush (-2), 2) := by decide +kernel
theorem dX1_set_28 : decode cX1_set 28 = .ok (.ireturn, 1) := by decide +kernel
theorem dX1_set_29 : decode cX1_set 29 = .ok (.iload_n 3, 1) := by decide +kernel
theorem dX1_set_30 : decode cX1_set 30 = .ok (.ifCond .lt 15, 3) := by decide +kernel
theorem dX1_set_33 : decode cX1_set 33 = .ok (.iload_n 3, 1) := by decide +kernel
theorem dX1_set_34 : decode cX1_set 34 = .ok (.iconst 4, 1) := by decide +kernel
theorem dX1_set_35 : decode cX1_set 35 = .ok (.idiv, 1) := by decide +kernel
theorem dX1_set_36 : decode cX1_set 36 = .ok (.aload_n 0, 1) := by decide +kernel
theorem dX1_set_37 : decode cX1_set 37 = .ok (.getfield 7, 3) := by decide +kernel
theorem dX1_set_40 : decode cX1_set 40 = .ok (.iload_n 1, 1) := by decide +kernel
theorem dX1_set_41 : decode cX1_set 41 = .ok (.iaload, 1) := by decide +kernel
theorem dX1_set_42 : decode cX1_set 42 = .ok (.if_icmp .lt 6, 3) := by decide +kernel
theorem dX1_set_45 : decode cX1_set 45 = .ok (.bipush (-4), 2) := by decide +kernel
theorem dX1_set_47 : decode cX1_set 47 = .ok (.ireturn, 1) := by decide +kernel
theorem dX1_set_48 : decode cX1_set 48 = .ok (.iconst 4, 1) := by decide +kernel
theorem dX1_set_49 : decode cX1_set 49 = .ok (.aload_n 0, 1) := by decide +kernel
theorem dX1_set_50 : decode cX1_set 50 = .ok (.getfield 13, 3) := by decide +kernel
theorem dX1_set_53 : decode cX1_set 53 = .ok (.bipush 12, 2) := by decide +kernel
theorem dX1_set_55 : decode cX1_set 55 = .ok (.iload_n 1, 1) := by decide +kernel
theorem dX1_set_56 : decode cX1_set 56 = .ok (.imul, 1) := by decide +kernel
theorem dX1_set_57 : decode cX1_set 57 = .ok (.iload_n 2, 1) := by decide +kernel
theorem dX1_set_58 : decode cX1_set 58 = .ok (.iadd, 1) := by decide +kernel
theorem dX1_set_59 : decode cX1_set 59 = .ok (.iaload, 1) := by decide +kernel
theorem dX1_set_60 : decode cX1_set 60 = .ok (.imul, 1) := by decide +kernel
theorem dX1_set_61 : decode cX1_set 61 = .ok (.aload_n 0, 1) := by decide +kernel
theorem dX1_set_62 : decode cX1_set 62 = .ok (.getfield 16, 3) := by decide +kernel
theorem dX1_set_65 : decode cX1_set 65 = .ok (.bipush 12, 2) := by decide +kernel
theorem dX1_set_67 : decode cX1_set 67 = .ok (.iload_n 1, 1) := by decide +kernel
theorem dX1_set_68 : decode cX1_set 68 = .ok (.imul, 1) := by decide +kernel
theorem dX1_set_69 : decode cX1_set 69 = .ok (.iload_n 2, 1) := by decide +kernel
theorem dX1_set_70 : decode cX1_set 70 = .ok (.iadd, 1) := by decide +kernel
theorem dX1_set_71 : decode cX1_set 71 = .ok (.iaload, 1) := by decide +kernel
theorem dX1_set_72 : decode cX1_set 72 = .ok (.iadd, 1) := by decide +kernel
theorem dX1_set_73 : decode cX1_set 73 = .ok (.istore 4, 2) := by decide +kernel
theorem dX1_set_75 : decode cX1_set 75 = .ok (.aload_n 0, 1) := by decide +kernel
theorem dX1_set_76 : decode cX1_set 76 = .ok (.getfield 13, 3) := by decide +kernel
theorem dX1_set_79 : decode cX1_set 79 = .ok (.bipush 12, 2) := by decide +kernel
theorem dX1_set_81 : decode cX1_set 81 = .ok (.iload_n 1, 1) := by decide +kernel
theorem dX1_set_82 : decode cX1_set 82 = .ok (.imul, 1) := by decide +kernel
theorem dX1_set_83 : decode cX1_set 83 = .ok (.iload_n 2, 1) := by decide +kernel
theorem dX1_set_84 : decode cX1_set 84 = .ok (.iadd, 1) := by decide +kernel
theorem dX1_set_85 : decode cX1_set 85 = .ok (.iload_n 3, 1) := by decide +kernel
theorem dX1_set_86 : decode cX1_set 86 = .ok (.iconst 4, 1) := by decide +kernel
theorem dX1_set_87 : decode cX1_set 87 = .ok (.idiv, 1) := by decide +kernel
theorem dX1_set_88 : decode cX1_set 88 = .ok (.iastore, 1) := by decide +kernel
theorem dX1_set_89 : decode cX1_set 89 = .ok (.aload_n 0, 1) := by decide +kernel
theorem dX1_set_90 : decode cX1_set 90 = .ok (.getfield 16, 3) := by decide +kernel
theorem dX1_set_93 : decode cX1_set 93 = .ok (.bipush 12, 2) := by decide +kernel
theorem dX1_set_95 : decode cX1_set 95 = .ok (.iload_n 1, 1) := by decide +kernel
theorem dX1_set_96 : decode cX1_set 96 = .ok (.imul, 1) := by decide +kernel
theorem dX1_set_97 : decode cX1_set 97 = .ok (.iload_n 2, 1) := by decide +kernel
theorem dX1_set_98 : decode cX1_set 98 = .ok (.iadd, 1) := by decide +kernel
theorem dX1_set_99 : decode cX1_set 99 = .ok (.iload_n 3, 1) := by decide +kernel
theorem dX1_set_100 : decode cX1_set 100 = .ok (.iconst 4, 1) := by decide +kernel
theorem dX1_set_101 : decode cX1_set 101 = .ok (.irem, 1) := by decide +kernel
theorem dX1_set_102 : decode cX1_set 102 = .ok (.iastore, 1) := by decide +kernel
theorem dX1_set_103 : decode cX1_set 103 = .ok (.iload 4, 2) := by decide +kernel
theorem dX1_set_105 : decode cX1_set 105 = .ok (.ireturn, 1) := by decide +kernel
theorem dX1_weave_0 : decode cX1_weave 0 = .ok (.aload_n 0, 1) := by decide +kernel
theorem dX1_weave_1 : decode cX1_weave 1 = .ok (.iload_n 1, 1) := by decide +kernel
theorem dX1_weave_2 : decode cX1_weave 2 = .ok (.invokevirtual 22, 3) := by decide +kernel
theorem dX1_weave_5 : decode cX1_weave 5 = .ok (.ifCond .eq 5, 3) := by decide +kernel
theorem dX1_weave_8 : decode cX1_weave 8 = .ok (.iconst (-1), 1) := by decide +kernel
theorem dX1_weave_9 : decode cX1_weave 9 = .ok (.ireturn, 1) := by decide +kernel
theorem dX1_weave_10 : decode cX1_weave 10 = .ok (.iload_n 2, 1) := by decide +kernel
theorem dX1_weave_11 : decode cX1_weave 11 = .ok (.ifCond .lt 9, 3) := by decide +kernel
theorem dX1_weave_14 : decode cX1_weave 14 = .ok (.iload_n 2, 1) := by decide +kernel
theorem dX1_weave_15 : decode cX1_weave 15 = .ok (.bipush 20, 2) := by decide +kernel
theorem dX1_weave_17 : decode cX1_weave 17 = .ok (.if_icmp .le 6, 3) := by decide +kernel
theorem dX1_weave_20 : decode cX1_weave 20 = .ok (.bipush (-2), 2) := by decide +kernel
theorem dX1_weave_22 : decode cX1_weave 22 = .ok (.ireturn, 1) := by decide +kernel
theorem dX1_weave_23 : decode cX1_weave 23 = .ok (.iload_n 3, 1) := by decide +kernel
theorem dX1_weave_24 : decode cX1_weave 24 = .ok (.ifCond .lt 9, 3) := by decide +kernel
theorem dX1_weave_27 : decode cX1_weave 27 = .ok (.iload_n 3, 1) := by decide +kernel
theorem dX1_weave_28 : decode cX1_weave 28 = .ok (.bipush 63, 2) := by decide +kernel
theorem dX1_weave_30 : decode cX1_weave 30 = .ok (.if_icmp .le 6, 3) := by decide +kernel
theorem dX1_weave_33 : decode cX1_weave 33 = .ok (.bipush (-3), 2) := by decide +kernel
theorem dX1_weave_35 : decode cX1_weave 35 = .ok (.ireturn, 1) := by decide +kernel
theorem dX1_weave_36 : decode cX1_weave 36 = .ok (.aload_n 0, 1) := by decide +kernel
theorem dX1_weave_37 : decode cX1_weave 37 = .ok (.getfield 7, 3) := by decide +kernel
theorem dX1_weave_40 : decode cX1_weave 40 = .ok (.iload_n 1, 1) := by decide +kernel
theorem dX1_weave_41 : decode cX1_weave 41 = .ok (.iaload, 1) := by decide +kernel
theorem dX1_weave_42 : decode cX1_weave 42 = .ok (.iconst 1, 1) := by decide +kernel
theorem dX1_weave_43 : decode cX1_weave 43 = .ok (.if_icmp .ge 7, 3) := by decide +kernel
theorem dX1_weave_46 : decode cX1_weave 46 = .ok (.iconst 1, 1) := by decide +kernel
theorem dX1_weave_47 : decode cX1_weave 47 = .ok (.goto 9, 3) := by decide +kernel
theorem dX1_weave_50 : decode cX1_weave 50 = .ok (.aload_n 0, 1) := by decide +kernel
theorem dX1_weave_51 : decode cX1_weave 51 = .ok (.getfield 7, 3) := by decide +kernel
theorem dX1_weave_54 : decode cX1_weave 54 = .ok (.iload_n 1, 1) := by decide +kernel
theorem dX1_weave_55 : decode cX1_weave 55 = .ok (.iaload, 1) := by decide +kernel
theorem dX1_weave_56 : decode cX1_weave 56 = .ok (.istore 4, 2) := by decide +kernel
theorem dX1_weave_58 : decode cX1_weave 58 = .ok (.iconst 0, 1) := by decide +kernel
theorem dX1_weave_59 : decode cX1_weave 59 = .ok (.istore 5, 2) := by decide +kernel
theorem dX1_weave_61 : decode cX1_weave 61 = .ok (.iload 5, 2) := by decide +kernel
theorem dX1_weave_63 : decode cX1_weave 63 = .ok (.iload 4, 2) := by decide +kernel
theorem dX1_weave_65 : decode cX1_weave 65 = .ok (.if_icmp .ge 97, 3) := by decide +kernel
theorem dX1_weave_68 : decode cX1_weave 68 = .ok (.iload 5, 2) := by decide +kernel
theorem dX1_weave_70 : decode cX1_weave 70 = .ok (.bipush 6, 2) := by decide +kernel
theorem dX1_weave_72 : decode cX1_weave 72 = .ok (.if_icmp .ge 90, 3) := by decide +kernel
theorem dX1_weave_75 : decode cX1_weave 75 = .ok (.iconst 0, 1) := by decide +kernel
theorem dX1_weave_76 : decode cX1_weave 76 = .ok (.istore 6, 2) := by decide +kernel
theorem dX1_weave_78 : decode cX1_weave 78 = .ok (.iload 6, 2) := by decide +kernel
theorem dX1_weave_80 : decode cX1_weave 80 = .ok (.iconst 2, 1) := by decide +kernel
theorem dX1_weave_81 : decode cX1_weave 81 = .ok (.if_icmp .ge 75, 3) := by decide +kernel
theorem dX1_weave_84 : decode cX1_weave 84 = .ok (.aload_n 0, 1) := by decide +kernel
theorem dX1_weave_85 : decode cX1_weave 85 = .ok (.getfield 13, 3) := by decide +kernel
theorem dX1_weave_88 : decode cX1_weave 88 = .ok (.bipush 12, 2) := by decide +kernel
theorem dX1_weave_90 : decode cX1_weave 90 = .ok (.iload_n 1, 1) := by decide +kernel
theorem dX1_weave_91 : decode cX1_weave 91 = .ok (.imul, 1) := by decide +kernel
theorem dX1_weave_92 : decode cX1_weave 92 = .ok (.iconst 2, 1) := by decide +kernel
theorem dX1_weave_93 : decode cX1_weave 93 = .ok (.iload 5, 2) := by decide +kernel
theorem dX1_weave_95 : decode cX1_weave 95 = .ok (.imul, 1) := by decide +kernel
theorem dX1_weave_96 : decode cX1_weave 96 = .ok (.iadd, 1) := by decide +kernel
theorem dX1_weave_97 : decode cX1_weave 97 = .ok (.iload 6, 2) := by decide +kernel
theorem dX1_weave_99 : decode cX1_weave 99 = .ok (.iadd, 1) := by decide +kernel
theorem dX1_weave_100 : decode cX1_weave 100 = .ok (.iload 5, 2) := by decide +kernel
theorem dX1_weave_102 : decode cX1_weave 102 = .ok (.iload_n 3, 1) := by decide +kernel
theorem dX1_weave_103 : decode cX1_weave 103 = .ok (.bipush 8, 2) := by decide +kernel
theorem dX1_weave_105 : decode cX1_weave 105 = .ok (.idiv, 1) := by decide +kernel
theorem dX1_weave_106 : decode cX1_weave 106 = .ok (.imul, 1) := by decide +kernel
theorem dX1_weave_107 : decode cX1_weave 107 = .ok (.iload 6, 2) := by decide +kernel
theorem dX1_weave_109 : decode cX1_weave 109 = .ok (.iadd, 1) := by decide +kernel
theorem dX1_weave_110 : decode cX1_weave 110 = .ok (.iload_n 2, 1) := by decide +kernel
theorem dX1_weave_111 : decode cX1_weave 111 = .ok (.iadd, 1) := by decide +kernel
theorem dX1_weave_112 : decode cX1_weave 112 = .ok (.iload 4, 2) := by decide +kernel
theorem dX1_weave_114 : decode cX1_weave 114 = .ok (.irem, 1) := by decide +kernel
theorem dX1_weave_115 : decode cX1_weave 115 = .ok (.iastore, 1) := by decide +kernel
theorem dX1_weave_116 : decode cX1_weave 116 = .ok (.aload_n 0, 1) := by decide +kernel
theorem dX1_weave_117 : decode cX1_weave 117 = .ok (.getfield 16, 3) := by decide +kernel
theorem dX1_weave_120 : decode cX1_weave 120 = .ok (.bipush 12, 2) := by decide +kernel
theorem dX1_weave_122 : decode cX1_weave 122 = .ok (.iload_n 1, 1) := by decide +kernel
theorem dX1_weave_123 : decode cX1_weave 123 = .ok (.imul, 1) := by decide +kernel
theorem dX1_weave_124 : decode cX1_weave 124 = .ok (.iconst 2, 1) := by decide +kernel
theorem dX1_weave_125 : decode cX1_weave 125 = .ok (.iload 5, 2) := by decide +kernel
theorem dX1_weave_127 : decode cX1_weave 127 = .ok (.imul, 1) := by decide +kernel
theorem dX1_weave_128 : decode cX1_weave 128 = .ok (.iadd, 1) := by decide +kernel
theorem dX1_weave_129 : decode cX1_weave 129 = .ok (.iload 6, 2) := by decide +kernel
theorem dX1_weave_131 : decode cX1_weave 131 = .ok (.iadd, 1) := by decide +kernel
theorem dX1_weave_132 : decode cX1_weave 132 = .ok (.iload 5, 2) := by decide +kernel
theorem dX1_weave_134 : decode cX1_weave 134 = .ok (.iload 5, 2) := by decide +kernel
theorem dX1_weave_136 : decode cX1_weave 136 = .ok (.imul, 1) := by decide +kernel
theorem dX1_weave_137 : decode cX1_weave 137 = .ok (.iload 6, 2) := by decide +kernel
theorem dX1_weave_139 : decode cX1_weave 139 = .ok (.iload_n 3, 1) := by decide +kernel
theorem dX1_weave_140 : decode cX1_weave 140 = .ok (.bipush 8, 2) := by decide +kernel
theorem dX1_weave_142 : decode cX1_weave 142 = .ok (.irem, 1) := by decide +kernel
theorem dX1_weave_143 : decode cX1_weave 143 = .ok (.imul, 1) := by decide +kernel
theorem dX1_weave_144 : decode cX1_weave 144 = .ok (.iadd, 1) := by decide +kernel
theorem dX1_weave_145 : decode cX1_weave 145 = .ok (.iload_n 2, 1) := by decide +kernel
theorem dX1_weave_146 : decode cX1_weave 146 = .ok (.iadd, 1) := by decide +kernel
theorem dX1_weave_147 : decode cX1_weave 147 = .ok (.iconst 4, 1) := by decide +kernel
theorem dX1_weave_148 : decode cX1_weave 148 = .ok (.irem, 1) := by decide +kernel
theorem dX1_weave_149 : decode cX1_weave 149 = .ok (.iastore, 1) := by decide +kernel
theorem dX1_weave_150 : decode cX1_weave 150 = .ok (.iinc 6 1, 3) := by decide +kernel
theorem dX1_weave_153 : decode cX1_weave 153 = .ok (.goto (-75), 3) := by decide +kernel
theorem dX1_weave_156 : decode cX1_weave 156 = .ok (.iinc 5 1, 3) := by decide +kernel
theorem dX1_weave_159 : decode cX1_weave 159 = .ok (.goto (-98), 3) := by decide +kernel
theorem dX1_weave_162 : decode cX1_weave 162 = .ok (.iconst 0, 1) := by decide +kernel
theorem dX1_weave_163 : decode cX1_weave 163 = .ok (.ireturn, 1) := by decide +kernel
theorem dX1_copy_0 : decode cX1_copy 0 = .ok (.aload_n 0, 1) := by decide +kernel
theorem dX1_copy_1 : decode cX1_copy 1 = .ok (.iload_n 1, 1) := by decide +kernel
theorem dX1_copy_2 : decode cX1_copy 2 = .ok (.invokevirtual 22, 3) := by decide +kernel
theorem dX1_copy_5 : decode cX1_copy 5 = .ok (.ifCond .eq 5, 3) := by decide +kernel
theorem dX1_copy_8 : decode cX1_copy 8 = .ok (.iconst (-1), 1) := by decide +kernel
theorem dX1_copy_9 : decode cX1_copy 9 = .ok (.ireturn, 1) := by decide +kernel
theorem dX1_copy_10 : decode cX1_copy 10 = .ok (.iload_n 2, 1) := by decide +kernel
theorem dX1_copy_11 : decode cX1_copy 11 = .ok (.ifCond .lt 8, 3) := by decide +kernel
theorem dX1_copy_14 : decode cX1_copy 14 = .ok (.iload_n 2, 1) := by decide +kernel
theorem dX1_copy_15 : decode cX1_copy 15 = .ok (.iconst 5, 1) := by decide +kernel
theorem dX1_copy_16 : decode cX1_copy 16 = .ok (.if_icmp .le 6, 3) := by decide +kernel
theorem dX1_copy_19 : decode cX1_copy 19 = .ok (.bipush (-2), 2) := by decide +kernel
theorem dX1_copy_21 : decode cX1_copy 21 = .ok (.ireturn, 1) := by decide +kernel
theorem dX1_copy_22 : decode cX1_copy 22 = .ok (.iconst 1, 1) := by decide +kernel
theorem dX1_copy_23 : decode cX1_copy 23 = .ok (.iload_n 1, 1) := by decide +kernel
theorem dX1_copy_24 : decode cX1_copy 24 = .ok (.isub, 1) := by decide +kernel
theorem dX1_copy_25 : decode cX1_copy 25 = .ok (.istore_n 3, 1) := by decide +kernel
theorem dX1_copy_26 : decode cX1_copy 26 = .ok (.aload_n 0, 1) := by decide +kernel
theorem dX1_copy_27 : decode cX1_copy 27 = .ok (.getfield 7, 3) := by decide +kernel
theorem dX1_copy_30 : decode cX1_copy 30 = .ok (.iload_n 3, 1) := by decide +kernel
theorem dX1_copy_31 : decode cX1_copy 31 = .ok (.iaload, 1) := by decide +kernel
theorem dX1_copy_32 : decode cX1_copy 32 = .ok (.iconst 1, 1) := by decide +kernel
theorem dX1_copy_33 : decode cX1_copy 33 = .ok (.if_icmp .ge 7, 3) := by decide +kernel
theorem dX1_copy_36 : decode cX1_copy 36 = .ok (.iconst 1, 1) := by decide +kernel
theorem dX1_copy_37 : decode cX1_copy 37 = .ok (.goto 9, 3) := by decide +kernel
theorem dX1_copy_40 : decode cX1_copy 40 = .ok (.aload_n 0, 1) := by decide +kernel
theorem dX1_copy_41 : decode cX1_copy 41 = .ok (.getfield 7, 3) := by decide +kernel
theorem dX1_copy_44 : decode cX1_copy 44 = .ok (.iload_n 3, 1) := by decide +kernel
theorem dX1_copy_45 : decode cX1_copy 45 = .ok (.iaload, 1) := by decide +kernel
theorem dX1_copy_46 : decode cX1_copy 46 = .ok (.istore 4, 2) := by decide +kernel
theorem dX1_copy_48 : decode cX1_copy 48 = .ok (.aload_n 0, 1) := by decide +kernel
theorem dX1_copy_49 : decode cX1_copy 49 = .ok (.getfield 7, 3) := by decide +kernel
theorem dX1_copy_52 : decode cX1_copy 52 = .ok (.iload_n 1, 1) := by decide +kernel
theorem dX1_copy_53 : decode cX1_copy 53 = .ok (.iload 4, 2) := by decide +kernel
theorem dX1_copy_55 : decode cX1_copy 55 = .ok (.iastore, 1) := by decide +kernel
theorem dX1_copy_56 : decode cX1_copy 56 = .ok (.iconst 0, 1) := by decide +kernel
theorem dX1_copy_57 : decode cX1_copy 57 = .ok (.istore 5, 2) := by decide +kernel
theorem dX1_copy_59 : decode cX1_copy 59 = .ok (.iload 5, 2) := by decide +kernel
theorem dX1_copy_61 : decode cX1_copy 61 = .ok (.iload 4, 2) := by decide +kernel
theorem dX1_copy_63 : decode cX1_copy 63 = .ok (.if_icmp .ge 103, 3) := by decide +kernel
theorem dX1_copy_66 : decode cX1_copy 66 = .ok (.iload 5, 2) := by decide +kernel
theorem dX1_copy_68 : decode cX1_copy 68 = .ok (.bipush 6, 2) := by decide +kernel
theorem dX1_copy_70 : decode cX1_copy 70 = .ok (.if_icmp .ge 96, 3) := by decide +kernel
theorem dX1_copy_73 : decode cX1_copy 73 = .ok (.iconst 0, 1) := by decide +kernel
theorem dX1_copy_74 : decode cX1_copy 74 = .ok (.istore 6, 2) := by decide +kernel
theorem dX1_copy_76 : decode cX1_copy 76 = .ok (.iload 6, 2) := by decide +kernel
theorem dX1_copy_78 : decode cX1_copy 78 = .ok (.iconst 2, 1) := by decide +kernel
theorem dX1_copy_79 : decode cX1_copy 79 = .ok (.if_icmp .ge 81, 3) := by decide +kernel
theorem dX1_copy_82 : decode cX1_copy 82 = .ok (.bipush 12, 2) := by decide +kernel
theorem dX1_copy_84 : decode cX1_copy 84 = .ok (.iload_n 1, 1) := by decide +kernel
theorem dX1_copy_85 : decode cX1_copy 85 = .ok (.imul, 1) := by decide +kernel
theorem dX1_copy_86 : decode cX1_copy 86 = .ok (.iconst 2, 1) := by decide +kernel
theorem dX1_copy_87 : decode cX1_copy 87 = .ok (.iload 5, 2) := by decide +kernel
theorem dX1_copy_89 : decode cX1_copy 89 = .ok (.iload_n 2, 1) := by decide +kernel
theorem dX1_copy_90 : decode cX1_copy 90 = .ok (.iadd, 1) := by decide +kernel
theorem dX1_copy_91 : decode cX1_copy 91 = .ok (.iload 4, 2) := by decide +kernel
theorem dX1_copy_93 : decode cX1_copy 93 = .ok (.irem, 1) := by decide +kernel
theorem dX1_copy_94 : decode cX1_copy 94 = .ok (.imul, 1) := by decide +kernel
theorem dX1_copy_95 : decode cX1_copy 95 = .ok (.iadd, 1) := by decide +kernel
theorem dX1_copy_96 : decode cX1_copy 96 = .ok (.iload 6, 2) := by decide +kernel
theorem dX1_copy_98 : decode cX1_copy 98 = .ok (.iadd, 1) := by decide +kernel
theorem dX1_copy_99 : decode cX1_copy 99 = .ok (.istore 7, 2) := by decide +kernel
theorem dX1_copy_101 : decode cX1_copy 101 = .ok (.aload_n 0, 1) := by decide +kernel
theorem dX1_copy_102 : decode cX1_copy 102 = .ok (.getfield 13, 3) := by decide +kernel
theorem dX1_copy_105 : decode cX1_copy 105 = .ok (.iload 7, 2) := by decide +kernel
theorem dX1_copy_107 : decode cX1_copy 107 = .ok (.aload_n 0, 1) := by decide +kernel
theorem dX1_copy_108 : decode cX1_copy 108 = .ok (.getfield 13, 3) := by decide +kernel
theorem dX1_copy_111 : decode cX1_copy 111 = .ok (.bipush 12, 2) := by decide +kernel
theorem dX1_copy_113 : decode cX1_copy 113 = .ok (.iload_n 3, 1) := by decide +kernel
theorem dX1_copy_114 : decode cX1_copy 114 = .ok (.imul, 1) := by decide +kernel
theorem dX1_copy_115 : decode cX1_copy 115 = .ok (.iconst 2, 1) := by decide +kernel
theorem dX1_copy_116 : decode cX1_copy 116 = .ok (.iload 5, 2) := by decide +kernel
theorem dX1_copy_118 : decode cX1_copy 118 = .ok (.imul, 1) := by decide +kernel
theorem dX1_copy_119 : decode cX1_copy 119 = .ok (.iadd, 1) := by decide +kernel
theorem dX1_copy_120 : decode cX1_copy 120 = .ok (.iload 6, 2) := by decide +kernel
theorem dX1_copy_122 : decode cX1_copy 122 = .ok (.iadd, 1) := by decide +kernel
theorem dX1_copy_123 : decode cX1_copy 123 = .ok (.iaload, 1) := by decide +kernel
theorem dX1_copy_124 : decode cX1_copy 124 = .ok (.iload_n 2, 1) := by decide +kernel
theorem dX1_copy_125 : decode cX1_copy 125 = .ok (.iadd, 1) := by decide +kernel
theorem dX1_copy_126 : decode cX1_copy 126 = .ok (.iload 4, 2) := by decide +kernel
theorem dX1_copy_128 : decode cX1_copy 128 = .ok (.irem, 1) := by decide +kernel
theorem dX1_copy_129 : decode cX1_copy 129 = .ok (.iastore, 1) := by decide +kernel
theorem dX1_copy_130 : decode cX1_copy 130 = .ok (.aload_n 0, 1) := by decide +kernel
theorem dX1_copy_131 : decode cX1_copy 131 = .ok (.getfield 16, 3) := by decide +kernel
theorem dX1_copy_134 : decode cX1_copy 134 = .ok (.iload 7, 2) := by decide +kernel
theorem dX1_copy_136 : decode cX1_copy 136 = .ok (.aload_n 0, 1) := by decide +kernel
theorem dX1_copy_137 : decode cX1_copy 137 = .ok (.getfield 16, 3) := by decide +kernel
theorem dX1_copy_140 : decode cX1_copy 140 = .ok (.bipush 12, 2) := by decide +kernel
theorem dX1_copy_142 : decode cX1_copy 142 = .ok (.iload_n 3, 1) := by decide +kernel
theorem dX1_copy_143 : decode cX1_copy 143 = .ok (.imul, 1) := by decide +kernel
theorem dX1_copy_144 : decode cX1_copy 144 = .ok (.iconst 2, 1) := by decide +kernel
theorem dX1_copy_145 : decode cX1_copy 145 = .ok (.iload 5, 2) := by decide +kernel
theorem dX1_copy_147 : decode cX1_copy 147 = .ok (.imul, 1) := by decide +kernel
theorem dX1_copy_148 : decode cX1_copy 148 = .ok (.iadd, 1) := by decide +kernel
theorem dX1_copy_149 : decode cX1_copy 149 = .ok (.iload 6, 2) := by decide +kernel
theorem dX1_copy_151 : decode cX1_copy 151 = .ok (.iadd, 1) := by decide +kernel
theorem dX1_copy_152 : decode cX1_copy 152 = .ok (.iaload, 1) := by decide +kernel
theorem dX1_copy_153 : decode cX1_copy 153 = .ok (.iastore, 1) := by decide +kernel
theorem dX1_copy_154 : decode cX1_copy 154 = .ok (.iinc 6 1, 3) := by decide +kernel
theorem dX1_copy_157 : decode cX1_copy 157 = .ok (.goto (-81), 3) := by decide +kernel
theorem dX1_copy_160 : decode cX1_copy 160 = .ok (.iinc 5 1, 3) := by decide +kernel
theorem dX1_copy_163 : decode cX1_copy 163 = .ok (.goto (-104), 3) := by decide +kernel
theorem dX1_copy_166 : decode cX1_copy 166 = .ok (.iload 4, 2) := by decide +kernel
theorem dX1_copy_168 : decode cX1_copy 168 = .ok (.ireturn, 1) := by decide +kernel
theorem dX1_states_0 : decode cX1_states 0 = .ok (.aload_n 0, 1) := by decide +kernel
theorem dX1_states_1 : decode cX1_states 1 = .ok (.iload_n 1, 1) := by decide +kernel
theorem dX1_states_2 : decode cX1_states 2 = .ok (.invokevirtual 22, 3) := by decide +kernel
theorem dX1_states_5 : decode cX1_states 5 = .ok (.ifCond .eq 7, 3) := by decide +kernel
theorem dX1_states_8 : decode cX1_states 8 = .ok (.iconst (-1), 1) := by decide +kernel
theorem dX1_states_9 : decode cX1_states 9 = .ok (.goto 9, 3) := by decide +kernel
theorem dX1_states_12 : decode cX1_states 12 = .ok (.aload_n 0, 1) := by decide +kernel
theorem dX1_states_13 : decode cX1_states 13 = .ok (.getfield 7, 3) := by decide +kernel
theorem dX1_states_16 : decode cX1_states 16 = .ok (.iload_n 1, 1) := by decide +kernel
theorem dX1_states_17 : decode cX1_states 17 = .ok (.iaload, 1) := by decide +kernel
theorem dX1_states_18 : decode cX1_states 18 = .ok (.ireturn, 1) := by decide +kernel
theorem dX1_run_0 : decode cX1_run 0 = .ok (.aload_n 0, 1) := by decide +kernel
theorem dX1_run_1 : decode cX1_run 1 = .ok (.iload_n 1, 1) := by decide +kernel
theorem dX1_run_2 : decode cX1_run 2 = .ok (.invokevirtual 30, 3) := by decide +kernel
theorem dX1_run_5 : decode cX1_run 5 = .ok (.ifCond .eq 5, 3) := by decide +kernel
theorem dX1_run_8 : decode cX1_run 8 = .ok (.iconst (-1), 1) := by decide +kernel
theorem dX1_run_9 : decode cX1_run 9 = .ok (.ireturn, 1) := by decide +kernel
theorem dX1_run_10 : decode cX1_run 10 = .ok (.iload_n 2, 1) := by decide +kernel
theorem dX1_run_11 : decode cX1_run 11 = .ok (.iconst 1, 1) := by decide +kernel
theorem dX1_run_12 : decode cX1_run 12 = .ok (.if_icmp .lt 10, 3) := by decide +kernel
theorem dX1_run_15 : decode cX1_run 15 = .ok (.iload_n 2, 1) := by decide +kernel
theorem dX1_run_16 : decode cX1_run 16 = .ok (.sipush 4095, 3) := by decide +kernel
theorem dX1_run_19 : decode cX1_run 19 = .ok (.if_icmp .le 8, 3) := by decide +kernel
theorem dX1_run_22 : decode cX1_run 22 = .ok (.bipush (-2), 2) := by decide +kernel
theorem dX1_run_24 : decode cX1_run 24 = .ok (.goto 9, 3) := by decide +kernel
theorem dX1_run_27 : decode cX1_run 27 = .ok (.aload_n 0, 1) := by decide +kernel
theorem dX1_run_28 : decode cX1_run 28 = .ok (.iload_n 1, 1) := by decide +kernel
theorem dX1_run_29 : decode cX1_run 29 = .ok (.iload_n 2, 1) := by decide +kernel
theorem dX1_run_30 : decode cX1_run 30 = .ok (.invokevirtual 33, 3) := by decide +kernel
theorem dX1_run_33 : decode cX1_run 33 = .ok (.ireturn, 1) := by decide +kernel
theorem dX1_badState_0 : decode cX1_badState 0 = .ok (.iload_n 1, 1) := by decide +kernel
theorem dX1_badState_1 : decode cX1_badState 1 = .ok (.ifCond .lt 25, 3) := by decide +kernel
theorem dX1_badState_4 : decode cX1_badState 4 = .ok (.iload_n 1, 1) := by decide +kernel
theorem dX1_badState_5 : decode cX1_badState 5 = .ok (.bipush 15, 2) := by decide +kernel
theorem dX1_badState_7 : decode cX1_badState 7 = .ok (.if_icmp .gt 19, 3) := by decide +kernel
theorem dX1_badState_10 : decode cX1_badState 10 = .ok (.iload_n 1, 1) := by decide +kernel
theorem dX1_badState_11 : decode cX1_badState 11 = .ok (.bipush 8, 2) := by decide +kernel
theorem dX1_badState_13 : decode cX1_badState 13 = .ok (.irem, 1) := by decide +kernel
theorem dX1_badState_14 : decode cX1_badState 14 = .ok (.aload_n 0, 1) := by decide +kernel
theorem dX1_badState_15 : decode cX1_badState 15 = .ok (.getfield 7, 3) := by decide +kernel
theorem dX1_badState_18 : decode cX1_badState 18 = .ok (.iload_n 1, 1) := by decide +kernel
theorem dX1_badState_19 : decode cX1_badState 19 = .ok (.bipush 8, 2) := by decide +kernel
theorem dX1_badState_21 : decode cX1_badState 21 = .ok (.idiv, 1) := by decide +kernel
theorem dX1_badState_22 : decode cX1_badState 22 = .ok (.iaload, 1) := by decide +kernel
theorem dX1_badState_23 : decode cX1_badState 23 = .ok (.if_icmp .lt 7, 3) := by decide +kernel
theorem dX1_badState_26 : decode cX1_badState 26 = .ok (.iconst 1, 1) := by decide +kernel
theorem dX1_badState_27 : decode cX1_badState 27 = .ok (.goto 4, 3) := by decide +kernel
theorem dX1_badState_30 : decode cX1_badState 30 = .ok (.iconst 0, 1) := by decide +kernel
theorem dX1_badState_31 : decode cX1_badState 31 = .ok (.ireturn, 1) := by decide +kernel
theorem dX1_goal_0 : decode cX1_goal 0 = .ok (.iload_n 1, 1) := by decide +kernel
theorem dX1_goal_1 : decode cX1_goal 1 = .ok (.bipush 8, 2) := by decide +kernel
theorem dX1_goal_3 : decode cX1_goal 3 = .ok (.idiv, 1) := by decide +kernel
theorem dX1_goal_4 : decode cX1_goal 4 = .ok (.istore_n 3, 1) := by decide +kernel
theorem dX1_goal_5 : decode cX1_goal 5 = .ok (.iload_n 1, 1) := by decide +kernel
theorem dX1_goal_6 : decode cX1_goal 6 = .ok (.bipush 8, 2) := by decide +kernel
theorem dX1_goal_8 : decode cX1_goal 8 = .ok (.irem, 1) := by decide +kernel
theorem dX1_goal_9 : decode cX1_goal 9 = .ok (.istore 4, 2) := by decide +kernel
theorem dX1_goal_11 : decode cX1_goal 11 = .ok (.aload_n 0, 1) := by decide +kernel
theorem dX1_goal_12 : decode cX1_goal 12 = .ok (.iload_n 2, 1) := by decide +kernel
theorem dX1_goal_13 : decode cX1_goal 13 = .ok (.invokevirtual 26, 3) := by decide +kernel
theorem dX1_goal_16 : decode cX1_goal 16 = .ok (.iconst 1, 1) := by decide +kernel
theorem dX1_goal_17 : decode cX1_goal 17 = .ok (.isub, 1) := by decide +kernel
theorem dX1_goal_18 : decode cX1_goal 18 = .ok (.istore 5, 2) := by decide +kernel
theorem dX1_goal_20 : decode cX1_goal 20 = .ok (.iload 5, 2) := by decide +kernel
theorem dX1_goal_22 : decode cX1_goal 22 = .ok (.ifCond .lt 32, 3) := by decide +kernel
theorem dX1_goal_25 : decode cX1_goal 25 = .ok (.aload_n 0, 1) := by decide +kernel
theorem dX1_goal_26 : decode cX1_goal 26 = .ok (.getfield 13, 3) := by decide +kernel
theorem dX1_goal_29 : decode cX1_goal 29 = .ok (.bipush 12, 2) := by decide +kernel
theorem dX1_goal_31 : decode cX1_goal 31 = .ok (.iload_n 3, 1) := by decide +kernel
theorem dX1_goal_32 : decode cX1_goal 32 = .ok (.imul, 1) := by decide +kernel
theorem dX1_goal_33 : decode cX1_goal 33 = .ok (.iconst 2, 1) := by decide +kernel
theorem dX1_goal_34 : decode cX1_goal 34 = .ok (.iload 4, 2) := by decide +kernel
theorem dX1_goal_36 : decode cX1_goal 36 = .ok (.imul, 1) := by decide +kernel
theorem dX1_goal_37 : decode cX1_goal 37 = .ok (.iadd, 1) := by decide +kernel
theorem dX1_goal_38 : decode cX1_goal 38 = .ok (.iload_n 2, 1) := by decide +kernel
theorem dX1_goal_39 : decode cX1_goal 39 = .ok (.iload 5, 2) := by decide +kernel
theorem dX1_goal_41 : decode cX1_goal 41 = .ok (.ishr, 1) := by decide +kernel
theorem dX1_goal_42 : decode cX1_goal 42 = .ok (.iconst 1, 1) := by decide +kernel
theorem dX1_goal_43 : decode cX1_goal 43 = .ok (.iand, 1) := by decide +kernel
theorem dX1_goal_44 : decode cX1_goal 44 = .ok (.iadd, 1) := by decide +kernel
theorem dX1_goal_45 : decode cX1_goal 45 = .ok (.iaload, 1) := by decide +kernel
theorem dX1_goal_46 : decode cX1_goal 46 = .ok (.istore 4, 2) := by decide +kernel
theorem dX1_goal_48 : decode cX1_goal 48 = .ok (.iinc 5 (-1), 3) := by decide +kernel
theorem dX1_goal_51 : decode cX1_goal 51 = .ok (.goto (-31), 3) := by decide +kernel
theorem dX1_goal_54 : decode cX1_goal 54 = .ok (.iload 4, 2) := by decide +kernel
theorem dX1_goal_56 : decode cX1_goal 56 = .ok (.ireturn, 1) := by decide +kernel
theorem dX1_length_0 : decode cX1_length 0 = .ok (.iconst 0, 1) := by decide +kernel
theorem dX1_length_1 : decode cX1_length 1 = .ok (.istore_n 2, 1) := by decide +kernel
theorem dX1_length_2 : decode cX1_length 2 = .ok (.iconst 1, 1) := by decide +kernel
theorem dX1_length_3 : decode cX1_length 3 = .ok (.istore_n 3, 1) := by decide +kernel
theorem dX1_length_4 : decode cX1_length 4 = .ok (.iload_n 3, 1) := by decide +kernel
theorem dX1_length_5 : decode cX1_length 5 = .ok (.bipush 13, 2) := by decide +kernel
theorem dX1_length_7 : decode cX1_length 7 = .ok (.if_icmp .ge 17, 3) := by decide +kernel
theorem dX1_length_10 : decode cX1_length 10 = .ok (.iload_n 1, 1) := by decide +kernel
theorem dX1_length_11 : decode cX1_length 11 = .ok (.iload_n 3, 1) := by decide +kernel
theorem dX1_length_12 : decode cX1_length 12 = .ok (.ishr, 1) := by decide +kernel
theorem dX1_length_13 : decode cX1_length 13 = .ok (.ifCond .le 5, 3) := by decide +kernel
theorem dX1_length_16 : decode cX1_length 16 = .ok (.iload_n 3, 1) := by decide +kernel
theorem dX1_length_17 : decode cX1_length 17 = .ok (.istore_n 2, 1) := by decide +kernel
theorem dX1_length_18 : decode cX1_length 18 = .ok (.iinc 3 1, 3) := by decide +kernel
theorem dX1_length_21 : decode cX1_length 21 = .ok (.goto (-17), 3) := by decide +kernel
theorem dX1_length_24 : decode cX1_length 24 = .ok (.iload_n 2, 1) := by decide +kernel
theorem dX1_length_25 : decode cX1_length 25 = .ok (.ireturn, 1) := by decide +kernel
theorem dX1_response_0 : decode cX1_response 0 = .ok (.aload_n 0, 1) := by decide +kernel
theorem dX1_response_1 : decode cX1_response 1 = .ok (.iload_n 1, 1) := by decide +kernel
theorem dX1_response_2 : decode cX1_response 2 = .ok (.invokevirtual 30, 3) := by decide +kernel
theorem dX1_response_5 : decode cX1_response 5 = .ok (.ifCond .eq 5, 3) := by decide +kernel
theorem dX1_response_8 : decode cX1_response 8 = .ok (.iconst (-1), 1) := by decide +kernel
theorem dX1_response_9 : decode cX1_response 9 = .ok (.ireturn, 1) := by decide +kernel
theorem dX1_response_10 : decode cX1_response 10 = .ok (.iload_n 2, 1) := by decide +kernel
theorem dX1_response_11 : decode cX1_response 11 = .ok (.iconst 1, 1) := by decide +kernel
theorem dX1_response_12 : decode cX1_response 12 = .ok (.if_icmp .lt 10, 3) := by decide +kernel
theorem dX1_response_15 : decode cX1_response 15 = .ok (.iload_n 2, 1) := by decide +kernel
end
section
set_option maxRecDepth 100000
theorem dX1_response_16 : decode cX1_response 16 = .ok (.sipush 4095, 3) := by decide +kernel
theorem dX1_response_19 : decode cX1_response 19 = .ok (.if_icmp .le 8, 3) := by decide +kernel
theorem dX1_response_22 : decode cX1_response 22 = .ok (.bipush (-2), 2) := by decide +kernel
theorem dX1_response_24 : decode cX1_response 24 = .ok (.goto 9, 3) := by decide +kernel
theorem dX1_response_27 : decode cX1_response 27 = .ok (.aload_n 0, 1) := by decide +kernel
theorem dX1_response_28 : decode cX1_response 28 = .ok (.iload_n 1, 1) := by decide +kernel
theorem dX1_response_29 : decode cX1_response 29 = .ok (.iload_n 2, 1) := by decide +kernel
theorem dX1_response_30 : decode cX1_response 30 = .ok (.invokevirtual 37, 3) := by decide +kernel
theorem dX1_response_33 : decode cX1_response 33 = .ok (.ireturn, 1) := by decide +kernel
theorem dX1_told_0 : decode cX1_told 0 = .ok (.iload_n 1, 1) := by decide +kernel
theorem dX1_told_1 : decode cX1_told 1 = .ok (.bipush 8, 2) := by decide +kernel
theorem dX1_told_3 : decode cX1_told 3 = .ok (.idiv, 1) := by decide +kernel
theorem dX1_told_4 : decode cX1_told 4 = .ok (.istore_n 3, 1) := by decide +kernel
theorem dX1_told_5 : decode cX1_told 5 = .ok (.iload_n 1, 1) := by decide +kernel
theorem dX1_told_6 : decode cX1_told 6 = .ok (.bipush 8, 2) := by decide +kernel
theorem dX1_told_8 : decode cX1_told 8 = .ok (.irem, 1) := by decide +kernel
theorem dX1_told_9 : decode cX1_told 9 = .ok (.istore 4, 2) := by decide +kernel
theorem dX1_told_11 : decode cX1_told 11 = .ok (.iconst 0, 1) := by decide +kernel
theorem dX1_told_12 : decode cX1_told 12 = .ok (.istore 5, 2) := by decide +kernel
theorem dX1_told_14 : decode cX1_told 14 = .ok (.aload_n 0, 1) := by decide +kernel
theorem dX1_told_15 : decode cX1_told 15 = .ok (.iload_n 2, 1) := by decide +kernel
theorem dX1_told_16 : decode cX1_told 16 = .ok (.invokevirtual 26, 3) := by decide +kernel
theorem dX1_told_19 : decode cX1_told 19 = .ok (.iconst 1, 1) := by decide +kernel
theorem dX1_told_20 : decode cX1_told 20 = .ok (.isub, 1) := by decide +kernel
theorem dX1_told_21 : decode cX1_told 21 = .ok (.istore 6, 2) := by decide +kernel
theorem dX1_told_23 : decode cX1_told 23 = .ok (.iload 6, 2) := by decide +kernel
theorem dX1_told_25 : decode cX1_told 25 = .ok (.ifCond .lt 50, 3) := by decide +kernel
theorem dX1_told_28 : decode cX1_told 28 = .ok (.bipush 12, 2) := by decide +kernel
theorem dX1_told_30 : decode cX1_told 30 = .ok (.iload_n 3, 1) := by decide +kernel
theorem dX1_told_31 : decode cX1_told 31 = .ok (.imul, 1) := by decide +kernel
theorem dX1_told_32 : decode cX1_told 32 = .ok (.iconst 2, 1) := by decide +kernel
theorem dX1_told_33 : decode cX1_told 33 = .ok (.iload 4, 2) := by decide +kernel
theorem dX1_told_35 : decode cX1_told 35 = .ok (.imul, 1) := by decide +kernel
theorem dX1_told_36 : decode cX1_told 36 = .ok (.iadd, 1) := by decide +kernel
theorem dX1_told_37 : decode cX1_told 37 = .ok (.iload_n 2, 1) := by decide +kernel
theorem dX1_told_38 : decode cX1_told 38 = .ok (.iload 6, 2) := by decide +kernel
theorem dX1_told_40 : decode cX1_told 40 = .ok (.ishr, 1) := by decide +kernel
theorem dX1_told_41 : decode cX1_told 41 = .ok (.iconst 1, 1) := by decide +kernel
theorem dX1_told_42 : decode cX1_told 42 = .ok (.iand, 1) := by decide +kernel
theorem dX1_told_43 : decode cX1_told 43 = .ok (.iadd, 1) := by decide +kernel
theorem dX1_told_44 : decode cX1_told 44 = .ok (.istore 7, 2) := by decide +kernel
theorem dX1_told_46 : decode cX1_told 46 = .ok (.iconst 4, 1) := by decide +kernel
theorem dX1_told_47 : decode cX1_told 47 = .ok (.iload 5, 2) := by decide +kernel
theorem dX1_told_49 : decode cX1_told 49 = .ok (.imul, 1) := by decide +kernel
theorem dX1_told_50 : decode cX1_told 50 = .ok (.aload_n 0, 1) := by decide +kernel
theorem dX1_told_51 : decode cX1_told 51 = .ok (.getfield 16, 3) := by decide +kernel
theorem dX1_told_54 : decode cX1_told 54 = .ok (.iload 7, 2) := by decide +kernel
theorem dX1_told_56 : decode cX1_told 56 = .ok (.iaload, 1) := by decide +kernel
theorem dX1_told_57 : decode cX1_told 57 = .ok (.iadd, 1) := by decide +kernel
theorem dX1_told_58 : decode cX1_told 58 = .ok (.istore 5, 2) := by decide +kernel
theorem dX1_told_60 : decode cX1_told 60 = .ok (.aload_n 0, 1) := by decide +kernel
theorem dX1_told_61 : decode cX1_told 61 = .ok (.getfield 13, 3) := by decide +kernel
theorem dX1_told_64 : decode cX1_told 64 = .ok (.iload 7, 2) := by decide +kernel
theorem dX1_told_66 : decode cX1_told 66 = .ok (.iaload, 1) := by decide +kernel
theorem dX1_told_67 : decode cX1_told 67 = .ok (.istore 4, 2) := by decide +kernel
theorem dX1_told_69 : decode cX1_told 69 = .ok (.iinc 6 (-1), 3) := by decide +kernel
theorem dX1_told_72 : decode cX1_told 72 = .ok (.goto (-49), 3) := by decide +kernel
theorem dX1_told_75 : decode cX1_told 75 = .ok (.iload 5, 2) := by decide +kernel
theorem dX1_told_77 : decode cX1_told 77 = .ok (.ireturn, 1) := by decide +kernel
theorem dX1_alike_0 : decode cX1_alike 0 = .ok (.aload_n 0, 1) := by decide +kernel
theorem dX1_alike_1 : decode cX1_alike 1 = .ok (.iload_n 1, 1) := by decide +kernel
theorem dX1_alike_2 : decode cX1_alike 2 = .ok (.invokevirtual 30, 3) := by decide +kernel
theorem dX1_alike_5 : decode cX1_alike 5 = .ok (.ifCond .ne 11, 3) := by decide +kernel
theorem dX1_alike_8 : decode cX1_alike 8 = .ok (.aload_n 0, 1) := by decide +kernel
theorem dX1_alike_9 : decode cX1_alike 9 = .ok (.iload_n 2, 1) := by decide +kernel
theorem dX1_alike_10 : decode cX1_alike 10 = .ok (.invokevirtual 30, 3) := by decide +kernel
theorem dX1_alike_13 : decode cX1_alike 13 = .ok (.ifCond .eq 5, 3) := by decide +kernel
theorem dX1_alike_16 : decode cX1_alike 16 = .ok (.iconst (-1), 1) := by decide +kernel
theorem dX1_alike_17 : decode cX1_alike 17 = .ok (.ireturn, 1) := by decide +kernel
theorem dX1_alike_18 : decode cX1_alike 18 = .ok (.aload_n 0, 1) := by decide +kernel
theorem dX1_alike_19 : decode cX1_alike 19 = .ok (.iload_n 1, 1) := by decide +kernel
theorem dX1_alike_20 : decode cX1_alike 20 = .ok (.iload_n 2, 1) := by decide +kernel
theorem dX1_alike_21 : decode cX1_alike 21 = .ok (.invokevirtual 40, 3) := by decide +kernel
theorem dX1_alike_24 : decode cX1_alike 24 = .ok (.ifCond .ne 7, 3) := by decide +kernel
theorem dX1_alike_27 : decode cX1_alike 27 = .ok (.iconst 1, 1) := by decide +kernel
theorem dX1_alike_28 : decode cX1_alike 28 = .ok (.goto 4, 3) := by decide +kernel
theorem dX1_alike_31 : decode cX1_alike 31 = .ok (.iconst 0, 1) := by decide +kernel
theorem dX1_alike_32 : decode cX1_alike 32 = .ok (.ireturn, 1) := by decide +kernel
theorem dX1_apart_0 : decode cX1_apart 0 = .ok (.iload_n 1, 1) := by decide +kernel
theorem dX1_apart_1 : decode cX1_apart 1 = .ok (.bipush 8, 2) := by decide +kernel
theorem dX1_apart_3 : decode cX1_apart 3 = .ok (.idiv, 1) := by decide +kernel
theorem dX1_apart_4 : decode cX1_apart 4 = .ok (.iload_n 2, 1) := by decide +kernel
theorem dX1_apart_5 : decode cX1_apart 5 = .ok (.bipush 8, 2) := by decide +kernel
theorem dX1_apart_7 : decode cX1_apart 7 = .ok (.idiv, 1) := by decide +kernel
theorem dX1_apart_8 : decode cX1_apart 8 = .ok (.if_icmp .ne 17, 3) := by decide +kernel
theorem dX1_apart_11 : decode cX1_apart 11 = .ok (.aload_n 0, 1) := by decide +kernel
theorem dX1_apart_12 : decode cX1_apart 12 = .ok (.getfield 7, 3) := by decide +kernel
theorem dX1_apart_15 : decode cX1_apart 15 = .ok (.iload_n 1, 1) := by decide +kernel
theorem dX1_apart_16 : decode cX1_apart 16 = .ok (.bipush 8, 2) := by decide +kernel
theorem dX1_apart_18 : decode cX1_apart 18 = .ok (.idiv, 1) := by decide +kernel
theorem dX1_apart_19 : decode cX1_apart 19 = .ok (.iaload, 1) := by decide +kernel
theorem dX1_apart_20 : decode cX1_apart 20 = .ok (.iconst 1, 1) := by decide +kernel
theorem dX1_apart_21 : decode cX1_apart 21 = .ok (.isub, 1) := by decide +kernel
theorem dX1_apart_22 : decode cX1_apart 22 = .ok (.goto 18, 3) := by decide +kernel
theorem dX1_apart_25 : decode cX1_apart 25 = .ok (.aload_n 0, 1) := by decide +kernel
theorem dX1_apart_26 : decode cX1_apart 26 = .ok (.getfield 7, 3) := by decide +kernel
theorem dX1_apart_29 : decode cX1_apart 29 = .ok (.iconst 0, 1) := by decide +kernel
theorem dX1_apart_30 : decode cX1_apart 30 = .ok (.iaload, 1) := by decide +kernel
theorem dX1_apart_31 : decode cX1_apart 31 = .ok (.aload_n 0, 1) := by decide +kernel
theorem dX1_apart_32 : decode cX1_apart 32 = .ok (.getfield 7, 3) := by decide +kernel
theorem dX1_apart_35 : decode cX1_apart 35 = .ok (.iconst 1, 1) := by decide +kernel
theorem dX1_apart_36 : decode cX1_apart 36 = .ok (.iaload, 1) := by decide +kernel
theorem dX1_apart_37 : decode cX1_apart 37 = .ok (.iadd, 1) := by decide +kernel
theorem dX1_apart_38 : decode cX1_apart 38 = .ok (.iconst 1, 1) := by decide +kernel
theorem dX1_apart_39 : decode cX1_apart 39 = .ok (.isub, 1) := by decide +kernel
theorem dX1_apart_40 : decode cX1_apart 40 = .ok (.istore_n 3, 1) := by decide +kernel
theorem dX1_apart_41 : decode cX1_apart 41 = .ok (.iconst 1, 1) := by decide +kernel
theorem dX1_apart_42 : decode cX1_apart 42 = .ok (.istore 4, 2) := by decide +kernel
theorem dX1_apart_44 : decode cX1_apart 44 = .ok (.iload 4, 2) := by decide +kernel
theorem dX1_apart_46 : decode cX1_apart 46 = .ok (.iconst 2, 1) := by decide +kernel
theorem dX1_apart_47 : decode cX1_apart 47 = .ok (.iload_n 3, 1) := by decide +kernel
theorem dX1_apart_48 : decode cX1_apart 48 = .ok (.ishl, 1) := by decide +kernel
theorem dX1_apart_49 : decode cX1_apart 49 = .ok (.if_icmp .ge 29, 3) := by decide +kernel
theorem dX1_apart_52 : decode cX1_apart 52 = .ok (.aload_n 0, 1) := by decide +kernel
theorem dX1_apart_53 : decode cX1_apart 53 = .ok (.iload_n 1, 1) := by decide +kernel
theorem dX1_apart_54 : decode cX1_apart 54 = .ok (.iload 4, 2) := by decide +kernel
theorem dX1_apart_56 : decode cX1_apart 56 = .ok (.invokevirtual 37, 3) := by decide +kernel
theorem dX1_apart_59 : decode cX1_apart 59 = .ok (.aload_n 0, 1) := by decide +kernel
theorem dX1_apart_60 : decode cX1_apart 60 = .ok (.iload_n 2, 1) := by decide +kernel
theorem dX1_apart_61 : decode cX1_apart 61 = .ok (.iload 4, 2) := by decide +kernel
theorem dX1_apart_63 : decode cX1_apart 63 = .ok (.invokevirtual 37, 3) := by decide +kernel
theorem dX1_apart_66 : decode cX1_apart 66 = .ok (.if_icmp .eq 6, 3) := by decide +kernel
theorem dX1_apart_69 : decode cX1_apart 69 = .ok (.iload 4, 2) := by decide +kernel
theorem dX1_apart_71 : decode cX1_apart 71 = .ok (.ireturn, 1) := by decide +kernel
theorem dX1_apart_72 : decode cX1_apart 72 = .ok (.iinc 4 1, 3) := by decide +kernel
theorem dX1_apart_75 : decode cX1_apart 75 = .ok (.goto (-31), 3) := by decide +kernel
theorem dX1_apart_78 : decode cX1_apart 78 = .ok (.iconst 0, 1) := by decide +kernel
theorem dX1_apart_79 : decode cX1_apart 79 = .ok (.ireturn, 1) := by decide +kernel
theorem dX1_difference_0 : decode cX1_difference 0 = .ok (.aload_n 0, 1) := by decide +kernel
theorem dX1_difference_1 : decode cX1_difference 1 = .ok (.iload_n 1, 1) := by decide +kernel
theorem dX1_difference_2 : decode cX1_difference 2 = .ok (.invokevirtual 30, 3) := by decide +kernel
theorem dX1_difference_5 : decode cX1_difference 5 = .ok (.ifCond .ne 11, 3) := by decide +kernel
theorem dX1_difference_8 : decode cX1_difference 8 = .ok (.aload_n 0, 1) := by decide +kernel
theorem dX1_difference_9 : decode cX1_difference 9 = .ok (.iload_n 2, 1) := by decide +kernel
theorem dX1_difference_10 : decode cX1_difference 10 = .ok (.invokevirtual 30, 3) := by decide +kernel
theorem dX1_difference_13 : decode cX1_difference 13 = .ok (.ifCond .eq 7, 3) := by decide +kernel
theorem dX1_difference_16 : decode cX1_difference 16 = .ok (.iconst (-1), 1) := by decide +kernel
theorem dX1_difference_17 : decode cX1_difference 17 = .ok (.goto 9, 3) := by decide +kernel
theorem dX1_difference_20 : decode cX1_difference 20 = .ok (.aload_n 0, 1) := by decide +kernel
theorem dX1_difference_21 : decode cX1_difference 21 = .ok (.iload_n 1, 1) := by decide +kernel
theorem dX1_difference_22 : decode cX1_difference 22 = .ok (.iload_n 2, 1) := by decide +kernel
theorem dX1_difference_23 : decode cX1_difference 23 = .ok (.invokevirtual 40, 3) := by decide +kernel
theorem dX1_difference_26 : decode cX1_difference 26 = .ok (.ireturn, 1) := by decide +kernel
theorem dX1_same_0 : decode cX1_same 0 = .ok (.aload_n 0, 1) := by decide +kernel
theorem dX1_same_1 : decode cX1_same 1 = .ok (.iconst 0, 1) := by decide +kernel
theorem dX1_same_2 : decode cX1_same 2 = .ok (.bipush 8, 2) := by decide +kernel
theorem dX1_same_4 : decode cX1_same 4 = .ok (.invokevirtual 40, 3) := by decide +kernel
theorem dX1_same_7 : decode cX1_same 7 = .ok (.ifCond .ne 7, 3) := by decide +kernel
theorem dX1_same_10 : decode cX1_same 10 = .ok (.iconst 1, 1) := by decide +kernel
theorem dX1_same_11 : decode cX1_same 11 = .ok (.goto 4, 3) := by decide +kernel
theorem dX1_same_14 : decode cX1_same 14 = .ok (.iconst 0, 1) := by decide +kernel
theorem dX1_same_15 : decode cX1_same 15 = .ok (.ireturn, 1) := by decide +kernel
theorem dX1_classes_0 : decode cX1_classes 0 = .ok (.aload_n 0, 1) := by decide +kernel
theorem dX1_classes_1 : decode cX1_classes 1 = .ok (.iload_n 1, 1) := by decide +kernel
theorem dX1_classes_2 : decode cX1_classes 2 = .ok (.invokevirtual 22, 3) := by decide +kernel
theorem dX1_classes_5 : decode cX1_classes 5 = .ok (.ifCond .eq 5, 3) := by decide +kernel
theorem dX1_classes_8 : decode cX1_classes 8 = .ok (.iconst (-1), 1) := by decide +kernel
theorem dX1_classes_9 : decode cX1_classes 9 = .ok (.ireturn, 1) := by decide +kernel
theorem dX1_classes_10 : decode cX1_classes 10 = .ok (.iconst 0, 1) := by decide +kernel
theorem dX1_classes_11 : decode cX1_classes 11 = .ok (.istore_n 2, 1) := by decide +kernel
theorem dX1_classes_12 : decode cX1_classes 12 = .ok (.iconst 0, 1) := by decide +kernel
theorem dX1_classes_13 : decode cX1_classes 13 = .ok (.istore_n 3, 1) := by decide +kernel
theorem dX1_classes_14 : decode cX1_classes 14 = .ok (.iload_n 3, 1) := by decide +kernel
theorem dX1_classes_15 : decode cX1_classes 15 = .ok (.aload_n 0, 1) := by decide +kernel
theorem dX1_classes_16 : decode cX1_classes 16 = .ok (.getfield 7, 3) := by decide +kernel
theorem dX1_classes_19 : decode cX1_classes 19 = .ok (.iload_n 1, 1) := by decide +kernel
theorem dX1_classes_20 : decode cX1_classes 20 = .ok (.iaload, 1) := by decide +kernel
theorem dX1_classes_21 : decode cX1_classes 21 = .ok (.if_icmp .ge 58, 3) := by decide +kernel
theorem dX1_classes_24 : decode cX1_classes 24 = .ok (.iconst 1, 1) := by decide +kernel
theorem dX1_classes_25 : decode cX1_classes 25 = .ok (.istore 4, 2) := by decide +kernel
theorem dX1_classes_27 : decode cX1_classes 27 = .ok (.iconst 0, 1) := by decide +kernel
theorem dX1_classes_28 : decode cX1_classes 28 = .ok (.istore 5, 2) := by decide +kernel
theorem dX1_classes_30 : decode cX1_classes 30 = .ok (.iload 5, 2) := by decide +kernel
theorem dX1_classes_32 : decode cX1_classes 32 = .ok (.iload_n 3, 1) := by decide +kernel
theorem dX1_classes_33 : decode cX1_classes 33 = .ok (.if_icmp .ge 32, 3) := by decide +kernel
theorem dX1_classes_36 : decode cX1_classes 36 = .ok (.aload_n 0, 1) := by decide +kernel
theorem dX1_classes_37 : decode cX1_classes 37 = .ok (.bipush 8, 2) := by decide +kernel
theorem dX1_classes_39 : decode cX1_classes 39 = .ok (.iload_n 1, 1) := by decide +kernel
theorem dX1_classes_40 : decode cX1_classes 40 = .ok (.imul, 1) := by decide +kernel
theorem dX1_classes_41 : decode cX1_classes 41 = .ok (.iload_n 3, 1) := by decide +kernel
theorem dX1_classes_42 : decode cX1_classes 42 = .ok (.iadd, 1) := by decide +kernel
theorem dX1_classes_43 : decode cX1_classes 43 = .ok (.bipush 8, 2) := by decide +kernel
theorem dX1_classes_45 : decode cX1_classes 45 = .ok (.iload_n 1, 1) := by decide +kernel
theorem dX1_classes_46 : decode cX1_classes 46 = .ok (.imul, 1) := by decide +kernel
theorem dX1_classes_47 : decode cX1_classes 47 = .ok (.iload 5, 2) := by decide +kernel
theorem dX1_classes_49 : decode cX1_classes 49 = .ok (.iadd, 1) := by decide +kernel
theorem dX1_classes_50 : decode cX1_classes 50 = .ok (.invokevirtual 40, 3) := by decide +kernel
theorem dX1_classes_53 : decode cX1_classes 53 = .ok (.ifCond .ne 6, 3) := by decide +kernel
theorem dX1_classes_56 : decode cX1_classes 56 = .ok (.iconst 0, 1) := by decide +kernel
theorem dX1_classes_57 : decode cX1_classes 57 = .ok (.istore 4, 2) := by decide +kernel
theorem dX1_classes_59 : decode cX1_classes 59 = .ok (.iinc 5 1, 3) := by decide +kernel
theorem dX1_classes_62 : decode cX1_classes 62 = .ok (.goto (-32), 3) := by decide +kernel
theorem dX1_classes_65 : decode cX1_classes 65 = .ok (.iload 4, 2) := by decide +kernel
theorem dX1_classes_67 : decode cX1_classes 67 = .ok (.ifCond .eq 6, 3) := by decide +kernel
theorem dX1_classes_70 : decode cX1_classes 70 = .ok (.iinc 2 1, 3) := by decide +kernel
theorem dX1_classes_73 : decode cX1_classes 73 = .ok (.iinc 3 1, 3) := by decide +kernel
theorem dX1_classes_76 : decode cX1_classes 76 = .ok (.goto (-62), 3) := by decide +kernel
theorem dX1_classes_79 : decode cX1_classes 79 = .ok (.iload_n 2, 1) := by decide +kernel
theorem dX1_classes_80 : decode cX1_classes 80 = .ok (.ireturn, 1) := by decide +kernel
theorem dX1_core_0 : decode cX1_core 0 = .ok (.aload_n 0, 1) := by decide +kernel
theorem dX1_core_1 : decode cX1_core 1 = .ok (.iload_n 1, 1) := by decide +kernel
theorem dX1_core_2 : decode cX1_core 2 = .ok (.invokevirtual 22, 3) := by decide +kernel
theorem dX1_core_5 : decode cX1_core 5 = .ok (.ifCond .eq 5, 3) := by decide +kernel
theorem dX1_core_8 : decode cX1_core 8 = .ok (.iconst (-1), 1) := by decide +kernel
theorem dX1_core_9 : decode cX1_core 9 = .ok (.ireturn, 1) := by decide +kernel
theorem dX1_core_10 : decode cX1_core 10 = .ok (.aload_n 0, 1) := by decide +kernel
theorem dX1_core_11 : decode cX1_core 11 = .ok (.iload_n 1, 1) := by decide +kernel
theorem dX1_core_12 : decode cX1_core 12 = .ok (.invokevirtual 50, 3) := by decide +kernel
theorem dX1_core_15 : decode cX1_core 15 = .ok (.aload_n 0, 1) := by decide +kernel
theorem dX1_core_16 : decode cX1_core 16 = .ok (.getfield 43, 3) := by decide +kernel
theorem dX1_core_19 : decode cX1_core 19 = .ok (.ireturn, 1) := by decide +kernel
theorem dX1_work_0 : decode cX1_work 0 = .ok (.aload_n 0, 1) := by decide +kernel
theorem dX1_work_1 : decode cX1_work 1 = .ok (.iconst 0, 1) := by decide +kernel
theorem dX1_work_2 : decode cX1_work 2 = .ok (.putfield 43, 3) := by decide +kernel
theorem dX1_work_5 : decode cX1_work 5 = .ok (.iconst 1, 1) := by decide +kernel
theorem dX1_work_6 : decode cX1_work 6 = .ok (.istore_n 2, 1) := by decide +kernel
theorem dX1_work_7 : decode cX1_work 7 = .ok (.iload_n 2, 1) := by decide +kernel
theorem dX1_work_8 : decode cX1_work 8 = .ok (.bipush 64, 2) := by decide +kernel
theorem dX1_work_10 : decode cX1_work 10 = .ok (.if_icmp .ge 61, 3) := by decide +kernel
theorem dX1_work_13 : decode cX1_work 13 = .ok (.aload_n 0, 1) := by decide +kernel
theorem dX1_work_14 : decode cX1_work 14 = .ok (.bipush 8, 2) := by decide +kernel
theorem dX1_work_16 : decode cX1_work 16 = .ok (.iload_n 1, 1) := by decide +kernel
theorem dX1_work_17 : decode cX1_work 17 = .ok (.imul, 1) := by decide +kernel
theorem dX1_work_18 : decode cX1_work 18 = .ok (.iload_n 2, 1) := by decide +kernel
theorem dX1_work_19 : decode cX1_work 19 = .ok (.invokevirtual 33, 3) := by decide +kernel
theorem dX1_work_22 : decode cX1_work 22 = .ok (.istore_n 3, 1) := by decide +kernel
theorem dX1_work_23 : decode cX1_work 23 = .ok (.aload_n 0, 1) := by decide +kernel
theorem dX1_work_24 : decode cX1_work 24 = .ok (.getfield 43, 3) := by decide +kernel
theorem dX1_work_27 : decode cX1_work 27 = .ok (.bipush 6, 2) := by decide +kernel
theorem dX1_work_29 : decode cX1_work 29 = .ok (.if_icmp .ge 36, 3) := by decide +kernel
theorem dX1_work_32 : decode cX1_work 32 = .ok (.aload_n 0, 1) := by decide +kernel
theorem dX1_work_33 : decode cX1_work 33 = .ok (.bipush 8, 2) := by decide +kernel
theorem dX1_work_35 : decode cX1_work 35 = .ok (.iload_n 1, 1) := by decide +kernel
theorem dX1_work_36 : decode cX1_work 36 = .ok (.imul, 1) := by decide +kernel
theorem dX1_work_37 : decode cX1_work 37 = .ok (.iload_n 3, 1) := by decide +kernel
theorem dX1_work_38 : decode cX1_work 38 = .ok (.iadd, 1) := by decide +kernel
theorem dX1_work_39 : decode cX1_work 39 = .ok (.invokevirtual 47, 3) := by decide +kernel
theorem dX1_work_42 : decode cX1_work 42 = .ok (.ifCond .ge 23, 3) := by decide +kernel
theorem dX1_work_45 : decode cX1_work 45 = .ok (.aload_n 0, 1) := by decide +kernel
theorem dX1_work_46 : decode cX1_work 46 = .ok (.getfield 19, 3) := by decide +kernel
theorem dX1_work_49 : decode cX1_work 49 = .ok (.aload_n 0, 1) := by decide +kernel
theorem dX1_work_50 : decode cX1_work 50 = .ok (.getfield 43, 3) := by decide +kernel
theorem dX1_work_53 : decode cX1_work 53 = .ok (.iload_n 3, 1) := by decide +kernel
theorem dX1_work_54 : decode cX1_work 54 = .ok (.iastore, 1) := by decide +kernel
theorem dX1_work_55 : decode cX1_work 55 = .ok (.aload_n 0, 1) := by decide +kernel
theorem dX1_work_56 : decode cX1_work 56 = .ok (.dup, 1) := by decide +kernel
theorem dX1_work_57 : decode cX1_work 57 = .ok (.getfield 43, 3) := by decide +kernel
theorem dX1_work_60 : decode cX1_work 60 = .ok (.iconst 1, 1) := by decide +kernel
theorem dX1_work_61 : decode cX1_work 61 = .ok (.iadd, 1) := by decide +kernel
theorem dX1_work_62 : decode cX1_work 62 = .ok (.putfield 43, 3) := by decide +kernel
theorem dX1_work_65 : decode cX1_work 65 = .ok (.iinc 2 1, 3) := by decide +kernel
theorem dX1_work_68 : decode cX1_work 68 = .ok (.goto (-61), 3) := by decide +kernel
theorem dX1_work_71 : decode cX1_work 71 = .ok (.return_, 1) := by decide +kernel
theorem dX1_place_0 : decode cX1_place 0 = .ok (.iload_n 1, 1) := by decide +kernel
theorem dX1_place_1 : decode cX1_place 1 = .ok (.bipush 8, 2) := by decide +kernel
theorem dX1_place_3 : decode cX1_place 3 = .ok (.idiv, 1) := by decide +kernel
theorem dX1_place_4 : decode cX1_place 4 = .ok (.istore_n 2, 1) := by decide +kernel
theorem dX1_place_5 : decode cX1_place 5 = .ok (.iconst 0, 1) := by decide +kernel
theorem dX1_place_6 : decode cX1_place 6 = .ok (.istore_n 3, 1) := by decide +kernel
theorem dX1_place_7 : decode cX1_place 7 = .ok (.iload_n 3, 1) := by decide +kernel
theorem dX1_place_8 : decode cX1_place 8 = .ok (.aload_n 0, 1) := by decide +kernel
theorem dX1_place_9 : decode cX1_place 9 = .ok (.getfield 43, 3) := by decide +kernel
theorem dX1_place_12 : decode cX1_place 12 = .ok (.if_icmp .ge 36, 3) := by decide +kernel
theorem dX1_place_15 : decode cX1_place 15 = .ok (.iload_n 3, 1) := by decide +kernel
theorem dX1_place_16 : decode cX1_place 16 = .ok (.bipush 6, 2) := by decide +kernel
theorem dX1_place_18 : decode cX1_place 18 = .ok (.if_icmp .ge 30, 3) := by decide +kernel
theorem dX1_place_21 : decode cX1_place 21 = .ok (.aload_n 0, 1) := by decide +kernel
theorem dX1_place_22 : decode cX1_place 22 = .ok (.bipush 8, 2) := by decide +kernel
theorem dX1_place_24 : decode cX1_place 24 = .ok (.iload_n 2, 1) := by decide +kernel
theorem dX1_place_25 : decode cX1_place 25 = .ok (.imul, 1) := by decide +kernel
theorem dX1_place_26 : decode cX1_place 26 = .ok (.aload_n 0, 1) := by decide +kernel
theorem dX1_place_27 : decode cX1_place 27 = .ok (.getfield 19, 3) := by decide +kernel
theorem dX1_place_30 : decode cX1_place 30 = .ok (.iload_n 3, 1) := by decide +kernel
theorem dX1_place_31 : decode cX1_place 31 = .ok (.iaload, 1) := by decide +kernel
theorem dX1_place_32 : decode cX1_place 32 = .ok (.iadd, 1) := by decide +kernel
theorem dX1_place_33 : decode cX1_place 33 = .ok (.iload_n 1, 1) := by decide +kernel
theorem dX1_place_34 : decode cX1_place 34 = .ok (.invokevirtual 40, 3) := by decide +kernel
theorem dX1_place_37 : decode cX1_place 37 = .ok (.ifCond .ne 5, 3) := by decide +kernel
theorem dX1_place_40 : decode cX1_place 40 = .ok (.iload_n 3, 1) := by decide +kernel
theorem dX1_place_41 : decode cX1_place 41 = .ok (.ireturn, 1) := by decide +kernel
theorem dX1_place_42 : decode cX1_place 42 = .ok (.iinc 3 1, 3) := by decide +kernel
theorem dX1_place_45 : decode cX1_place 45 = .ok (.goto (-38), 3) := by decide +kernel
theorem dX1_place_48 : decode cX1_place 48 = .ok (.iconst (-1), 1) := by decide +kernel
theorem dX1_place_49 : decode cX1_place 49 = .ok (.ireturn, 1) := by decide +kernel
theorem dX1_coreNext_0 : decode cX1_coreNext 0 = .ok (.aload_n 0, 1) := by decide +kernel
theorem dX1_coreNext_1 : decode cX1_coreNext 1 = .ok (.iload_n 1, 1) := by decide +kernel
theorem dX1_coreNext_2 : decode cX1_coreNext 2 = .ok (.invokevirtual 22, 3) := by decide +kernel
theorem dX1_coreNext_5 : decode cX1_coreNext 5 = .ok (.ifCond .eq 5, 3) := by decide +kernel
theorem dX1_coreNext_8 : decode cX1_coreNext 8 = .ok (.iconst (-1), 1) := by decide +kernel
theorem dX1_coreNext_9 : decode cX1_coreNext 9 = .ok (.ireturn, 1) := by decide +kernel
theorem dX1_coreNext_10 : decode cX1_coreNext 10 = .ok (.aload_n 0, 1) := by decide +kernel
theorem dX1_coreNext_11 : decode cX1_coreNext 11 = .ok (.iload_n 1, 1) := by decide +kernel
theorem dX1_coreNext_12 : decode cX1_coreNext 12 = .ok (.invokevirtual 50, 3) := by decide +kernel
theorem dX1_coreNext_15 : decode cX1_coreNext 15 = .ok (.iload_n 2, 1) := by decide +kernel
theorem dX1_coreNext_16 : decode cX1_coreNext 16 = .ok (.ifCond .lt 16, 3) := by decide +kernel
theorem dX1_coreNext_19 : decode cX1_coreNext 19 = .ok (.iload_n 2, 1) := by decide +kernel
theorem dX1_coreNext_20 : decode cX1_coreNext 20 = .ok (.aload_n 0, 1) := by decide +kernel
theorem dX1_coreNext_21 : decode cX1_coreNext 21 = .ok (.getfield 43, 3) := by decide +kernel
theorem dX1_coreNext_24 : decode cX1_coreNext 24 = .ok (.if_icmp .ge 8, 3) := by decide +kernel
theorem dX1_coreNext_27 : decode cX1_coreNext 27 = .ok (.iload_n 2, 1) := by decide +kernel
theorem dX1_coreNext_28 : decode cX1_coreNext 28 = .ok (.iconst 5, 1) := by decide +kernel
theorem dX1_coreNext_29 : decode cX1_coreNext 29 = .ok (.if_icmp .le 6, 3) := by decide +kernel
theorem dX1_coreNext_32 : decode cX1_coreNext 32 = .ok (.bipush (-2), 2) := by decide +kernel
theorem dX1_coreNext_34 : decode cX1_coreNext 34 = .ok (.ireturn, 1) := by decide +kernel
theorem dX1_coreNext_35 : decode cX1_coreNext 35 = .ok (.iload_n 3, 1) := by decide +kernel
theorem dX1_coreNext_36 : decode cX1_coreNext 36 = .ok (.ifCond .lt 8, 3) := by decide +kernel
theorem dX1_coreNext_39 : decode cX1_coreNext 39 = .ok (.iload_n 3, 1) := by decide +kernel
theorem dX1_coreNext_40 : decode cX1_coreNext 40 = .ok (.iconst 1, 1) := by decide +kernel
theorem dX1_coreNext_41 : decode cX1_coreNext 41 = .ok (.if_icmp .le 6, 3) := by decide +kernel
theorem dX1_coreNext_44 : decode cX1_coreNext 44 = .ok (.bipush (-3), 2) := by decide +kernel
theorem dX1_coreNext_46 : decode cX1_coreNext 46 = .ok (.ireturn, 1) := by decide +kernel
theorem dX1_coreNext_47 : decode cX1_coreNext 47 = .ok (.aload_n 0, 1) := by decide +kernel
theorem dX1_coreNext_48 : decode cX1_coreNext 48 = .ok (.bipush 8, 2) := by decide +kernel
theorem dX1_coreNext_50 : decode cX1_coreNext 50 = .ok (.iload_n 1, 1) := by decide +kernel
theorem dX1_coreNext_51 : decode cX1_coreNext 51 = .ok (.imul, 1) := by decide +kernel
theorem dX1_coreNext_52 : decode cX1_coreNext 52 = .ok (.aload_n 0, 1) := by decide +kernel
theorem dX1_coreNext_53 : decode cX1_coreNext 53 = .ok (.getfield 13, 3) := by decide +kernel
theorem dX1_coreNext_56 : decode cX1_coreNext 56 = .ok (.bipush 12, 2) := by decide +kernel
theorem dX1_coreNext_58 : decode cX1_coreNext 58 = .ok (.iload_n 1, 1) := by decide +kernel
theorem dX1_coreNext_59 : decode cX1_coreNext 59 = .ok (.imul, 1) := by decide +kernel
theorem dX1_coreNext_60 : decode cX1_coreNext 60 = .ok (.iconst 2, 1) := by decide +kernel
theorem dX1_coreNext_61 : decode cX1_coreNext 61 = .ok (.aload_n 0, 1) := by decide +kernel
theorem dX1_coreNext_62 : decode cX1_coreNext 62 = .ok (.getfield 19, 3) := by decide +kernel
theorem dX1_coreNext_65 : decode cX1_coreNext 65 = .ok (.iload_n 2, 1) := by decide +kernel
theorem dX1_coreNext_66 : decode cX1_coreNext 66 = .ok (.iaload, 1) := by decide +kernel
theorem dX1_coreNext_67 : decode cX1_coreNext 67 = .ok (.imul, 1) := by decide +kernel
theorem dX1_coreNext_68 : decode cX1_coreNext 68 = .ok (.iadd, 1) := by decide +kernel
theorem dX1_coreNext_69 : decode cX1_coreNext 69 = .ok (.iload_n 3, 1) := by decide +kernel
theorem dX1_coreNext_70 : decode cX1_coreNext 70 = .ok (.iadd, 1) := by decide +kernel
theorem dX1_coreNext_71 : decode cX1_coreNext 71 = .ok (.iaload, 1) := by decide +kernel
theorem dX1_coreNext_72 : decode cX1_coreNext 72 = .ok (.iadd, 1) := by decide +kernel
theorem dX1_coreNext_73 : decode cX1_coreNext 73 = .ok (.invokevirtual 47, 3) := by decide +kernel
theorem dX1_coreNext_76 : decode cX1_coreNext 76 = .ok (.ireturn, 1) := by decide +kernel
theorem dX1_coreAnswer_0 : decode cX1_coreAnswer 0 = .ok (.aload_n 0, 1) := by decide +kernel
theorem dX1_coreAnswer_1 : decode cX1_coreAnswer 1 = .ok (.iload_n 1, 1) := by decide +kernel
theorem dX1_coreAnswer_2 : decode cX1_coreAnswer 2 = .ok (.invokevirtual 22, 3) := by decide +kernel
theorem dX1_coreAnswer_5 : decode cX1_coreAnswer 5 = .ok (.ifCond .eq 5, 3) := by decide +kernel
theorem dX1_coreAnswer_8 : decode cX1_coreAnswer 8 = .ok (.iconst (-1), 1) := by decide +kernel
theorem dX1_coreAnswer_9 : decode cX1_coreAnswer 9 = .ok (.ireturn, 1) := by decide +kernel
theorem dX1_coreAnswer_10 : decode cX1_coreAnswer 10 = .ok (.aload_n 0, 1) := by decide +kernel
theorem dX1_coreAnswer_11 : decode cX1_coreAnswer 11 = .ok (.iload_n 1, 1) := by decide +kernel
theorem dX1_coreAnswer_12 : decode cX1_coreAnswer 12 = .ok (.invokevirtual 50, 3) := by decide +kernel
theorem dX1_coreAnswer_15 : decode cX1_coreAnswer 15 = .ok (.iload_n 2, 1) := by decide +kernel
theorem dX1_coreAnswer_16 : decode cX1_coreAnswer 16 = .ok (.ifCond .lt 16, 3) := by decide +kernel
theorem dX1_coreAnswer_19 : decode cX1_coreAnswer 19 = .ok (.iload_n 2, 1) := by decide +kernel
theorem dX1_coreAnswer_20 : decode cX1_coreAnswer 20 = .ok (.aload_n 0, 1) := by decide +kernel
theorem dX1_coreAnswer_21 : decode cX1_coreAnswer 21 = .ok (.getfield 43, 3) := by decide +kernel
theorem dX1_coreAnswer_24 : decode cX1_coreAnswer 24 = .ok (.if_icmp .ge 8, 3) := by decide +kernel
theorem dX1_coreAnswer_27 : decode cX1_coreAnswer 27 = .ok (.iload_n 2, 1) := by decide +kernel
theorem dX1_coreAnswer_28 : decode cX1_coreAnswer 28 = .ok (.iconst 5, 1) := by decide +kernel
theorem dX1_coreAnswer_29 : decode cX1_coreAnswer 29 = .ok (.if_icmp .le 6, 3) := by decide +kernel
theorem dX1_coreAnswer_32 : decode cX1_coreAnswer 32 = .ok (.bipush (-2), 2) := by decide +kernel
theorem dX1_coreAnswer_34 : decode cX1_coreAnswer 34 = .ok (.ireturn, 1) := by decide +kernel
theorem dX1_coreAnswer_35 : decode cX1_coreAnswer 35 = .ok (.iload_n 3, 1) := by decide +kernel
theorem dX1_coreAnswer_36 : decode cX1_coreAnswer 36 = .ok (.ifCond .lt 8, 3) := by decide +kernel
theorem dX1_coreAnswer_39 : decode cX1_coreAnswer 39 = .ok (.iload_n 3, 1) := by decide +kernel
theorem dX1_coreAnswer_40 : decode cX1_coreAnswer 40 = .ok (.iconst 1, 1) := by decide +kernel
theorem dX1_coreAnswer_41 : decode cX1_coreAnswer 41 = .ok (.if_icmp .le 6, 3) := by decide +kernel
theorem dX1_coreAnswer_44 : decode cX1_coreAnswer 44 = .ok (.bipush (-3), 2) := by decide +kernel
theorem dX1_coreAnswer_46 : decode cX1_coreAnswer 46 = .ok (.ireturn, 1) := by decide +kernel
theorem dX1_coreAnswer_47 : decode cX1_coreAnswer 47 = .ok (.aload_n 0, 1) := by decide +kernel
theorem dX1_coreAnswer_48 : decode cX1_coreAnswer 48 = .ok (.getfield 16, 3) := by decide +kernel
theorem dX1_coreAnswer_51 : decode cX1_coreAnswer 51 = .ok (.bipush 12, 2) := by decide +kernel
theorem dX1_coreAnswer_53 : decode cX1_coreAnswer 53 = .ok (.iload_n 1, 1) := by decide +kernel
theorem dX1_coreAnswer_54 : decode cX1_coreAnswer 54 = .ok (.imul, 1) := by decide +kernel
theorem dX1_coreAnswer_55 : decode cX1_coreAnswer 55 = .ok (.iconst 2, 1) := by decide +kernel
theorem dX1_coreAnswer_56 : decode cX1_coreAnswer 56 = .ok (.aload_n 0, 1) := by decide +kernel
theorem dX1_coreAnswer_57 : decode cX1_coreAnswer 57 = .ok (.getfield 19, 3) := by decide +kernel
theorem dX1_coreAnswer_60 : decode cX1_coreAnswer 60 = .ok (.iload_n 2, 1) := by decide +kernel
theorem dX1_coreAnswer_61 : decode cX1_coreAnswer 61 = .ok (.iaload, 1) := by decide +kernel
theorem dX1_coreAnswer_62 : decode cX1_coreAnswer 62 = .ok (.imul, 1) := by decide +kernel
theorem dX1_coreAnswer_63 : decode cX1_coreAnswer 63 = .ok (.iadd, 1) := by decide +kernel
theorem dX1_coreAnswer_64 : decode cX1_coreAnswer 64 = .ok (.iload_n 3, 1) := by decide +kernel
theorem dX1_coreAnswer_65 : decode cX1_coreAnswer 65 = .ok (.iadd, 1) := by decide +kernel
theorem dX1_coreAnswer_66 : decode cX1_coreAnswer 66 = .ok (.iaload, 1) := by decide +kernel
theorem dX1_coreAnswer_67 : decode cX1_coreAnswer 67 = .ok (.ireturn, 1) := by decide +kernel
theorem dX1_classOf_0 : decode cX1_classOf 0 = .ok (.aload_n 0, 1) := by decide +kernel
theorem dX1_classOf_1 : decode cX1_classOf 1 = .ok (.iload_n 1, 1) := by decide +kernel
theorem dX1_classOf_2 : decode cX1_classOf 2 = .ok (.invokevirtual 30, 3) := by decide +kernel
theorem dX1_classOf_5 : decode cX1_classOf 5 = .ok (.ifCond .eq 5, 3) := by decide +kernel
theorem dX1_classOf_8 : decode cX1_classOf 8 = .ok (.iconst (-1), 1) := by decide +kernel
theorem dX1_classOf_9 : decode cX1_classOf 9 = .ok (.ireturn, 1) := by decide +kernel
theorem dX1_classOf_10 : decode cX1_classOf 10 = .ok (.aload_n 0, 1) := by decide +kernel
theorem dX1_classOf_11 : decode cX1_classOf 11 = .ok (.iload_n 1, 1) := by decide +kernel
theorem dX1_classOf_12 : decode cX1_classOf 12 = .ok (.bipush 8, 2) := by decide +kernel
theorem dX1_classOf_14 : decode cX1_classOf 14 = .ok (.idiv, 1) := by decide +kernel
theorem dX1_classOf_15 : decode cX1_classOf 15 = .ok (.invokevirtual 50, 3) := by decide +kernel
theorem dX1_classOf_18 : decode cX1_classOf 18 = .ok (.aload_n 0, 1) := by decide +kernel
theorem dX1_classOf_19 : decode cX1_classOf 19 = .ok (.iload_n 1, 1) := by decide +kernel
theorem dX1_classOf_20 : decode cX1_classOf 20 = .ok (.invokevirtual 47, 3) := by decide +kernel
theorem dX1_classOf_23 : decode cX1_classOf 23 = .ok (.istore_n 2, 1) := by decide +kernel
theorem dX1_classOf_24 : decode cX1_classOf 24 = .ok (.iload_n 2, 1) := by decide +kernel
theorem dX1_classOf_25 : decode cX1_classOf 25 = .ok (.ifCond .ge 8, 3) := by decide +kernel
theorem dX1_classOf_28 : decode cX1_classOf 28 = .ok (.bipush (-2), 2) := by decide +kernel
theorem dX1_classOf_30 : decode cX1_classOf 30 = .ok (.goto 4, 3) := by decide +kernel
theorem dX1_classOf_33 : decode cX1_classOf 33 = .ok (.iload_n 2, 1) := by decide +kernel
theorem dX1_classOf_34 : decode cX1_classOf 34 = .ok (.ireturn, 1) := by decide +kernel
theorem dX1_reset_0 : decode cX1_reset 0 = .ok (.aload_n 0, 1) := by decide +kernel
theorem dX1_reset_1 : decode cX1_reset 1 = .ok (.iload_n 1, 1) := by decide +kernel
theorem dX1_reset_2 : decode cX1_reset 2 = .ok (.invokevirtual 22, 3) := by decide +kernel
theorem dX1_reset_5 : decode cX1_reset 5 = .ok (.ifCond .eq 5, 3) := by decide +kernel
theorem dX1_reset_8 : decode cX1_reset 8 = .ok (.iconst (-1), 1) := by decide +kernel
theorem dX1_reset_9 : decode cX1_reset 9 = .ok (.ireturn, 1) := by decide +kernel
theorem dX1_reset_10 : decode cX1_reset 10 = .ok (.iconst 1, 1) := by decide +kernel
theorem dX1_reset_11 : decode cX1_reset 11 = .ok (.istore_n 2, 1) := by decide +kernel
theorem dX1_reset_12 : decode cX1_reset 12 = .ok (.iload_n 2, 1) := by decide +kernel
theorem dX1_reset_13 : decode cX1_reset 13 = .ok (.sipush 4096, 3) := by decide +kernel
theorem dX1_reset_16 : decode cX1_reset 16 = .ok (.if_icmp .ge 77, 3) := by decide +kernel
theorem dX1_reset_19 : decode cX1_reset 19 = .ok (.aload_n 0, 1) := by decide +kernel
theorem dX1_reset_20 : decode cX1_reset 20 = .ok (.bipush 8, 2) := by decide +kernel
theorem dX1_reset_22 : decode cX1_reset 22 = .ok (.iload_n 1, 1) := by decide +kernel
theorem dX1_reset_23 : decode cX1_reset 23 = .ok (.imul, 1) := by decide +kernel
theorem dX1_reset_24 : decode cX1_reset 24 = .ok (.iload_n 2, 1) := by decide +kernel
theorem dX1_reset_25 : decode cX1_reset 25 = .ok (.invokevirtual 33, 3) := by decide +kernel
theorem dX1_reset_28 : decode cX1_reset 28 = .ok (.istore_n 3, 1) := by decide +kernel
theorem dX1_reset_29 : decode cX1_reset 29 = .ok (.iconst 1, 1) := by decide +kernel
theorem dX1_reset_30 : decode cX1_reset 30 = .ok (.istore 4, 2) := by decide +kernel
theorem dX1_reset_32 : decode cX1_reset 32 = .ok (.iconst 1, 1) := by decide +kernel
theorem dX1_reset_33 : decode cX1_reset 33 = .ok (.istore 5, 2) := by decide +kernel
theorem dX1_reset_35 : decode cX1_reset 35 = .ok (.iload 5, 2) := by decide +kernel
theorem dX1_reset_37 : decode cX1_reset 37 = .ok (.aload_n 0, 1) := by decide +kernel
theorem dX1_reset_38 : decode cX1_reset 38 = .ok (.getfield 7, 3) := by decide +kernel
theorem dX1_reset_41 : decode cX1_reset 41 = .ok (.iload_n 1, 1) := by decide +kernel
theorem dX1_reset_42 : decode cX1_reset 42 = .ok (.iaload, 1) := by decide +kernel
theorem dX1_reset_43 : decode cX1_reset 43 = .ok (.if_icmp .ge 37, 3) := by decide +kernel
theorem dX1_reset_46 : decode cX1_reset 46 = .ok (.iload 4, 2) := by decide +kernel
theorem dX1_reset_48 : decode cX1_reset 48 = .ok (.ifCond .eq 32, 3) := by decide +kernel
theorem dX1_reset_51 : decode cX1_reset 51 = .ok (.aload_n 0, 1) := by decide +kernel
theorem dX1_reset_52 : decode cX1_reset 52 = .ok (.bipush 8, 2) := by decide +kernel
theorem dX1_reset_54 : decode cX1_reset 54 = .ok (.iload_n 1, 1) := by decide +kernel
theorem dX1_reset_55 : decode cX1_reset 55 = .ok (.imul, 1) := by decide +kernel
theorem dX1_reset_56 : decode cX1_reset 56 = .ok (.iload 5, 2) := by decide +kernel
theorem dX1_reset_58 : decode cX1_reset 58 = .ok (.iadd, 1) := by decide +kernel
theorem dX1_reset_59 : decode cX1_reset 59 = .ok (.iload_n 2, 1) := by decide +kernel
theorem dX1_reset_60 : decode cX1_reset 60 = .ok (.invokevirtual 33, 3) := by decide +kernel
theorem dX1_reset_63 : decode cX1_reset 63 = .ok (.iload_n 3, 1) := by decide +kernel
theorem dX1_reset_64 : decode cX1_reset 64 = .ok (.if_icmp .ne 7, 3) := by decide +kernel
theorem dX1_reset_67 : decode cX1_reset 67 = .ok (.iconst 1, 1) := by decide +kernel
theorem dX1_reset_68 : decode cX1_reset 68 = .ok (.goto 4, 3) := by decide +kernel
theorem dX1_reset_71 : decode cX1_reset 71 = .ok (.iconst 0, 1) := by decide +kernel
theorem dX1_reset_72 : decode cX1_reset 72 = .ok (.istore 4, 2) := by decide +kernel
theorem dX1_reset_74 : decode cX1_reset 74 = .ok (.iinc 5 1, 3) := by decide +kernel
theorem dX1_reset_77 : decode cX1_reset 77 = .ok (.goto (-42), 3) := by decide +kernel
theorem dX1_reset_80 : decode cX1_reset 80 = .ok (.iload 4, 2) := by decide +kernel
theorem dX1_reset_82 : decode cX1_reset 82 = .ok (.ifCond .eq 5, 3) := by decide +kernel
theorem dX1_reset_85 : decode cX1_reset 85 = .ok (.iload_n 2, 1) := by decide +kernel
theorem dX1_reset_86 : decode cX1_reset 86 = .ok (.ireturn, 1) := by decide +kernel
theorem dX1_reset_87 : decode cX1_reset 87 = .ok (.iinc 2 1, 3) := by decide +kernel
theorem dX1_reset_90 : decode cX1_reset 90 = .ok (.goto (-78), 3) := by decide +kernel
theorem dX1_reset_93 : decode cX1_reset 93 = .ok (.iconst 0, 1) := by decide +kernel
theorem dX1_reset_94 : decode cX1_reset 94 = .ok (.ireturn, 1) := by decide +kernel
end
section
set_option maxRecDepth 100000
/-! own base rows: numbers as nI n, worlds of the two classes, entry of a method, calls -/
abbrev vwCl : List vw_C := [(RX0, TX0, 10), (RX1, TX1, 5)]
def updN (f : Nat → Nat) (k v : Nat) : Nat → Nat := fun j => if j = k then v else f j
theorem updN_nI (f : Nat → Nat) (k v : Nat) : upd (fun j => nI (f j)) k (nI v) = fun j => nI (updN f k v j) := by
  funext j
  simp only [upd, updN]
  split <;> rfl
theorem updN_same (f : Nat → Nat) (k v : Nat) : updN f k v k = v := if_pos rfl
theorem updN_ne (f : Nat → Nat) {k j : Nat} (v : Nat) (h : j ≠ k) : updN f k v j = f j := if_neg h
/-- one less than n, as an int: a counter that runs down to -1 -/
def kI (n : Nat) : Int32 := nI n - 1
theorem kI_zero : kI 0 = -1 := rfl
theorem kI_succ (n : Nat) : kI (n + 1) = nI n := nI_pred n
theorem nI_sh31 : ∀ n, n < 32 → ((nI n &&& 31).toBitVec.smod 32).toNat = n := by decide +kernel
theorem nI_andN (a b : Nat) : nI a &&& nI b = nI (a &&& b) := by
  apply Int32.toBitVec_inj.mp
  rw [Int32.toBitVec_and]
  show BitVec.ofNat 32 a &&& BitVec.ofNat 32 b = BitVec.ofNat 32 (a &&& b)
  rw [BitVec.ofNat_and]
theorem nI_orN (a b : Nat) : nI a ||| nI b = nI (a ||| b) := by
  apply Int32.toBitVec_inj.mp
  rw [Int32.toBitVec_or]
  show BitVec.ofNat 32 a ||| BitVec.ofNat 32 b = BitVec.ofNat 32 (a ||| b)
  rw [BitVec.ofNat_or]
theorem nI_eq0 {a : Nat} (ha : a < 2 ^ 31) : nI a = 0 ↔ a = 0 := nI_eq ha (by decide)
section NR
variable {p : Program} {l : Launch} {e : Env} {R : Room} {s : State} {m : MethodId} {args : Array Value} {below : List Frame} {meth : Method} {c : Code} {H : Heap} {locs : List Loc} {cells slots : Nat} {Q : State → Prop}
variable {cc : ByteArray} {pc : Nat} {ls : Array Slot} {rest : List Value}
theorem n_top {x y : Int32} (h : x = y) (k : W p l e R s m args below meth c H locs cells slots Q (F0 m pc ls (.int y :: rest))) : W p l e R s m args below meth c H locs cells slots Q (F0 m pc ls (.int x :: rest)) := by
  rw [h]
  exact k
theorem n_iadd (hexec : p.tables.exec = Jvm.exec) (hb : c.code = cc) {a b : Nat} (hdg : decode cc pc = .ok (.iadd, 1))
    (k : W p l e R s m args below meth c H locs cells slots Q (F0 m (pc + 1) ls (.int (nI (a + b)) :: rest))) : W p l e R s m args below meth c H locs cells slots Q (F0 m pc ls (.int (nI b) :: .int (nI a) :: rest)) :=
  lv_iadd hexec hb hdg (n_top (nI_add a b) k)
theorem n_isub (hexec : p.tables.exec = Jvm.exec) (hb : c.code = cc) {a b : Nat} (hdg : decode cc pc = .ok (.isub, 1)) (h : b ≤ a)
    (k : W p l e R s m args below meth c H locs cells slots Q (F0 m (pc + 1) ls (.int (nI (a - b)) :: rest))) : W p l e R s m args below meth c H locs cells slots Q (F0 m pc ls (.int (nI b) :: .int (nI a) :: rest)) :=
  lv_isub hexec hb hdg (n_top (pk_sub h) k)
theorem n_imul (hexec : p.tables.exec = Jvm.exec) (hb : c.code = cc) {a b : Nat} (hdg : decode cc pc = .ok (.imul, 1))
    (k : W p l e R s m args below meth c H locs cells slots Q (F0 m (pc + 1) ls (.int (nI (a * b)) :: rest))) : W p l e R s m args below meth c H locs cells slots Q (F0 m pc ls (.int (nI b) :: .int (nI a) :: rest)) :=
  lv_imul hexec hb hdg (n_top (pk_mul a b) k)
theorem n_idiv (hexec : p.tables.exec = Jvm.exec) (hb : c.code = cc) {a b : Nat} (hdg : decode cc pc = .ok (.idiv, 1)) (ha : a < 2 ^ 31) (h0 : 0 < b) (hb31 : b < 2 ^ 31)
    (k : W p l e R s m args below meth c H locs cells slots Q (F0 m (pc + 1) ls (.int (nI (a / b)) :: rest))) : W p l e R s m args below meth c H locs cells slots Q (F0 m pc ls (.int (nI b) :: .int (nI a) :: rest)) :=
  lv_idiv hexec hb hdg (nI_ne0 h0 hb31) (n_top (pk_div ha h0 hb31) k)
theorem n_irem (hexec : p.tables.exec = Jvm.exec) (hb : c.code = cc) {a b : Nat} (hdg : decode cc pc = .ok (.irem, 1)) (ha : a < 2 ^ 31) (h0 : 0 < b) (hb31 : b < 2 ^ 31)
    (k : W p l e R s m args below meth c H locs cells slots Q (F0 m (pc + 1) ls (.int (nI (a % b)) :: rest))) : W p l e R s m args below meth c H locs cells slots Q (F0 m pc ls (.int (nI b) :: .int (nI a) :: rest)) :=
  lv_irem hexec hb hdg (nI_ne0 h0 hb31) (n_top (pk_rem ha h0 hb31) k)
theorem n_iand (hexec : p.tables.exec = Jvm.exec) (hb : c.code = cc) {a b : Nat} (hdg : decode cc pc = .ok (.iand, 1))
    (k : W p l e R s m args below meth c H locs cells slots Q (F0 m (pc + 1) ls (.int (nI (a &&& b)) :: rest))) : W p l e R s m args below meth c H locs cells slots Q (F0 m pc ls (.int (nI b) :: .int (nI a) :: rest)) :=
  lv_iand hexec hb hdg (n_top (nI_andN a b) k)
theorem n_ior (hexec : p.tables.exec = Jvm.exec) (hb : c.code = cc) {a b : Nat} (hdg : decode cc pc = .ok (.ior, 1))
    (k : W p l e R s m args below meth c H locs cells slots Q (F0 m (pc + 1) ls (.int (nI (a ||| b)) :: rest))) : W p l e R s m args below meth c H locs cells slots Q (F0 m pc ls (.int (nI b) :: .int (nI a) :: rest)) :=
  lv_ior hexec hb hdg (n_top (nI_orN a b) k)
theorem n_ishl (hexec : p.tables.exec = Jvm.exec) (hb : c.code = cc) {a b : Nat} (hdg : decode cc pc = .ok (.ishl, 1)) (hs : b < 32) (h : a * 2 ^ b < 2 ^ 32)
    (k : W p l e R s m args below meth c H locs cells slots Q (F0 m (pc + 1) ls (.int (nI (a * 2 ^ b)) :: rest))) : W p l e R s m args below meth c H locs cells slots Q (F0 m pc ls (.int (nI b) :: .int (nI a) :: rest)) :=
  lv_ishl hexec hb hdg (n_top (pk_shlN (nI b &&& 31) b (nI_sh31 b hs) h) k)
theorem n_ishr (hexec : p.tables.exec = Jvm.exec) (hb : c.code = cc) {a b : Nat} (hdg : decode cc pc = .ok (.ishr, 1)) (hs : b < 32) (h : a < 2 ^ 31)
    (k : W p l e R s m args below meth c H locs cells slots Q (F0 m (pc + 1) ls (.int (nI (a / 2 ^ b)) :: rest))) : W p l e R s m args below meth c H locs cells slots Q (F0 m pc ls (.int (nI b) :: .int (nI a) :: rest)) :=
  lv_ishr hexec hb hdg (n_top (pk_shrN h (nI b &&& 31) b (nI_sh31 b hs)) k)
theorem n_iand1 (hexec : p.tables.exec = Jvm.exec) (hb : c.code = cc) {a : Nat} (hdg : decode cc pc = .ok (.iand, 1)) (ha : a < 2 ^ 32)
    (k : W p l e R s m args below meth c H locs cells slots Q (F0 m (pc + 1) ls (.int (nI (a % 2)) :: rest))) : W p l e R s m args below meth c H locs cells slots Q (F0 m pc ls (.int (nI 1) :: .int (nI a) :: rest)) :=
  lv_iand hexec hb hdg (n_top (pk_andN ha (m := nI 1) 1 (by decide)) k)
theorem n_iand3 (hexec : p.tables.exec = Jvm.exec) (hb : c.code = cc) {a : Nat} (hdg : decode cc pc = .ok (.iand, 1)) (ha : a < 2 ^ 32)
    (k : W p l e R s m args below meth c H locs cells slots Q (F0 m (pc + 1) ls (.int (nI (a % 4)) :: rest))) : W p l e R s m args below meth c H locs cells slots Q (F0 m pc ls (.int (nI 3) :: .int (nI a) :: rest)) :=
  lv_iand hexec hb hdg (n_top (pk_andN ha (m := nI 3) 2 (by decide)) k)
theorem n_iand7 (hexec : p.tables.exec = Jvm.exec) (hb : c.code = cc) {a : Nat} (hdg : decode cc pc = .ok (.iand, 1)) (ha : a < 2 ^ 32)
    (k : W p l e R s m args below meth c H locs cells slots Q (F0 m (pc + 1) ls (.int (nI (a % 8)) :: rest))) : W p l e R s m args below meth c H locs cells slots Q (F0 m pc ls (.int (nI 7) :: .int (nI a) :: rest)) :=
  lv_iand hexec hb hdg (n_top (pk_andN ha (m := nI 7) 3 (by decide)) k)
theorem n_icmp_eq (hexec : p.tables.exec = Jvm.exec) (hb : c.code = cc) {a b : Nat} {off : Int} {tgt : Nat} (hdg : decode cc pc = .ok (.if_icmp .eq off, 3)) (ht : (pc : Int) + off = (tgt : Int)) (ha : a < 2 ^ 31) (hb31 : b < 2 ^ 31)
    (kt : a = b → W p l e R s m args below meth c H locs cells slots Q (F0 m tgt ls rest)) (kf : ¬ (a = b) → W p l e R s m args below meth c H locs cells slots Q (F0 m (pc + 3) ls rest)) : W p l e R s m args below meth c H locs cells slots Q (F0 m pc ls (.int (nI b) :: .int (nI a) :: rest)) :=
  lv_icmp_eq hexec hb hdg ht (fun q => kt ((nI_eq ha hb31).mp q)) (fun q => kf (fun z => q ((nI_eq ha hb31).mpr z)))
theorem n_icmp_ne (hexec : p.tables.exec = Jvm.exec) (hb : c.code = cc) {a b : Nat} {off : Int} {tgt : Nat} (hdg : decode cc pc = .ok (.if_icmp .ne off, 3)) (ht : (pc : Int) + off = (tgt : Int)) (ha : a < 2 ^ 31) (hb31 : b < 2 ^ 31)
    (kt : ¬ a = b → W p l e R s m args below meth c H locs cells slots Q (F0 m tgt ls rest)) (kf : a = b → W p l e R s m args below meth c H locs cells slots Q (F0 m (pc + 3) ls rest)) : W p l e R s m args below meth c H locs cells slots Q (F0 m pc ls (.int (nI b) :: .int (nI a) :: rest)) :=
  lv_icmp_ne hexec hb hdg ht (fun q => kt (fun z => q ((nI_eq ha hb31).mpr z))) (fun q => kf ((nI_eq ha hb31).mp q))
theorem n_icmp_lt (hexec : p.tables.exec = Jvm.exec) (hb : c.code = cc) {a b : Nat} {off : Int} {tgt : Nat} (hdg : decode cc pc = .ok (.if_icmp .lt off, 3)) (ht : (pc : Int) + off = (tgt : Int)) (ha : a < 2 ^ 31) (hb31 : b < 2 ^ 31)
    (kt : a < b → W p l e R s m args below meth c H locs cells slots Q (F0 m tgt ls rest)) (kf : ¬ (a < b) → W p l e R s m args below meth c H locs cells slots Q (F0 m (pc + 3) ls rest)) : W p l e R s m args below meth c H locs cells slots Q (F0 m pc ls (.int (nI b) :: .int (nI a) :: rest)) :=
  lv_icmp_lt hexec hb hdg ht (fun q => kt ((nI_ltI ha hb31).mp q)) (fun q => kf (fun z => q ((nI_ltI ha hb31).mpr z)))
theorem n_icmp_ge (hexec : p.tables.exec = Jvm.exec) (hb : c.code = cc) {a b : Nat} {off : Int} {tgt : Nat} (hdg : decode cc pc = .ok (.if_icmp .ge off, 3)) (ht : (pc : Int) + off = (tgt : Int)) (ha : a < 2 ^ 31) (hb31 : b < 2 ^ 31)
    (kt : b ≤ a → W p l e R s m args below meth c H locs cells slots Q (F0 m tgt ls rest)) (kf : ¬ (b ≤ a) → W p l e R s m args below meth c H locs cells slots Q (F0 m (pc + 3) ls rest)) : W p l e R s m args below meth c H locs cells slots Q (F0 m pc ls (.int (nI b) :: .int (nI a) :: rest)) :=
  lv_icmp_ge hexec hb hdg ht (fun q => kt ((nI_leI hb31 ha).mp q)) (fun q => kf (fun z => q ((nI_leI hb31 ha).mpr z)))
theorem n_icmp_gt (hexec : p.tables.exec = Jvm.exec) (hb : c.code = cc) {a b : Nat} {off : Int} {tgt : Nat} (hdg : decode cc pc = .ok (.if_icmp .gt off, 3)) (ht : (pc : Int) + off = (tgt : Int)) (ha : a < 2 ^ 31) (hb31 : b < 2 ^ 31)
    (kt : b < a → W p l e R s m args below meth c H locs cells slots Q (F0 m tgt ls rest)) (kf : ¬ (b < a) → W p l e R s m args below meth c H locs cells slots Q (F0 m (pc + 3) ls rest)) : W p l e R s m args below meth c H locs cells slots Q (F0 m pc ls (.int (nI b) :: .int (nI a) :: rest)) :=
  lv_icmp_gt hexec hb hdg ht (fun q => kt ((nI_ltI hb31 ha).mp q)) (fun q => kf (fun z => q ((nI_ltI hb31 ha).mpr z)))
theorem n_icmp_le (hexec : p.tables.exec = Jvm.exec) (hb : c.code = cc) {a b : Nat} {off : Int} {tgt : Nat} (hdg : decode cc pc = .ok (.if_icmp .le off, 3)) (ht : (pc : Int) + off = (tgt : Int)) (ha : a < 2 ^ 31) (hb31 : b < 2 ^ 31)
    (kt : a ≤ b → W p l e R s m args below meth c H locs cells slots Q (F0 m tgt ls rest)) (kf : ¬ (a ≤ b) → W p l e R s m args below meth c H locs cells slots Q (F0 m (pc + 3) ls rest)) : W p l e R s m args below meth c H locs cells slots Q (F0 m pc ls (.int (nI b) :: .int (nI a) :: rest)) :=
  lv_icmp_le hexec hb hdg ht (fun q => kt ((nI_leI ha hb31).mp q)) (fun q => kf (fun z => q ((nI_leI ha hb31).mpr z)))
theorem n_if_eq (hexec : p.tables.exec = Jvm.exec) (hb : c.code = cc) {a : Nat} {off : Int} {tgt : Nat} (hdg : decode cc pc = .ok (.ifCond .eq off, 3)) (ht : (pc : Int) + off = (tgt : Int)) (ha : a < 2 ^ 31)
    (kt : a = 0 → W p l e R s m args below meth c H locs cells slots Q (F0 m tgt ls rest)) (kf : ¬ a = 0 → W p l e R s m args below meth c H locs cells slots Q (F0 m (pc + 3) ls rest)) : W p l e R s m args below meth c H locs cells slots Q (F0 m pc ls (.int (nI a) :: rest)) :=
  lv_if_eq hexec hb hdg ht (fun q => kt ((nI_eq0 ha).mp q)) (fun q => kf (fun z => q ((nI_eq0 ha).mpr z)))
theorem n_if_ne (hexec : p.tables.exec = Jvm.exec) (hb : c.code = cc) {a : Nat} {off : Int} {tgt : Nat} (hdg : decode cc pc = .ok (.ifCond .ne off, 3)) (ht : (pc : Int) + off = (tgt : Int)) (ha : a < 2 ^ 31)
    (kt : ¬ a = 0 → W p l e R s m args below meth c H locs cells slots Q (F0 m tgt ls rest)) (kf : a = 0 → W p l e R s m args below meth c H locs cells slots Q (F0 m (pc + 3) ls rest)) : W p l e R s m args below meth c H locs cells slots Q (F0 m pc ls (.int (nI a) :: rest)) :=
  lv_if_ne hexec hb hdg ht (fun q => kt (fun z => q ((nI_eq0 ha).mpr z))) (fun q => kf ((nI_eq0 ha).mp q))
/-- a jump whose outcome is known: a number that isn't negative -/
theorem n_if_lt (hexec : p.tables.exec = Jvm.exec) (hb : c.code = cc) {a : Nat} {off : Int} {tgt : Nat} (hdg : decode cc pc = .ok (.ifCond .lt off, 3)) (ht : (pc : Int) + off = (tgt : Int)) (ha : a < 2 ^ 31)
    (kf : W p l e R s m args below meth c H locs cells slots Q (F0 m (pc + 3) ls rest)) : W p l e R s m args below meth c H locs cells slots Q (F0 m pc ls (.int (nI a) :: rest)) :=
  lv_if_lt hexec hb hdg ht (fun q => absurd q (nI_pos ha)) (fun _ => kf)
theorem n_if_ge (hexec : p.tables.exec = Jvm.exec) (hb : c.code = cc) {a : Nat} {off : Int} {tgt : Nat} (hdg : decode cc pc = .ok (.ifCond .ge off, 3)) (ht : (pc : Int) + off = (tgt : Int)) (ha : a < 2 ^ 31)
    (kt : W p l e R s m args below meth c H locs cells slots Q (F0 m tgt ls rest)) : W p l e R s m args below meth c H locs cells slots Q (F0 m pc ls (.int (nI a) :: rest)) :=
  lv_if_ge hexec hb hdg ht (fun _ => kt) (fun q => absurd (nI_pos' ha) q)
theorem n_if_le (hexec : p.tables.exec = Jvm.exec) (hb : c.code = cc) {a : Nat} {off : Int} {tgt : Nat} (hdg : decode cc pc = .ok (.ifCond .le off, 3)) (ht : (pc : Int) + off = (tgt : Int)) (ha : a < 2 ^ 31)
    (kt : a = 0 → W p l e R s m args below meth c H locs cells slots Q (F0 m tgt ls rest)) (kf : ¬ a = 0 → W p l e R s m args below meth c H locs cells slots Q (F0 m (pc + 3) ls rest)) : W p l e R s m args below meth c H locs cells slots Q (F0 m pc ls (.int (nI a) :: rest)) :=
  lv_if_le hexec hb hdg ht (fun q => kt (Nat.le_zero.mp ((nI_leI ha (by decide)).mp q))) (fun q => kf (fun z => q (by rw [z]; exact Int32.le_refl _)))
theorem n_if_gt (hexec : p.tables.exec = Jvm.exec) (hb : c.code = cc) {a : Nat} {off : Int} {tgt : Nat} (hdg : decode cc pc = .ok (.ifCond .gt off, 3)) (ht : (pc : Int) + off = (tgt : Int)) (ha : a < 2 ^ 31)
    (kt : ¬ a = 0 → W p l e R s m args below meth c H locs cells slots Q (F0 m tgt ls rest)) (kf : a = 0 → W p l e R s m args below meth c H locs cells slots Q (F0 m (pc + 3) ls rest)) : W p l e R s m args below meth c H locs cells slots Q (F0 m pc ls (.int (nI a) :: rest)) :=
  lv_if_gt hexec hb hdg ht (fun q => kt (fun z => by rw [z] at q; exact absurd q (by decide))) (fun q => kf (Classical.byContradiction fun z => q ((nI_ltI (by decide) ha).mpr (Nat.pos_of_ne_zero z))))
end NR
abbrev UX : Type := (Nat → Nat) × (Nat → Nat) × (Nat → Nat) × (Nat → Nat) × (Nat → Int32) × (Nat → Nat) × (Nat → Nat) × (Nat → Nat) × Nat × Nat
abbrev wX (d : ClassId) (h : Nat) (a : Nat → Nat) (u : UX) : va_W := [(h, .inr (0, [.ref (a 0), .ref (a 1), .ref (a 2), .ref (a 3), .ref (a 4), .ref (a 5), .ref (a 6), .ref (a 7), .int (nI u.2.2.2.2.2.2.2.2.1), .int (nI u.2.2.2.2.2.2.2.2.2)])), (a 0, .inl (d, 2, .inl (fun j => nI (u.1 j)))), (a 1, .inl (d, 24, .inl (fun j => nI (u.2.1 j)))), (a 2, .inl (d, 24, .inl (fun j => nI (u.2.2.1 j)))), (a 3, .inl (d, 144, .inl (fun j => nI (u.2.2.2.1 j)))), (a 4, .inl (d, 12, .inl (u.2.2.2.2.1))), (a 5, .inl (d, 12, .inl (fun j => nI (u.2.2.2.2.2.1 j)))), (a 6, .inl (d, 64, .inl (fun j => nI (u.2.2.2.2.2.2.1 j)))), (a 7, .inl (d, 64, .inl (fun j => nI (u.2.2.2.2.2.2.2.1 j))))]
def HX (G : va_G) (d : ClassId) (h : Nat) (a : Nat → Nat) (A : Nat → Prop) (s : State) (u : UX) (H : Heap) (locs : List Loc) : Prop := va_K G vwCl [(d, .int)] s ∧ va_P G vwCl (wX d h a u) H ∧ va_D A (wX d h a u) ∧ va_S A s.heap H locs
def PX (G : va_G) (d : ClassId) (h : Nat) (a : Nat → Nat) (u : UX) (sz0 : Nat) (U : State) : Prop := U.heap.size = sz0 ∧ va_P G vwCl (wX d h a u) U.heap ∧ va_K G vwCl [(d, .int)] U ∧ va_D (fun _ => True) (wX d h a u)
def BX (G : va_G) (d : ClassId) (h : Nat) (a : Nat → Nat) (A : Nat → Prop) (u : UX) (t : State) : Prop := va_P G vwCl (wX d h a u) t.heap ∧ va_K G vwCl [(d, .int)] t ∧ va_D A (wX d h a u)
/-- the contract of a method of this class that answers an int (or a boolean) -/
def MetX (l : Launch) (y : MethodName) (cc : ByteArray) (nL : Nat) (ret : Option FieldType) (rm : Room) (As : List Value) (u : UX) (post : Int32 → UX → Prop) : Prop := ∀ (G : va_G) (d : ClassId) (h : Nat) (a : Nat → Nat) (sz0 : Nat), Met l y (ws_ y cc nL ret) rm (va_Pc (.ref h :: As) (PX G d h a u sz0)) (va_Qi post (BX G d h a (va_A (wX d h a u) sz0)) (va_A (wX d h a u) sz0)) 0 0 (va_A (wX d h a u) sz0)
def MetXv (l : Launch) (y : MethodName) (cc : ByteArray) (nL : Nat) (rm : Room) (As : List Value) (u : UX) (post : UX → Prop) : Prop := ∀ (G : va_G) (d : ClassId) (h : Nat) (a : Nat → Nat) (sz0 : Nat), Met l y (ws_ y cc nL none) rm (va_Pc (.ref h :: As) (PX G d h a u sz0)) (va_Qv post (BX G d h a (va_A (wX d h a u) sz0)) (va_A (wX d h a u) sz0)) 0 0 (va_A (wX d h a u) sz0)
section SX
variable {p : Program} {l : Launch} {e : Env} {R : Room} {s : State} {m : MethodId} {args : Array Value} {below : List Frame} {meth : Method} {c : Code} {H : Heap} {locs : List Loc} {cells slots : Nat} {Q : State → Prop}
variable {cc : ByteArray} {pc nL : Nat} {ls : Array Slot} {rest : List Value} {G : va_G} {d : ClassId} {h : Nat} {a : Nat → Nat} {A : Nat → Prop}
variable {sz : Nat → Nat} {nx : Nat → Nat} {an : Nat → Nat} {ap : Nat → Nat} {cn : Nat → Int32} {ld : Nat → Nat} {qu : Nat → Nat} {wo : Nat → Nat} {co : Nat} {cu : Nat}
theorem xg0 (S : CallFix p m c cc nL s args lw_all RX0) (X : HX G d h a A s (sz, nx, an, ap, cn, ld, qu, wo, co, cu) H locs) (hdg : decode cc pc = .ok (.getfield 7, 3)) (kk : W p l e R s m args below meth c H locs cells slots Q (F0 m (pc + 3) ls (.ref (a 0) :: rest))) : W p l e R s m args below meth c H locs cells slots Q (F0 m pc ls (.ref h :: rest)) :=
  va_get (D := G) (ci := 0) (C := RX0) (T := TX0) (N := 10) S.1 S.2.1 S.2.2.2.2 in_X0 S.2.2.2.1 X.1 X.2.1 0 rfl rfl 0 (by decide) (S.2.2.2.2 _ q28) (fun _ h9 => h9) rfl hdg kk
theorem xg1 (S : CallFix p m c cc nL s args lw_all RX0) (X : HX G d h a A s (sz, nx, an, ap, cn, ld, qu, wo, co, cu) H locs) (hdg : decode cc pc = .ok (.getfield 13, 3)) (kk : W p l e R s m args below meth c H locs cells slots Q (F0 m (pc + 3) ls (.ref (a 1) :: rest))) : W p l e R s m args below meth c H locs cells slots Q (F0 m pc ls (.ref h :: rest)) :=
  va_get (D := G) (ci := 0) (C := RX0) (T := TX0) (N := 10) S.1 S.2.1 S.2.2.2.2 in_X0 S.2.2.2.1 X.1 X.2.1 0 rfl rfl 1 (by decide) (S.2.2.2.2 _ q29) (fun _ h9 => h9) rfl hdg kk
theorem xg2 (S : CallFix p m c cc nL s args lw_all RX0) (X : HX G d h a A s (sz, nx, an, ap, cn, ld, qu, wo, co, cu) H locs) (hdg : decode cc pc = .ok (.getfield 16, 3)) (kk : W p l e R s m args below meth c H locs cells slots Q (F0 m (pc + 3) ls (.ref (a 2) :: rest))) : W p l e R s m args below meth c H locs cells slots Q (F0 m pc ls (.ref h :: rest)) :=
  va_get (D := G) (ci := 0) (C := RX0) (T := TX0) (N := 10) S.1 S.2.1 S.2.2.2.2 in_X0 S.2.2.2.1 X.1 X.2.1 0 rfl rfl 2 (by decide) (S.2.2.2.2 _ q30) (fun _ h9 => h9) rfl hdg kk
theorem xg3 (S : CallFix p m c cc nL s args lw_all RX0) (X : HX G d h a A s (sz, nx, an, ap, cn, ld, qu, wo, co, cu) H locs) (hdg : decode cc pc = .ok (.getfield 19, 3)) (kk : W p l e R s m args below meth c H locs cells slots Q (F0 m (pc + 3) ls (.ref (a 3) :: rest))) : W p l e R s m args below meth c H locs cells slots Q (F0 m pc ls (.ref h :: rest)) :=
  va_get (D := G) (ci := 0) (C := RX0) (T := TX0) (N := 10) S.1 S.2.1 S.2.2.2.2 in_X0 S.2.2.2.1 X.1 X.2.1 0 rfl rfl 3 (by decide) (S.2.2.2.2 _ q31) (fun _ h9 => h9) rfl hdg kk
theorem xg4 (S : CallFix p m c cc nL s args lw_all RX0) (X : HX G d h a A s (sz, nx, an, ap, cn, ld, qu, wo, co, cu) H locs) (hdg : decode cc pc = .ok (.getfield 22, 3)) (kk : W p l e R s m args below meth c H locs cells slots Q (F0 m (pc + 3) ls (.ref (a 4) :: rest))) : W p l e R s m args below meth c H locs cells slots Q (F0 m pc ls (.ref h :: rest)) :=
  va_get (D := G) (ci := 0) (C := RX0) (T := TX0) (N := 10) S.1 S.2.1 S.2.2.2.2 in_X0 S.2.2.2.1 X.1 X.2.1 0 rfl rfl 4 (by decide) (S.2.2.2.2 _ q32) (fun _ h9 => h9) rfl hdg kk
theorem xg5 (S : CallFix p m c cc nL s args lw_all RX0) (X : HX G d h a A s (sz, nx, an, ap, cn, ld, qu, wo, co, cu) H locs) (hdg : decode cc pc = .ok (.getfield 25, 3)) (kk : W p l e R s m args below meth c H locs cells slots Q (F0 m (pc + 3) ls (.ref (a 5) :: rest))) : W p l e R s m args below meth c H locs cells slots Q (F0 m pc ls (.ref h :: rest)) :=
  va_get (D := G) (ci := 0) (C := RX0) (T := TX0) (N := 10) S.1 S.2.1 S.2.2.2.2 in_X0 S.2.2.2.1 X.1 X.2.1 0 rfl rfl 5 (by decide) (S.2.2.2.2 _ q33) (fun _ h9 => h9) rfl hdg kk
theorem xg6 (S : CallFix p m c cc nL s args lw_all RX0) (X : HX G d h a A s (sz, nx, an, ap, cn, ld, qu, wo, co, cu) H locs) (hdg : decode cc pc = .ok (.getfield 28, 3)) (kk : W p l e R s m args below meth c H locs cells slots Q (F0 m (pc + 3) ls (.ref (a 6) :: rest))) : W p l e R s m args below meth c H locs cells slots Q (F0 m pc ls (.ref h :: rest)) :=
  va_get (D := G) (ci := 0) (C := RX0) (T := TX0) (N := 10) S.1 S.2.1 S.2.2.2.2 in_X0 S.2.2.2.1 X.1 X.2.1 0 rfl rfl 6 (by decide) (S.2.2.2.2 _ q34) (fun _ h9 => h9) rfl hdg kk
theorem xg7 (S : CallFix p m c cc nL s args lw_all RX0) (X : HX G d h a A s (sz, nx, an, ap, cn, ld, qu, wo, co, cu) H locs) (hdg : decode cc pc = .ok (.getfield 31, 3)) (kk : W p l e R s m args below meth c H locs cells slots Q (F0 m (pc + 3) ls (.ref (a 7) :: rest))) : W p l e R s m args below meth c H locs cells slots Q (F0 m pc ls (.ref h :: rest)) :=
  va_get (D := G) (ci := 0) (C := RX0) (T := TX0) (N := 10) S.1 S.2.1 S.2.2.2.2 in_X0 S.2.2.2.1 X.1 X.2.1 0 rfl rfl 7 (by decide) (S.2.2.2.2 _ q35) (fun _ h9 => h9) rfl hdg kk
theorem xg8 (S : CallFix p m c cc nL s args lw_all RX0) (X : HX G d h a A s (sz, nx, an, ap, cn, ld, qu, wo, co, cu) H locs) (hdg : decode cc pc = .ok (.getfield 63, 3)) (kk : W p l e R s m args below meth c H locs cells slots Q (F0 m (pc + 3) ls (.int (nI co) :: rest))) : W p l e R s m args below meth c H locs cells slots Q (F0 m pc ls (.ref h :: rest)) :=
  va_get (D := G) (ci := 0) (C := RX0) (T := TX0) (N := 10) S.1 S.2.1 S.2.2.2.2 in_X0 S.2.2.2.1 X.1 X.2.1 0 rfl rfl 8 (by decide) (S.2.2.2.2 _ q36) (fun _ h9 => h9) rfl hdg kk
theorem xg9 (S : CallFix p m c cc nL s args lw_all RX0) (X : HX G d h a A s (sz, nx, an, ap, cn, ld, qu, wo, co, cu) H locs) (hdg : decode cc pc = .ok (.getfield 38, 3)) (kk : W p l e R s m args below meth c H locs cells slots Q (F0 m (pc + 3) ls (.int (nI cu) :: rest))) : W p l e R s m args below meth c H locs cells slots Q (F0 m pc ls (.ref h :: rest)) :=
  va_get (D := G) (ci := 0) (C := RX0) (T := TX0) (N := 10) S.1 S.2.1 S.2.2.2.2 in_X0 S.2.2.2.1 X.1 X.2.1 0 rfl rfl 9 (by decide) (S.2.2.2.2 _ q37) (fun _ h9 => h9) rfl hdg kk
theorem xl0 (S : CallFix p m c cc nL s args lw_all RX0) (X : HX G d h a A s (sz, nx, an, ap, cn, ld, qu, wo, co, cu) H locs) {i : Nat} (hdg : decode cc pc = .ok (.iaload, 1)) (hi : i < 2) (kk : W p l e R s m args below meth c H locs cells slots Q (F0 m (pc + 1) ls (.int (nI (sz i)) :: rest))) : W p l e R s m args below meth c H locs cells slots Q (F0 m pc ls (.int (nI i) :: .ref (a 0) :: rest)) :=
  va_iald S.1 S.2.1 X.1 X.2.1 1 0 rfl rfl (vp_in_nI hi (by decide)) hdg (n_top (by rw [nI_clamp (Nat.lt_trans hi (by decide))]) kk)
theorem xs0 (S : CallFix p m c cc nL s args lw_all RX0) (X : HX G d h a A s (sz, nx, an, ap, cn, ld, qu, wo, co, cu) H locs) {i : Nat} {v : Nat} (hdg : decode cc pc = .ok (.iastore, 1)) (hi : i < 2) (kk : ∀ (H1 : Heap) (locs1 : List Loc), HX G d h a A s (updN sz i v, nx, an, ap, cn, ld, qu, wo, co, cu) H1 locs1 → W p l e R s m args below meth c H1 locs1 cells slots Q (F0 m (pc + 1) ls rest)) : W p l e R s m args below meth c H locs cells slots Q (F0 m pc ls (.int (nI v) :: .int (nI i) :: .ref (a 0) :: rest)) := by
  refine va_iast S.1 S.2.1 X.1 X.2.1 X.2.2.1 X.2.2.2 1 0 rfl rfl (vp_in_nI hi (by decide)) hdg (fun H1 locs1 hP hD hS => kk H1 locs1 ⟨X.1, ?_, ?_, hS⟩)
  · rw [nI_clamp (Nat.lt_trans hi (by decide)), updN_nI] at hP
    exact hP
  · rw [nI_clamp (Nat.lt_trans hi (by decide)), updN_nI] at hD
    exact hD
theorem xl1 (S : CallFix p m c cc nL s args lw_all RX0) (X : HX G d h a A s (sz, nx, an, ap, cn, ld, qu, wo, co, cu) H locs) {i : Nat} (hdg : decode cc pc = .ok (.iaload, 1)) (hi : i < 24) (kk : W p l e R s m args below meth c H locs cells slots Q (F0 m (pc + 1) ls (.int (nI (nx i)) :: rest))) : W p l e R s m args below meth c H locs cells slots Q (F0 m pc ls (.int (nI i) :: .ref (a 1) :: rest)) :=
  va_iald S.1 S.2.1 X.1 X.2.1 2 0 rfl rfl (vp_in_nI hi (by decide)) hdg (n_top (by rw [nI_clamp (Nat.lt_trans hi (by decide))]) kk)
theorem xs1 (S : CallFix p m c cc nL s args lw_all RX0) (X : HX G d h a A s (sz, nx, an, ap, cn, ld, qu, wo, co, cu) H locs) {i : Nat} {v : Nat} (hdg : decode cc pc = .ok (.iastore, 1)) (hi : i < 24) (kk : ∀ (H1 : Heap) (locs1 : List Loc), HX G d h a A s (sz, updN nx i v, an, ap, cn, ld, qu, wo, co, cu) H1 locs1 → W p l e R s m args below meth c H1 locs1 cells slots Q (F0 m (pc + 1) ls rest)) : W p l e R s m args below meth c H locs cells slots Q (F0 m pc ls (.int (nI v) :: .int (nI i) :: .ref (a 1) :: rest)) := by
  refine va_iast S.1 S.2.1 X.1 X.2.1 X.2.2.1 X.2.2.2 2 0 rfl rfl (vp_in_nI hi (by decide)) hdg (fun H1 locs1 hP hD hS => kk H1 locs1 ⟨X.1, ?_, ?_, hS⟩)
  · rw [nI_clamp (Nat.lt_trans hi (by decide)), updN_nI] at hP
    exact hP
  · rw [nI_clamp (Nat.lt_trans hi (by decide)), updN_nI] at hD
    exact hD
theorem xl2 (S : CallFix p m c cc nL s args lw_all RX0) (X : HX G d h a A s (sz, nx, an, ap, cn, ld, qu, wo, co, cu) H locs) {i : Nat} (hdg : decode cc pc = .ok (.iaload, 1)) (hi : i < 24) (kk : W p l e R s m args below meth c H locs cells slots Q (F0 m (pc + 1) ls (.int (nI (an i)) :: rest))) : W p l e R s m args below meth c H locs cells slots Q (F0 m pc ls (.int (nI i) :: .ref (a 2) :: rest)) :=
  va_iald S.1 S.2.1 X.1 X.2.1 3 0 rfl rfl (vp_in_nI hi (by decide)) hdg (n_top (by rw [nI_clamp (Nat.lt_trans hi (by decide))]) kk)
theorem xs2 (S : CallFix p m c cc nL s args lw_all RX0) (X : HX G d h a A s (sz, nx, an, ap, cn, ld, qu, wo, co, cu) H locs) {i : Nat} {v : Nat} (hdg : decode cc pc = .ok (.iastore, 1)) (hi : i < 24) (kk : ∀ (H1 : Heap) (locs1 : List Loc), HX G d h a A s (sz, nx, updN an i v, ap, cn, ld, qu, wo, co, cu) H1 locs1 → W p l e R s m args below meth c H1 locs1 cells slots Q (F0 m (pc + 1) ls rest)) : W p l e R s m args below meth c H locs cells slots Q (F0 m pc ls (.int (nI v) :: .int (nI i) :: .ref (a 2) :: rest)) := by
  refine va_iast S.1 S.2.1 X.1 X.2.1 X.2.2.1 X.2.2.2 3 0 rfl rfl (vp_in_nI hi (by decide)) hdg (fun H1 locs1 hP hD hS => kk H1 locs1 ⟨X.1, ?_, ?_, hS⟩)
  · rw [nI_clamp (Nat.lt_trans hi (by decide)), updN_nI] at hP
    exact hP
  · rw [nI_clamp (Nat.lt_trans hi (by decide)), updN_nI] at hD
    exact hD
theorem xl3 (S : CallFix p m c cc nL s args lw_all RX0) (X : HX G d h a A s (sz, nx, an, ap, cn, ld, qu, wo, co, cu) H locs) {i : Nat} (hdg : decode cc pc = .ok (.iaload, 1)) (hi : i < 144) (kk : W p l e R s m args below meth c H locs cells slots Q (F0 m (pc + 1) ls (.int (nI (ap i)) :: rest))) : W p l e R s m args below meth c H locs cells slots Q (F0 m pc ls (.int (nI i) :: .ref (a 3) :: rest)) :=
  va_iald S.1 S.2.1 X.1 X.2.1 4 0 rfl rfl (vp_in_nI hi (by decide)) hdg (n_top (by rw [nI_clamp (Nat.lt_trans hi (by decide))]) kk)
theorem xs3 (S : CallFix p m c cc nL s args lw_all RX0) (X : HX G d h a A s (sz, nx, an, ap, cn, ld, qu, wo, co, cu) H locs) {i : Nat} {v : Nat} (hdg : decode cc pc = .ok (.iastore, 1)) (hi : i < 144) (kk : ∀ (H1 : Heap) (locs1 : List Loc), HX G d h a A s (sz, nx, an, updN ap i v, cn, ld, qu, wo, co, cu) H1 locs1 → W p l e R s m args below meth c H1 locs1 cells slots Q (F0 m (pc + 1) ls rest)) : W p l e R s m args below meth c H locs cells slots Q (F0 m pc ls (.int (nI v) :: .int (nI i) :: .ref (a 3) :: rest)) := by
  refine va_iast S.1 S.2.1 X.1 X.2.1 X.2.2.1 X.2.2.2 4 0 rfl rfl (vp_in_nI hi (by decide)) hdg (fun H1 locs1 hP hD hS => kk H1 locs1 ⟨X.1, ?_, ?_, hS⟩)
  · rw [nI_clamp (Nat.lt_trans hi (by decide)), updN_nI] at hP
    exact hP
  · rw [nI_clamp (Nat.lt_trans hi (by decide)), updN_nI] at hD
    exact hD
theorem xl4 (S : CallFix p m c cc nL s args lw_all RX0) (X : HX G d h a A s (sz, nx, an, ap, cn, ld, qu, wo, co, cu) H locs) {i : Nat} (hdg : decode cc pc = .ok (.iaload, 1)) (hi : i < 12) (kk : W p l e R s m args below meth c H locs cells slots Q (F0 m (pc + 1) ls (.int (cn i) :: rest))) : W p l e R s m args below meth c H locs cells slots Q (F0 m pc ls (.int (nI i) :: .ref (a 4) :: rest)) :=
  va_iald S.1 S.2.1 X.1 X.2.1 5 0 rfl rfl (vp_in_nI hi (by decide)) hdg (n_top (by rw [nI_clamp (Nat.lt_trans hi (by decide))]) kk)
theorem xs4 (S : CallFix p m c cc nL s args lw_all RX0) (X : HX G d h a A s (sz, nx, an, ap, cn, ld, qu, wo, co, cu) H locs) {i : Nat} {v : Int32} (hdg : decode cc pc = .ok (.iastore, 1)) (hi : i < 12) (kk : ∀ (H1 : Heap) (locs1 : List Loc), HX G d h a A s (sz, nx, an, ap, upd cn i v, ld, qu, wo, co, cu) H1 locs1 → W p l e R s m args below meth c H1 locs1 cells slots Q (F0 m (pc + 1) ls rest)) : W p l e R s m args below meth c H locs cells slots Q (F0 m pc ls (.int (v) :: .int (nI i) :: .ref (a 4) :: rest)) := by
  refine va_iast S.1 S.2.1 X.1 X.2.1 X.2.2.1 X.2.2.2 5 0 rfl rfl (vp_in_nI hi (by decide)) hdg (fun H1 locs1 hP hD hS => kk H1 locs1 ⟨X.1, ?_, ?_, hS⟩)
  · rw [nI_clamp (Nat.lt_trans hi (by decide))] at hP
    exact hP
  · rw [nI_clamp (Nat.lt_trans hi (by decide))] at hD
    exact hD
theorem xl5 (S : CallFix p m c cc nL s args lw_all RX0) (X : HX G d h a A s (sz, nx, an, ap, cn, ld, qu, wo, co, cu) H locs) {i : Nat} (hdg : decode cc pc = .ok (.iaload, 1)) (hi : i < 12) (kk : W p l e R s m args below meth c H locs cells slots Q (F0 m (pc + 1) ls (.int (nI (ld i)) :: rest))) : W p l e R s m args below meth c H locs cells slots Q (F0 m pc ls (.int (nI i) :: .ref (a 5) :: rest)) :=
  va_iald S.1 S.2.1 X.1 X.2.1 6 0 rfl rfl (vp_in_nI hi (by decide)) hdg (n_top (by rw [nI_clamp (Nat.lt_trans hi (by decide))]) kk)
theorem xs5 (S : CallFix p m c cc nL s args lw_all RX0) (X : HX G d h a A s (sz, nx, an, ap, cn, ld, qu, wo, co, cu) H locs) {i : Nat} {v : Nat} (hdg : decode cc pc = .ok (.iastore, 1)) (hi : i < 12) (kk : ∀ (H1 : Heap) (locs1 : List Loc), HX G d h a A s (sz, nx, an, ap, cn, updN ld i v, qu, wo, co, cu) H1 locs1 → W p l e R s m args below meth c H1 locs1 cells slots Q (F0 m (pc + 1) ls rest)) : W p l e R s m args below meth c H locs cells slots Q (F0 m pc ls (.int (nI v) :: .int (nI i) :: .ref (a 5) :: rest)) := by
  refine va_iast S.1 S.2.1 X.1 X.2.1 X.2.2.1 X.2.2.2 6 0 rfl rfl (vp_in_nI hi (by decide)) hdg (fun H1 locs1 hP hD hS => kk H1 locs1 ⟨X.1, ?_, ?_, hS⟩)
  · rw [nI_clamp (Nat.lt_trans hi (by decide)), updN_nI] at hP
    exact hP
  · rw [nI_clamp (Nat.lt_trans hi (by decide)), updN_nI] at hD
    exact hD
theorem xl6 (S : CallFix p m c cc nL s args lw_all RX0) (X : HX G d h a A s (sz, nx, an, ap, cn, ld, qu, wo, co, cu) H locs) {i : Nat} (hdg : decode cc pc = .ok (.iaload, 1)) (hi : i < 64) (kk : W p l e R s m args below meth c H locs cells slots Q (F0 m (pc + 1) ls (.int (nI (qu i)) :: rest))) : W p l e R s m args below meth c H locs cells slots Q (F0 m pc ls (.int (nI i) :: .ref (a 6) :: rest)) :=
  va_iald S.1 S.2.1 X.1 X.2.1 7 0 rfl rfl (vp_in_nI hi (by decide)) hdg (n_top (by rw [nI_clamp (Nat.lt_trans hi (by decide))]) kk)
theorem xs6 (S : CallFix p m c cc nL s args lw_all RX0) (X : HX G d h a A s (sz, nx, an, ap, cn, ld, qu, wo, co, cu) H locs) {i : Nat} {v : Nat} (hdg : decode cc pc = .ok (.iastore, 1)) (hi : i < 64) (kk : ∀ (H1 : Heap) (locs1 : List Loc), HX G d h a A s (sz, nx, an, ap, cn, ld, updN qu i v, wo, co, cu) H1 locs1 → W p l e R s m args below meth c H1 locs1 cells slots Q (F0 m (pc + 1) ls rest)) : W p l e R s m args below meth c H locs cells slots Q (F0 m pc ls (.int (nI v) :: .int (nI i) :: .ref (a 6) :: rest)) := by
  refine va_iast S.1 S.2.1 X.1 X.2.1 X.2.2.1 X.2.2.2 7 0 rfl rfl (vp_in_nI hi (by decide)) hdg (fun H1 locs1 hP hD hS => kk H1 locs1 ⟨X.1, ?_, ?_, hS⟩)
  · rw [nI_clamp (Nat.lt_trans hi (by decide)), updN_nI] at hP
    exact hP
  · rw [nI_clamp (Nat.lt_trans hi (by decide)), updN_nI] at hD
    exact hD
theorem xl7 (S : CallFix p m c cc nL s args lw_all RX0) (X : HX G d h a A s (sz, nx, an, ap, cn, ld, qu, wo, co, cu) H locs) {i : Nat} (hdg : decode cc pc = .ok (.iaload, 1)) (hi : i < 64) (kk : W p l e R s m args below meth c H locs cells slots Q (F0 m (pc + 1) ls (.int (nI (wo i)) :: rest))) : W p l e R s m args below meth c H locs cells slots Q (F0 m pc ls (.int (nI i) :: .ref (a 7) :: rest)) :=
  va_iald S.1 S.2.1 X.1 X.2.1 8 0 rfl rfl (vp_in_nI hi (by decide)) hdg (n_top (by rw [nI_clamp (Nat.lt_trans hi (by decide))]) kk)
theorem xs7 (S : CallFix p m c cc nL s args lw_all RX0) (X : HX G d h a A s (sz, nx, an, ap, cn, ld, qu, wo, co, cu) H locs) {i : Nat} {v : Nat} (hdg : decode cc pc = .ok (.iastore, 1)) (hi : i < 64) (kk : ∀ (H1 : Heap) (locs1 : List Loc), HX G d h a A s (sz, nx, an, ap, cn, ld, qu, updN wo i v, co, cu) H1 locs1 → W p l e R s m args below meth c H1 locs1 cells slots Q (F0 m (pc + 1) ls rest)) : W p l e R s m args below meth c H locs cells slots Q (F0 m pc ls (.int (nI v) :: .int (nI i) :: .ref (a 7) :: rest)) := by
  refine va_iast S.1 S.2.1 X.1 X.2.1 X.2.2.1 X.2.2.2 8 0 rfl rfl (vp_in_nI hi (by decide)) hdg (fun H1 locs1 hP hD hS => kk H1 locs1 ⟨X.1, ?_, ?_, hS⟩)
  · rw [nI_clamp (Nat.lt_trans hi (by decide)), updN_nI] at hP
    exact hP
  · rw [nI_clamp (Nat.lt_trans hi (by decide)), updN_nI] at hD
    exact hD
theorem xp8 (S : CallFix p m c cc nL s args lw_all RX0) (X : HX G d h a A s (sz, nx, an, ap, cn, ld, qu, wo, co, cu) H locs) {v : Nat} (hdg : decode cc pc = .ok (.putfield 63, 3)) (kk : ∀ (H1 : Heap) (locs1 : List Loc), HX G d h a A s (sz, nx, an, ap, cn, ld, qu, wo, v, cu) H1 locs1 → W p l e R s m args below meth c H1 locs1 cells slots Q (F0 m (pc + 3) ls rest)) : W p l e R s m args below meth c H locs cells slots Q (F0 m pc ls (.int (nI v) :: .ref h :: rest)) :=
  va_put (D := G) (ci := 0) (v := .int (nI v)) (ty := .int) (C := RX0) (T := TX0) (N := 10) S.1 S.2.1 S.2.2.2.2 in_X0 tyX0 tyX0_ok nmX0 S.2.2.2.1 X.1 X.2.1 X.2.2.1 X.2.2.2 0 rfl rfl 8 (by decide) (S.2.2.2.2 _ q36) (fun _ h9 => h9) rfl (by decide +kernel) rfl rfl (Nat.le_of_ble_eq_true rfl) hdg (fun H1 locs1 hP hD hS => kk H1 locs1 ⟨X.1, hP, hD, hS⟩)
theorem xp9_0 (S : CallFix p m c cc nL s args lw_all RX0) (X : HX G d h a A s (sz, nx, an, ap, cn, ld, qu, wo, co, cu) H locs) (hdg : decode cc pc = .ok (.putfield 38, 3)) (kk : ∀ (H1 : Heap) (locs1 : List Loc), HX G d h a A s (sz, nx, an, ap, cn, ld, qu, wo, co, 0) H1 locs1 → W p l e R s m args below meth c H1 locs1 cells slots Q (F0 m (pc + 3) ls rest)) : W p l e R s m args below meth c H locs cells slots Q (F0 m pc ls (.int (nI 0) :: .ref h :: rest)) :=
  va_put (D := G) (ci := 0) (v := .int (nI 0)) (ty := .boolean) (C := RX0) (T := TX0) (N := 10) S.1 S.2.1 S.2.2.2.2 in_X0 tyX0 tyX0_ok nmX0 S.2.2.2.1 X.1 X.2.1 X.2.2.1 X.2.2.2 0 rfl rfl 9 (by decide) (S.2.2.2.2 _ q37) (fun _ h9 => h9) rfl (by decide +kernel) (by decide +kernel) (by decide +kernel) (Nat.le_of_ble_eq_true rfl) hdg (fun H1 locs1 hP hD hS => kk H1 locs1 ⟨X.1, hP, hD, hS⟩)
theorem xp9_1 (S : CallFix p m c cc nL s args lw_all RX0) (X : HX G d h a A s (sz, nx, an, ap, cn, ld, qu, wo, co, cu) H locs) (hdg : decode cc pc = .ok (.putfield 38, 3)) (kk : ∀ (H1 : Heap) (locs1 : List Loc), HX G d h a A s (sz, nx, an, ap, cn, ld, qu, wo, co, 1) H1 locs1 → W p l e R s m args below meth c H1 locs1 cells slots Q (F0 m (pc + 3) ls rest)) : W p l e R s m args below meth c H locs cells slots Q (F0 m pc ls (.int (nI 1) :: .ref h :: rest)) :=
  va_put (D := G) (ci := 0) (v := .int (nI 1)) (ty := .boolean) (C := RX0) (T := TX0) (N := 10) S.1 S.2.1 S.2.2.2.2 in_X0 tyX0 tyX0_ok nmX0 S.2.2.2.1 X.1 X.2.1 X.2.2.1 X.2.2.2 0 rfl rfl 9 (by decide) (S.2.2.2.2 _ q37) (fun _ h9 => h9) rfl (by decide +kernel) (by decide +kernel) (by decide +kernel) (Nat.le_of_ble_eq_true rfl) hdg (fun H1 locs1 hP hD hS => kk H1 locs1 ⟨X.1, hP, hD, hS⟩)
end SX
set_option maxHeartbeats 4000000 in
theorem entXi {l : Launch} {y : MethodName} {cc : ByteArray} {nL : Nat} {rm : Room} {As : List Value} {u : UX} {post : Int32 → UX → Prop} (hcls : y.cls = RX0) (hy : plainName y.cls = true) (hrc : rm.cells = 0) (hrs : rm.slots = 0) (hn : ∀ h : Nat, (lg_sl (.ref h :: As)).length ≤ nL)
    (body : ∀ (G : va_G) (d : ClassId) (h : Nat) (a : Nat → Nat) (A : Nat → Prop) (p : Program) (e : Env) (s : State) (m : MethodId) (below : List Frame) (meth : Method) (c : Code) (args : Array Value) (Q : State → Prop), CallFix p m c cc nL s args lw_all RX0 → (∀ q : Nat, s.heap.size ≤ q → A q) → HX G d h a A s u s.heap [] → (∀ (pc : Nat) (ls : Array Slot) (H : Heap) (locs : List Loc) (r : Int32) (u1 : UX), decode cc pc = .ok (.ireturn, 1) → post r u1 → HX G d h a A s u1 H locs → W p l e rm s m args below meth c H locs 0 0 Q (F0 m pc ls [.int r])) → ∀ (ls : Array Slot), lv_has ls nL (lv_args 0 (.ref h :: As)) → W p l e rm s m args below meth c s.heap [] 0 0 Q (F0 m 0 ls [])) : MetX l y cc nL (some .int) rm As u post := by
  intro G d h a sz0
  refine Met.ofW (cc := cc) (maxL := nL) (ret := (some .int)) hy rfl ?_
  intro p e s m args below meth c s₁ B hml hv
  obtain ⟨rfl, hsz, hP, hK, hD0⟩ := hv
  have hx := B.exec
  have hb := B.bytes
  have hr := B.returns
  have hts := atoms_spec (ws := ws_ y cc nL (some .int)) B.pre
  have hts : ∀ w ∈ lw_all, w.before _ s = true := fun w h => hts w (List.mem_cons_of_mem _ h)
  have hown : s.vm.findClass RX0 = some m.cls := by rw [← hcls]; exact findClass_of_methodNamed B.named
  have hlocks := B.notSynchronized
  subst hsz
  have hD := hD0.self (sz := s.heap.size)
  obtain ⟨A, hAe⟩ : ∃ A, va_A (wX d h a u) s.heap.size = A := ⟨_, rfl⟩
  have hA : ∀ q : Nat, s.heap.size ≤ q → A q := fun q h => by rw [← hAe]; exact Or.inr h
  have hX : HX G d h a A s u s.heap [] := ⟨hK, hP, by rw [← hAe]; exact hD, va_S.rf⟩
  have hl := lv_entry (.ref h :: As) (n := nL) (hn h)
  rw [lg_entry_eq]
  generalize (lg_sl (.ref h :: As) ++ List.replicate (nL - (lg_sl (.ref h :: As)).length) Slot.unset).toArray = ls at hl ⊢
  exact body G d h a A p e s m below meth c _ _ ⟨hx, hb, hml, hown, hts⟩ hA hX (fun pc ls H locs r u1 hdg hq X => W.iret hx hb hr (fun t ht hW => ⟨⟨r, u1, rfl, hq, by rw [ht]; exact X.2.1, va_K.moved hW.alike X.1, by rw [hAe]; exact X.2.2.1⟩, by rw [hAe]; exact X.2.2.2.F ht⟩) (by rw [hAe]; exact X.2.2.2.2.2) hdg) ls hl
set_option maxHeartbeats 4000000 in
theorem entXz {l : Launch} {y : MethodName} {cc : ByteArray} {nL : Nat} {rm : Room} {As : List Value} {u : UX} {post : Int32 → UX → Prop} (hcls : y.cls = RX0) (hy : plainName y.cls = true) (hrc : rm.cells = 0) (hrs : rm.slots = 0) (hn : ∀ h : Nat, (lg_sl (.ref h :: As)).length ≤ nL)
    (body : ∀ (G : va_G) (d : ClassId) (h : Nat) (a : Nat → Nat) (A : Nat → Prop) (p : Program) (e : Env) (s : State) (m : MethodId) (below : List Frame) (meth : Method) (c : Code) (args : Array Value) (Q : State → Prop), CallFix p m c cc nL s args lw_all RX0 → (∀ q : Nat, s.heap.size ≤ q → A q) → HX G d h a A s u s.heap [] → (∀ (pc : Nat) (ls : Array Slot) (H : Heap) (locs : List Loc) (r : Nat) (u1 : UX), decode cc pc = .ok (.ireturn, 1) → r < 2 → post (nI r) u1 → HX G d h a A s u1 H locs → W p l e rm s m args below meth c H locs 0 0 Q (F0 m pc ls [.int (nI r)])) → ∀ (ls : Array Slot), lv_has ls nL (lv_args 0 (.ref h :: As)) → W p l e rm s m args below meth c s.heap [] 0 0 Q (F0 m 0 ls [])) : MetX l y cc nL (some .boolean) rm As u post := by
  intro G d h a sz0
  refine Met.ofW (cc := cc) (maxL := nL) (ret := (some .boolean)) hy rfl ?_
  intro p e s m args below meth c s₁ B hml hv
  obtain ⟨rfl, hsz, hP, hK, hD0⟩ := hv
  have hx := B.exec
  have hb := B.bytes
  have hr := B.returns
  have hts := atoms_spec (ws := ws_ y cc nL (some .boolean)) B.pre
  have hts : ∀ w ∈ lw_all, w.before _ s = true := fun w h => hts w (List.mem_cons_of_mem _ h)
  have hown : s.vm.findClass RX0 = some m.cls := by rw [← hcls]; exact findClass_of_methodNamed B.named
  have hlocks := B.notSynchronized
  subst hsz
  have hD := hD0.self (sz := s.heap.size)
  obtain ⟨A, hAe⟩ : ∃ A, va_A (wX d h a u) s.heap.size = A := ⟨_, rfl⟩
  have hA : ∀ q : Nat, s.heap.size ≤ q → A q := fun q h => by rw [← hAe]; exact Or.inr h
  have hX : HX G d h a A s u s.heap [] := ⟨hK, hP, by rw [← hAe]; exact hD, va_S.rf⟩
  have hl := lv_entry (.ref h :: As) (n := nL) (hn h)
  rw [lg_entry_eq]
  generalize (lg_sl (.ref h :: As) ++ List.replicate (nL - (lg_sl (.ref h :: As)).length) Slot.unset).toArray = ls at hl ⊢
  exact body G d h a A p e s m below meth c _ _ ⟨hx, hb, hml, hown, hts⟩ hA hX (fun pc ls H locs r u1 hdg hr2 hq X => W.zret hx hb hr (by rcases (show r = 0 ∨ r = 1 by omega) with z | z <;> rw [z] <;> rfl) (fun t ht hW => ⟨⟨nI r, u1, rfl, hq, by rw [ht]; exact X.2.1, va_K.moved hW.alike X.1, by rw [hAe]; exact X.2.2.1⟩, by rw [hAe]; exact X.2.2.2.F ht⟩) (by rw [hAe]; exact X.2.2.2.2.2) hdg) ls hl
set_option maxHeartbeats 4000000 in
theorem entXv {l : Launch} {y : MethodName} {cc : ByteArray} {nL : Nat} {rm : Room} {As : List Value} {u : UX} {post : UX → Prop} (hcls : y.cls = RX0) (hy : plainName y.cls = true) (hrc : rm.cells = 0) (hrs : rm.slots = 0) (hn : ∀ h : Nat, (lg_sl (.ref h :: As)).length ≤ nL)
    (body : ∀ (G : va_G) (d : ClassId) (h : Nat) (a : Nat → Nat) (A : Nat → Prop) (p : Program) (e : Env) (s : State) (m : MethodId) (below : List Frame) (meth : Method) (c : Code) (args : Array Value) (Q : State → Prop), CallFix p m c cc nL s args lw_all RX0 → (∀ q : Nat, s.heap.size ≤ q → A q) → HX G d h a A s u s.heap [] → (∀ (pc : Nat) (ls : Array Slot) (H : Heap) (locs : List Loc) (u1 : UX), decode cc pc = .ok (.return_, 1) → post u1 → HX G d h a A s u1 H locs → W p l e rm s m args below meth c H locs 0 0 Q (F0 m pc ls [])) → ∀ (ls : Array Slot), lv_has ls nL (lv_args 0 (.ref h :: As)) → W p l e rm s m args below meth c s.heap [] 0 0 Q (F0 m 0 ls [])) : MetXv l y cc nL rm As u post := by
  intro G d h a sz0
  refine Met.ofW (cc := cc) (maxL := nL) (ret := none) hy rfl ?_
  intro p e s m args below meth c s₁ B hml hv
  obtain ⟨rfl, hsz, hP, hK, hD0⟩ := hv
  have hx := B.exec
  have hb := B.bytes
  have hr := B.returns
  have hts := atoms_spec (ws := ws_ y cc nL none) B.pre
  have hts : ∀ w ∈ lw_all, w.before _ s = true := fun w h => hts w (List.mem_cons_of_mem _ h)
  have hown : s.vm.findClass RX0 = some m.cls := by rw [← hcls]; exact findClass_of_methodNamed B.named
  have hlocks := B.notSynchronized
  subst hsz
  have hD := hD0.self (sz := s.heap.size)
  obtain ⟨A, hAe⟩ : ∃ A, va_A (wX d h a u) s.heap.size = A := ⟨_, rfl⟩
  have hA : ∀ q : Nat, s.heap.size ≤ q → A q := fun q h => by rw [← hAe]; exact Or.inr h
  have hX : HX G d h a A s u s.heap [] := ⟨hK, hP, by rw [← hAe]; exact hD, va_S.rf⟩
  have hl := lv_entry (.ref h :: As) (n := nL) (hn h)
  rw [lg_entry_eq]
  generalize (lg_sl (.ref h :: As) ++ List.replicate (nL - (lg_sl (.ref h :: As)).length) Slot.unset).toArray = ls at hl ⊢
  exact body G d h a A p e s m below meth c _ _ ⟨hx, hb, hml, hown, hts⟩ hA hX (fun pc ls H locs u1 hdg hq X => W.vret hx hb hr (fun t ht hW => ⟨⟨u1, rfl, hq, by rw [ht]; exact X.2.1, va_K.moved hW.alike X.1, by rw [hAe]; exact X.2.2.1⟩, by rw [hAe]; exact X.2.2.2.F ht⟩) (by rw [hAe]; exact X.2.2.2.2.2) hdg) ls hl
section CX
variable {p : Program} {l : Launch} {e : Env} {R : Room} {s : State} {m : MethodId} {args : Array Value} {below : List Frame} {meth : Method} {c : Code} {H : Heap} {locs : List Loc} {cells slots : Nat} {Q : State → Prop}
variable {cc cb : ByteArray} {pc nL : Nat} {ls : Array Slot} {rest st : List Value} {G : va_G} {d : ClassId} {h : Nat} {a : Nat → Nat} {A : Nat → Prop} {own : String} {u : UX} {y : MethodName} {nB index n : Nat} {ty : FieldType} {rm : Room} {As : List Value}
theorem callXi {post : Int32 → UX → Prop} (S : CallFix p m c cc nL s args lw_all own) (hA : ∀ q : Nat, s.heap.size ≤ q → A q) (X : HX G d h a A s u H locs) (M : MetX l y cb nB (some ty) rm As u post) (cw : CallW R s args own RX0 index y cb nB (some ty) (ws_ y cb nB (some ty)) rm 0 0 n) (hn : As.length = n) (hls : ls.size = nL) (hst : st = As.reverse ++ .ref h :: rest) (hW : (rest.map fun v => v.category).sum ≤ 8) (hdg : decode cc pc = .ok (.invokevirtual index, 3)) (hcs : cells ≤ R.cells ∧ slots ≤ R.slots)
    (kk : ∀ (r : Int32) (u1 : UX) (H1 : Heap) (locs1 : List Loc), post r u1 → HX G d h a A s u1 H1 locs1 → W p l e R s m args below meth c H1 locs1 cells slots Q (F0 m (pc + 3) ls (.int r :: rest))) : W p l e R s m args below meth c H locs cells slots Q (F0 m pc ls st) := by
  have hFc := va_free (wc := wX d h a u) X.2.2.1 X.2.2.2 hA [0, 1, 2, 3, 4, 5, 6, 7, 8] rfl
  refine va_calli (va_runV (As := As) (rest := rest) S (M G d h a H.size) cw ⟨fun a U g mk q => by obtain ⟨q0, q1, qP, qK, qD⟩ := q; exact ⟨q0, q1, qP, va_K.moved (u := U) (U := U.calling g mk a) (Vm.Alike.refl U.vm) qK, qD⟩, va_recv X.1 X.2.1 (ci := 0) (q0 := 0) rfl rfl, fun U hU hW => ⟨rfl, by rw [hU], by rw [hU]; exact X.2.1, va_K.moved hW.alike X.1, X.2.2.1.weaken (fun _ _ _ _ => trivial)⟩⟩ rfl hn hls hst (lv_room hW) hdg hcs) X.2.2.2 (fun q _ h => hFc q h) hFc (fun r u1 t H1 locs1 ht hvm hw hB hz1 hk1 hS => ?_)
  obtain ⟨hP1, hK1, hD1⟩ := hB
  rw [ht] at hP1
  exact kk r u1 H1 locs1 hw ⟨X.1, hP1, hD1.weaken (fun k q _ h => hFc q.1 h), hS⟩
theorem callXv {post : UX → Prop} (S : CallFix p m c cc nL s args lw_all own) (hA : ∀ q : Nat, s.heap.size ≤ q → A q) (X : HX G d h a A s u H locs) (M : MetXv l y cb nB rm As u post) (cw : CallW R s args own RX0 index y cb nB none (ws_ y cb nB none) rm 0 0 n) (hn : As.length = n) (hls : ls.size = nL) (hst : st = As.reverse ++ .ref h :: rest) (hW : (rest.map fun v => v.category).sum ≤ 8) (hdg : decode cc pc = .ok (.invokevirtual index, 3)) (hcs : cells ≤ R.cells ∧ slots ≤ R.slots)
    (kk : ∀ (u1 : UX) (H1 : Heap) (locs1 : List Loc), post u1 → HX G d h a A s u1 H1 locs1 → W p l e R s m args below meth c H1 locs1 cells slots Q (F0 m (pc + 3) ls rest)) : W p l e R s m args below meth c H locs cells slots Q (F0 m pc ls st) := by
  have hFc := va_free (wc := wX d h a u) X.2.2.1 X.2.2.2 hA [0, 1, 2, 3, 4, 5, 6, 7, 8] rfl
  refine va_callv (va_runV (As := As) (rest := rest) S (M G d h a H.size) cw ⟨fun a U g mk q => by obtain ⟨q0, q1, qP, qK, qD⟩ := q; exact ⟨q0, q1, qP, va_K.moved (u := U) (U := U.calling g mk a) (Vm.Alike.refl U.vm) qK, qD⟩, va_recv X.1 X.2.1 (ci := 0) (q0 := 0) rfl rfl, fun U hU hW => ⟨rfl, by rw [hU], by rw [hU]; exact X.2.1, va_K.moved hW.alike X.1, X.2.2.1.weaken (fun _ _ _ _ => trivial)⟩⟩ rfl hn hls hst (lv_room hW) hdg hcs) X.2.2.2 (fun q _ h => hFc q h) hFc (fun u1 t H1 locs1 ht hvm hw hB hz1 hk1 hS => ?_)
  obtain ⟨hP1, hK1, hD1⟩ := hB
  rw [ht] at hP1
  exact kk u1 H1 locs1 hw ⟨X.1, hP1, hD1.weaken (fun k q _ h => hFc q.1 h), hS⟩
end CX
abbrev UY : Type := (Nat → Nat) × (Nat → Nat) × (Nat → Nat) × Nat × (Nat → Nat)
abbrev wY (d : ClassId) (h : Nat) (a : Nat → Nat) (u : UY) : va_W := [(h, .inr (1, [.ref (a 0), .ref (a 1), .ref (a 2), .int (nI u.2.2.2.1), .ref (a 4)])), (a 0, .inl (d, 2, .inl (fun j => nI (u.1 j)))), (a 1, .inl (d, 24, .inl (fun j => nI (u.2.1 j)))), (a 2, .inl (d, 24, .inl (fun j => nI (u.2.2.1 j)))), (a 4, .inl (d, 6, .inl (fun j => nI (u.2.2.2.2 j))))]
def HY (G : va_G) (d : ClassId) (h : Nat) (a : Nat → Nat) (A : Nat → Prop) (s : State) (u : UY) (H : Heap) (locs : List Loc) : Prop := va_K G vwCl [(d, .int)] s ∧ va_P G vwCl (wY d h a u) H ∧ va_D A (wY d h a u) ∧ va_S A s.heap H locs
def PY (G : va_G) (d : ClassId) (h : Nat) (a : Nat → Nat) (u : UY) (sz0 : Nat) (U : State) : Prop := U.heap.size = sz0 ∧ va_P G vwCl (wY d h a u) U.heap ∧ va_K G vwCl [(d, .int)] U ∧ va_D (fun _ => True) (wY d h a u)
def BY (G : va_G) (d : ClassId) (h : Nat) (a : Nat → Nat) (A : Nat → Prop) (u : UY) (t : State) : Prop := va_P G vwCl (wY d h a u) t.heap ∧ va_K G vwCl [(d, .int)] t ∧ va_D A (wY d h a u)
/-- the contract of a method of this class that answers an int (or a boolean) -/
def MetY (l : Launch) (y : MethodName) (cc : ByteArray) (nL : Nat) (ret : Option FieldType) (rm : Room) (As : List Value) (u : UY) (post : Int32 → UY → Prop) : Prop := ∀ (G : va_G) (d : ClassId) (h : Nat) (a : Nat → Nat) (sz0 : Nat), Met l y (ws_ y cc nL ret) rm (va_Pc (.ref h :: As) (PY G d h a u sz0)) (va_Qi post (BY G d h a (va_A (wY d h a u) sz0)) (va_A (wY d h a u) sz0)) 0 0 (va_A (wY d h a u) sz0)
def MetYv (l : Launch) (y : MethodName) (cc : ByteArray) (nL : Nat) (rm : Room) (As : List Value) (u : UY) (post : UY → Prop) : Prop := ∀ (G : va_G) (d : ClassId) (h : Nat) (a : Nat → Nat) (sz0 : Nat), Met l y (ws_ y cc nL none) rm (va_Pc (.ref h :: As) (PY G d h a u sz0)) (va_Qv post (BY G d h a (va_A (wY d h a u) sz0)) (va_A (wY d h a u) sz0)) 0 0 (va_A (wY d h a u) sz0)
section SY
variable {p : Program} {l : Launch} {e : Env} {R : Room} {s : State} {m : MethodId} {args : Array Value} {below : List Frame} {meth : Method} {c : Code} {H : Heap} {locs : List Loc} {cells slots : Nat} {Q : State → Prop}
variable {cc : ByteArray} {pc nL : Nat} {ls : Array Slot} {rest : List Value} {G : va_G} {d : ClassId} {h : Nat} {a : Nat → Nat} {A : Nat → Prop}
variable {sz : Nat → Nat} {nx : Nat → Nat} {an : Nat → Nat} {ct : Nat} {mb : Nat → Nat}
theorem yg0 (S : CallFix p m c cc nL s args lw_all RX1) (X : HY G d h a A s (sz, nx, an, ct, mb) H locs) (hdg : decode cc pc = .ok (.getfield 7, 3)) (kk : W p l e R s m args below meth c H locs cells slots Q (F0 m (pc + 3) ls (.ref (a 0) :: rest))) : W p l e R s m args below meth c H locs cells slots Q (F0 m pc ls (.ref h :: rest)) :=
  va_get (D := G) (ci := 1) (C := RX1) (T := TX1) (N := 5) S.1 S.2.1 S.2.2.2.2 in_X1 S.2.2.2.1 X.1 X.2.1 0 rfl rfl 0 (by decide) (S.2.2.2.2 _ q172) (fun _ h9 => h9) rfl hdg kk
theorem yg1 (S : CallFix p m c cc nL s args lw_all RX1) (X : HY G d h a A s (sz, nx, an, ct, mb) H locs) (hdg : decode cc pc = .ok (.getfield 13, 3)) (kk : W p l e R s m args below meth c H locs cells slots Q (F0 m (pc + 3) ls (.ref (a 1) :: rest))) : W p l e R s m args below meth c H locs cells slots Q (F0 m pc ls (.ref h :: rest)) :=
  va_get (D := G) (ci := 1) (C := RX1) (T := TX1) (N := 5) S.1 S.2.1 S.2.2.2.2 in_X1 S.2.2.2.1 X.1 X.2.1 0 rfl rfl 1 (by decide) (S.2.2.2.2 _ q173) (fun _ h9 => h9) rfl hdg kk
theorem yg2 (S : CallFix p m c cc nL s args lw_all RX1) (X : HY G d h a A s (sz, nx, an, ct, mb) H locs) (hdg : decode cc pc = .ok (.getfield 16, 3)) (kk : W p l e R s m args below meth c H locs cells slots Q (F0 m (pc + 3) ls (.ref (a 2) :: rest))) : W p l e R s m args below meth c H locs cells slots Q (F0 m pc ls (.ref h :: rest)) :=
  va_get (D := G) (ci := 1) (C := RX1) (T := TX1) (N := 5) S.1 S.2.1 S.2.2.2.2 in_X1 S.2.2.2.1 X.1 X.2.1 0 rfl rfl 2 (by decide) (S.2.2.2.2 _ q174) (fun _ h9 => h9) rfl hdg kk
theorem yg3 (S : CallFix p m c cc nL s args lw_all RX1) (X : HY G d h a A s (sz, nx, an, ct, mb) H locs) (hdg : decode cc pc = .ok (.getfield 43, 3)) (kk : W p l e R s m args below meth c H locs cells slots Q (F0 m (pc + 3) ls (.int (nI ct) :: rest))) : W p l e R s m args below meth c H locs cells slots Q (F0 m pc ls (.ref h :: rest)) :=
  va_get (D := G) (ci := 1) (C := RX1) (T := TX1) (N := 5) S.1 S.2.1 S.2.2.2.2 in_X1 S.2.2.2.1 X.1 X.2.1 0 rfl rfl 3 (by decide) (S.2.2.2.2 _ q175) (fun _ h9 => h9) rfl hdg kk
theorem yg4 (S : CallFix p m c cc nL s args lw_all RX1) (X : HY G d h a A s (sz, nx, an, ct, mb) H locs) (hdg : decode cc pc = .ok (.getfield 19, 3)) (kk : W p l e R s m args below meth c H locs cells slots Q (F0 m (pc + 3) ls (.ref (a 4) :: rest))) : W p l e R s m args below meth c H locs cells slots Q (F0 m pc ls (.ref h :: rest)) :=
  va_get (D := G) (ci := 1) (C := RX1) (T := TX1) (N := 5) S.1 S.2.1 S.2.2.2.2 in_X1 S.2.2.2.1 X.1 X.2.1 0 rfl rfl 4 (by decide) (S.2.2.2.2 _ q176) (fun _ h9 => h9) rfl hdg kk
theorem yl0 (S : CallFix p m c cc nL s args lw_all RX1) (X : HY G d h a A s (sz, nx, an, ct, mb) H locs) {i : Nat} (hdg : decode cc pc = .ok (.iaload, 1)) (hi : i < 2) (kk : W p l e R s m args below meth c H locs cells slots Q (F0 m (pc + 1) ls (.int (nI (sz i)) :: rest))) : W p l e R s m args below meth c H locs cells slots Q (F0 m pc ls (.int (nI i) :: .ref (a 0) :: rest)) :=
  va_iald S.1 S.2.1 X.1 X.2.1 1 0 rfl rfl (vp_in_nI hi (by decide)) hdg (n_top (by rw [nI_clamp (Nat.lt_trans hi (by decide))]) kk)
theorem ys0 (S : CallFix p m c cc nL s args lw_all RX1) (X : HY G d h a A s (sz, nx, an, ct, mb) H locs) {i : Nat} {v : Nat} (hdg : decode cc pc = .ok (.iastore, 1)) (hi : i < 2) (kk : ∀ (H1 : Heap) (locs1 : List Loc), HY G d h a A s (updN sz i v, nx, an, ct, mb) H1 locs1 → W p l e R s m args below meth c H1 locs1 cells slots Q (F0 m (pc + 1) ls rest)) : W p l e R s m args below meth c H locs cells slots Q (F0 m pc ls (.int (nI v) :: .int (nI i) :: .ref (a 0) :: rest)) := by
  refine va_iast S.1 S.2.1 X.1 X.2.1 X.2.2.1 X.2.2.2 1 0 rfl rfl (vp_in_nI hi (by decide)) hdg (fun H1 locs1 hP hD hS => kk H1 locs1 ⟨X.1, ?_, ?_, hS⟩)
  · rw [nI_clamp (Nat.lt_trans hi (by decide)), updN_nI] at hP
    exact hP
  · rw [nI_clamp (Nat.lt_trans hi (by decide)), updN_nI] at hD
    exact hD
theorem yl1 (S : CallFix p m c cc nL s args lw_all RX1) (X : HY G d h a A s (sz, nx, an, ct, mb) H locs) {i : Nat} (hdg : decode cc pc = .ok (.iaload, 1)) (hi : i < 24) (kk : W p l e R s m args below meth c H locs cells slots Q (F0 m (pc + 1) ls (.int (nI (nx i)) :: rest))) : W p l e R s m args below meth c H locs cells slots Q (F0 m pc ls (.int (nI i) :: .ref (a 1) :: rest)) :=
  va_iald S.1 S.2.1 X.1 X.2.1 2 0 rfl rfl (vp_in_nI hi (by decide)) hdg (n_top (by rw [nI_clamp (Nat.lt_trans hi (by decide))]) kk)
theorem ys1 (S : CallFix p m c cc nL s args lw_all RX1) (X : HY G d h a A s (sz, nx, an, ct, mb) H locs) {i : Nat} {v : Nat} (hdg : decode cc pc = .ok (.iastore, 1)) (hi : i < 24) (kk : ∀ (H1 : Heap) (locs1 : List Loc), HY G d h a A s (sz, updN nx i v, an, ct, mb) H1 locs1 → W p l e R s m args below meth c H1 locs1 cells slots Q (F0 m (pc + 1) ls rest)) : W p l e R s m args below meth c H locs cells slots Q (F0 m pc ls (.int (nI v) :: .int (nI i) :: .ref (a 1) :: rest)) := by
  refine va_iast S.1 S.2.1 X.1 X.2.1 X.2.2.1 X.2.2.2 2 0 rfl rfl (vp_in_nI hi (by decide)) hdg (fun H1 locs1 hP hD hS => kk H1 locs1 ⟨X.1, ?_, ?_, hS⟩)
  · rw [nI_clamp (Nat.lt_trans hi (by decide)), updN_nI] at hP
    exact hP
  · rw [nI_clamp (Nat.lt_trans hi (by decide)), updN_nI] at hD
    exact hD
theorem yl2 (S : CallFix p m c cc nL s args lw_all RX1) (X : HY G d h a A s (sz, nx, an, ct, mb) H locs) {i : Nat} (hdg : decode cc pc = .ok (.iaload, 1)) (hi : i < 24) (kk : W p l e R s m args below meth c H locs cells slots Q (F0 m (pc + 1) ls (.int (nI (an i)) :: rest))) : W p l e R s m args below meth c H locs cells slots Q (F0 m pc ls (.int (nI i) :: .ref (a 2) :: rest)) :=
  va_iald S.1 S.2.1 X.1 X.2.1 3 0 rfl rfl (vp_in_nI hi (by decide)) hdg (n_top (by rw [nI_clamp (Nat.lt_trans hi (by decide))]) kk)
theorem ys2 (S : CallFix p m c cc nL s args lw_all RX1) (X : HY G d h a A s (sz, nx, an, ct, mb) H locs) {i : Nat} {v : Nat} (hdg : decode cc pc = .ok (.iastore, 1)) (hi : i < 24) (kk : ∀ (H1 : Heap) (locs1 : List Loc), HY G d h a A s (sz, nx, updN an i v, ct, mb) H1 locs1 → W p l e R s m args below meth c H1 locs1 cells slots Q (F0 m (pc + 1) ls rest)) : W p l e R s m args below meth c H locs cells slots Q (F0 m pc ls (.int (nI v) :: .int (nI i) :: .ref (a 2) :: rest)) := by
  refine va_iast S.1 S.2.1 X.1 X.2.1 X.2.2.1 X.2.2.2 3 0 rfl rfl (vp_in_nI hi (by decide)) hdg (fun H1 locs1 hP hD hS => kk H1 locs1 ⟨X.1, ?_, ?_, hS⟩)
  · rw [nI_clamp (Nat.lt_trans hi (by decide)), updN_nI] at hP
    exact hP
  · rw [nI_clamp (Nat.lt_trans hi (by decide)), updN_nI] at hD
    exact hD
theorem yl4 (S : CallFix p m c cc nL s args lw_all RX1) (X : HY G d h a A s (sz, nx, an, ct, mb) H locs) {i : Nat} (hdg : decode cc pc = .ok (.iaload, 1)) (hi : i < 6) (kk : W p l e R s m args below meth c H locs cells slots Q (F0 m (pc + 1) ls (.int (nI (mb i)) :: rest))) : W p l e R s m args below meth c H locs cells slots Q (F0 m pc ls (.int (nI i) :: .ref (a 4) :: rest)) :=
  va_iald S.1 S.2.1 X.1 X.2.1 4 0 rfl rfl (vp_in_nI hi (by decide)) hdg (n_top (by rw [nI_clamp (Nat.lt_trans hi (by decide))]) kk)
theorem ys4 (S : CallFix p m c cc nL s args lw_all RX1) (X : HY G d h a A s (sz, nx, an, ct, mb) H locs) {i : Nat} {v : Nat} (hdg : decode cc pc = .ok (.iastore, 1)) (hi : i < 6) (kk : ∀ (H1 : Heap) (locs1 : List Loc), HY G d h a A s (sz, nx, an, ct, updN mb i v) H1 locs1 → W p l e R s m args below meth c H1 locs1 cells slots Q (F0 m (pc + 1) ls rest)) : W p l e R s m args below meth c H locs cells slots Q (F0 m pc ls (.int (nI v) :: .int (nI i) :: .ref (a 4) :: rest)) := by
  refine va_iast S.1 S.2.1 X.1 X.2.1 X.2.2.1 X.2.2.2 4 0 rfl rfl (vp_in_nI hi (by decide)) hdg (fun H1 locs1 hP hD hS => kk H1 locs1 ⟨X.1, ?_, ?_, hS⟩)
  · rw [nI_clamp (Nat.lt_trans hi (by decide)), updN_nI] at hP
    exact hP
  · rw [nI_clamp (Nat.lt_trans hi (by decide)), updN_nI] at hD
    exact hD
theorem yp3 (S : CallFix p m c cc nL s args lw_all RX1) (X : HY G d h a A s (sz, nx, an, ct, mb) H locs) {v : Nat} (hdg : decode cc pc = .ok (.putfield 43, 3)) (kk : ∀ (H1 : Heap) (locs1 : List Loc), HY G d h a A s (sz, nx, an, v, mb) H1 locs1 → W p l e R s m args below meth c H1 locs1 cells slots Q (F0 m (pc + 3) ls rest)) : W p l e R s m args below meth c H locs cells slots Q (F0 m pc ls (.int (nI v) :: .ref h :: rest)) :=
  va_put (D := G) (ci := 1) (v := .int (nI v)) (ty := .int) (C := RX1) (T := TX1) (N := 5) S.1 S.2.1 S.2.2.2.2 in_X1 tyX1 tyX1_ok nmX1 S.2.2.2.1 X.1 X.2.1 X.2.2.1 X.2.2.2 0 rfl rfl 3 (by decide) (S.2.2.2.2 _ q175) (fun _ h9 => h9) rfl (by decide +kernel) rfl rfl (Nat.le_of_ble_eq_true rfl) hdg (fun H1 locs1 hP hD hS => kk H1 locs1 ⟨X.1, hP, hD, hS⟩)
end SY
set_option maxHeartbeats 4000000 in
theorem entYi {l : Launch} {y : MethodName} {cc : ByteArray} {nL : Nat} {rm : Room} {As : List Value} {u : UY} {post : Int32 → UY → Prop} (hcls : y.cls = RX1) (hy : plainName y.cls = true) (hrc : rm.cells = 0) (hrs : rm.slots = 0) (hn : ∀ h : Nat, (lg_sl (.ref h :: As)).length ≤ nL)
    (body : ∀ (G : va_G) (d : ClassId) (h : Nat) (a : Nat → Nat) (A : Nat → Prop) (p : Program) (e : Env) (s : State) (m : MethodId) (below : List Frame) (meth : Method) (c : Code) (args : Array Value) (Q : State → Prop), CallFix p m c cc nL s args lw_all RX1 → (∀ q : Nat, s.heap.size ≤ q → A q) → HY G d h a A s u s.heap [] → (∀ (pc : Nat) (ls : Array Slot) (H : Heap) (locs : List Loc) (r : Int32) (u1 : UY), decode cc pc = .ok (.ireturn, 1) → post r u1 → HY G d h a A s u1 H locs → W p l e rm s m args below meth c H locs 0 0 Q (F0 m pc ls [.int r])) → ∀ (ls : Array Slot), lv_has ls nL (lv_args 0 (.ref h :: As)) → W p l e rm s m args below meth c s.heap [] 0 0 Q (F0 m 0 ls [])) : MetY l y cc nL (some .int) rm As u post := by
  intro G d h a sz0
  refine Met.ofW (cc := cc) (maxL := nL) (ret := (some .int)) hy rfl ?_
  intro p e s m args below meth c s₁ B hml hv
  obtain ⟨rfl, hsz, hP, hK, hD0⟩ := hv
  have hx := B.exec
  have hb := B.bytes
  have hr := B.returns
  have hts := atoms_spec (ws := ws_ y cc nL (some .int)) B.pre
  have hts : ∀ w ∈ lw_all, w.before _ s = true := fun w h => hts w (List.mem_cons_of_mem _ h)
  have hown : s.vm.findClass RX1 = some m.cls := by rw [← hcls]; exact findClass_of_methodNamed B.named
  have hlocks := B.notSynchronized
  subst hsz
  have hD := hD0.self (sz := s.heap.size)
  obtain ⟨A, hAe⟩ : ∃ A, va_A (wY d h a u) s.heap.size = A := ⟨_, rfl⟩
  have hA : ∀ q : Nat, s.heap.size ≤ q → A q := fun q h => by rw [← hAe]; exact Or.inr h
  have hX : HY G d h a A s u s.heap [] := ⟨hK, hP, by rw [← hAe]; exact hD, va_S.rf⟩
  have hl := lv_entry (.ref h :: As) (n := nL) (hn h)
  rw [lg_entry_eq]
  generalize (lg_sl (.ref h :: As) ++ List.replicate (nL - (lg_sl (.ref h :: As)).length) Slot.unset).toArray = ls at hl ⊢
  exact body G d h a A p e s m below meth c _ _ ⟨hx, hb, hml, hown, hts⟩ hA hX (fun pc ls H locs r u1 hdg hq X => W.iret hx hb hr (fun t ht hW => ⟨⟨r, u1, rfl, hq, by rw [ht]; exact X.2.1, va_K.moved hW.alike X.1, by rw [hAe]; exact X.2.2.1⟩, by rw [hAe]; exact X.2.2.2.F ht⟩) (by rw [hAe]; exact X.2.2.2.2.2) hdg) ls hl
set_option maxHeartbeats 4000000 in
theorem entYz {l : Launch} {y : MethodName} {cc : ByteArray} {nL : Nat} {rm : Room} {As : List Value} {u : UY} {post : Int32 → UY → Prop} (hcls : y.cls = RX1) (hy : plainName y.cls = true) (hrc : rm.cells = 0) (hrs : rm.slots = 0) (hn : ∀ h : Nat, (lg_sl (.ref h :: As)).length ≤ nL)
    (body : ∀ (G : va_G) (d : ClassId) (h : Nat) (a : Nat → Nat) (A : Nat → Prop) (p : Program) (e : Env) (s : State) (m : MethodId) (below : List Frame) (meth : Method) (c : Code) (args : Array Value) (Q : State → Prop), CallFix p m c cc nL s args lw_all RX1 → (∀ q : Nat, s.heap.size ≤ q → A q) → HY G d h a A s u s.heap [] → (∀ (pc : Nat) (ls : Array Slot) (H : Heap) (locs : List Loc) (r : Nat) (u1 : UY), decode cc pc = .ok (.ireturn, 1) → r < 2 → post (nI r) u1 → HY G d h a A s u1 H locs → W p l e rm s m args below meth c H locs 0 0 Q (F0 m pc ls [.int (nI r)])) → ∀ (ls : Array Slot), lv_has ls nL (lv_args 0 (.ref h :: As)) → W p l e rm s m args below meth c s.heap [] 0 0 Q (F0 m 0 ls [])) : MetY l y cc nL (some .boolean) rm As u post := by
  intro G d h a sz0
  refine Met.ofW (cc := cc) (maxL := nL) (ret := (some .boolean)) hy rfl ?_
  intro p e s m args below meth c s₁ B hml hv
  obtain ⟨rfl, hsz, hP, hK, hD0⟩ := hv
  have hx := B.exec
  have hb := B.bytes
  have hr := B.returns
  have hts := atoms_spec (ws := ws_ y cc nL (some .boolean)) B.pre
  have hts : ∀ w ∈ lw_all, w.before _ s = true := fun w h => hts w (List.mem_cons_of_mem _ h)
  have hown : s.vm.findClass RX1 = some m.cls := by rw [← hcls]; exact findClass_of_methodNamed B.named
  have hlocks := B.notSynchronized
  subst hsz
  have hD := hD0.self (sz := s.heap.size)
  obtain ⟨A, hAe⟩ : ∃ A, va_A (wY d h a u) s.heap.size = A := ⟨_, rfl⟩
  have hA : ∀ q : Nat, s.heap.size ≤ q → A q := fun q h => by rw [← hAe]; exact Or.inr h
  have hX : HY G d h a A s u s.heap [] := ⟨hK, hP, by rw [← hAe]; exact hD, va_S.rf⟩
  have hl := lv_entry (.ref h :: As) (n := nL) (hn h)
  rw [lg_entry_eq]
  generalize (lg_sl (.ref h :: As) ++ List.replicate (nL - (lg_sl (.ref h :: As)).length) Slot.unset).toArray = ls at hl ⊢
  exact body G d h a A p e s m below meth c _ _ ⟨hx, hb, hml, hown, hts⟩ hA hX (fun pc ls H locs r u1 hdg hr2 hq X => W.zret hx hb hr (by rcases (show r = 0 ∨ r = 1 by omega) with z | z <;> rw [z] <;> rfl) (fun t ht hW => ⟨⟨nI r, u1, rfl, hq, by rw [ht]; exact X.2.1, va_K.moved hW.alike X.1, by rw [hAe]; exact X.2.2.1⟩, by rw [hAe]; exact X.2.2.2.F ht⟩) (by rw [hAe]; exact X.2.2.2.2.2) hdg) ls hl
set_option maxHeartbeats 4000000 in
theorem entYv {l : Launch} {y : MethodName} {cc : ByteArray} {nL : Nat} {rm : Room} {As : List Value} {u : UY} {post : UY → Prop} (hcls : y.cls = RX1) (hy : plainName y.cls = true) (hrc : rm.cells = 0) (hrs : rm.slots = 0) (hn : ∀ h : Nat, (lg_sl (.ref h :: As)).length ≤ nL)
    (body : ∀ (G : va_G) (d : ClassId) (h : Nat) (a : Nat → Nat) (A : Nat → Prop) (p : Program) (e : Env) (s : State) (m : MethodId) (below : List Frame) (meth : Method) (c : Code) (args : Array Value) (Q : State → Prop), CallFix p m c cc nL s args lw_all RX1 → (∀ q : Nat, s.heap.size ≤ q → A q) → HY G d h a A s u s.heap [] → (∀ (pc : Nat) (ls : Array Slot) (H : Heap) (locs : List Loc) (u1 : UY), decode cc pc = .ok (.return_, 1) → post u1 → HY G d h a A s u1 H locs → W p l e rm s m args below meth c H locs 0 0 Q (F0 m pc ls [])) → ∀ (ls : Array Slot), lv_has ls nL (lv_args 0 (.ref h :: As)) → W p l e rm s m args below meth c s.heap [] 0 0 Q (F0 m 0 ls [])) : MetYv l y cc nL rm As u post := by
  intro G d h a sz0
  refine Met.ofW (cc := cc) (maxL := nL) (ret := none) hy rfl ?_
  intro p e s m args below meth c s₁ B hml hv
  obtain ⟨rfl, hsz, hP, hK, hD0⟩ := hv
  have hx := B.exec
  have hb := B.bytes
  have hr := B.returns
  have hts := atoms_spec (ws := ws_ y cc nL none) B.pre
  have hts : ∀ w ∈ lw_all, w.before _ s = true := fun w h => hts w (List.mem_cons_of_mem _ h)
  have hown : s.vm.findClass RX1 = some m.cls := by rw [← hcls]; exact findClass_of_methodNamed B.named
  have hlocks := B.notSynchronized
  subst hsz
  have hD := hD0.self (sz := s.heap.size)
  obtain ⟨A, hAe⟩ : ∃ A, va_A (wY d h a u) s.heap.size = A := ⟨_, rfl⟩
  have hA : ∀ q : Nat, s.heap.size ≤ q → A q := fun q h => by rw [← hAe]; exact Or.inr h
  have hX : HY G d h a A s u s.heap [] := ⟨hK, hP, by rw [← hAe]; exact hD, va_S.rf⟩
  have hl := lv_entry (.ref h :: As) (n := nL) (hn h)
  rw [lg_entry_eq]
  generalize (lg_sl (.ref h :: As) ++ List.replicate (nL - (lg_sl (.ref h :: As)).length) Slot.unset).toArray = ls at hl ⊢
  exact body G d h a A p e s m below meth c _ _ ⟨hx, hb, hml, hown, hts⟩ hA hX (fun pc ls H locs u1 hdg hq X => W.vret hx hb hr (fun t ht hW => ⟨⟨u1, rfl, hq, by rw [ht]; exact X.2.1, va_K.moved hW.alike X.1, by rw [hAe]; exact X.2.2.1⟩, by rw [hAe]; exact X.2.2.2.F ht⟩) (by rw [hAe]; exact X.2.2.2.2.2) hdg) ls hl
section CY
variable {p : Program} {l : Launch} {e : Env} {R : Room} {s : State} {m : MethodId} {args : Array Value} {below : List Frame} {meth : Method} {c : Code} {H : Heap} {locs : List Loc} {cells slots : Nat} {Q : State → Prop}
variable {cc cb : ByteArray} {pc nL : Nat} {ls : Array Slot} {rest st : List Value} {G : va_G} {d : ClassId} {h : Nat} {a : Nat → Nat} {A : Nat → Prop} {own : String} {u : UY} {y : MethodName} {nB index n : Nat} {ty : FieldType} {rm : Room} {As : List Value}
theorem callYi {post : Int32 → UY → Prop} (S : CallFix p m c cc nL s args lw_all own) (hA : ∀ q : Nat, s.heap.size ≤ q → A q) (X : HY G d h a A s u H locs) (M : MetY l y cb nB (some ty) rm As u post) (cw : CallW R s args own RX1 index y cb nB (some ty) (ws_ y cb nB (some ty)) rm 0 0 n) (hn : As.length = n) (hls : ls.size = nL) (hst : st = As.reverse ++ .ref h :: rest) (hW : (rest.map fun v => v.category).sum ≤ 8) (hdg : decode cc pc = .ok (.invokevirtual index, 3)) (hcs : cells ≤ R.cells ∧ slots ≤ R.slots)
    (kk : ∀ (r : Int32) (u1 : UY) (H1 : Heap) (locs1 : List Loc), post r u1 → HY G d h a A s u1 H1 locs1 → W p l e R s m args below meth c H1 locs1 cells slots Q (F0 m (pc + 3) ls (.int r :: rest))) : W p l e R s m args below meth c H locs cells slots Q (F0 m pc ls st) := by
  have hFc := va_free (wc := wY d h a u) X.2.2.1 X.2.2.2 hA [0, 1, 2, 3, 4] rfl
  refine va_calli (va_runV (As := As) (rest := rest) S (M G d h a H.size) cw ⟨fun a U g mk q => by obtain ⟨q0, q1, qP, qK, qD⟩ := q; exact ⟨q0, q1, qP, va_K.moved (u := U) (U := U.calling g mk a) (Vm.Alike.refl U.vm) qK, qD⟩, va_recv X.1 X.2.1 (ci := 1) (q0 := 0) rfl rfl, fun U hU hW => ⟨rfl, by rw [hU], by rw [hU]; exact X.2.1, va_K.moved hW.alike X.1, X.2.2.1.weaken (fun _ _ _ _ => trivial)⟩⟩ rfl hn hls hst (lv_room hW) hdg hcs) X.2.2.2 (fun q _ h => hFc q h) hFc (fun r u1 t H1 locs1 ht hvm hw hB hz1 hk1 hS => ?_)
  obtain ⟨hP1, hK1, hD1⟩ := hB
  rw [ht] at hP1
  exact kk r u1 H1 locs1 hw ⟨X.1, hP1, hD1.weaken (fun k q _ h => hFc q.1 h), hS⟩
theorem callYv {post : UY → Prop} (S : CallFix p m c cc nL s args lw_all own) (hA : ∀ q : Nat, s.heap.size ≤ q → A q) (X : HY G d h a A s u H locs) (M : MetYv l y cb nB rm As u post) (cw : CallW R s args own RX1 index y cb nB none (ws_ y cb nB none) rm 0 0 n) (hn : As.length = n) (hls : ls.size = nL) (hst : st = As.reverse ++ .ref h :: rest) (hW : (rest.map fun v => v.category).sum ≤ 8) (hdg : decode cc pc = .ok (.invokevirtual index, 3)) (hcs : cells ≤ R.cells ∧ slots ≤ R.slots)
    (kk : ∀ (u1 : UY) (H1 : Heap) (locs1 : List Loc), post u1 → HY G d h a A s u1 H1 locs1 → W p l e R s m args below meth c H1 locs1 cells slots Q (F0 m (pc + 3) ls rest)) : W p l e R s m args below meth c H locs cells slots Q (F0 m pc ls st) := by
  have hFc := va_free (wc := wY d h a u) X.2.2.1 X.2.2.2 hA [0, 1, 2, 3, 4] rfl
  refine va_callv (va_runV (As := As) (rest := rest) S (M G d h a H.size) cw ⟨fun a U g mk q => by obtain ⟨q0, q1, qP, qK, qD⟩ := q; exact ⟨q0, q1, qP, va_K.moved (u := U) (U := U.calling g mk a) (Vm.Alike.refl U.vm) qK, qD⟩, va_recv X.1 X.2.1 (ci := 1) (q0 := 0) rfl rfl, fun U hU hW => ⟨rfl, by rw [hU], by rw [hU]; exact X.2.1, va_K.moved hW.alike X.1, X.2.2.1.weaken (fun _ _ _ _ => trivial)⟩⟩ rfl hn hls hst (lv_room hW) hdg hcs) X.2.2.2 (fun q _ h => hFc q h) hFc (fun u1 t H1 locs1 ht hvm hw hB hz1 hk1 hS => ?_)
  obtain ⟨hP1, hK1, hD1⟩ := hB
  rw [ht] at hP1
  exact kk u1 H1 locs1 hw ⟨X.1, hP1, hD1.weaken (fun k q _ h => hFc q.1 h), hS⟩
end CY
/-- a static method that answers an int or a boolean and touches no cell -/
def MetS (l : Launch) (y : MethodName) (cc : ByteArray) (nL : Nat) (ret : Option FieldType) (rm : Room) (As : List Value) (post : Int32 → Prop) : Prop := ∀ sz0 : Nat, Met l y (ws_ y cc nL ret) rm (va_Pc As (fun U => U.heap.size = sz0)) (va_Qi (fun (r : Int32) (_ : Unit) => post r) (fun _ _ => True) (va_A [] sz0)) 0 0 (va_A [] sz0)
set_option maxHeartbeats 4000000 in
theorem entSi {l : Launch} {y : MethodName} {cc : ByteArray} {nL : Nat} {rm : Room} {As : List Value} {post : Int32 → Prop} (hcls : y.cls = RX0) (hy : plainName y.cls = true) (hrc : rm.cells = 0) (hrs : rm.slots = 0) (hn : (lg_sl As).length ≤ nL)
    (body : ∀ (p : Program) (e : Env) (s : State) (m : MethodId) (below : List Frame) (meth : Method) (c : Code) (args : Array Value) (Q : State → Prop), CallFix p m c cc nL s args lw_all RX0 → (∀ (pc : Nat) (ls : Array Slot) (r : Int32), decode cc pc = .ok (.ireturn, 1) → post r → W p l e rm s m args below meth c s.heap [] 0 0 Q (F0 m pc ls [.int r])) → ∀ (ls : Array Slot), lv_has ls nL (lv_args 0 As) → W p l e rm s m args below meth c s.heap [] 0 0 Q (F0 m 0 ls [])) : MetS l y cc nL (some .int) rm As post := by
  intro sz0
  refine Met.ofW (cc := cc) (maxL := nL) (ret := (some .int)) hy rfl ?_
  intro p e s m args below meth c s₁ B hml hv
  obtain ⟨rfl, hsz⟩ := hv
  have hx := B.exec
  have hb := B.bytes
  have hr := B.returns
  have hts := atoms_spec (ws := ws_ y cc nL (some .int)) B.pre
  have hts : ∀ w ∈ lw_all, w.before _ s = true := fun w h => hts w (List.mem_cons_of_mem _ h)
  have hown : s.vm.findClass RX0 = some m.cls := by rw [← hcls]; exact findClass_of_methodNamed B.named
  have hlocks := B.notSynchronized
  subst hsz
  have hl := lv_entry As (n := nL) hn
  rw [lg_entry_eq]
  generalize (lg_sl As ++ List.replicate (nL - (lg_sl As).length) Slot.unset).toArray = ls at hl ⊢
  exact body p e s m below meth c _ _ ⟨hx, hb, hml, hown, hts⟩ (fun pc ls r hdg hq => W.iret hx hb hr (fun t ht hW => ⟨⟨r, (), rfl, hq, trivial⟩, va_S.rf.F ht⟩) (fun q hq => absurd hq List.not_mem_nil) hdg) ls hl
set_option maxHeartbeats 4000000 in
theorem entSz {l : Launch} {y : MethodName} {cc : ByteArray} {nL : Nat} {rm : Room} {As : List Value} {post : Int32 → Prop} (hcls : y.cls = RX0) (hy : plainName y.cls = true) (hrc : rm.cells = 0) (hrs : rm.slots = 0) (hn : (lg_sl As).length ≤ nL)
    (body : ∀ (p : Program) (e : Env) (s : State) (m : MethodId) (below : List Frame) (meth : Method) (c : Code) (args : Array Value) (Q : State → Prop), CallFix p m c cc nL s args lw_all RX0 → (∀ (pc : Nat) (ls : Array Slot) (r : Nat), decode cc pc = .ok (.ireturn, 1) → r < 2 → post (nI r) → W p l e rm s m args below meth c s.heap [] 0 0 Q (F0 m pc ls [.int (nI r)])) → ∀ (ls : Array Slot), lv_has ls nL (lv_args 0 As) → W p l e rm s m args below meth c s.heap [] 0 0 Q (F0 m 0 ls [])) : MetS l y cc nL (some .boolean) rm As post := by
  intro sz0
  refine Met.ofW (cc := cc) (maxL := nL) (ret := (some .boolean)) hy rfl ?_
  intro p e s m args below meth c s₁ B hml hv
  obtain ⟨rfl, hsz⟩ := hv
  have hx := B.exec
  have hb := B.bytes
  have hr := B.returns
  have hts := atoms_spec (ws := ws_ y cc nL (some .boolean)) B.pre
  have hts : ∀ w ∈ lw_all, w.before _ s = true := fun w h => hts w (List.mem_cons_of_mem _ h)
  have hown : s.vm.findClass RX0 = some m.cls := by rw [← hcls]; exact findClass_of_methodNamed B.named
  have hlocks := B.notSynchronized
  subst hsz
  have hl := lv_entry As (n := nL) hn
  rw [lg_entry_eq]
  generalize (lg_sl As ++ List.replicate (nL - (lg_sl As).length) Slot.unset).toArray = ls at hl ⊢
  exact body p e s m below meth c _ _ ⟨hx, hb, hml, hown, hts⟩ (fun pc ls r hdg hr2 hq => W.zret hx hb hr (by rcases (show r = 0 ∨ r = 1 by omega) with z | z <;> rw [z] <;> rfl) (fun t ht hW => ⟨⟨nI r, (), rfl, hq, trivial⟩, va_S.rf.F ht⟩) (fun q hq => absurd hq List.not_mem_nil) hdg) ls hl
section CS
variable {p : Program} {l : Launch} {e : Env} {R : Room} {s : State} {m : MethodId} {args : Array Value} {below : List Frame} {meth : Method} {c : Code} {H : Heap} {locs : List Loc} {cells slots : Nat} {Q : State → Prop}
variable {cc cb : ByteArray} {pc nL : Nat} {ls : Array Slot} {rest st : List Value} {G : va_G} {d : ClassId} {h : Nat} {a : Nat → Nat} {A : Nat → Prop} {own : String} {u : UX} {y : MethodName} {nB index n : Nat} {ty : FieldType} {rm : Room} {As : List Value}
theorem callXs {post : Int32 → Prop} (S : CallFix p m c cc nL s args lw_all own) (hA : ∀ q : Nat, s.heap.size ≤ q → A q) (X : HX G d h a A s u H locs) (M : MetS l y cb nB (some ty) rm As post) (cw : CallB R s args own index y cb nB (some ty) (ws_ y cb nB (some ty)) rm 0 0 n ∧ (Cond.static y).before args s = true) (hn : As.length = n) (hls : ls.size = nL) (hst : st = As.reverse ++ rest) (hW : (rest.map fun v => v.category).sum ≤ 8) (hdg : decode cc pc = .ok (.invokestatic index, 3)) (hcs : cells ≤ R.cells ∧ slots ≤ R.slots)
    (kk : ∀ (r : Int32) (H1 : Heap) (locs1 : List Loc), post r → HX G d h a A s u H1 locs1 → W p l e R s m args below meth c H1 locs1 cells slots Q (F0 m (pc + 3) ls (.int r :: rest))) : W p l e R s m args below meth c H locs cells slots Q (F0 m pc ls st) := by
  have hFc : ∀ q, va_A [] H.size q → A q := va_free (wc := []) X.2.2.1 X.2.2.2 hA [] rfl
  refine va_calli (va_runS (As := As) (rest := rest) S (M H.size) cw ⟨fun a U g mk q => by obtain ⟨q0, q1⟩ := q; exact ⟨q0, q1⟩, fun U hU hW => ⟨rfl, by show U.heap.size = H.size; rw [hU]⟩⟩ rfl hn hls hst (lv_room hW) hdg hcs) X.2.2.2 (fun q _ h => hFc q h) hFc (fun r u1 t H1 locs1 ht hvm hw hB hz1 hk1 hS => ?_)
  obtain ⟨hP, hD⟩ := va_join (wr := wX d h a u) (w1 := []) X.2.1 X.2.2.1 [] [0, 1, 2, 3, 4, 5, 6, 7, 8] rfl rfl (by decide) (by decide) hk1 hFc (fun k q h => by simp at h) ⟨fun i j p q h => by simp at h, fun k q h => by simp at h⟩
  exact kk r H1 locs1 hw ⟨X.1, hP, hD, hS⟩
end CS
end
section
set_option maxRecDepth 100000
/-! rooms of the methods; the words of the contracts -/
abbrev rmX0_size : Room := { frames := 1, cells := 0, slots := 0, locals := 20 }
abbrev rmX0_isMachine : Room := { frames := 0, cells := 0, slots := 0, locals := 0 }
abbrev rmX0_set : Room := { frames := 1, cells := 0, slots := 0, locals := 20 }
abbrev rmX0_weave : Room := { frames := 1, cells := 0, slots := 0, locals := 20 }
abbrev rmX0_copy : Room := { frames := 1, cells := 0, slots := 0, locals := 20 }
abbrev rmX0_states : Room := { frames := 1, cells := 0, slots := 0, locals := 20 }
abbrev rmX0_run : Room := { frames := 2, cells := 0, slots := 0, locals := 43 }
abbrev rmX0_placeOf : Room := { frames := 1, cells := 0, slots := 0, locals := 20 }
abbrev rmX0_lettersOf : Room := { frames := 0, cells := 0, slots := 0, locals := 0 }
abbrev rmX0_after : Room := { frames := 0, cells := 0, slots := 0, locals := 0 }
abbrev rmX0_response : Room := { frames := 2, cells := 0, slots := 0, locals := 43 }
abbrev rmX0_alike : Room := { frames := 3, cells := 0, slots := 0, locals := 72 }
abbrev rmX0_refresh : Room := { frames := 2, cells := 0, slots := 0, locals := 48 }
abbrev rmX0_isThere : Room := { frames := 0, cells := 0, slots := 0, locals := 0 }
abbrev rmX0_goesTo : Room := { frames := 1, cells := 0, slots := 0, locals := 22 }
abbrev rmX0_difference : Room := { frames := 3, cells := 0, slots := 0, locals := 72 }
abbrev rmX0_firstWord : Room := { frames := 1, cells := 0, slots := 0, locals := 22 }
abbrev rmX0_same : Room := { frames := 3, cells := 0, slots := 0, locals := 72 }
abbrev rmX0_classes : Room := { frames := 3, cells := 0, slots := 0, locals := 72 }
abbrev rmX0_core : Room := { frames := 4, cells := 0, slots := 0, locals := 96 }
abbrev rmX0_number : Room := { frames := 3, cells := 0, slots := 0, locals := 72 }
abbrev rmX0_admit : Room := { frames := 0, cells := 0, slots := 0, locals := 0 }
abbrev rmX0_coreNext : Room := { frames := 4, cells := 0, slots := 0, locals := 96 }
abbrev rmX0_coreAnswer : Room := { frames := 4, cells := 0, slots := 0, locals := 96 }
abbrev rmX0_classOf : Room := { frames := 4, cells := 0, slots := 0, locals := 96 }
abbrev rmX0_reset : Room := { frames := 1, cells := 0, slots := 0, locals := 25 }
abbrev rmX0_together : Room := { frames := 0, cells := 0, slots := 0, locals := 0 }
abbrev rmX1_size : Room := { frames := 1, cells := 0, slots := 0, locals := 21 }
abbrev rmX1_bad : Room := { frames := 0, cells := 0, slots := 0, locals := 0 }
abbrev rmX1_set : Room := { frames := 1, cells := 0, slots := 0, locals := 21 }
abbrev rmX1_weave : Room := { frames := 1, cells := 0, slots := 0, locals := 21 }
abbrev rmX1_copy : Room := { frames := 1, cells := 0, slots := 0, locals := 21 }
abbrev rmX1_states : Room := { frames := 1, cells := 0, slots := 0, locals := 21 }
abbrev rmX1_run : Room := { frames := 2, cells := 0, slots := 0, locals := 48 }
abbrev rmX1_badState : Room := { frames := 0, cells := 0, slots := 0, locals := 0 }
abbrev rmX1_goal : Room := { frames := 1, cells := 0, slots := 0, locals := 23 }
abbrev rmX1_length : Room := { frames := 0, cells := 0, slots := 0, locals := 0 }
abbrev rmX1_response : Room := { frames := 2, cells := 0, slots := 0, locals := 50 }
abbrev rmX1_told : Room := { frames := 1, cells := 0, slots := 0, locals := 23 }
abbrev rmX1_alike : Room := { frames := 3, cells := 0, slots := 0, locals := 74 }
abbrev rmX1_apart : Room := { frames := 2, cells := 0, slots := 0, locals := 50 }
abbrev rmX1_difference : Room := { frames := 3, cells := 0, slots := 0, locals := 74 }
abbrev rmX1_same : Room := { frames := 3, cells := 0, slots := 0, locals := 74 }
abbrev rmX1_classes : Room := { frames := 3, cells := 0, slots := 0, locals := 74 }
abbrev rmX1_core : Room := { frames := 5, cells := 0, slots := 0, locals := 120 }
abbrev rmX1_work : Room := { frames := 4, cells := 0, slots := 0, locals := 97 }
abbrev rmX1_place : Room := { frames := 3, cells := 0, slots := 0, locals := 74 }
abbrev rmX1_coreNext : Room := { frames := 5, cells := 0, slots := 0, locals := 120 }
abbrev rmX1_coreAnswer : Room := { frames := 5, cells := 0, slots := 0, locals := 120 }
abbrev rmX1_classOf : Room := { frames := 5, cells := 0, slots := 0, locals := 120 }
abbrev rmX1_reset : Room := { frames := 2, cells := 0, slots := 0, locals := 48 }
theorem kI_dec (n : Nat) : nI n + Int32.ofInt (-1) = kI n := by
  show nI n + (-1) = nI n - 1
  rw [Int32.sub_eq_add_neg]
theorem nI_inc (n : Nat) : nI n + Int32.ofInt 1 = nI (n + 1) := nI_1 n
/-- a machine's number -/
abbrev mOk (x : Int32) : Prop := x = 0 ∨ x = 1
/-- a state's number: 8 * machine + state -/
abbrev stOk (sz : Nat → Nat) (x : Int32) : Prop := (0 ≤ x ∧ x ≤ 15) ∧ x.toNatClampNeg % 8 < sz (x.toNatClampNeg / 8)
def plc (sz : Nat → Nat) (x : Int32) : Int32 := if stOk sz x then nI (6 * (x.toNatClampNeg / 8) + x.toNatClampNeg % 8) else -1
theorem in15 {x : Int32} (h : 0 ≤ x ∧ x ≤ 15) : ∃ n : Nat, n < 16 ∧ x = nI n := by
  obtain ⟨j, h1, h2⟩ := nI_of2 (x := x) (M := 15) (n := 15) (by decide) (by have := h.1; simp only [Int32.lt_iff_toInt_lt, Int32.le_iff_toInt_le] at this ⊢; omega) h.2
  exact ⟨j, by omega, h2⟩
theorem nI_in15 {n : Nat} (h : n < 16) : 0 ≤ nI n ∧ nI n ≤ 15 := ⟨nI_pos' (by omega), (nI_leI (a := n) (b := 15) (by omega) (by decide)).mpr (by omega)⟩
theorem stOk_nI {sz : Nat → Nat} {n : Nat} (h : n < 16) : stOk sz (nI n) ↔ n % 8 < sz (n / 8) := by
  unfold stOk
  rw [nI_clamp (by omega)]
  exact ⟨fun q => q.2, fun q => ⟨nI_in15 h, q⟩⟩
theorem plc_nI {sz : Nat → Nat} {n : Nat} (h : n < 16) : plc sz (nI n) = if n % 8 < sz (n / 8) then nI (6 * (n / 8) + n % 8) else -1 := by
  unfold plc
  by_cases q : n % 8 < sz (n / 8)
  · rw [if_pos q, if_pos ((stOk_nI h).mpr q), nI_clamp (by omega)]
  · rw [if_neg q, if_neg (fun z => q ((stOk_nI h).mp z))]
theorem mOk_of {x : Int32} (h : mOk x) : ∃ m : Nat, m < 2 ∧ x = nI m := by
  rcases h with h | h
  · exact ⟨0, by omega, h⟩
  · exact ⟨1, by omega, h⟩
theorem mOk_nI {m : Nat} (h : m < 2) : mOk (nI m) := by
  rcases (show m = 0 ∨ m = 1 by omega) with z | z <;> subst z
  · exact Or.inl rfl
  · exact Or.inr rfl
theorem shr3_T (x : Int32) : (x >>> (nI 3 &&& 31)).toInt = x.toInt / 8 := by
  rw [pk_shr x (nI 3 &&& 31) 3 (by decide), Int.shiftRight_eq_div_pow]
  rfl
theorem st_cases (x : Int32) : (∃ n : Nat, n < 16 ∧ x = nI n) ∨ (¬ (0 ≤ x ∧ x ≤ 15) ∧ ¬ mOk (x >>> (nI 3 &&& 31))) := by
  by_cases h : 0 ≤ x ∧ x ≤ 15
  · exact Or.inl (in15 h)
  · refine Or.inr ⟨h, fun q => h ?_⟩
    have h3 := shr3_T x
    have e0 : (0 : Int32).toInt = 0 := rfl
    have e1 : (1 : Int32).toInt = 1 := rfl
    have e15 : (15 : Int32).toInt = 15 := rfl
    simp only [Int32.le_iff_toInt_le, e0, e15]
    rcases q with q | q
    · rw [q, e0] at h3; omega
    · rw [q, e1] at h3; omega
/-- the state that a word, by its code, leads to -/
def gl (nx : Nat → Nat) (m s : Nat) (c : Nat) : Nat := if c < 2 then s else nx (12 * m + 2 * gl nx m s (c / 2) + c % 2)
termination_by c
decreasing_by omega
theorem gl_lo {nx : Nat → Nat} {m s c : Nat} (h : c < 2) : gl nx m s c = s := by
  rw [gl, if_pos h]
theorem gl_hi {nx : Nat → Nat} {m s c : Nat} (h : 2 ≤ c) : gl nx m s c = nx (12 * m + 2 * gl nx m s (c / 2) + c % 2) := by
  rw [gl, if_neg (by omega)]
/-- what is told on the way: base 4 -/
def tl (nx an : Nat → Nat) (m s : Nat) (c : Nat) : Nat := if c < 2 then 0 else 4 * tl nx an m s (c / 2) + an (12 * m + 2 * gl nx m s (c / 2) + c % 2)
termination_by c
decreasing_by omega
theorem tl_lo {nx an : Nat → Nat} {m s c : Nat} (h : c < 2) : tl nx an m s c = 0 := by
  rw [tl, if_pos h]
theorem tl_hi {nx an : Nat → Nat} {m s c : Nat} (h : 2 ≤ c) : tl nx an m s c = 4 * tl nx an m s (c / 2) + an (12 * m + 2 * gl nx m s (c / 2) + c % 2) := by
  rw [tl, if_neg (by omega)]
theorem half_pow (c k : Nat) : c / 2 ^ k / 2 = c / 2 ^ (k + 1) := by
  rw [Nat.div_div_eq_div_mul, Nat.pow_succ]
/-- a well made pair of machines -/
def wf (sz nx an : Nat → Nat) : Prop := (∀ m, m < 2 → 1 ≤ sz m) ∧ (∀ m, sz m ≤ 6) ∧ (∀ m s a, m < 2 → s < sz m → a < 2 → nx (12 * m + 2 * s + a) < sz m) ∧ (∀ k, nx k < 6) ∧ (∀ k, an k < 4)
theorem gl_lt {sz nx an : Nat → Nat} (hw : wf sz nx an) {m s : Nat} (hm : m < 2) (hs : s < sz m) : ∀ c, gl nx m s c < sz m := by
  intro c
  induction c using Nat.strongRecOn with
  | ind c ih =>
    by_cases h : c < 2
    · rw [gl_lo h]; exact hs
    · rw [gl_hi (by omega)]
      exact hw.2.2.1 m _ _ hm (ih (c / 2) (by omega)) (by omega)
theorem log_div {c L : Nat} (h1 : 2 ^ L ≤ c) (h2 : c < 2 ^ (L + 1)) : c / 2 ^ L = 1 := by
  rw [Nat.pow_succ] at h2
  have hp : 0 < 2 ^ L := Nat.two_pow_pos L
  rw [Nat.div_eq_iff hp]
  omega
theorem log_one {c L K : Nat} (h1 : 2 ^ L ≤ c) (h2 : c < 2 ^ (L + 1)) (h3 : 2 ^ K ≤ c) (h4 : c < 2 ^ (K + 1)) : L = K := by
  have a1 : L < K + 1 := (Nat.pow_lt_pow_iff_right (a := 2) (by decide)).mp (Nat.lt_of_le_of_lt h1 h4)
  have a2 : K < L + 1 := (Nat.pow_lt_pow_iff_right (a := 2) (by decide)).mp (Nat.lt_of_le_of_lt h3 h2)
  omega
theorem div_pos_iff {c k : Nat} : ¬ c / 2 ^ k = 0 ↔ 2 ^ k ≤ c := by
  have hp : 0 < 2 ^ k := Nat.two_pow_pos k
  constructor
  · intro h
    rcases Nat.lt_or_ge c (2 ^ k) with q | q
    · exact absurd (Nat.div_eq_of_lt q) h
    · exact q
  · intro h e
    have := Nat.div_pos h hp
    omega
theorem pow_le12 {k : Nat} (h : k ≤ 12) : 2 ^ k ≤ 4096 := by
  have : 2 ^ k ≤ 2 ^ 12 := Nat.pow_le_pow_right (by decide) h
  omega
section NRb
variable {p : Program} {l : Launch} {e : Env} {R : Room} {s : State} {m : MethodId} {args : Array Value} {below : List Frame} {meth : Method} {c : Code} {H : Heap} {locs : List Loc} {cells slots : Nat} {Q : State → Prop}
variable {cc : ByteArray} {pc : Nat} {ls : Array Slot} {rest : List Value}
theorem n_ishrL (hexec : p.tables.exec = Jvm.exec) (hb : c.code = cc) {a b r : Nat} (hr : a / 2 ^ b = r) (hdg : decode cc pc = .ok (.ishr, 1)) (hs : b < 32) (h : a < 2 ^ 31)
    (k : W p l e R s m args below meth c H locs cells slots Q (F0 m (pc + 1) ls (.int (nI r) :: rest))) : W p l e R s m args below meth c H locs cells slots Q (F0 m pc ls (.int (nI b) :: .int (nI a) :: rest)) := by
  subst hr
  exact n_ishr hexec hb hdg hs h k
end NRb
end
section
set_option maxRecDepth 100000
/-! leaf methods -/
theorem pow_dn {k c : Nat} (h : 2 ^ (k + 1) ≤ c) : 2 ^ k ≤ c := Nat.le_trans (Nat.pow_le_pow_right (by decide) (Nat.le_succ k)) h
theorem two_le_div {k c : Nat} (h : 2 ^ (k + 1) ≤ c) : 2 ≤ c / 2 ^ k := by
  rw [Nat.le_div_iff_mul_le (Nat.two_pow_pos k)]
  rw [Nat.pow_succ] at h
  omega
theorem gl_step {nx : Nat → Nat} {m s c k : Nat} (h : 2 ^ (k + 1) ≤ c) : nx (12 * m + 2 * gl nx m s (c / 2 ^ (k + 1)) + c / 2 ^ k % 2) = gl nx m s (c / 2 ^ k) := by
  rw [gl_hi (two_le_div h), half_pow]
theorem tl_step {nx an : Nat → Nat} {m s c k : Nat} (h : 2 ^ (k + 1) ≤ c) : 4 * tl nx an m s (c / 2 ^ (k + 1)) + an (12 * m + 2 * gl nx m s (c / 2 ^ (k + 1)) + c / 2 ^ k % 2) = tl nx an m s (c / 2 ^ k) := by
  rw [tl_hi (two_le_div h), half_pow]
theorem divlt {c k B : Nat} (h : c < B) : c / 2 ^ k < B := Nat.lt_of_le_of_lt (Nat.div_le_self _ _) h
theorem tl_bound {nx an : Nat → Nat} (ha : ∀ k, an k < 4) (m s : Nat) : ∀ (L c : Nat), c < 2 ^ (L + 1) → tl nx an m s c < 4 ^ L := by
  intro L
  induction L with
  | zero =>
    intro c h
    rw [tl_lo (by omega)]
    decide
  | succ L ih =>
    intro c h
    by_cases q : c < 2
    · rw [tl_lo q]; exact Nat.pow_pos (by decide)
    · rw [tl_hi (by omega)]
      have h1 := ih (c / 2) (by rw [Nat.pow_succ] at h; omega)
      have h2 := ha (12 * m + 2 * gl nx m s (c / 2) + c % 2)
      rw [Nat.pow_succ 4 L]
      omega
theorem tl_small {nx an : Nat → Nat} (ha : ∀ k, an k < 4) (m s : Nat) {c : Nat} (h : c < 4096) : tl nx an m s c < 4194304 := tl_bound ha m s 11 c h
set_option maxHeartbeats 4000000 in
set_option maxRecDepth 100000 in
/-- x is 0 or 1 -/
theorem mX_isMachine (l : Launch) (x : Int32) : MetS l yX0_isMachine cX0_isMachine 1 (some .boolean) rmX0_isMachine [.int x] (fun r => r = nI (if mOk x then 1 else 0)) := by
  refine entSz rfl (by decide) rfl rfl (Nat.le_of_ble_eq_true rfl) ?_
  intro p e s m below meth c args Q S ret ls hl
  have hx := S.1
  have hb := S.2.1
  have hl : lv_has ls 1 [(0, .int x)] := hl
  refine lv_iload_n hx hb dX0_isMachine_0 rfl (lv_at hl 0 rfl) ?_
  refine lv_if_eq (tgt := 9) hx hb dX0_isMachine_1 (by decide) (fun c_1 => ?_) (fun c_1 => ?_)
  · refine lv_iconst (v := nI 1) hx hb dX0_isMachine_9 (by decide) ?_
    refine lv_goto (tgt := 14) hx hb dX0_isMachine_10 (by decide) ?_
    exact ret _ _ _ dX0_isMachine_14 (by omega) (by first | rw [if_pos (show mOk x from Or.inl c_1)] | rw [if_pos (show mOk x from Or.inr c_6)] | rw [if_neg (show ¬ mOk x from fun z => z.elim c_1 c_6)])
  · refine lv_iload_n hx hb dX0_isMachine_4 rfl (lv_at hl 0 rfl) ?_
    refine lv_iconst (v := nI 1) hx hb dX0_isMachine_5 (by decide) ?_
    refine lv_icmp_ne (tgt := 13) hx hb dX0_isMachine_6 (by decide) (fun c_6 => ?_) (fun c_6 => ?_)
    · refine lv_iconst (v := nI 0) hx hb dX0_isMachine_13 (by decide) ?_
      exact ret _ _ _ dX0_isMachine_14 (by omega) (by first | rw [if_pos (show mOk x from Or.inl c_1)] | rw [if_pos (show mOk x from Or.inr c_6)] | rw [if_neg (show ¬ mOk x from fun z => z.elim c_1 c_6)])
    · refine lv_iconst (v := nI 1) hx hb dX0_isMachine_9 (by decide) ?_
      refine lv_goto (tgt := 14) hx hb dX0_isMachine_10 (by decide) ?_
      exact ret _ _ _ dX0_isMachine_14 (by omega) (by first | rw [if_pos (show mOk x from Or.inl c_1)] | rw [if_pos (show mOk x from Or.inr c_6)] | rw [if_neg (show ¬ mOk x from fun z => z.elim c_1 c_6)])
theorem mX_isMachine_y (l : Launch) (m0 : Nat) (hm : m0 < 2) : MetS l yX0_isMachine cX0_isMachine 1 (some .boolean) rmX0_isMachine [.int (nI m0)] (fun r => r = nI 1) := by
  have h := mX_isMachine l (nI m0)
  rw [if_pos (mOk_nI hm)] at h
  exact h
theorem mX_isMachine_n (l : Launch) (x : Int32) (hm : ¬ mOk x) : MetS l yX0_isMachine cX0_isMachine 1 (some .boolean) rmX0_isMachine [.int x] (fun r => r = nI 0) := by
  have h := mX_isMachine l x
  rw [if_neg hm] at h
  exact h
set_option maxHeartbeats 4000000 in
set_option maxRecDepth 100000 in
/-- the number of letters of a code -/
theorem mX_lettersOf (l : Launch) (v : Nat) (h1 : 1 ≤ v) (hv : v ≤ 4095) : MetS l yX0_lettersOf cX0_lettersOf 2 (some .int) rmX0_lettersOf [.int (nI v)] (fun r => ∃ L : Nat, r = nI L ∧ L ≤ 11 ∧ 2 ^ L ≤ v ∧ v < 2 ^ (L + 1)) := by
  refine entSi rfl (by decide) rfl rfl (Nat.le_of_ble_eq_true rfl) ?_
  intro p e s m below meth c args Q S ret ls hl
  have hx := S.1
  have hb := S.2.1
  have hl : lv_has ls 2 [(0, .int (nI v))] := hl
  refine lv_iconst (v := nI 0) hx hb dX0_lettersOf_0 (by decide) ?_
  refine lv_istore_n (lv' := [(1, .int (nI 0)), (0, .int (nI v))]) hx hb dX0_lettersOf_1 rfl hl (by decide) rfl (fun ls hl => ?_)
  have lp : ∀ (N : Nat) (L : Nat), (L ≤ 11) → (2 ^ L ≤ v) → 11 - L < N → ∀ (ls : Array Slot), lv_has ls 2 [(0, .int (nI v)), (1, .int (nI L))] → W p l e rmX0_lettersOf s m args below meth c s.heap [] 0 0 Q (F0 m 2 ls []) := by
    intro N
    induction N with
    | zero =>
      intro L hL h2 hms
      exact absurd hms (Nat.not_lt_zero _)
    | succ N ih =>
      intro L hL h2 hms ls hl
      have hp := pow_le12 (k := L) (by omega)
      refine lv_iload_n hx hb dX0_lettersOf_2 rfl (lv_at hl 1 rfl) ?_
      refine lv_bipush (v := nI 11) hx hb dX0_lettersOf_3 (by decide) ?_
      refine n_icmp_ge (tgt := 21) hx hb dX0_lettersOf_5 (by decide) (by omega) (by omega) (fun c_5 => ?_) (fun c_5 => ?_)
      · refine lv_iload_n hx hb dX0_lettersOf_21 rfl (lv_at hl 1 rfl) ?_
        exact ret _ _ _ dX0_lettersOf_22 (⟨L, rfl, by omega, h2, by first | (have e : L = 11 := by omega); subst e; omega | (rw [Nat.pow_succ]; omega)⟩)
      · refine lv_iload_n hx hb dX0_lettersOf_8 rfl (lv_at hl 0 rfl) ?_
        refine lv_iconst (v := nI 2) hx hb dX0_lettersOf_9 (by decide) ?_
        refine lv_iload_n hx hb dX0_lettersOf_10 rfl (lv_at hl 1 rfl) ?_
        refine n_ishl hx hb dX0_lettersOf_11 (by omega) (by omega) ?_
        refine n_icmp_lt (tgt := 21) hx hb dX0_lettersOf_12 (by decide) (by omega) (by omega) (fun c_12 => ?_) (fun c_12 => ?_)
        · refine lv_iload_n hx hb dX0_lettersOf_21 rfl (lv_at hl 1 rfl) ?_
          exact ret _ _ _ dX0_lettersOf_22 (⟨L, rfl, by omega, h2, by first | (have e : L = 11 := by omega); subst e; omega | (rw [Nat.pow_succ]; omega)⟩)
        · refine lv_iinc (v := (nI (L + 1))) (lv' := [(1, .int (nI (L + 1))), (0, .int (nI v))]) hx hb dX0_lettersOf_15 hl (k := 1) rfl (nI_1 _) (by decide) rfl (fun ls hl => ?_)
          refine lv_goto (tgt := 2) hx hb dX0_lettersOf_18 (by decide) ?_
          exact ih (L + 1) (by omega) (by rw [Nat.pow_succ]; omega) (by omega) _ (lv_sub hl [1, 0] rfl)
  exact lp _ 0 (by omega) (by omega) (Nat.lt_succ_self _) _ (lv_sub hl [1, 0] rfl)
set_option maxHeartbeats 4000000 in
set_option maxRecDepth 100000 in
/-- where a letter leads -/
theorem mX_after (l : Launch) (sz nx an ap : Nat → Nat) (cn : Nat → Int32) (ld qu wo : Nat → Nat) (co cu : Nat) (q a0 : Nat) (hq : q < 12) (ha0 : a0 < 2) (hN : ∀ k, nx k < 6) : MetX l yX0_after cX0_after 3 (some .int) rmX0_after [.int (nI q), .int (nI a0)] (sz, nx, an, ap, cn, ld, qu, wo, co, cu) (fun r u1 => r = nI (6 * (q / 6) + nx (2 * q + a0)) ∧ u1 = (sz, nx, an, ap, cn, ld, qu, wo, co, cu)) := by
  refine entXi rfl (by decide) rfl rfl (fun _ => Nat.le_of_ble_eq_true rfl) ?_
  intro G d h a A p e s m below meth c args Q S hA hX ret ls hl
  have hx := S.1
  have hb := S.2.1
  have hl : lv_has ls 3 [(0, .ref h), (1, .int (nI q)), (2, .int (nI a0))] := hl
  refine lv_bipush (v := nI 6) hx hb dX0_after_0 (by decide) ?_
  refine lv_iload_n hx hb dX0_after_2 rfl (lv_at hl 1 rfl) ?_
  refine lv_bipush (v := nI 6) hx hb dX0_after_3 (by decide) ?_
  refine n_idiv hx hb dX0_after_5 (by omega) (by decide) (by decide) ?_
  refine n_imul hx hb dX0_after_6 ?_
  refine lv_aload_n hx hb dX0_after_7 rfl (lv_at hl 0 rfl) ?_
  refine xg1 S hX dX0_after_8 ?_
  refine lv_iconst (v := nI 2) hx hb dX0_after_11 (by decide) ?_
  refine lv_iload_n hx hb dX0_after_12 rfl (lv_at hl 1 rfl) ?_
  refine n_imul hx hb dX0_after_13 ?_
  refine lv_iload_n hx hb dX0_after_14 rfl (lv_at hl 2 rfl) ?_
  refine n_iadd hx hb dX0_after_15 ?_
  refine xl1 S hX dX0_after_16 (by omega) ?_
  have b_16 := hN (2 * q + a0)
  refine n_iadd hx hb dX0_after_17 ?_
  exact ret _ _ _ _ _ _ dX0_after_18 (⟨rfl, rfl⟩) hX
set_option maxHeartbeats 4000000 in
set_option maxRecDepth 100000 in
/-- whether a place has a state -/
theorem mX_isThere (l : Launch) (sz nx an ap : Nat → Nat) (cn : Nat → Int32) (ld qu wo : Nat → Nat) (co cu : Nat) (q : Nat) (hq : q < 12) (hZ : ∀ k, sz k ≤ 6) : MetX l yX0_isThere cX0_isThere 2 (some .boolean) rmX0_isThere [.int (nI q)] (sz, nx, an, ap, cn, ld, qu, wo, co, cu) (fun r u1 => r = nI (if q % 6 < sz (q / 6) then 1 else 0) ∧ u1 = (sz, nx, an, ap, cn, ld, qu, wo, co, cu)) := by
  refine entXz rfl (by decide) rfl rfl (fun _ => Nat.le_of_ble_eq_true rfl) ?_
  intro G d h a A p e s m below meth c args Q S hA hX ret ls hl
  have hx := S.1
  have hb := S.2.1
  have hl : lv_has ls 2 [(0, .ref h), (1, .int (nI q))] := hl
  refine lv_iload_n hx hb dX0_isThere_0 rfl (lv_at hl 1 rfl) ?_
  refine lv_bipush (v := nI 6) hx hb dX0_isThere_1 (by decide) ?_
  refine n_irem hx hb dX0_isThere_3 (by omega) (by decide) (by decide) ?_
  refine lv_aload_n hx hb dX0_isThere_4 rfl (lv_at hl 0 rfl) ?_
  refine xg0 S hX dX0_isThere_5 ?_
  refine lv_iload_n hx hb dX0_isThere_8 rfl (lv_at hl 1 rfl) ?_
  refine lv_bipush (v := nI 6) hx hb dX0_isThere_9 (by decide) ?_
  refine n_idiv hx hb dX0_isThere_11 (by omega) (by decide) (by decide) ?_
  refine xl0 S hX dX0_isThere_12 (by omega) ?_
  have b_12 := hZ (q / 6)
  refine n_icmp_ge (tgt := 20) hx hb dX0_isThere_13 (by decide) (by omega) (by omega) (fun c_13 => ?_) (fun c_13 => ?_)
  · refine lv_iconst (v := nI 0) hx hb dX0_isThere_20 (by decide) ?_
    exact ret _ _ _ _ _ _ dX0_isThere_21 (by omega) (⟨by first | rw [if_pos (by omega)] | rw [if_neg (by omega)], rfl⟩) hX
  · refine lv_iconst (v := nI 1) hx hb dX0_isThere_16 (by decide) ?_
    refine lv_goto (tgt := 21) hx hb dX0_isThere_17 (by decide) ?_
    exact ret _ _ _ _ _ _ dX0_isThere_21 (by omega) (⟨by first | rw [if_pos (by omega)] | rw [if_neg (by omega)], rfl⟩) hX
set_option maxHeartbeats 4000000 in
set_option maxRecDepth 100000 in
/-- the place of a state -/
theorem mX_placeOf_in (l : Launch) (sz nx an ap : Nat → Nat) (cn : Nat → Int32) (ld qu wo : Nat → Nat) (co cu : Nat) (v : Nat) (hv : v < 16) (hZ : ∀ k, sz k ≤ 6) : MetX l yX0_placeOf cX0_placeOf 4 (some .int) rmX0_placeOf [.int (nI v)] (sz, nx, an, ap, cn, ld, qu, wo, co, cu) (fun r u1 => r = plc sz (nI v) ∧ u1 = (sz, nx, an, ap, cn, ld, qu, wo, co, cu)) := by
  refine entXi rfl (by decide) rfl rfl (fun _ => Nat.le_of_ble_eq_true rfl) ?_
  intro G d h a A p e s m below meth c args Q S hA hX ret ls hl
  have hx := S.1
  have hb := S.2.1
  have hl : lv_has ls 4 [(0, .ref h), (1, .int (nI v))] := hl
  refine lv_iload_n hx hb dX0_placeOf_0 rfl (lv_at hl 1 rfl) ?_
  refine lv_iconst (v := nI 3) hx hb dX0_placeOf_1 (by decide) ?_
  refine n_ishrL (r := v / 8) hx hb rfl dX0_placeOf_2 (by decide) (by omega) ?_
  refine lv_istore_n (lv' := [(2, .int (nI (v / 8))), (0, .ref h), (1, .int (nI v))]) hx hb dX0_placeOf_3 rfl hl (by decide) rfl (fun ls hl => ?_)
  refine lv_iload_n hx hb dX0_placeOf_4 rfl (lv_at hl 2 rfl) ?_
  refine lv_bipush (v := nI 7) hx hb dX0_placeOf_5 (by decide) ?_
  refine n_iand7 hx hb dX0_placeOf_7 (by omega) ?_
  refine lv_istore_n (lv' := [(3, .int (nI (v % 8))), (2, .int (nI (v / 8))), (0, .ref h), (1, .int (nI v))]) hx hb dX0_placeOf_8 rfl hl (by decide) rfl (fun ls hl => ?_)
  refine lv_iload_n hx hb dX0_placeOf_9 rfl (lv_at hl 1 rfl) ?_
  refine callXs S hA hX (mX_isMachine_y l (v / 8) (by omega)) (va_cwS 1 S.2.2.2.2 (lw_S q64 q65 q18 q66) rfl rfl rfl (by decide +kernel) ⟨Nat.le_of_ble_eq_true rfl, Nat.le_of_ble_eq_true rfl⟩) rfl hl.1 rfl (Nat.le_of_ble_eq_true rfl) dX0_placeOf_10 ⟨Nat.zero_le _, Nat.zero_le _⟩ (fun r H locs hq hX => ?_)
  subst hq
  refine n_if_eq (tgt := 35) hx hb dX0_placeOf_13 (by decide) (by decide) (fun q => absurd q (by decide)) (fun _ => ?_)
  refine lv_iload_n hx hb dX0_placeOf_16 rfl (lv_at hl 0 rfl) ?_
  refine lv_aload_n hx hb dX0_placeOf_17 rfl (lv_at hl 2 rfl) ?_
  refine xg0 S hX dX0_placeOf_18 ?_
  refine lv_iload_n hx hb dX0_placeOf_21 rfl (lv_at hl 1 rfl) ?_
  refine xl0 S hX dX0_placeOf_22 (by omega) ?_
  have b_22 := hZ (v / 8)
  refine n_icmp_ge (tgt := 35) hx hb dX0_placeOf_23 (by decide) (by omega) (by omega) (fun c_23 => ?_) (fun c_23 => ?_)
  · refine lv_iconst (v := -1) hx hb dX0_placeOf_35 (by decide) ?_
    exact ret _ _ _ _ _ _ dX0_placeOf_36 (⟨by first | rw [plc_nI hv, if_pos (by omega)] | rw [plc_nI hv, if_neg (by omega)], rfl⟩) hX
  · refine lv_bipush (v := nI 6) hx hb dX0_placeOf_26 (by decide) ?_
    refine lv_iload_n hx hb dX0_placeOf_28 rfl (lv_at hl 1 rfl) ?_
    refine n_imul hx hb dX0_placeOf_29 ?_
    refine lv_iload_n hx hb dX0_placeOf_30 rfl (lv_at hl 0 rfl) ?_
    refine n_iadd hx hb dX0_placeOf_31 ?_
    refine lv_goto (tgt := 36) hx hb dX0_placeOf_32 (by decide) ?_
    exact ret _ _ _ _ _ _ dX0_placeOf_36 (⟨by first | rw [plc_nI hv, if_pos (by omega)] | rw [plc_nI hv, if_neg (by omega)], rfl⟩) hX
set_option maxHeartbeats 4000000 in
set_option maxRecDepth 100000 in
/-- the place of a state -/
theorem mX_placeOf_out (l : Launch) (sz nx an ap : Nat → Nat) (cn : Nat → Int32) (ld qu wo : Nat → Nat) (co cu : Nat) (x : Int32) (hs : ¬ (0 ≤ x ∧ x ≤ 15)) (hm : ¬ mOk (x >>> (nI 3 &&& 31))) (hZ : ∀ k, sz k ≤ 6) : MetX l yX0_placeOf cX0_placeOf 4 (some .int) rmX0_placeOf [.int x] (sz, nx, an, ap, cn, ld, qu, wo, co, cu) (fun r u1 => r = plc sz x ∧ u1 = (sz, nx, an, ap, cn, ld, qu, wo, co, cu)) := by
  refine entXi rfl (by decide) rfl rfl (fun _ => Nat.le_of_ble_eq_true rfl) ?_
  intro G d h a A p e s m below meth c args Q S hA hX ret ls hl
  have hx := S.1
  have hb := S.2.1
  have hl : lv_has ls 4 [(0, .ref h), (1, .int x)] := hl
  refine lv_iload_n hx hb dX0_placeOf_0 rfl (lv_at hl 1 rfl) ?_
  refine lv_iconst (v := nI 3) hx hb dX0_placeOf_1 (by decide) ?_
  refine lv_ishr hx hb dX0_placeOf_2 ?_
  refine lv_istore_n (lv' := [(2, .int (x >>> ((nI 3) &&& 31))), (0, .ref h), (1, .int x)]) hx hb dX0_placeOf_3 rfl hl (by decide) rfl (fun ls hl => ?_)
  refine lv_iload_n hx hb dX0_placeOf_4 rfl (lv_at hl 2 rfl) ?_
  refine lv_bipush (v := nI 7) hx hb dX0_placeOf_5 (by decide) ?_
  refine lv_iand hx hb dX0_placeOf_7 ?_
  refine lv_istore_n (lv' := [(3, .int (x &&& (nI 7))), (2, .int (x >>> ((nI 3) &&& 31))), (0, .ref h), (1, .int x)]) hx hb dX0_placeOf_8 rfl hl (by decide) rfl (fun ls hl => ?_)
  refine lv_iload_n hx hb dX0_placeOf_9 rfl (lv_at hl 1 rfl) ?_
  refine callXs S hA hX (mX_isMachine_n l _ hm) (va_cwS 1 S.2.2.2.2 (lw_S q64 q65 q18 q66) rfl rfl rfl (by decide +kernel) ⟨Nat.le_of_ble_eq_true rfl, Nat.le_of_ble_eq_true rfl⟩) rfl hl.1 rfl (Nat.le_of_ble_eq_true rfl) dX0_placeOf_10 ⟨Nat.zero_le _, Nat.zero_le _⟩ (fun r H locs hq hX => ?_)
  subst hq
  refine n_if_eq (tgt := 35) hx hb dX0_placeOf_13 (by decide) (by decide) (fun _ => ?_) (fun q => absurd q (by decide))
  refine lv_iconst (v := -1) hx hb dX0_placeOf_35 (by decide) ?_
  exact ret _ _ _ _ _ _ dX0_placeOf_36 (⟨by unfold plc; rw [if_neg (show ¬ stOk sz x from fun z => hs z.1)], rfl⟩) hX
theorem mX_placeOf (l : Launch) (sz nx an ap : Nat → Nat) (cn : Nat → Int32) (ld qu wo : Nat → Nat) (co cu : Nat) (x : Int32) (hZ : ∀ k, sz k ≤ 6) : MetX l yX0_placeOf cX0_placeOf 4 (some .int) rmX0_placeOf [.int x] (sz, nx, an, ap, cn, ld, qu, wo, co, cu) (fun r u1 => r = plc sz x ∧ u1 = (sz, nx, an, ap, cn, ld, qu, wo, co, cu)) := by
  rcases st_cases x with ⟨v, hv, rfl⟩ | ⟨h1, h2⟩
  · exact mX_placeOf_in l sz nx an ap cn ld qu wo co cu v hv hZ
  · exact mX_placeOf_out l sz nx an ap cn ld qu wo co cu x h1 h2 hZ
theorem badM1 {x : Int32} (h : x < 0) : ¬ mOk x := by
  rintro (z | z) <;> subst z <;> exact absurd h (by decide)
theorem badM3 {x : Int32} (h : ¬ x ≤ nI 1) : ¬ mOk x := by
  rintro (z | z) <;> subst z <;> exact absurd (by decide) h
theorem badM2 {x : Int32} (h : ¬ x < 0) (h2 : x ≤ nI 1) : ¬ ¬ mOk x := by
  obtain ⟨j, h1, h2⟩ := nI_of2 (x := x) (M := 1) (n := 1) (by decide) h h2
  exact fun z => z (h2 ▸ mOk_nI (by omega))
set_option maxHeartbeats 4000000 in
set_option maxRecDepth 100000 in
/-- no machine has this number -/
theorem mY_bad (l : Launch) (sz nx an : Nat → Nat) (ct : Nat) (mb : Nat → Nat) (x : Int32) : MetY l yX1_bad cX1_bad 2 (some .boolean) rmX1_bad [.int x] (sz, nx, an, ct, mb) (fun r u1 => r = nI (if ¬ mOk x then 1 else 0) ∧ u1 = (sz, nx, an, ct, mb)) := by
  refine entYz rfl (by decide) rfl rfl (fun _ => Nat.le_of_ble_eq_true rfl) ?_
  intro G d h a A p e s m below meth c args Q S hA hX ret ls hl
  have hx := S.1
  have hb := S.2.1
  have hl : lv_has ls 2 [(0, .ref h), (1, .int x)] := hl
  refine lv_iload_n hx hb dX1_bad_0 rfl (lv_at hl 1 rfl) ?_
  refine lv_if_lt (tgt := 9) hx hb dX1_bad_1 (by decide) (fun c_1 => ?_) (fun c_1 => ?_)
  · refine lv_iconst (v := nI 1) hx hb dX1_bad_9 (by decide) ?_
    refine lv_goto (tgt := 14) hx hb dX1_bad_10 (by decide) ?_
    exact ret _ _ _ _ _ _ dX1_bad_14 (by omega) (⟨by first | rw [if_pos (badM1 c_1)] | rw [if_neg (badM2 c_1 c_6)] | rw [if_pos (badM3 c_6)], rfl⟩) hX
  · refine lv_iload_n hx hb dX1_bad_4 rfl (lv_at hl 1 rfl) ?_
    refine lv_iconst (v := nI 1) hx hb dX1_bad_5 (by decide) ?_
    refine lv_icmp_le (tgt := 13) hx hb dX1_bad_6 (by decide) (fun c_6 => ?_) (fun c_6 => ?_)
    · refine lv_iconst (v := nI 0) hx hb dX1_bad_13 (by decide) ?_
      exact ret _ _ _ _ _ _ dX1_bad_14 (by omega) (⟨by first | rw [if_pos (badM1 c_1)] | rw [if_neg (badM2 c_1 c_6)] | rw [if_pos (badM3 c_6)], rfl⟩) hX
    · refine lv_iconst (v := nI 1) hx hb dX1_bad_9 (by decide) ?_
      refine lv_goto (tgt := 14) hx hb dX1_bad_10 (by decide) ?_
      exact ret _ _ _ _ _ _ dX1_bad_14 (by omega) (⟨by first | rw [if_pos (badM1 c_1)] | rw [if_neg (badM2 c_1 c_6)] | rw [if_pos (badM3 c_6)], rfl⟩) hX
set_option maxHeartbeats 4000000 in
set_option maxRecDepth 100000 in
theorem mY_badState_in (l : Launch) (sz nx an : Nat → Nat) (ct : Nat) (mb : Nat → Nat) (v : Nat) (hv : v < 16) (hZ : ∀ k, sz k ≤ 6) : MetY l yX1_badState cX1_badState 2 (some .boolean) rmX1_badState [.int (nI v)] (sz, nx, an, ct, mb) (fun r u1 => r = nI (if ¬ stOk sz (nI v) then 1 else 0) ∧ u1 = (sz, nx, an, ct, mb)) := by
  refine entYz rfl (by decide) rfl rfl (fun _ => Nat.le_of_ble_eq_true rfl) ?_
  intro G d h a A p e s m below meth c args Q S hA hX ret ls hl
  have hx := S.1
  have hb := S.2.1
  have hl : lv_has ls 2 [(0, .ref h), (1, .int (nI v))] := hl
  refine lv_iload_n hx hb dX1_badState_0 rfl (lv_at hl 1 rfl) ?_
  refine n_if_lt (tgt := 26) hx hb dX1_badState_1 (by decide) (by omega) ?_
  refine lv_iload_n hx hb dX1_badState_4 rfl (lv_at hl 1 rfl) ?_
  refine lv_bipush (v := nI 15) hx hb dX1_badState_5 (by decide) ?_
  refine n_icmp_gt (tgt := 26) hx hb dX1_badState_7 (by decide) (by omega) (by omega) (fun c_7 => ?_) (fun c_7 => ?_)
  · omega
  · refine lv_iload_n hx hb dX1_badState_10 rfl (lv_at hl 1 rfl) ?_
    refine lv_bipush (v := nI 8) hx hb dX1_badState_11 (by decide) ?_
    refine n_irem hx hb dX1_badState_13 (by omega) (by decide) (by decide) ?_
    refine lv_aload_n hx hb dX1_badState_14 rfl (lv_at hl 0 rfl) ?_
    refine yg0 S hX dX1_badState_15 ?_
    refine lv_iload_n hx hb dX1_badState_18 rfl (lv_at hl 1 rfl) ?_
    refine lv_bipush (v := nI 8) hx hb dX1_badState_19 (by decide) ?_
    refine n_idiv hx hb dX1_badState_21 (by omega) (by decide) (by decide) ?_
    refine yl0 S hX dX1_badState_22 (by omega) ?_
    have b_22 := hZ (v / 8)
    refine n_icmp_lt (tgt := 30) hx hb dX1_badState_23 (by decide) (by omega) (by omega) (fun c_23 => ?_) (fun c_23 => ?_)
    · refine lv_iconst (v := nI 0) hx hb dX1_badState_30 (by decide) ?_
      exact ret _ _ _ _ _ _ dX1_badState_31 (by omega) (⟨by first | rw [if_neg (show ¬ ¬ stOk sz (nI v) from fun z => z ((stOk_nI hv).mpr c_23))] | rw [if_pos (show ¬ stOk sz (nI v) from fun z => c_23 ((stOk_nI hv).mp z))], rfl⟩) hX
    · refine lv_iconst (v := nI 1) hx hb dX1_badState_26 (by decide) ?_
      refine lv_goto (tgt := 31) hx hb dX1_badState_27 (by decide) ?_
      exact ret _ _ _ _ _ _ dX1_badState_31 (by omega) (⟨by first | rw [if_neg (show ¬ ¬ stOk sz (nI v) from fun z => z ((stOk_nI hv).mpr c_23))] | rw [if_pos (show ¬ stOk sz (nI v) from fun z => c_23 ((stOk_nI hv).mp z))], rfl⟩) hX
set_option maxHeartbeats 4000000 in
set_option maxRecDepth 100000 in
theorem mY_badState_out (l : Launch) (sz nx an : Nat → Nat) (ct : Nat) (mb : Nat → Nat) (x : Int32) (hs : ¬ (0 ≤ x ∧ x ≤ 15)) : MetY l yX1_badState cX1_badState 2 (some .boolean) rmX1_badState [.int x] (sz, nx, an, ct, mb) (fun r u1 => r = nI (if ¬ stOk sz x then 1 else 0) ∧ u1 = (sz, nx, an, ct, mb)) := by
  refine entYz rfl (by decide) rfl rfl (fun _ => Nat.le_of_ble_eq_true rfl) ?_
  intro G d h a A p e s m below meth c args Q S hA hX ret ls hl
  have hx := S.1
  have hb := S.2.1
  have hl : lv_has ls 2 [(0, .ref h), (1, .int x)] := hl
  refine lv_iload_n hx hb dX1_badState_0 rfl (lv_at hl 1 rfl) ?_
  refine lv_if_lt (tgt := 26) hx hb dX1_badState_1 (by decide) (fun c_1 => ?_) (fun c_1 => ?_)
  · refine lv_iconst (v := nI 1) hx hb dX1_badState_26 (by decide) ?_
    refine lv_goto (tgt := 31) hx hb dX1_badState_27 (by decide) ?_
    exact ret _ _ _ _ _ _ dX1_badState_31 (by omega) (⟨by rw [if_pos (show ¬ stOk sz x from fun z => hs z.1)], rfl⟩) hX
  · refine lv_iload_n hx hb dX1_badState_4 rfl (lv_at hl 1 rfl) ?_
    refine lv_bipush (v := nI 15) hx hb dX1_badState_5 (by decide) ?_
    refine lv_icmp_gt (tgt := 26) hx hb dX1_badState_7 (by decide) (fun c_7 => ?_) (fun c_7 => ?_)
    · refine lv_iconst (v := nI 1) hx hb dX1_badState_26 (by decide) ?_
      refine lv_goto (tgt := 31) hx hb dX1_badState_27 (by decide) ?_
      exact ret _ _ _ _ _ _ dX1_badState_31 (by omega) (⟨by rw [if_pos (show ¬ stOk sz x from fun z => hs z.1)], rfl⟩) hX
    · exact absurd ⟨by simp only [Int32.lt_iff_toInt_lt, Int32.le_iff_toInt_le] at c_1 ⊢; omega, by simp only [Int32.lt_iff_toInt_lt, Int32.le_iff_toInt_le] at c_7 ⊢; exact Int.not_lt.mp c_7⟩ hs
theorem mY_badState (l : Launch) (sz nx an : Nat → Nat) (ct : Nat) (mb : Nat → Nat) (x : Int32) (hZ : ∀ k, sz k ≤ 6) : MetY l yX1_badState cX1_badState 2 (some .boolean) rmX1_badState [.int x] (sz, nx, an, ct, mb) (fun r u1 => r = nI (if ¬ stOk sz x then 1 else 0) ∧ u1 = (sz, nx, an, ct, mb)) := by
  rcases st_cases x with ⟨v, hv, rfl⟩ | ⟨h1, h2⟩
  · exact mY_badState_in l sz nx an ct mb v hv hZ
  · exact mY_badState_out l sz nx an ct mb x h1
set_option maxHeartbeats 4000000 in
set_option maxRecDepth 100000 in
/-- the number of letters of a code -/
theorem mY_length (l : Launch) (sz nx an : Nat → Nat) (ct : Nat) (mb : Nat → Nat) (v : Nat) (h1 : 1 ≤ v) (hv : v ≤ 4095) : MetY l yX1_length cX1_length 4 (some .int) rmX1_length [.int (nI v)] (sz, nx, an, ct, mb) (fun r u1 => (∃ L : Nat, r = nI L ∧ L ≤ 11 ∧ 2 ^ L ≤ v ∧ v < 2 ^ (L + 1)) ∧ u1 = (sz, nx, an, ct, mb)) := by
  refine entYi rfl (by decide) rfl rfl (fun _ => Nat.le_of_ble_eq_true rfl) ?_
  intro G d h a A p e s m below meth c args Q S hA hX ret ls hl
  have hx := S.1
  have hb := S.2.1
  have hl : lv_has ls 4 [(0, .ref h), (1, .int (nI v))] := hl
  refine lv_iconst (v := nI 0) hx hb dX1_length_0 (by decide) ?_
  refine lv_istore_n (lv' := [(2, .int (nI 0)), (0, .ref h), (1, .int (nI v))]) hx hb dX1_length_1 rfl hl (by decide) rfl (fun ls hl => ?_)
  refine lv_iconst (v := nI 1) hx hb dX1_length_2 (by decide) ?_
  refine lv_istore_n (lv' := [(3, .int (nI 1)), (2, .int (nI 0)), (0, .ref h), (1, .int (nI v))]) hx hb dX1_length_3 rfl hl (by decide) rfl (fun ls hl => ?_)
  have lp : ∀ (N : Nat) (L : Nat) (k : Nat), (1 ≤ k) → (k ≤ 13) → (L < k) → (2 ^ L ≤ v) → (∀ j, L < j → j < k → ¬ 2 ^ j ≤ v) → 13 - k < N → ∀ (H : Heap) (locs : List Loc) (ls : Array Slot), HY G d h a A s (sz, nx, an, ct, mb) H locs → lv_has ls 4 [(0, .ref h), (1, .int (nI v)), (2, .int (nI L)), (3, .int (nI k))] → W p l e rmX1_length s m args below meth c H locs 0 0 Q (F0 m 4 ls []) := by
    intro N
    induction N with
    | zero =>
      intro L k hk1 hk hLk hLv hj hms
      exact absurd hms (Nat.not_lt_zero _)
    | succ N ih =>
      intro L k hk1 hk hLk hLv hj hms H locs ls hX hl
      refine lv_iload_n hx hb dX1_length_4 rfl (lv_at hl 3 rfl) ?_
      refine lv_bipush (v := nI 13) hx hb dX1_length_5 (by decide) ?_
      refine n_icmp_ge (tgt := 24) hx hb dX1_length_7 (by decide) (by omega) (by omega) (fun c_7 => ?_) (fun c_7 => ?_)
      · refine lv_iload_n hx hb dX1_length_24 rfl (lv_at hl 2 rfl) ?_
        exact ret _ _ _ _ _ _ dX1_length_25 (⟨⟨L, rfl, by (have e : ¬ L = 12 := fun z => by subst z; exact absurd hLv (by omega)); omega, hLv, by rcases Nat.lt_or_ge v (2 ^ (L + 1)) with q | q; exact q; exact absurd q (hj (L + 1) (by omega) (by (have e : ¬ L = 12 := fun z => by subst z; exact absurd hLv (by omega)); omega))⟩, rfl⟩) hX
      · refine lv_iload_n hx hb dX1_length_10 rfl (lv_at hl 1 rfl) ?_
        refine lv_iload_n hx hb dX1_length_11 rfl (lv_at hl 3 rfl) ?_
        refine n_ishr hx hb dX1_length_12 (by omega) (by omega) ?_
        refine n_if_le (tgt := 18) hx hb dX1_length_13 (by decide) (divlt (by omega)) (fun c_13 => ?_) (fun c_13 => ?_)
        · refine lv_iinc (v := (nI (k + 1))) (lv' := [(3, .int (nI (k + 1))), (0, .ref h), (1, .int (nI v)), (2, .int (nI L))]) hx hb dX1_length_18 hl (k := 3) rfl (nI_1 _) (by decide) rfl (fun ls hl => ?_)
          refine lv_goto (tgt := 4) hx hb dX1_length_21 (by decide) ?_
          exact ih L (k + 1) (by omega) (by omega) (by omega) (hLv) (fun j h1 h2 => by rcases Nat.lt_or_ge j k with q | q; exact hj j h1 q; (have e : j = k := by omega); subst e; exact fun z => div_pos_iff.mpr z c_13) (by omega) _ _ _ hX (lv_sub hl [1, 2, 3, 0] rfl)
        · refine lv_iload_n hx hb dX1_length_16 rfl (lv_at hl 3 rfl) ?_
          refine lv_istore_n (lv' := [(2, .int (nI k)), (0, .ref h), (1, .int (nI v)), (3, .int (nI k))]) hx hb dX1_length_17 rfl hl (by decide) rfl (fun ls hl => ?_)
          refine lv_iinc (v := (nI (k + 1))) (lv' := [(3, .int (nI (k + 1))), (2, .int (nI k)), (0, .ref h), (1, .int (nI v))]) hx hb dX1_length_18 hl (k := 3) rfl (nI_1 _) (by decide) rfl (fun ls hl => ?_)
          refine lv_goto (tgt := 4) hx hb dX1_length_21 (by decide) ?_
          exact ih k (k + 1) (by omega) (by omega) (by omega) (div_pos_iff.mp c_13) (by omega) (by omega) _ _ _ hX (lv_sub hl [2, 3, 1, 0] rfl)
  exact lp _ 0 1 (by omega) (by omega) (by omega) (by omega) (fun j h1 h2 => by omega) (Nat.lt_succ_self _) _ _ _ hX (lv_sub hl [2, 3, 1, 0] rfl)
set_option maxHeartbeats 4000000 in
set_option maxRecDepth 100000 in
/-- where a word leads -/
theorem mY_goal (l : Launch) (sz nx an : Nat → Nat) (ct : Nat) (mb : Nat → Nat) (p0 v : Nat) (hw : wf sz nx an) (hp : p0 < 16) (hs : p0 % 8 < sz (p0 / 8)) (h1 : 1 ≤ v) (hv : v ≤ 4095) : MetY l yX1_goal cX1_goal 6 (some .int) rmX1_goal [.int (nI p0), .int (nI v)] (sz, nx, an, ct, mb) (fun r u1 => r = nI (gl nx (p0 / 8) (p0 % 8) v) ∧ u1 = (sz, nx, an, ct, mb)) := by
  refine entYi rfl (by decide) rfl rfl (fun _ => Nat.le_of_ble_eq_true rfl) ?_
  intro G d h a A p e s m below meth c args Q S hA hX ret ls hl
  have hx := S.1
  have hb := S.2.1
  have hl : lv_has ls 6 [(0, .ref h), (1, .int (nI p0)), (2, .int (nI v))] := hl
  refine lv_iload_n hx hb dX1_goal_0 rfl (lv_at hl 1 rfl) ?_
  refine lv_bipush (v := nI 8) hx hb dX1_goal_1 (by decide) ?_
  refine n_idiv hx hb dX1_goal_3 (by omega) (by decide) (by decide) ?_
  refine lv_istore_n (lv' := [(3, .int (nI (p0 / 8))), (0, .ref h), (1, .int (nI p0)), (2, .int (nI v))]) hx hb dX1_goal_4 rfl hl (by decide) rfl (fun ls hl => ?_)
  refine lv_iload_n hx hb dX1_goal_5 rfl (lv_at hl 2 rfl) ?_
  refine lv_bipush (v := nI 8) hx hb dX1_goal_6 (by decide) ?_
  refine n_irem hx hb dX1_goal_8 (by omega) (by decide) (by decide) ?_
  refine lv_istore (lv' := [(4, .int (nI (p0 % 8))), (3, .int (nI (p0 / 8))), (0, .ref h), (1, .int (nI p0)), (2, .int (nI v))]) hx hb dX1_goal_9 hl (by decide) rfl (fun ls hl => ?_)
  refine lv_aload_n hx hb dX1_goal_11 rfl (lv_at hl 2 rfl) ?_
  refine lv_iload_n hx hb dX1_goal_12 rfl (lv_at hl 4 rfl) ?_
  refine callYi S hA hX (mY_length l sz nx an ct mb v h1 hv) (cwV 1 S.2.2.2.2 (lw_V q224 q226 qs12 q19 q227) rfl rfl rfl (by decide +kernel) ⟨Nat.le_of_ble_eq_true rfl, Nat.le_of_ble_eq_true rfl⟩) rfl hl.1 rfl (Nat.le_of_ble_eq_true rfl) dX1_goal_13 ⟨Nat.zero_le _, Nat.zero_le _⟩ (fun r u1 H locs hq hX => ?_)
  obtain ⟨⟨L, rfl, hL, hL1, hL2⟩, rfl⟩ := hq
  refine lv_iconst (v := nI 1) hx hb dX1_goal_16 (by decide) ?_
  refine lv_isub hx hb dX1_goal_17 ?_
  refine n_top (y := kI L) rfl ?_
  refine lv_istore (lv' := [(5, .int (kI L)), (4, .int (nI (p0 % 8))), (3, .int (nI (p0 / 8))), (0, .ref h), (1, .int (nI p0)), (2, .int (nI v))]) hx hb dX1_goal_18 hl (by decide) rfl (fun ls hl => ?_)
  have lp : ∀ (k : Nat), (2 ^ k ≤ v) → (k ≤ 11) → ∀ (H : Heap) (locs : List Loc) (ls : Array Slot), HY G d h a A s (sz, nx, an, ct, mb) H locs → lv_has ls 6 [(0, .ref h), (1, .int (nI p0)), (2, .int (nI v)), (3, .int (nI (p0 / 8))), (4, .int (nI (gl nx (p0 / 8) (p0 % 8) (v / 2 ^ k)))), (5, .int (kI k))] → W p l e rmX1_goal s m args below meth c H locs 0 0 Q (F0 m 20 ls []) := by
    intro k
    induction k with
    | zero =>
      intro hk hk11 H locs ls hX hl
      refine lv_iload hx hb dX1_goal_20 (lv_at hl 5 rfl) ?_
      refine lv_if_lt (tgt := 54) hx hb dX1_goal_22 (by decide) (fun _ => ?_) (fun q => absurd (by decide) q)
      refine lv_iload hx hb dX1_goal_54 (lv_at hl 4 rfl) ?_
      exact ret _ _ _ _ _ _ dX1_goal_56 (⟨by rw [Nat.pow_zero, Nat.div_one], rfl⟩) hX
    | succ k ih =>
      intro hk hk11 H locs ls hX hl
      rw [kI_succ] at hl
      have g1 := gl_lt hw (m := p0 / 8) (by omega) hs (v / 2 ^ (k + 1))
      have g2 := hw.2.1 (p0 / 8)
      refine lv_iload hx hb dX1_goal_20 (lv_at hl 5 rfl) ?_
      refine n_if_lt (tgt := 54) hx hb dX1_goal_22 (by decide) (by omega) ?_
      refine lv_aload_n hx hb dX1_goal_25 rfl (lv_at hl 0 rfl) ?_
      refine yg1 S hX dX1_goal_26 ?_
      refine lv_bipush (v := nI 12) hx hb dX1_goal_29 (by decide) ?_
      refine lv_iload_n hx hb dX1_goal_31 rfl (lv_at hl 3 rfl) ?_
      refine n_imul hx hb dX1_goal_32 ?_
      refine lv_iconst (v := nI 2) hx hb dX1_goal_33 (by decide) ?_
      refine lv_iload hx hb dX1_goal_34 (lv_at hl 4 rfl) ?_
      refine n_imul hx hb dX1_goal_36 ?_
      refine n_iadd hx hb dX1_goal_37 ?_
      refine lv_iload_n hx hb dX1_goal_38 rfl (lv_at hl 2 rfl) ?_
      refine lv_iload hx hb dX1_goal_39 (lv_at hl 5 rfl) ?_
      refine n_ishr hx hb dX1_goal_41 (by omega) (by omega) ?_
      refine lv_iconst (v := nI 1) hx hb dX1_goal_42 (by decide) ?_
      refine n_iand1 hx hb dX1_goal_43 (divlt (by omega)) ?_
      refine n_iadd hx hb dX1_goal_44 ?_
      refine yl1 S hX dX1_goal_45 (by omega) ?_
      refine n_top (congrArg nI (gl_step hk)) ?_
      refine lv_istore (lv' := [(4, .int (nI (gl nx (p0 / 8) (p0 % 8) (v / 2 ^ k)))), (0, .ref h), (1, .int (nI p0)), (2, .int (nI v)), (3, .int (nI (p0 / 8))), (5, .int (nI k))]) hx hb dX1_goal_46 hl (by decide) rfl (fun ls hl => ?_)
      refine lv_iinc (v := (kI k)) (lv' := [(5, .int (kI k)), (4, .int (nI (gl nx (p0 / 8) (p0 % 8) (v / 2 ^ k)))), (0, .ref h), (1, .int (nI p0)), (2, .int (nI v)), (3, .int (nI (p0 / 8)))]) hx hb dX1_goal_48 hl (k := 5) rfl (kI_dec _) (by decide) rfl (fun ls hl => ?_)
      refine lv_goto (tgt := 20) hx hb dX1_goal_51 (by decide) ?_
      exact ih  (pow_dn hk) (by omega) _ _ _ hX (lv_sub hl [2, 3, 4, 5, 1, 0] rfl)
  rw [show p0 % 8 = gl nx (p0 / 8) (p0 % 8) (v / 2 ^ L) by rw [log_div hL1 hL2]; exact (gl_lo (by decide)).symm] at hl
  exact lp L  (hL1) (hL) _ _ _ hX (lv_sub hl [3, 4, 5, 2, 1, 0] rfl)
set_option maxHeartbeats 4000000 in
set_option maxRecDepth 100000 in
/-- what a word is answered -/
theorem mY_told (l : Launch) (sz nx an : Nat → Nat) (ct : Nat) (mb : Nat → Nat) (p0 v : Nat) (hw : wf sz nx an) (hp : p0 < 16) (hs : p0 % 8 < sz (p0 / 8)) (h1 : 1 ≤ v) (hv : v ≤ 4095) : MetY l yX1_told cX1_told 8 (some .int) rmX1_told [.int (nI p0), .int (nI v)] (sz, nx, an, ct, mb) (fun r u1 => r = nI (tl nx an (p0 / 8) (p0 % 8) v) ∧ u1 = (sz, nx, an, ct, mb)) := by
  refine entYi rfl (by decide) rfl rfl (fun _ => Nat.le_of_ble_eq_true rfl) ?_
  intro G d h a A p e s m below meth c args Q S hA hX ret ls hl
  have hx := S.1
  have hb := S.2.1
  have hl : lv_has ls 8 [(0, .ref h), (1, .int (nI p0)), (2, .int (nI v))] := hl
  refine lv_iload_n hx hb dX1_told_0 rfl (lv_at hl 1 rfl) ?_
  refine lv_bipush (v := nI 8) hx hb dX1_told_1 (by decide) ?_
  refine n_idiv hx hb dX1_told_3 (by omega) (by decide) (by decide) ?_
  refine lv_istore_n (lv' := [(3, .int (nI (p0 / 8))), (0, .ref h), (1, .int (nI p0)), (2, .int (nI v))]) hx hb dX1_told_4 rfl hl (by decide) rfl (fun ls hl => ?_)
  refine lv_iload_n hx hb dX1_told_5 rfl (lv_at hl 2 rfl) ?_
  refine lv_bipush (v := nI 8) hx hb dX1_told_6 (by decide) ?_
  refine n_irem hx hb dX1_told_8 (by omega) (by decide) (by decide) ?_
  refine lv_istore (lv' := [(4, .int (nI (p0 % 8))), (3, .int (nI (p0 / 8))), (0, .ref h), (1, .int (nI p0)), (2, .int (nI v))]) hx hb dX1_told_9 hl (by decide) rfl (fun ls hl => ?_)
  refine lv_iconst (v := nI 0) hx hb dX1_told_11 (by decide) ?_
  refine lv_istore (lv' := [(5, .int (nI 0)), (4, .int (nI (p0 % 8))), (3, .int (nI (p0 / 8))), (0, .ref h), (1, .int (nI p0)), (2, .int (nI v))]) hx hb dX1_told_12 hl (by decide) rfl (fun ls hl => ?_)
  refine lv_aload_n hx hb dX1_told_14 rfl (lv_at hl 3 rfl) ?_
  refine lv_iload_n hx hb dX1_told_15 rfl (lv_at hl 5 rfl) ?_
  refine callYi S hA hX (mY_length l sz nx an ct mb v h1 hv) (cwV 1 S.2.2.2.2 (lw_V q224 q226 qs12 q19 q227) rfl rfl rfl (by decide +kernel) ⟨Nat.le_of_ble_eq_true rfl, Nat.le_of_ble_eq_true rfl⟩) rfl hl.1 rfl (Nat.le_of_ble_eq_true rfl) dX1_told_16 ⟨Nat.zero_le _, Nat.zero_le _⟩ (fun r u1 H locs hq hX => ?_)
  obtain ⟨⟨L, rfl, hL, hL1, hL2⟩, rfl⟩ := hq
  refine lv_iconst (v := nI 1) hx hb dX1_told_19 (by decide) ?_
  refine lv_isub hx hb dX1_told_20 ?_
  refine n_top (y := kI L) rfl ?_
  refine lv_istore (lv' := [(6, .int (kI L)), (5, .int (nI 0)), (4, .int (nI (p0 % 8))), (3, .int (nI (p0 / 8))), (0, .ref h), (1, .int (nI p0)), (2, .int (nI v))]) hx hb dX1_told_21 hl (by decide) rfl (fun ls hl => ?_)
  have lp : ∀ (k : Nat), (2 ^ k ≤ v) → (k ≤ 11) → ∀ (H : Heap) (locs : List Loc) (ls : Array Slot), HY G d h a A s (sz, nx, an, ct, mb) H locs → lv_has ls 8 [(0, .ref h), (1, .int (nI p0)), (2, .int (nI v)), (3, .int (nI (p0 / 8))), (4, .int (nI (gl nx (p0 / 8) (p0 % 8) (v / 2 ^ k)))), (5, .int (nI (tl nx an (p0 / 8) (p0 % 8) (v / 2 ^ k)))), (6, .int (kI k))] → W p l e rmX1_told s m args below meth c H locs 0 0 Q (F0 m 23 ls []) := by
    intro k
    induction k with
    | zero =>
      intro hk hk11 H locs ls hX hl
      refine lv_iload hx hb dX1_told_23 (lv_at hl 6 rfl) ?_
      refine lv_if_lt (tgt := 75) hx hb dX1_told_25 (by decide) (fun _ => ?_) (fun q => absurd (by decide) q)
      refine lv_iload hx hb dX1_told_75 (lv_at hl 5 rfl) ?_
      exact ret _ _ _ _ _ _ dX1_told_77 (⟨by rw [Nat.pow_zero, Nat.div_one], rfl⟩) hX
    | succ k ih =>
      intro hk hk11 H locs ls hX hl
      rw [kI_succ] at hl
      have g1 := gl_lt hw (m := p0 / 8) (by omega) hs (v / 2 ^ (k + 1))
      have g2 := hw.2.1 (p0 / 8)
      refine lv_iload hx hb dX1_told_23 (lv_at hl 6 rfl) ?_
      refine n_if_lt (tgt := 75) hx hb dX1_told_25 (by decide) (by omega) ?_
      refine lv_bipush (v := nI 12) hx hb dX1_told_28 (by decide) ?_
      refine lv_iload_n hx hb dX1_told_30 rfl (lv_at hl 3 rfl) ?_
      refine n_imul hx hb dX1_told_31 ?_
      refine lv_iconst (v := nI 2) hx hb dX1_told_32 (by decide) ?_
      refine lv_iload hx hb dX1_told_33 (lv_at hl 4 rfl) ?_
      refine n_imul hx hb dX1_told_35 ?_
      refine n_iadd hx hb dX1_told_36 ?_
      refine lv_iload_n hx hb dX1_told_37 rfl (lv_at hl 2 rfl) ?_
      refine lv_iload hx hb dX1_told_38 (lv_at hl 6 rfl) ?_
      refine n_ishr hx hb dX1_told_40 (by omega) (by omega) ?_
      refine lv_iconst (v := nI 1) hx hb dX1_told_41 (by decide) ?_
      refine n_iand1 hx hb dX1_told_42 (divlt (by omega)) ?_
      refine n_iadd hx hb dX1_told_43 ?_
      refine lv_istore (lv' := [(7, .int (nI (12 * (p0 / 8) + (2 * (gl nx (p0 / 8) (p0 % 8) (v / 2 ^ (k + 1)))) + ((v / 2 ^ k) % 2)))), (0, .ref h), (1, .int (nI p0)), (2, .int (nI v)), (3, .int (nI (p0 / 8))), (4, .int (nI (gl nx (p0 / 8) (p0 % 8) (v / 2 ^ (k + 1))))), (5, .int (nI (tl nx an (p0 / 8) (p0 % 8) (v / 2 ^ (k + 1))))), (6, .int (nI k))]) hx hb dX1_told_44 hl (by decide) rfl (fun ls hl => ?_)
      refine lv_iconst (v := nI 4) hx hb dX1_told_46 (by decide) ?_
      refine lv_iload hx hb dX1_told_47 (lv_at hl 6 rfl) ?_
      refine n_imul hx hb dX1_told_49 ?_
      refine lv_aload_n hx hb dX1_told_50 rfl (lv_at hl 1 rfl) ?_
      refine yg2 S hX dX1_told_51 ?_
      refine lv_iload hx hb dX1_told_54 (lv_at hl 0 rfl) ?_
      refine yl2 S hX dX1_told_56 (by omega) ?_
      refine n_iadd hx hb dX1_told_57 ?_
      refine n_top (congrArg nI (tl_step hk)) ?_
      refine lv_istore (lv' := [(5, .int (nI (tl nx an (p0 / 8) (p0 % 8) (v / 2 ^ k)))), (7, .int (nI (12 * (p0 / 8) + (2 * (gl nx (p0 / 8) (p0 % 8) (v / 2 ^ (k + 1)))) + ((v / 2 ^ k) % 2)))), (0, .ref h), (1, .int (nI p0)), (2, .int (nI v)), (3, .int (nI (p0 / 8))), (4, .int (nI (gl nx (p0 / 8) (p0 % 8) (v / 2 ^ (k + 1))))), (6, .int (nI k))]) hx hb dX1_told_58 hl (by decide) rfl (fun ls hl => ?_)
      refine lv_aload_n hx hb dX1_told_60 rfl (lv_at hl 2 rfl) ?_
      refine yg1 S hX dX1_told_61 ?_
      refine lv_iload hx hb dX1_told_64 (lv_at hl 1 rfl) ?_
      refine yl1 S hX dX1_told_66 (by omega) ?_
      refine n_top (congrArg nI (gl_step hk)) ?_
      refine lv_istore (lv' := [(4, .int (nI (gl nx (p0 / 8) (p0 % 8) (v / 2 ^ k)))), (5, .int (nI (tl nx an (p0 / 8) (p0 % 8) (v / 2 ^ k)))), (7, .int (nI (12 * (p0 / 8) + (2 * (gl nx (p0 / 8) (p0 % 8) (v / 2 ^ (k + 1)))) + ((v / 2 ^ k) % 2)))), (0, .ref h), (1, .int (nI p0)), (2, .int (nI v)), (3, .int (nI (p0 / 8))), (6, .int (nI k))]) hx hb dX1_told_67 hl (by decide) rfl (fun ls hl => ?_)
      refine lv_iinc (v := (kI k)) (lv' := [(6, .int (kI k)), (4, .int (nI (gl nx (p0 / 8) (p0 % 8) (v / 2 ^ k)))), (5, .int (nI (tl nx an (p0 / 8) (p0 % 8) (v / 2 ^ k)))), (7, .int (nI (12 * (p0 / 8) + (2 * (gl nx (p0 / 8) (p0 % 8) (v / 2 ^ (k + 1)))) + ((v / 2 ^ k) % 2)))), (0, .ref h), (1, .int (nI p0)), (2, .int (nI v)), (3, .int (nI (p0 / 8)))]) hx hb dX1_told_69 hl (k := 7) rfl (kI_dec _) (by decide) rfl (fun ls hl => ?_)
      refine lv_goto (tgt := 23) hx hb dX1_told_72 (by decide) ?_
      exact ih  (pow_dn hk) (by omega) _ _ _ hX (lv_sub hl [4, 5, 6, 7, 1, 2, 0] rfl)
  have hl := lv_sub hl [4, 5, 6, 3, 2, 1, 0] rfl
  have e1 : gl nx (p0 / 8) (p0 % 8) (v / 2 ^ L) = p0 % 8 := by rw [log_div hL1 hL2]; exact gl_lo (by decide)
  have e2 : tl nx an (p0 / 8) (p0 % 8) (v / 2 ^ L) = 0 := by rw [log_div hL1 hL2]; exact tl_lo (by decide)
  exact lp L hL1 hL _ _ _ hX (by rw [e1, e2]; exact hl)
end
section
set_option maxRecDepth 100000
/-! the contracts' form for public methods; size, set, weave, copy, states -/
/-- a place apart: as many letters as a shortest difference has -/
def dif (an : Nat → Nat) (p q : Nat) : Prop := ¬ an (2 * p) = an (2 * q) ∨ ¬ an (2 * p + 1) = an (2 * q + 1)
def th (sz : Nat → Nat) (p : Nat) : Prop := p % 6 < sz (p / 6)
def af (nx : Nat → Nat) (p a : Nat) : Nat := 6 * (p / 6) + nx (2 * p + a)
noncomputable def pick (c : Prop) (a b : Nat) : Nat := @ite _ c (Classical.propDecidable c) a b
theorem pick_t {c : Prop} {a b : Nat} (h : c) : pick c a b = a := by unfold pick; exact if_pos h
theorem pick_f {c : Prop} {a b : Nat} (h : ¬ c) : pick c a b = b := by unfold pick; exact if_neg h
noncomputable def ds (sz nx an : Nat → Nat) : Nat → Nat → Nat → Nat
  | 0, _, _ => 0
  | L + 1, p, q => if L = 0 then pick (dif an p q ∧ th sz p ∧ th sz q) 1 0 else pick (ds sz nx an L p q = 0 ∧ th sz p ∧ th sz q) (pick (ds sz nx an L (af nx p 0) (af nx q 0) = L ∨ ds sz nx an L (af nx p 1) (af nx q 1) = L) (L + 1) 0) (ds sz nx an L p q)
/-- the table of differences is up to date -/
def apOk (sz nx an ap : Nat → Nat) : Prop := ∀ p q, p < 12 → q < 12 → ap (12 * p + q) = ds sz nx an 11 p q
def inX (sz nx an ap : Nat → Nat) (cu : Nat) : Prop := wf sz nx an ∧ (cu = 0 ∨ (cu = 1 ∧ apOk sz nx an ap))
abbrev TT : Type := Int32 × (Nat → Nat) × (Nat → Nat) × (Nat → Nat)
def pX (t : TT) (r : Int32) (u1 : UX) : Prop := r = t.1 ∧ ∃ (ap : Nat → Nat) (cn : Nat → Int32) (ld qu wo : Nat → Nat) (co cu : Nat), u1 = (t.2.1, t.2.2.1, t.2.2.2, ap, cn, ld, qu, wo, co, cu) ∧ inX t.2.1 t.2.2.1 t.2.2.2 ap cu
def pY (t : TT) (r : Int32) (u1 : UY) : Prop := r = t.1 ∧ ∃ (ct : Nat) (mb : Nat → Nat), u1 = (t.2.1, t.2.2.1, t.2.2.2, ct, mb)
theorem pX_of {t : TT} {r : Int32} {sz nx an ap : Nat → Nat} {cn : Nat → Int32} {ld qu wo : Nat → Nat} {co cu : Nat} (h : t = (r, sz, nx, an)) (hI : inX sz nx an ap cu) : pX t r (sz, nx, an, ap, cn, ld, qu, wo, co, cu) := by
  subst h
  exact ⟨rfl, ap, cn, ld, qu, wo, co, cu, rfl, hI⟩
theorem pY_of {t : TT} {r : Int32} {sz nx an : Nat → Nat} {ct : Nat} {mb : Nat → Nat} (h : t = (r, sz, nx, an)) : pY t r (sz, nx, an, ct, mb) := by
  subst h
  exact ⟨rfl, ct, mb, rfl⟩
theorem rng {x M : Int32} (n : Nat) (hM : M.toInt = n) (h1 : ¬ x < 1) (h2 : x ≤ M) : ∃ k : Nat, 1 ≤ k ∧ k ≤ n ∧ x = nI k := by
  obtain ⟨j, h3, h4⟩ := nI_of2 (x := x) (M := M) (n := n) hM (fun q => h1 (by simp only [Int32.lt_iff_toInt_lt] at q ⊢; exact Int.lt_trans q (by decide))) h2
  refine ⟨j, ?_, h3, h4⟩
  rcases Nat.eq_zero_or_pos j with z | z
  · subst z; subst h4; exact absurd (by decide) h1
  · exact z
theorem rng0 {x M : Int32} (n : Nat) (hM : M.toInt = n) (h1 : ¬ x < 0) (h2 : x ≤ M) : ∃ k : Nat, k ≤ n ∧ x = nI k := nI_of2 hM h1 h2
theorem nI_ge1 {k : Nat} (h : 1 ≤ k) (h2 : k < 2 ^ 31) : ¬ nI k < 1 := fun q => absurd ((nI_ltI (b := 1) h2 (by decide)).mp q) (by omega)
theorem nI_le' {k n : Nat} {M : Int32} (hM : M = nI n) (h : k ≤ n) (h2 : n < 2 ^ 31) : nI k ≤ M := by
  subst hM
  exact (nI_leI (by omega) h2).mpr h
/-! size -/
def zer (f : Nat → Nat) (m : Nat) : Nat → (Nat → Nat)
  | 0 => f
  | k + 1 => updN (zer f m k) (12 * m + k) 0
def spSize (x y : Int32) (sz nx an : Nat → Nat) : TT := if mOk x then (if ¬ y < 1 ∧ y ≤ 6 then (nI (sz x.toNatClampNeg), updN sz x.toNatClampNeg y.toNatClampNeg, zer nx x.toNatClampNeg 12, zer an x.toNatClampNeg 12) else (-2, sz, nx, an)) else (-1, sz, nx, an)
theorem spSize_1 {x y : Int32} {sz nx an : Nat → Nat} (h : ¬ mOk x) : spSize x y sz nx an = (-1, sz, nx, an) := if_neg h
theorem spSize_2 {x y : Int32} {sz nx an : Nat → Nat} (h : mOk x) (h2 : ¬ (¬ y < 1 ∧ y ≤ 6)) : spSize x y sz nx an = (-2, sz, nx, an) := by
  unfold spSize; rw [if_pos h, if_neg h2]
theorem spSize_3 {m k : Nat} {sz nx an : Nat → Nat} (h : m < 2) (h1 : 1 ≤ k) (h2 : k ≤ 6) : spSize (nI m) (nI k) sz nx an = (nI (sz m), updN sz m k, zer nx m 12, zer an m 12) := by
  unfold spSize
  rw [if_pos (mOk_nI h), if_pos ⟨nI_ge1 h1 (by omega), nI_le' (n := 6) rfl h2 (by decide)⟩, nI_clamp (by omega), nI_clamp (by omega)]
theorem zer_lt {f : Nat → Nat} {B m : Nat} (hB : 0 < B) (h : ∀ k, f k < B) : ∀ n k, zer f m n k < B := by
  intro n
  induction n with
  | zero => exact h
  | succ n ih =>
    intro k
    show updN (zer f m n) (12 * m + n) 0 k < B
    unfold updN
    split
    · exact hB
    · exact ih k
theorem zer_in {f : Nat → Nat} {m : Nat} : ∀ n j, j < n → zer f m n (12 * m + j) = 0 := by
  intro n
  induction n with
  | zero => intro j h; omega
  | succ n ih =>
    intro j h
    show updN (zer f m n) (12 * m + n) 0 (12 * m + j) = 0
    unfold updN
    split
    · rfl
    · exact ih j (by omega)
theorem zer_out {f : Nat → Nat} {m : Nat} : ∀ n i, n ≤ 12 → (i < 12 * m ∨ 12 * m + 12 ≤ i) → zer f m n i = f i := by
  intro n
  induction n with
  | zero => intro i _ _; rfl
  | succ n ih =>
    intro i h h2
    show updN (zer f m n) (12 * m + n) 0 i = f i
    rw [updN_ne _ _ (by omega)]
    exact ih i (by omega) h2
theorem wf_size {sz nx an : Nat → Nat} (hw : wf sz nx an) {m k : Nat} (hm : m < 2) (h1 : 1 ≤ k) (h2 : k ≤ 6) : wf (updN sz m k) (zer nx m 12) (zer an m 12) := by
  obtain ⟨w1, w2, w3, w4, w5⟩ := hw
  refine ⟨fun m2 h => ?_, fun m2 => ?_, fun m2 s a h3 h4 h5 => ?_, zer_lt (by decide) w4 12, zer_lt (by decide) w5 12⟩
  · unfold updN; split
    · exact h1
    · exact w1 m2 h
  · unfold updN; split
    · exact h2
    · exact w2 m2
  · by_cases q : m2 = m
    · subst q
      rw [updN_same] at h4 ⊢
      rw [show 12 * m2 + 2 * s + a = 12 * m2 + (2 * s + a) by omega, zer_in 12 _ (by omega)]
      omega
    · rw [updN_ne _ _ q] at h4 ⊢
      have := w2 m2
      rw [zer_out 12 _ (by omega) (by omega)]
      exact w3 m2 s a h3 h4 h5
set_option maxHeartbeats 4000000 in
set_option maxRecDepth 100000 in
theorem mX_size (l : Launch) (sz nx an ap : Nat → Nat) (cn : Nat → Int32) (ld qu wo : Nat → Nat) (co cu : Nat) (x : Int32) (y : Int32) (hI : inX sz nx an ap cu) : MetX l yX0_size cX0_size 5 (some .int) rmX0_size [.int x, .int y] (sz, nx, an, ap, cn, ld, qu, wo, co, cu) (pX (spSize x y sz nx an)) := by
  refine entXi rfl (by decide) rfl rfl (fun _ => Nat.le_of_ble_eq_true rfl) ?_
  intro G d h a A p e s m below meth c args Q S hA hX ret ls hl
  have hx := S.1
  have hb := S.2.1
  have hl : lv_has ls 5 [(0, .ref h), (1, .int x), (2, .int y)] := hl
  have hw := hI.1
  have hZ := hw.2.1
  have hN := hw.2.2.2.1
  have hA4 := hw.2.2.2.2
  by_cases hm : mOk x
  · obtain ⟨m0, hm0, rfl⟩ := mOk_of hm
    refine lv_iload_n hx hb dX0_size_0 rfl (lv_at hl 1 rfl) ?_
    refine callXs S hA hX (mX_isMachine_y l m0 hm0) (va_cwS 1 S.2.2.2.2 (lw_S q64 q65 q18 q66) rfl rfl rfl (by decide +kernel) ⟨Nat.le_of_ble_eq_true rfl, Nat.le_of_ble_eq_true rfl⟩) rfl hl.1 rfl (Nat.le_of_ble_eq_true rfl) dX0_size_1 ⟨Nat.zero_le _, Nat.zero_le _⟩ (fun r H locs hq hX => ?_)
    subst hq
    refine n_if_ne (tgt := 9) hx hb dX0_size_4 (by decide) (by decide) (fun _ => ?_) (fun q => absurd q (by decide))
    refine lv_iload_n hx hb dX0_size_9 rfl (lv_at hl 2 rfl) ?_
    refine lv_iconst (v := nI 1) hx hb dX0_size_10 (by decide) ?_
    refine lv_icmp_lt (tgt := 20) hx hb dX0_size_11 (by decide) (fun c_11 => ?_) (fun c_11 => ?_)
    · refine lv_bipush (v := -2) hx hb dX0_size_20 (by decide) ?_
      exact ret _ _ _ _ _ _ dX0_size_22 (pX_of (spSize_2 hm (fun z => by first | exact z.1 c_11 | exact c_17 z.2)) (hI)) hX
    · refine lv_iload_n hx hb dX0_size_14 rfl (lv_at hl 2 rfl) ?_
      refine lv_bipush (v := nI 6) hx hb dX0_size_15 (by decide) ?_
      refine lv_icmp_le (tgt := 23) hx hb dX0_size_17 (by decide) (fun c_17 => ?_) (fun c_17 => ?_)
      · obtain ⟨k, hk1, hk2, rfl⟩ := rng 6 (by decide) c_11 c_17
        refine lv_aload_n hx hb dX0_size_23 rfl (lv_at hl 0 rfl) ?_
        refine xg0 S hX dX0_size_24 ?_
        refine lv_iload_n hx hb dX0_size_27 rfl (lv_at hl 1 rfl) ?_
        refine xl0 S hX dX0_size_28 (by omega) ?_
        have b_28 := hZ m0
        refine lv_istore_n (lv' := [(3, .int (nI (sz m0))), (0, .ref h), (1, .int (nI m0)), (2, .int (nI k))]) hx hb dX0_size_29 rfl hl (by decide) rfl (fun ls hl => ?_)
        refine lv_aload_n hx hb dX0_size_30 rfl (lv_at hl 1 rfl) ?_
        refine xg0 S hX dX0_size_31 ?_
        refine lv_iload_n hx hb dX0_size_34 rfl (lv_at hl 2 rfl) ?_
        refine lv_iload_n hx hb dX0_size_35 rfl (lv_at hl 3 rfl) ?_
        refine xs0 S hX dX0_size_36 (by omega) (fun H locs hX => ?_)
        refine lv_bipush (v := nI 12) hx hb dX0_size_37 (by decide) ?_
        refine lv_iload_n hx hb dX0_size_39 rfl (lv_at hl 2 rfl) ?_
        refine n_imul hx hb dX0_size_40 ?_
        refine lv_istore (lv' := [(4, .int (nI (12 * m0))), (3, .int (nI (sz m0))), (0, .ref h), (1, .int (nI m0)), (2, .int (nI k))]) hx hb dX0_size_41 hl (by decide) rfl (fun ls hl => ?_)
        have lp : ∀ (N : Nat) (j : Nat), (j ≤ 12) → 12 - j < N → ∀ (H : Heap) (locs : List Loc) (ls : Array Slot), HX G d h a A s ((updN sz m0 k), (zer nx m0 j), (zer an m0 j), ap, cn, ld, qu, wo, co, cu) H locs → lv_has ls 5 [(0, .ref h), (1, .int (nI m0)), (2, .int (nI k)), (3, .int (nI (sz m0))), (4, .int (nI (12 * m0 + j)))] → W p l e rmX0_size s m args below meth c H locs 0 0 Q (F0 m 43 ls []) := by
          intro N
          induction N with
          | zero =>
            intro j hj hms
            exact absurd hms (Nat.not_lt_zero _)
          | succ N ih =>
            intro j hj hms H locs ls hX hl
            refine lv_iload hx hb dX0_size_43 (lv_at hl 4 rfl) ?_
            refine lv_bipush (v := nI 12) hx hb dX0_size_45 (by decide) ?_
            refine lv_iload_n hx hb dX0_size_47 rfl (lv_at hl 1 rfl) ?_
            refine n_imul hx hb dX0_size_48 ?_
            refine lv_bipush (v := nI 12) hx hb dX0_size_49 (by decide) ?_
            refine n_iadd hx hb dX0_size_51 ?_
            refine n_icmp_ge (tgt := 77) hx hb dX0_size_52 (by decide) (by omega) (by omega) (fun c_52 => ?_) (fun c_52 => ?_)
            · refine lv_aload_n hx hb dX0_size_77 rfl (lv_at hl 0 rfl) ?_
              refine lv_iconst (v := nI 0) hx hb dX0_size_78 (by decide) ?_
              refine xp9_0 S hX dX0_size_79 (fun H locs hX => ?_)
              refine lv_iload_n hx hb dX0_size_82 rfl (lv_at hl 3 rfl) ?_
              exact ret _ _ _ _ _ _ dX0_size_83 (by have ej : j = 12 := (by omega); subst ej; exact pX_of (spSize_3 hm0 hk1 hk2) (⟨wf_size hw hm0 hk1 hk2, Or.inl rfl⟩)) hX
            · refine lv_aload_n hx hb dX0_size_55 rfl (lv_at hl 0 rfl) ?_
              refine xg1 S hX dX0_size_56 ?_
              refine lv_iload hx hb dX0_size_59 (lv_at hl 4 rfl) ?_
              refine lv_iconst (v := nI 0) hx hb dX0_size_61 (by decide) ?_
              refine xs1 S hX dX0_size_62 (by omega) (fun H locs hX => ?_)
              refine lv_aload_n hx hb dX0_size_63 rfl (lv_at hl 0 rfl) ?_
              refine xg2 S hX dX0_size_64 ?_
              refine lv_iload hx hb dX0_size_67 (lv_at hl 4 rfl) ?_
              refine lv_iconst (v := nI 0) hx hb dX0_size_69 (by decide) ?_
              refine xs2 S hX dX0_size_70 (by omega) (fun H locs hX => ?_)
              refine lv_iinc (v := (nI (12 * m0 + j + 1))) (lv' := [(4, .int (nI (12 * m0 + j + 1))), (0, .ref h), (1, .int (nI m0)), (2, .int (nI k)), (3, .int (nI (sz m0)))]) hx hb dX0_size_71 hl (k := 4) rfl (nI_1 _) (by decide) rfl (fun ls hl => ?_)
              refine lv_goto (tgt := 43) hx hb dX0_size_74 (by decide) ?_
              exact ih (j + 1) (by omega) (by omega) _ _ _ hX (lv_sub hl [1, 2, 3, 4, 0] rfl)
        exact lp _ 0 (by omega) (Nat.lt_succ_self _) _ _ _ hX (lv_sub hl [2, 3, 4, 1, 0] rfl)
      · refine lv_bipush (v := -2) hx hb dX0_size_20 (by decide) ?_
        exact ret _ _ _ _ _ _ dX0_size_22 (pX_of (spSize_2 hm (fun z => by first | exact z.1 c_11 | exact c_17 z.2)) (hI)) hX
  · refine lv_iload_n hx hb dX0_size_0 rfl (lv_at hl 1 rfl) ?_
    refine callXs S hA hX (mX_isMachine_n l x hm) (va_cwS 1 S.2.2.2.2 (lw_S q64 q65 q18 q66) rfl rfl rfl (by decide +kernel) ⟨Nat.le_of_ble_eq_true rfl, Nat.le_of_ble_eq_true rfl⟩) rfl hl.1 rfl (Nat.le_of_ble_eq_true rfl) dX0_size_1 ⟨Nat.zero_le _, Nat.zero_le _⟩ (fun r H locs hq hX => ?_)
    subst hq
    refine n_if_ne (tgt := 9) hx hb dX0_size_4 (by decide) (by decide) (fun q => absurd q (by decide)) (fun _ => ?_)
    refine lv_iconst (v := -1) hx hb dX0_size_7 (by decide) ?_
    exact ret _ _ _ _ _ _ dX0_size_8 (pX_of (spSize_1 hm) (hI)) hX
set_option maxHeartbeats 4000000 in
set_option maxRecDepth 100000 in
theorem mY_size (l : Launch) (sz nx an : Nat → Nat) (ct : Nat) (mb : Nat → Nat) (x : Int32) (y : Int32) (hw : wf sz nx an) : MetY l yX1_size cX1_size 5 (some .int) rmX1_size [.int x, .int y] (sz, nx, an, ct, mb) (pY (spSize x y sz nx an)) := by
  refine entYi rfl (by decide) rfl rfl (fun _ => Nat.le_of_ble_eq_true rfl) ?_
  intro G d h a A p e s m below meth c args Q S hA hX ret ls hl
  have hx := S.1
  have hb := S.2.1
  have hl : lv_has ls 5 [(0, .ref h), (1, .int x), (2, .int y)] := hl
  have hZ := hw.2.1
  have hN := hw.2.2.2.1
  have hA4 := hw.2.2.2.2
  by_cases hm : mOk x
  · obtain ⟨m0, hm0, rfl⟩ := mOk_of hm
    refine lv_aload_n hx hb dX1_size_0 rfl (lv_at hl 0 rfl) ?_
    refine lv_iload_n hx hb dX1_size_1 rfl (lv_at hl 1 rfl) ?_
    refine callYi S hA hX (mY_bad l sz nx an ct mb (nI m0)) (cwV 1 S.2.2.2.2 (lw_V q192 q194 qs9 q19 q195) rfl rfl rfl (by decide +kernel) ⟨Nat.le_of_ble_eq_true rfl, Nat.le_of_ble_eq_true rfl⟩) rfl hl.1 rfl (Nat.le_of_ble_eq_true rfl) dX1_size_2 ⟨Nat.zero_le _, Nat.zero_le _⟩ (fun r u1 H locs hq hX => ?_)
    obtain ⟨rfl, rfl⟩ := hq
    refine n_top (congrArg nI (if_neg (fun z => z (mOk_nI hm0)))) ?_
    refine n_if_eq (tgt := 10) hx hb dX1_size_5 (by decide) (by decide) (fun _ => ?_) (fun q => absurd q (by decide))
    refine lv_iload_n hx hb dX1_size_10 rfl (lv_at hl 2 rfl) ?_
    refine lv_iconst (v := nI 1) hx hb dX1_size_11 (by decide) ?_
    refine lv_icmp_lt (tgt := 21) hx hb dX1_size_12 (by decide) (fun c_12 => ?_) (fun c_12 => ?_)
    · refine lv_bipush (v := -2) hx hb dX1_size_21 (by decide) ?_
      exact ret _ _ _ _ _ _ dX1_size_23 (pY_of (spSize_2 hm (fun z => by first | exact z.1 c_12 | exact c_18 z.2))) hX
    · refine lv_iload_n hx hb dX1_size_15 rfl (lv_at hl 2 rfl) ?_
      refine lv_bipush (v := nI 6) hx hb dX1_size_16 (by decide) ?_
      refine lv_icmp_le (tgt := 24) hx hb dX1_size_18 (by decide) (fun c_18 => ?_) (fun c_18 => ?_)
      · obtain ⟨k, hk1, hk2, rfl⟩ := rng 6 (by decide) c_12 c_18
        refine lv_aload_n hx hb dX1_size_24 rfl (lv_at hl 0 rfl) ?_
        refine yg0 S hX dX1_size_25 ?_
        refine lv_iload_n hx hb dX1_size_28 rfl (lv_at hl 1 rfl) ?_
        refine yl0 S hX dX1_size_29 (by omega) ?_
        have b_29 := hZ m0
        refine lv_istore_n (lv' := [(3, .int (nI (sz m0))), (0, .ref h), (1, .int (nI m0)), (2, .int (nI k))]) hx hb dX1_size_30 rfl hl (by decide) rfl (fun ls hl => ?_)
        refine lv_aload_n hx hb dX1_size_31 rfl (lv_at hl 1 rfl) ?_
        refine yg0 S hX dX1_size_32 ?_
        refine lv_iload_n hx hb dX1_size_35 rfl (lv_at hl 2 rfl) ?_
        refine lv_iload_n hx hb dX1_size_36 rfl (lv_at hl 3 rfl) ?_
        refine ys0 S hX dX1_size_37 (by omega) (fun H locs hX => ?_)
        refine lv_iconst (v := nI 0) hx hb dX1_size_38 (by decide) ?_
        refine lv_istore (lv' := [(4, .int (nI 0)), (3, .int (nI (sz m0))), (0, .ref h), (1, .int (nI m0)), (2, .int (nI k))]) hx hb dX1_size_39 hl (by decide) rfl (fun ls hl => ?_)
        have lp : ∀ (N : Nat) (j : Nat), (j ≤ 12) → 12 - j < N → ∀ (H : Heap) (locs : List Loc) (ls : Array Slot), HY G d h a A s ((updN sz m0 k), (zer nx m0 j), (zer an m0 j), ct, mb) H locs → lv_has ls 5 [(0, .ref h), (1, .int (nI m0)), (2, .int (nI k)), (3, .int (nI (sz m0))), (4, .int (nI j))] → W p l e rmX1_size s m args below meth c H locs 0 0 Q (F0 m 41 ls []) := by
          intro N
          induction N with
          | zero =>
            intro j hj hms
            exact absurd hms (Nat.not_lt_zero _)
          | succ N ih =>
            intro j hj hms H locs ls hX hl
            refine lv_iload hx hb dX1_size_41 (lv_at hl 4 rfl) ?_
            refine lv_bipush (v := nI 12) hx hb dX1_size_43 (by decide) ?_
            refine n_icmp_ge (tgt := 80) hx hb dX1_size_45 (by decide) (by omega) (by omega) (fun c_45 => ?_) (fun c_45 => ?_)
            · refine lv_iload_n hx hb dX1_size_80 rfl (lv_at hl 3 rfl) ?_
              exact ret _ _ _ _ _ _ dX1_size_81 (by have ej : j = 12 := (by omega); subst ej; exact pY_of (spSize_3 hm0 hk1 hk2)) hX
            · refine lv_aload_n hx hb dX1_size_48 rfl (lv_at hl 0 rfl) ?_
              refine yg1 S hX dX1_size_49 ?_
              refine lv_bipush (v := nI 12) hx hb dX1_size_52 (by decide) ?_
              refine lv_iload_n hx hb dX1_size_54 rfl (lv_at hl 1 rfl) ?_
              refine n_imul hx hb dX1_size_55 ?_
              refine lv_iload hx hb dX1_size_56 (lv_at hl 4 rfl) ?_
              refine n_iadd hx hb dX1_size_58 ?_
              refine lv_iconst (v := nI 0) hx hb dX1_size_59 (by decide) ?_
              refine ys1 S hX dX1_size_60 (by omega) (fun H locs hX => ?_)
              refine lv_aload_n hx hb dX1_size_61 rfl (lv_at hl 0 rfl) ?_
              refine yg2 S hX dX1_size_62 ?_
              refine lv_bipush (v := nI 12) hx hb dX1_size_65 (by decide) ?_
              refine lv_iload_n hx hb dX1_size_67 rfl (lv_at hl 1 rfl) ?_
              refine n_imul hx hb dX1_size_68 ?_
              refine lv_iload hx hb dX1_size_69 (lv_at hl 4 rfl) ?_
              refine n_iadd hx hb dX1_size_71 ?_
              refine lv_iconst (v := nI 0) hx hb dX1_size_72 (by decide) ?_
              refine ys2 S hX dX1_size_73 (by omega) (fun H locs hX => ?_)
              refine lv_iinc (v := (nI (j + 1))) (lv' := [(4, .int (nI (j + 1))), (0, .ref h), (1, .int (nI m0)), (2, .int (nI k)), (3, .int (nI (sz m0)))]) hx hb dX1_size_74 hl (k := 4) rfl (nI_1 _) (by decide) rfl (fun ls hl => ?_)
              refine lv_goto (tgt := 41) hx hb dX1_size_77 (by decide) ?_
              exact ih (j + 1) (by omega) (by omega) _ _ _ hX (lv_sub hl [1, 2, 3, 4, 0] rfl)
        exact lp _ 0 (by omega) (Nat.lt_succ_self _) _ _ _ hX (lv_sub hl [2, 3, 4, 1, 0] rfl)
      · refine lv_bipush (v := -2) hx hb dX1_size_21 (by decide) ?_
        exact ret _ _ _ _ _ _ dX1_size_23 (pY_of (spSize_2 hm (fun z => by first | exact z.1 c_12 | exact c_18 z.2))) hX
  · refine lv_aload_n hx hb dX1_size_0 rfl (lv_at hl 0 rfl) ?_
    refine lv_iload_n hx hb dX1_size_1 rfl (lv_at hl 1 rfl) ?_
    refine callYi S hA hX (mY_bad l sz nx an ct mb x) (cwV 1 S.2.2.2.2 (lw_V q192 q194 qs9 q19 q195) rfl rfl rfl (by decide +kernel) ⟨Nat.le_of_ble_eq_true rfl, Nat.le_of_ble_eq_true rfl⟩) rfl hl.1 rfl (Nat.le_of_ble_eq_true rfl) dX1_size_2 ⟨Nat.zero_le _, Nat.zero_le _⟩ (fun r u1 H locs hq hX => ?_)
    obtain ⟨rfl, rfl⟩ := hq
    refine n_top (congrArg nI (if_pos hm)) ?_
    refine n_if_eq (tgt := 10) hx hb dX1_size_5 (by decide) (by decide) (fun q => absurd q (by decide)) (fun _ => ?_)
    refine lv_iconst (v := -1) hx hb dX1_size_8 (by decide) ?_
    exact ret _ _ _ _ _ _ dX1_size_9 (pY_of (spSize_1 hm)) hX
def spStates (x : Int32) (sz nx an : Nat → Nat) : TT := if mOk x then (nI (sz x.toNatClampNeg), sz, nx, an) else (-1, sz, nx, an)
theorem spStates_1 {x : Int32} {sz nx an : Nat → Nat} (h : ¬ mOk x) : spStates x sz nx an = (-1, sz, nx, an) := if_neg h
theorem spStates_2 {m : Nat} {sz nx an : Nat → Nat} (h : m < 2) : spStates (nI m) sz nx an = (nI (sz m), sz, nx, an) := by
  unfold spStates
  rw [if_pos (mOk_nI h), nI_clamp (by omega)]
set_option maxHeartbeats 4000000 in
set_option maxRecDepth 100000 in
theorem mX_states (l : Launch) (sz nx an ap : Nat → Nat) (cn : Nat → Int32) (ld qu wo : Nat → Nat) (co cu : Nat) (x : Int32) (hI : inX sz nx an ap cu) : MetX l yX0_states cX0_states 2 (some .int) rmX0_states [.int x] (sz, nx, an, ap, cn, ld, qu, wo, co, cu) (pX (spStates x sz nx an)) := by
  refine entXi rfl (by decide) rfl rfl (fun _ => Nat.le_of_ble_eq_true rfl) ?_
  intro G d h a A p e s m below meth c args Q S hA hX ret ls hl
  have hx := S.1
  have hb := S.2.1
  have hl : lv_has ls 2 [(0, .ref h), (1, .int x)] := hl
  have hw := hI.1
  have hZ := hw.2.1
  have hN := hw.2.2.2.1
  have hA4 := hw.2.2.2.2
  by_cases hm : mOk x
  · obtain ⟨m0, hm0, rfl⟩ := mOk_of hm
    refine lv_iload_n hx hb dX0_states_0 rfl (lv_at hl 1 rfl) ?_
    refine callXs S hA hX (mX_isMachine_y l m0 hm0) (va_cwS 1 S.2.2.2.2 (lw_S q64 q65 q18 q66) rfl rfl rfl (by decide +kernel) ⟨Nat.le_of_ble_eq_true rfl, Nat.le_of_ble_eq_true rfl⟩) rfl hl.1 rfl (Nat.le_of_ble_eq_true rfl) dX0_states_1 ⟨Nat.zero_le _, Nat.zero_le _⟩ (fun r H locs hq hX => ?_)
    subst hq
    refine n_if_eq (tgt := 16) hx hb dX0_states_4 (by decide) (by decide) (fun q => absurd q (by decide)) (fun _ => ?_)
    refine lv_aload_n hx hb dX0_states_7 rfl (lv_at hl 0 rfl) ?_
    refine xg0 S hX dX0_states_8 ?_
    refine lv_iload_n hx hb dX0_states_11 rfl (lv_at hl 1 rfl) ?_
    refine xl0 S hX dX0_states_12 (by omega) ?_
    have b_12 := hZ m0
    refine lv_goto (tgt := 17) hx hb dX0_states_13 (by decide) ?_
    exact ret _ _ _ _ _ _ dX0_states_17 (pX_of (spStates_2 hm0) (hI)) hX
  · refine lv_iload_n hx hb dX0_states_0 rfl (lv_at hl 1 rfl) ?_
    refine callXs S hA hX (mX_isMachine_n l x hm) (va_cwS 1 S.2.2.2.2 (lw_S q64 q65 q18 q66) rfl rfl rfl (by decide +kernel) ⟨Nat.le_of_ble_eq_true rfl, Nat.le_of_ble_eq_true rfl⟩) rfl hl.1 rfl (Nat.le_of_ble_eq_true rfl) dX0_states_1 ⟨Nat.zero_le _, Nat.zero_le _⟩ (fun r H locs hq hX => ?_)
    subst hq
    refine n_if_eq (tgt := 16) hx hb dX0_states_4 (by decide) (by decide) (fun _ => ?_) (fun q => absurd q (by decide))
    refine lv_iconst (v := -1) hx hb dX0_states_16 (by decide) ?_
    exact ret _ _ _ _ _ _ dX0_states_17 (pX_of (spStates_1 hm) (hI)) hX
set_option maxHeartbeats 4000000 in
set_option maxRecDepth 100000 in
theorem mY_states (l : Launch) (sz nx an : Nat → Nat) (ct : Nat) (mb : Nat → Nat) (x : Int32) (hw : wf sz nx an) : MetY l yX1_states cX1_states 2 (some .int) rmX1_states [.int x] (sz, nx, an, ct, mb) (pY (spStates x sz nx an)) := by
  refine entYi rfl (by decide) rfl rfl (fun _ => Nat.le_of_ble_eq_true rfl) ?_
  intro G d h a A p e s m below meth c args Q S hA hX ret ls hl
  have hx := S.1
  have hb := S.2.1
  have hl : lv_has ls 2 [(0, .ref h), (1, .int x)] := hl
  have hZ := hw.2.1
  have hN := hw.2.2.2.1
  have hA4 := hw.2.2.2.2
  by_cases hm : mOk x
  · obtain ⟨m0, hm0, rfl⟩ := mOk_of hm
    refine lv_aload_n hx hb dX1_states_0 rfl (lv_at hl 0 rfl) ?_
    refine lv_iload_n hx hb dX1_states_1 rfl (lv_at hl 1 rfl) ?_
    refine callYi S hA hX (mY_bad l sz nx an ct mb (nI m0)) (cwV 1 S.2.2.2.2 (lw_V q192 q194 qs9 q19 q195) rfl rfl rfl (by decide +kernel) ⟨Nat.le_of_ble_eq_true rfl, Nat.le_of_ble_eq_true rfl⟩) rfl hl.1 rfl (Nat.le_of_ble_eq_true rfl) dX1_states_2 ⟨Nat.zero_le _, Nat.zero_le _⟩ (fun r u1 H locs hq hX => ?_)
    obtain ⟨rfl, rfl⟩ := hq
    refine n_top (congrArg nI (if_neg (fun z => z (mOk_nI hm0)))) ?_
    refine n_if_eq (tgt := 12) hx hb dX1_states_5 (by decide) (by decide) (fun _ => ?_) (fun q => absurd q (by decide))
    refine lv_aload_n hx hb dX1_states_12 rfl (lv_at hl 0 rfl) ?_
    refine yg0 S hX dX1_states_13 ?_
    refine lv_iload_n hx hb dX1_states_16 rfl (lv_at hl 1 rfl) ?_
    refine yl0 S hX dX1_states_17 (by omega) ?_
    have b_17 := hZ m0
    exact ret _ _ _ _ _ _ dX1_states_18 (pY_of (spStates_2 hm0)) hX
  · refine lv_aload_n hx hb dX1_states_0 rfl (lv_at hl 0 rfl) ?_
    refine lv_iload_n hx hb dX1_states_1 rfl (lv_at hl 1 rfl) ?_
    refine callYi S hA hX (mY_bad l sz nx an ct mb x) (cwV 1 S.2.2.2.2 (lw_V q192 q194 qs9 q19 q195) rfl rfl rfl (by decide +kernel) ⟨Nat.le_of_ble_eq_true rfl, Nat.le_of_ble_eq_true rfl⟩) rfl hl.1 rfl (Nat.le_of_ble_eq_true rfl) dX1_states_2 ⟨Nat.zero_le _, Nat.zero_le _⟩ (fun r u1 H locs hq hX => ?_)
    obtain ⟨rfl, rfl⟩ := hq
    refine n_top (congrArg nI (if_pos hm)) ?_
    refine n_if_eq (tgt := 12) hx hb dX1_states_5 (by decide) (by decide) (fun q => absurd q (by decide)) (fun _ => ?_)
    refine lv_iconst (v := -1) hx hb dX1_states_8 (by decide) ?_
    refine lv_goto (tgt := 18) hx hb dX1_states_9 (by decide) ?_
    exact ret _ _ _ _ _ _ dX1_states_18 (pY_of (spStates_1 hm)) hX
end
section
set_option maxRecDepth 100000
/-! set, weave, copy -/
abbrev c2ok (sz : Nat → Nat) (x y : Int32) : Prop := ¬ y < 0 ∧ y.toNatClampNeg / 2 < sz x.toNatClampNeg
abbrev c4ok (sz : Nat → Nat) (x z : Int32) : Prop := ¬ z < 0 ∧ z.toNatClampNeg / 4 < sz x.toNatClampNeg
def spSet (x y z : Int32) (sz nx an : Nat → Nat) : TT := if mOk x then (if c2ok sz x y then (if c4ok sz x z then (nI (4 * nx (12 * x.toNatClampNeg + y.toNatClampNeg) + an (12 * x.toNatClampNeg + y.toNatClampNeg)), sz, updN nx (12 * x.toNatClampNeg + y.toNatClampNeg) (z.toNatClampNeg / 4), updN an (12 * x.toNatClampNeg + y.toNatClampNeg) (z.toNatClampNeg % 4)) else (-4, sz, nx, an)) else (-2, sz, nx, an)) else (-1, sz, nx, an)
theorem spSet_1 {x y z : Int32} {sz nx an : Nat → Nat} (h : ¬ mOk x) : spSet x y z sz nx an = (-1, sz, nx, an) := if_neg h
theorem spSet_2a {m : Nat} {y z : Int32} {sz nx an : Nat → Nat} (h : m < 2) (h2 : y < 0) : spSet (nI m) y z sz nx an = (-2, sz, nx, an) := by
  unfold spSet; rw [if_pos (mOk_nI h), if_neg (fun q => q.1 h2)]
theorem spSet_2b {m j : Nat} {z : Int32} {sz nx an : Nat → Nat} (h : m < 2) (hj : j < 2 ^ 31) (h2 : ¬ j / 2 < sz m) : spSet (nI m) (nI j) z sz nx an = (-2, sz, nx, an) := by
  unfold spSet; rw [if_pos (mOk_nI h), if_neg (fun q => h2 (by have := q.2; rw [nI_clamp hj, nI_clamp (by omega)] at this; exact this))]
theorem c2ok_nI {m j : Nat} {sz : Nat → Nat} (h : m < 2) (hj : j < 2 ^ 31) (h2 : j / 2 < sz m) : c2ok sz (nI m) (nI j) := ⟨nI_pos hj, by rw [nI_clamp hj, nI_clamp (by omega)]; exact h2⟩
theorem spSet_4a {m j : Nat} {z : Int32} {sz nx an : Nat → Nat} (h : m < 2) (hj : j < 2 ^ 31) (h2 : j / 2 < sz m) (h3 : z < 0) : spSet (nI m) (nI j) z sz nx an = (-4, sz, nx, an) := by
  unfold spSet; rw [if_pos (mOk_nI h), if_pos (c2ok_nI h hj h2), if_neg (fun q => q.1 h3)]
theorem spSet_4b {m j k : Nat} {sz nx an : Nat → Nat} (h : m < 2) (hj : j < 2 ^ 31) (h2 : j / 2 < sz m) (hk : k < 2 ^ 31) (h3 : ¬ k / 4 < sz m) : spSet (nI m) (nI j) (nI k) sz nx an = (-4, sz, nx, an) := by
  unfold spSet; rw [if_pos (mOk_nI h), if_pos (c2ok_nI h hj h2), if_neg (fun q => h3 (by have := q.2; rw [nI_clamp hk, nI_clamp (by omega)] at this; exact this))]
theorem spSet_5 {m j k : Nat} {sz nx an : Nat → Nat} (h : m < 2) (hj : j < 2 ^ 31) (h2 : j / 2 < sz m) (hk : k < 2 ^ 31) (h3 : k / 4 < sz m) : spSet (nI m) (nI j) (nI k) sz nx an = (nI (4 * nx (12 * m + j) + an (12 * m + j)), sz, updN nx (12 * m + j) (k / 4), updN an (12 * m + j) (k % 4)) := by
  unfold spSet; rw [if_pos (mOk_nI h), if_pos (c2ok_nI h hj h2), if_pos (show c4ok sz (nI m) (nI k) from ⟨nI_pos hk, by rw [nI_clamp hk, nI_clamp (by omega)]; exact h3⟩), nI_clamp hj, nI_clamp hk, nI_clamp (by omega)]
theorem wf_set {sz nx an : Nat → Nat} (hw : wf sz nx an) {m j k : Nat} (hm : m < 2) (h2 : j / 2 < sz m) (h3 : k / 4 < sz m) : wf sz (updN nx (12 * m + j) (k / 4)) (updN an (12 * m + j) (k % 4)) := by
  obtain ⟨w1, w2, w3, w4, w5⟩ := hw
  have wm := w2 m
  refine ⟨w1, w2, fun m2 s a h4 h5 h6 => ?_, fun i => ?_, fun i => ?_⟩
  · unfold updN
    split
    · rename_i e
      have wm2 := w2 m2
      have e2 : m2 = m := by omega
      subst e2
      exact h3
    · exact w3 m2 s a h4 h5 h6
  · unfold updN; split
    · omega
    · exact w4 i
  · unfold updN; split
    · omega
    · exact w5 i
theorem nI_of' {x : Int32} (h : ¬ x < 0) : ∃ j : Nat, j < 2 ^ 31 ∧ x = nI j := nI_of h
set_option maxHeartbeats 4000000 in
set_option maxRecDepth 100000 in
theorem mX_set (l : Launch) (sz nx an ap : Nat → Nat) (cn : Nat → Int32) (ld qu wo : Nat → Nat) (co cu : Nat) (x : Int32) (y : Int32) (z : Int32) (hI : inX sz nx an ap cu) : MetX l yX0_set cX0_set 6 (some .int) rmX0_set [.int x, .int y, .int z] (sz, nx, an, ap, cn, ld, qu, wo, co, cu) (pX (spSet x y z sz nx an)) := by
  refine entXi rfl (by decide) rfl rfl (fun _ => Nat.le_of_ble_eq_true rfl) ?_
  intro G d h a A p e s m below meth c args Q S hA hX ret ls hl
  have hx := S.1
  have hb := S.2.1
  have hl : lv_has ls 6 [(0, .ref h), (1, .int x), (2, .int y), (3, .int z)] := hl
  have hw := hI.1
  have hZ := hw.2.1
  have hN := hw.2.2.2.1
  have hA4 := hw.2.2.2.2
  by_cases hm : mOk x
  · obtain ⟨m0, hm0, rfl⟩ := mOk_of hm
    refine lv_iload_n hx hb dX0_set_0 rfl (lv_at hl 1 rfl) ?_
    refine callXs S hA hX (mX_isMachine_y l m0 hm0) (va_cwS 1 S.2.2.2.2 (lw_S q64 q65 q18 q66) rfl rfl rfl (by decide +kernel) ⟨Nat.le_of_ble_eq_true rfl, Nat.le_of_ble_eq_true rfl⟩) rfl hl.1 rfl (Nat.le_of_ble_eq_true rfl) dX0_set_1 ⟨Nat.zero_le _, Nat.zero_le _⟩ (fun r H locs hq hX => ?_)
    subst hq
    refine n_if_ne (tgt := 9) hx hb dX0_set_4 (by decide) (by decide) (fun _ => ?_) (fun q => absurd q (by decide))
    refine lv_iload_n hx hb dX0_set_9 rfl (lv_at hl 2 rfl) ?_
    refine lv_if_lt (tgt := 25) hx hb dX0_set_10 (by decide) (fun c_10 => ?_) (fun c_10 => ?_)
    · refine lv_bipush (v := -2) hx hb dX0_set_25 (by decide) ?_
      exact ret _ _ _ _ _ _ dX0_set_27 (pX_of (by first | exact spSet_2a hm0 c_10 | exact spSet_2b hm0 hj c_22) (hI)) hX
    · obtain ⟨j, hj, rfl⟩ := nI_of' c_10
      refine lv_iload_n hx hb dX0_set_13 rfl (lv_at hl 2 rfl) ?_
      refine lv_iconst (v := nI 1) hx hb dX0_set_14 (by decide) ?_
      refine n_ishrL (r := j / 2) hx hb rfl dX0_set_15 (by decide) (by omega) ?_
      refine lv_aload_n hx hb dX0_set_16 rfl (lv_at hl 0 rfl) ?_
      refine xg0 S hX dX0_set_17 ?_
      refine lv_iload_n hx hb dX0_set_20 rfl (lv_at hl 1 rfl) ?_
      refine xl0 S hX dX0_set_21 (by omega) ?_
      have b_21 := hZ m0
      refine n_icmp_lt (tgt := 28) hx hb dX0_set_22 (by decide) (by omega) (by omega) (fun c_22 => ?_) (fun c_22 => ?_)
      · refine lv_iload_n hx hb dX0_set_28 rfl (lv_at hl 3 rfl) ?_
        refine lv_if_lt (tgt := 44) hx hb dX0_set_29 (by decide) (fun c_29 => ?_) (fun c_29 => ?_)
        · refine lv_bipush (v := -4) hx hb dX0_set_44 (by decide) ?_
          exact ret _ _ _ _ _ _ dX0_set_46 (pX_of (by first | exact spSet_4a hm0 hj c_22 c_29 | exact spSet_4b hm0 hj c_22 hk c_41) (hI)) hX
        · obtain ⟨k, hk, rfl⟩ := nI_of' c_29
          refine lv_iload_n hx hb dX0_set_32 rfl (lv_at hl 3 rfl) ?_
          refine lv_iconst (v := nI 2) hx hb dX0_set_33 (by decide) ?_
          refine n_ishrL (r := k / 4) hx hb rfl dX0_set_34 (by decide) (by omega) ?_
          refine lv_aload_n hx hb dX0_set_35 rfl (lv_at hl 0 rfl) ?_
          refine xg0 S hX dX0_set_36 ?_
          refine lv_iload_n hx hb dX0_set_39 rfl (lv_at hl 1 rfl) ?_
          refine xl0 S hX dX0_set_40 (by omega) ?_
          have b_40 := hZ m0
          refine n_icmp_lt (tgt := 47) hx hb dX0_set_41 (by decide) (by omega) (by omega) (fun c_41 => ?_) (fun c_41 => ?_)
          · refine lv_bipush (v := nI 12) hx hb dX0_set_47 (by decide) ?_
            refine lv_iload_n hx hb dX0_set_49 rfl (lv_at hl 1 rfl) ?_
            refine n_imul hx hb dX0_set_50 ?_
            refine lv_iload_n hx hb dX0_set_51 rfl (lv_at hl 2 rfl) ?_
            refine n_iadd hx hb dX0_set_52 ?_
            refine lv_istore (lv' := [(4, .int (nI (12 * m0 + j))), (0, .ref h), (1, .int (nI m0)), (2, .int (nI j)), (3, .int (nI k))]) hx hb dX0_set_53 hl (by decide) rfl (fun ls hl => ?_)
            refine lv_iconst (v := nI 4) hx hb dX0_set_55 (by decide) ?_
            refine lv_aload_n hx hb dX0_set_56 rfl (lv_at hl 1 rfl) ?_
            refine xg1 S hX dX0_set_57 ?_
            refine lv_iload hx hb dX0_set_60 (lv_at hl 0 rfl) ?_
            refine xl1 S hX dX0_set_62 (by omega) ?_
            have b_62 := hN (12 * m0 + j)
            refine n_imul hx hb dX0_set_63 ?_
            refine lv_aload_n hx hb dX0_set_64 rfl (lv_at hl 1 rfl) ?_
            refine xg2 S hX dX0_set_65 ?_
            refine lv_iload hx hb dX0_set_68 (lv_at hl 0 rfl) ?_
            refine xl2 S hX dX0_set_70 (by omega) ?_
            have b_70 := hA4 (12 * m0 + j)
            refine n_iadd hx hb dX0_set_71 ?_
            refine lv_istore (lv' := [(5, .int (nI (4 * (nx (12 * m0 + j)) + (an (12 * m0 + j))))), (4, .int (nI (12 * m0 + j))), (0, .ref h), (1, .int (nI m0)), (2, .int (nI j)), (3, .int (nI k))]) hx hb dX0_set_72 hl (by decide) rfl (fun ls hl => ?_)
            refine lv_aload_n hx hb dX0_set_74 rfl (lv_at hl 2 rfl) ?_
            refine xg1 S hX dX0_set_75 ?_
            refine lv_iload hx hb dX0_set_78 (lv_at hl 1 rfl) ?_
            refine lv_iload_n hx hb dX0_set_80 rfl (lv_at hl 5 rfl) ?_
            refine lv_iconst (v := nI 2) hx hb dX0_set_81 (by decide) ?_
            refine n_ishrL (r := k / 4) hx hb rfl dX0_set_82 (by decide) (by omega) ?_
            refine xs1 S hX dX0_set_83 (by omega) (fun H locs hX => ?_)
            refine lv_aload_n hx hb dX0_set_84 rfl (lv_at hl 2 rfl) ?_
            refine xg2 S hX dX0_set_85 ?_
            refine lv_iload hx hb dX0_set_88 (lv_at hl 1 rfl) ?_
            refine lv_iload_n hx hb dX0_set_90 rfl (lv_at hl 5 rfl) ?_
            refine lv_iconst (v := nI 3) hx hb dX0_set_91 (by decide) ?_
            refine n_iand3 hx hb dX0_set_92 (by omega) ?_
            refine xs2 S hX dX0_set_93 (by omega) (fun H locs hX => ?_)
            refine lv_aload_n hx hb dX0_set_94 rfl (lv_at hl 2 rfl) ?_
            refine lv_iconst (v := nI 0) hx hb dX0_set_95 (by decide) ?_
            refine xp9_0 S hX dX0_set_96 (fun H locs hX => ?_)
            refine lv_iload hx hb dX0_set_99 (lv_at hl 0 rfl) ?_
            exact ret _ _ _ _ _ _ dX0_set_101 (pX_of (spSet_5 hm0 hj c_22 hk c_41) (⟨wf_set hw hm0 c_22 c_41, Or.inl rfl⟩)) hX
          · refine lv_bipush (v := -4) hx hb dX0_set_44 (by decide) ?_
            exact ret _ _ _ _ _ _ dX0_set_46 (pX_of (by first | exact spSet_4a hm0 hj c_22 c_29 | exact spSet_4b hm0 hj c_22 hk c_41) (hI)) hX
      · refine lv_bipush (v := -2) hx hb dX0_set_25 (by decide) ?_
        exact ret _ _ _ _ _ _ dX0_set_27 (pX_of (by first | exact spSet_2a hm0 c_10 | exact spSet_2b hm0 hj c_22) (hI)) hX
  · refine lv_iload_n hx hb dX0_set_0 rfl (lv_at hl 1 rfl) ?_
    refine callXs S hA hX (mX_isMachine_n l x hm) (va_cwS 1 S.2.2.2.2 (lw_S q64 q65 q18 q66) rfl rfl rfl (by decide +kernel) ⟨Nat.le_of_ble_eq_true rfl, Nat.le_of_ble_eq_true rfl⟩) rfl hl.1 rfl (Nat.le_of_ble_eq_true rfl) dX0_set_1 ⟨Nat.zero_le _, Nat.zero_le _⟩ (fun r H locs hq hX => ?_)
    subst hq
    refine n_if_ne (tgt := 9) hx hb dX0_set_4 (by decide) (by decide) (fun q => absurd q (by decide)) (fun _ => ?_)
    refine lv_iconst (v := -1) hx hb dX0_set_7 (by decide) ?_
    exact ret _ _ _ _ _ _ dX0_set_8 (pX_of (spSet_1 hm) (hI)) hX
set_option maxHeartbeats 4000000 in
set_option maxRecDepth 100000 in
theorem mY_set (l : Launch) (sz nx an : Nat → Nat) (ct : Nat) (mb : Nat → Nat) (x : Int32) (y : Int32) (z : Int32) (hw : wf sz nx an) : MetY l yX1_set cX1_set 5 (some .int) rmX1_set [.int x, .int y, .int z] (sz, nx, an, ct, mb) (pY (spSet x y z sz nx an)) := by
  refine entYi rfl (by decide) rfl rfl (fun _ => Nat.le_of_ble_eq_true rfl) ?_
  intro G d h a A p e s m below meth c args Q S hA hX ret ls hl
  have hx := S.1
  have hb := S.2.1
  have hl : lv_has ls 5 [(0, .ref h), (1, .int x), (2, .int y), (3, .int z)] := hl
  have hZ := hw.2.1
  have hN := hw.2.2.2.1
  have hA4 := hw.2.2.2.2
  by_cases hm : mOk x
  · obtain ⟨m0, hm0, rfl⟩ := mOk_of hm
    refine lv_aload_n hx hb dX1_set_0 rfl (lv_at hl 0 rfl) ?_
    refine lv_iload_n hx hb dX1_set_1 rfl (lv_at hl 1 rfl) ?_
    refine callYi S hA hX (mY_bad l sz nx an ct mb (nI m0)) (cwV 1 S.2.2.2.2 (lw_V q192 q194 qs9 q19 q195) rfl rfl rfl (by decide +kernel) ⟨Nat.le_of_ble_eq_true rfl, Nat.le_of_ble_eq_true rfl⟩) rfl hl.1 rfl (Nat.le_of_ble_eq_true rfl) dX1_set_2 ⟨Nat.zero_le _, Nat.zero_le _⟩ (fun r u1 H locs hq hX => ?_)
    obtain ⟨rfl, rfl⟩ := hq
    refine n_top (congrArg nI (if_neg (fun z => z (mOk_nI hm0)))) ?_
    refine n_if_eq (tgt := 10) hx hb dX1_set_5 (by decide) (by decide) (fun _ => ?_) (fun q => absurd q (by decide))
    refine lv_iload_n hx hb dX1_set_10 rfl (lv_at hl 2 rfl) ?_
    refine lv_if_lt (tgt := 26) hx hb dX1_set_11 (by decide) (fun c_11 => ?_) (fun c_11 => ?_)
    · refine lv_bipush (v := -2) hx hb dX1_set_26 (by decide) ?_
      exact ret _ _ _ _ _ _ dX1_set_28 (pY_of (by first | exact spSet_2a hm0 c_11 | exact spSet_2b hm0 hj c_23)) hX
    · obtain ⟨j, hj, rfl⟩ := nI_of' c_11
      refine lv_iload_n hx hb dX1_set_14 rfl (lv_at hl 2 rfl) ?_
      refine lv_iconst (v := nI 2) hx hb dX1_set_15 (by decide) ?_
      refine n_idiv hx hb dX1_set_16 (by omega) (by decide) (by decide) ?_
      refine lv_aload_n hx hb dX1_set_17 rfl (lv_at hl 0 rfl) ?_
      refine yg0 S hX dX1_set_18 ?_
      refine lv_iload_n hx hb dX1_set_21 rfl (lv_at hl 1 rfl) ?_
      refine yl0 S hX dX1_set_22 (by omega) ?_
      have b_22 := hZ m0
      refine n_icmp_lt (tgt := 29) hx hb dX1_set_23 (by decide) (by omega) (by omega) (fun c_23 => ?_) (fun c_23 => ?_)
      · refine lv_iload_n hx hb dX1_set_29 rfl (lv_at hl 3 rfl) ?_
        refine lv_if_lt (tgt := 45) hx hb dX1_set_30 (by decide) (fun c_30 => ?_) (fun c_30 => ?_)
        · refine lv_bipush (v := -4) hx hb dX1_set_45 (by decide) ?_
          exact ret _ _ _ _ _ _ dX1_set_47 (pY_of (by first | exact spSet_4a hm0 hj c_23 c_30 | exact spSet_4b hm0 hj c_23 hk c_42)) hX
        · obtain ⟨k, hk, rfl⟩ := nI_of' c_30
          refine lv_iload_n hx hb dX1_set_33 rfl (lv_at hl 3 rfl) ?_
          refine lv_iconst (v := nI 4) hx hb dX1_set_34 (by decide) ?_
          refine n_idiv hx hb dX1_set_35 (by omega) (by decide) (by decide) ?_
          refine lv_aload_n hx hb dX1_set_36 rfl (lv_at hl 0 rfl) ?_
          refine yg0 S hX dX1_set_37 ?_
          refine lv_iload_n hx hb dX1_set_40 rfl (lv_at hl 1 rfl) ?_
          refine yl0 S hX dX1_set_41 (by omega) ?_
          have b_41 := hZ m0
          refine n_icmp_lt (tgt := 48) hx hb dX1_set_42 (by decide) (by omega) (by omega) (fun c_42 => ?_) (fun c_42 => ?_)
          · refine lv_iconst (v := nI 4) hx hb dX1_set_48 (by decide) ?_
            refine lv_aload_n hx hb dX1_set_49 rfl (lv_at hl 0 rfl) ?_
            refine yg1 S hX dX1_set_50 ?_
            refine lv_bipush (v := nI 12) hx hb dX1_set_53 (by decide) ?_
            refine lv_iload_n hx hb dX1_set_55 rfl (lv_at hl 1 rfl) ?_
            refine n_imul hx hb dX1_set_56 ?_
            refine lv_iload_n hx hb dX1_set_57 rfl (lv_at hl 2 rfl) ?_
            refine n_iadd hx hb dX1_set_58 ?_
            refine yl1 S hX dX1_set_59 (by omega) ?_
            have b_59 := hN (12 * m0 + j)
            refine n_imul hx hb dX1_set_60 ?_
            refine lv_aload_n hx hb dX1_set_61 rfl (lv_at hl 0 rfl) ?_
            refine yg2 S hX dX1_set_62 ?_
            refine lv_bipush (v := nI 12) hx hb dX1_set_65 (by decide) ?_
            refine lv_iload_n hx hb dX1_set_67 rfl (lv_at hl 1 rfl) ?_
            refine n_imul hx hb dX1_set_68 ?_
            refine lv_iload_n hx hb dX1_set_69 rfl (lv_at hl 2 rfl) ?_
            refine n_iadd hx hb dX1_set_70 ?_
            refine yl2 S hX dX1_set_71 (by omega) ?_
            have b_71 := hA4 (12 * m0 + j)
            refine n_iadd hx hb dX1_set_72 ?_
            refine lv_istore (lv' := [(4, .int (nI (4 * (nx (12 * m0 + j)) + (an (12 * m0 + j))))), (0, .ref h), (1, .int (nI m0)), (2, .int (nI j)), (3, .int (nI k))]) hx hb dX1_set_73 hl (by decide) rfl (fun ls hl => ?_)
            refine lv_aload_n hx hb dX1_set_75 rfl (lv_at hl 1 rfl) ?_
            refine yg1 S hX dX1_set_76 ?_
            refine lv_bipush (v := nI 12) hx hb dX1_set_79 (by decide) ?_
            refine lv_iload_n hx hb dX1_set_81 rfl (lv_at hl 2 rfl) ?_
            refine n_imul hx hb dX1_set_82 ?_
            refine lv_iload_n hx hb dX1_set_83 rfl (lv_at hl 3 rfl) ?_
            refine n_iadd hx hb dX1_set_84 ?_
            refine lv_iload_n hx hb dX1_set_85 rfl (lv_at hl 4 rfl) ?_
            refine lv_iconst (v := nI 4) hx hb dX1_set_86 (by decide) ?_
            refine n_idiv hx hb dX1_set_87 (by omega) (by decide) (by decide) ?_
            refine ys1 S hX dX1_set_88 (by omega) (fun H locs hX => ?_)
            refine lv_aload_n hx hb dX1_set_89 rfl (lv_at hl 1 rfl) ?_
            refine yg2 S hX dX1_set_90 ?_
            refine lv_bipush (v := nI 12) hx hb dX1_set_93 (by decide) ?_
            refine lv_iload_n hx hb dX1_set_95 rfl (lv_at hl 2 rfl) ?_
            refine n_imul hx hb dX1_set_96 ?_
            refine lv_iload_n hx hb dX1_set_97 rfl (lv_at hl 3 rfl) ?_
            refine n_iadd hx hb dX1_set_98 ?_
            refine lv_iload_n hx hb dX1_set_99 rfl (lv_at hl 4 rfl) ?_
            refine lv_iconst (v := nI 4) hx hb dX1_set_100 (by decide) ?_
            refine n_irem hx hb dX1_set_101 (by omega) (by decide) (by decide) ?_
            refine ys2 S hX dX1_set_102 (by omega) (fun H locs hX => ?_)
            refine lv_iload hx hb dX1_set_103 (lv_at hl 0 rfl) ?_
            exact ret _ _ _ _ _ _ dX1_set_105 (pY_of (spSet_5 hm0 hj c_23 hk c_42)) hX
          · refine lv_bipush (v := -4) hx hb dX1_set_45 (by decide) ?_
            exact ret _ _ _ _ _ _ dX1_set_47 (pY_of (by first | exact spSet_4a hm0 hj c_23 c_30 | exact spSet_4b hm0 hj c_23 hk c_42)) hX
      · refine lv_bipush (v := -2) hx hb dX1_set_26 (by decide) ?_
        exact ret _ _ _ _ _ _ dX1_set_28 (pY_of (by first | exact spSet_2a hm0 c_11 | exact spSet_2b hm0 hj c_23)) hX
  · refine lv_aload_n hx hb dX1_set_0 rfl (lv_at hl 0 rfl) ?_
    refine lv_iload_n hx hb dX1_set_1 rfl (lv_at hl 1 rfl) ?_
    refine callYi S hA hX (mY_bad l sz nx an ct mb x) (cwV 1 S.2.2.2.2 (lw_V q192 q194 qs9 q19 q195) rfl rfl rfl (by decide +kernel) ⟨Nat.le_of_ble_eq_true rfl, Nat.le_of_ble_eq_true rfl⟩) rfl hl.1 rfl (Nat.le_of_ble_eq_true rfl) dX1_set_2 ⟨Nat.zero_le _, Nat.zero_le _⟩ (fun r u1 H locs hq hX => ?_)
    obtain ⟨rfl, rfl⟩ := hq
    refine n_top (congrArg nI (if_pos hm)) ?_
    refine n_if_eq (tgt := 10) hx hb dX1_set_5 (by decide) (by decide) (fun q => absurd q (by decide)) (fun _ => ?_)
    refine lv_iconst (v := -1) hx hb dX1_set_8 (by decide) ?_
    exact ret _ _ _ _ _ _ dX1_set_9 (pY_of (spSet_1 hm)) hX
def wvN (f : Nat → Nat) (m n sd mx : Nat) : Nat → (Nat → Nat)
  | 0 => f
  | k + 1 => updN (wvN f m n sd mx k) (12 * m + k) ((k / 2 * (mx / 8) + k % 2 + sd) % n)
def wvA (f : Nat → Nat) (m sd mx : Nat) : Nat → (Nat → Nat)
  | 0 => f
  | k + 1 => updN (wvA f m sd mx k) (12 * m + k) ((k / 2 * (k / 2) + k % 2 * (mx % 8) + sd) % 4)
theorem wvN_step (f : Nat → Nat) (m n sd mx : Nat) {s a : Nat} (ha : a < 2) : updN (wvN f m n sd mx (2 * s + a)) (12 * m + 2 * s + a) ((s * (mx / 8) + a + sd) % n) = wvN f m n sd mx (2 * s + (a + 1)) := by
  show _ = updN (wvN f m n sd mx (2 * s + a)) (12 * m + (2 * s + a)) (((2 * s + a) / 2 * (mx / 8) + (2 * s + a) % 2 + sd) % n)
  rw [show (2 * s + a) / 2 = s by omega, show (2 * s + a) % 2 = a by omega, Nat.add_assoc (12 * m)]
theorem wvA_step (f : Nat → Nat) (m sd mx : Nat) {s a : Nat} (ha : a < 2) : updN (wvA f m sd mx (2 * s + a)) (12 * m + 2 * s + a) ((s * s + a * (mx % 8) + sd) % 4) = wvA f m sd mx (2 * s + (a + 1)) := by
  show _ = updN (wvA f m sd mx (2 * s + a)) (12 * m + (2 * s + a)) (((2 * s + a) / 2 * ((2 * s + a) / 2) + (2 * s + a) % 2 * (mx % 8) + sd) % 4)
  rw [show (2 * s + a) / 2 = s by omega, show (2 * s + a) % 2 = a by omega, Nat.add_assoc (12 * m)]
abbrev sdOk (y : Int32) : Prop := ¬ y < 0 ∧ y ≤ 20
abbrev mxOk (y : Int32) : Prop := ¬ y < 0 ∧ y ≤ 63
def spWeave (x y z : Int32) (sz nx an : Nat → Nat) : TT := if mOk x then (if sdOk y then (if mxOk z then (0, sz, wvN nx x.toNatClampNeg (sz x.toNatClampNeg) y.toNatClampNeg z.toNatClampNeg (2 * sz x.toNatClampNeg), wvA an x.toNatClampNeg y.toNatClampNeg z.toNatClampNeg (2 * sz x.toNatClampNeg)) else (-3, sz, nx, an)) else (-2, sz, nx, an)) else (-1, sz, nx, an)
theorem spWeave_1 {x y z : Int32} {sz nx an : Nat → Nat} (h : ¬ mOk x) : spWeave x y z sz nx an = (-1, sz, nx, an) := if_neg h
theorem spWeave_2 {x y z : Int32} {sz nx an : Nat → Nat} (h : mOk x) (h2 : ¬ sdOk y) : spWeave x y z sz nx an = (-2, sz, nx, an) := by
  unfold spWeave; rw [if_pos h, if_neg h2]
theorem spWeave_3 {x y z : Int32} {sz nx an : Nat → Nat} (h : mOk x) (h2 : sdOk y) (h3 : ¬ mxOk z) : spWeave x y z sz nx an = (-3, sz, nx, an) := by
  unfold spWeave; rw [if_pos h, if_pos h2, if_neg h3]
theorem sdOk_nI {j : Nat} (h : j ≤ 20) : sdOk (nI j) := ⟨nI_pos (by omega), nI_le' (n := 20) rfl h (by decide)⟩
theorem mxOk_nI {j : Nat} (h : j ≤ 63) : mxOk (nI j) := ⟨nI_pos (by omega), nI_le' (n := 63) rfl h (by decide)⟩
theorem spWeave_4 {m j k : Nat} {sz nx an : Nat → Nat} (h : m < 2) (hj : j ≤ 20) (hk : k ≤ 63) : spWeave (nI m) (nI j) (nI k) sz nx an = (nI 0, sz, wvN nx m (sz m) j k (2 * sz m), wvA an m j k (2 * sz m)) := by
  unfold spWeave; rw [if_pos (mOk_nI h), if_pos (sdOk_nI hj), if_pos (mxOk_nI hk), nI_clamp (by omega), nI_clamp (by omega), nI_clamp (by omega)]
  rfl
theorem wvN_lt {f : Nat → Nat} {m n sd mx : Nat} (hn : 0 < n) (hn6 : n ≤ 6) (h : ∀ k, f k < 6) : ∀ c k, wvN f m n sd mx c k < 6 := by
  intro c
  induction c with
  | zero => exact h
  | succ c ih =>
    intro k
    show updN (wvN f m n sd mx c) _ _ k < 6
    unfold updN
    split
    · exact Nat.lt_of_lt_of_le (Nat.mod_lt _ hn) hn6
    · exact ih k
theorem wvA_lt {f : Nat → Nat} {m sd mx : Nat} (h : ∀ k, f k < 4) : ∀ c k, wvA f m sd mx c k < 4 := by
  intro c
  induction c with
  | zero => exact h
  | succ c ih =>
    intro k
    show updN (wvA f m sd mx c) _ _ k < 4
    unfold updN
    split
    · exact Nat.mod_lt _ (by decide)
    · exact ih k
theorem wvN_in {f : Nat → Nat} {m n sd mx : Nat} (hn : 0 < n) : ∀ c j, j < c → wvN f m n sd mx c (12 * m + j) < n := by
  intro c
  induction c with
  | zero => intro j h; omega
  | succ c ih =>
    intro j h
    show updN (wvN f m n sd mx c) _ _ _ < n
    unfold updN
    split
    · exact Nat.mod_lt _ hn
    · exact ih j (by omega)
theorem wvN_out {f : Nat → Nat} {m n sd mx : Nat} : ∀ c i, c ≤ 12 → (i < 12 * m ∨ 12 * m + 12 ≤ i) → wvN f m n sd mx c i = f i := by
  intro c
  induction c with
  | zero => intro i _ _; rfl
  | succ c ih =>
    intro i h h2
    show updN (wvN f m n sd mx c) _ _ i = f i
    rw [updN_ne _ _ (by omega)]
    exact ih i (by omega) h2
theorem wf_weave {sz nx an : Nat → Nat} (hw : wf sz nx an) {m j k : Nat} (hm : m < 2) : wf sz (wvN nx m (sz m) j k (2 * sz m)) (wvA an m j k (2 * sz m)) := by
  obtain ⟨w1, w2, w3, w4, w5⟩ := hw
  have a1 := w1 m hm
  have a2 := w2 m
  refine ⟨w1, w2, fun m2 s a h3 h4 h5 => ?_, wvN_lt a1 a2 w4 _, wvA_lt w5 _⟩
  by_cases q : m2 = m
  · subst q
    rw [show 12 * m2 + 2 * s + a = 12 * m2 + (2 * s + a) by omega]
    exact wvN_in a1 _ _ (by omega)
  · have := w2 m2
    rw [wvN_out _ _ (by omega) (by omega)]
    exact w3 m2 s a h3 h4 h5
set_option maxHeartbeats 4000000 in
set_option maxRecDepth 100000 in
theorem mX_weave (l : Launch) (sz nx an ap : Nat → Nat) (cn : Nat → Int32) (ld qu wo : Nat → Nat) (co cu : Nat) (x : Int32) (y : Int32) (z : Int32) (hI : inX sz nx an ap cu) : MetX l yX0_weave cX0_weave 8 (some .int) rmX0_weave [.int x, .int y, .int z] (sz, nx, an, ap, cn, ld, qu, wo, co, cu) (pX (spWeave x y z sz nx an)) := by
  refine entXi rfl (by decide) rfl rfl (fun _ => Nat.le_of_ble_eq_true rfl) ?_
  intro G d h a A p e s m below meth c args Q S hA hX ret ls hl
  have hx := S.1
  have hb := S.2.1
  have hl : lv_has ls 8 [(0, .ref h), (1, .int x), (2, .int y), (3, .int z)] := hl
  have hw := hI.1
  have hZ := hw.2.1
  have hN := hw.2.2.2.1
  have hA4 := hw.2.2.2.2
  by_cases hm : mOk x
  · obtain ⟨m0, hm0, rfl⟩ := mOk_of hm
    refine lv_iload_n hx hb dX0_weave_0 rfl (lv_at hl 1 rfl) ?_
    refine callXs S hA hX (mX_isMachine_y l m0 hm0) (va_cwS 1 S.2.2.2.2 (lw_S q64 q65 q18 q66) rfl rfl rfl (by decide +kernel) ⟨Nat.le_of_ble_eq_true rfl, Nat.le_of_ble_eq_true rfl⟩) rfl hl.1 rfl (Nat.le_of_ble_eq_true rfl) dX0_weave_1 ⟨Nat.zero_le _, Nat.zero_le _⟩ (fun r H locs hq hX => ?_)
    subst hq
    refine n_if_ne (tgt := 9) hx hb dX0_weave_4 (by decide) (by decide) (fun _ => ?_) (fun q => absurd q (by decide))
    refine lv_iload_n hx hb dX0_weave_9 rfl (lv_at hl 2 rfl) ?_
    refine lv_if_lt (tgt := 19) hx hb dX0_weave_10 (by decide) (fun c_10 => ?_) (fun c_10 => ?_)
    · refine lv_bipush (v := -2) hx hb dX0_weave_19 (by decide) ?_
      exact ret _ _ _ _ _ _ dX0_weave_21 (pX_of (spWeave_2 hm (fun z => by first | exact z.1 c_10 | exact c_16 z.2)) (hI)) hX
    · refine lv_iload_n hx hb dX0_weave_13 rfl (lv_at hl 2 rfl) ?_
      refine lv_bipush (v := nI 20) hx hb dX0_weave_14 (by decide) ?_
      refine lv_icmp_le (tgt := 22) hx hb dX0_weave_16 (by decide) (fun c_16 => ?_) (fun c_16 => ?_)
      · obtain ⟨j, hj, rfl⟩ := rng0 20 (by decide) c_10 c_16
        refine lv_iload_n hx hb dX0_weave_22 rfl (lv_at hl 3 rfl) ?_
        refine lv_if_lt (tgt := 32) hx hb dX0_weave_23 (by decide) (fun c_23 => ?_) (fun c_23 => ?_)
        · refine lv_bipush (v := -3) hx hb dX0_weave_32 (by decide) ?_
          exact ret _ _ _ _ _ _ dX0_weave_34 (pX_of (spWeave_3 hm (sdOk_nI hj) (fun z => by first | exact z.1 c_23 | exact c_29 z.2)) (hI)) hX
        · refine lv_iload_n hx hb dX0_weave_26 rfl (lv_at hl 3 rfl) ?_
          refine lv_bipush (v := nI 63) hx hb dX0_weave_27 (by decide) ?_
          refine lv_icmp_le (tgt := 35) hx hb dX0_weave_29 (by decide) (fun c_29 => ?_) (fun c_29 => ?_)
          · obtain ⟨k, hk, rfl⟩ := rng0 63 (by decide) c_23 c_29
            refine lv_aload_n hx hb dX0_weave_35 rfl (lv_at hl 0 rfl) ?_
            refine xg0 S hX dX0_weave_36 ?_
            refine lv_iload_n hx hb dX0_weave_39 rfl (lv_at hl 1 rfl) ?_
            refine xl0 S hX dX0_weave_40 (by omega) ?_
            have b_40 := hZ m0
            refine lv_istore (lv' := [(4, .int (nI (sz m0))), (0, .ref h), (1, .int (nI m0)), (2, .int (nI j)), (3, .int (nI k))]) hx hb dX0_weave_41 hl (by decide) rfl (fun ls hl => ?_)
            refine lv_iconst (v := nI 0) hx hb dX0_weave_43 (by decide) ?_
            refine lv_istore (lv' := [(5, .int (nI 0)), (4, .int (nI (sz m0))), (0, .ref h), (1, .int (nI m0)), (2, .int (nI j)), (3, .int (nI k))]) hx hb dX0_weave_44 hl (by decide) rfl (fun ls hl => ?_)
            have lp : ∀ (N : Nat) (i : Nat), (i ≤ 2 * sz m0) → 2 * sz m0 - i < N → ∀ (H : Heap) (locs : List Loc) (ls : Array Slot), HX G d h a A s (sz, (wvN nx m0 (sz m0) j k i), (wvA an m0 j k i), ap, cn, ld, qu, wo, co, cu) H locs → lv_has ls 8 [(0, .ref h), (1, .int (nI m0)), (2, .int (nI j)), (3, .int (nI k)), (4, .int (nI (sz m0))), (5, .int (nI i))] → W p l e rmX0_weave s m args below meth c H locs 0 0 Q (F0 m 46 ls []) := by
              intro N
              induction N with
              | zero =>
                intro i hi hms
                exact absurd hms (Nat.not_lt_zero _)
              | succ N ih =>
                intro i hi hms H locs ls hX hl
                have z1 := hZ m0
                have z2 := hw.1 m0 hm0
                have q1 : i / 2 * (k / 8) ≤ 12 * 8 := Nat.mul_le_mul (by omega) (by omega)
                have q2 : i / 2 * (i / 2) ≤ 12 * 12 := Nat.mul_le_mul (by omega) (by omega)
                have q3 : i % 2 * (k % 8) ≤ 2 * 8 := Nat.mul_le_mul (by omega) (by omega)
                refine lv_iload hx hb dX0_weave_46 (lv_at hl 5 rfl) ?_
                refine lv_iconst (v := nI 2) hx hb dX0_weave_48 (by decide) ?_
                refine lv_iload hx hb dX0_weave_49 (lv_at hl 4 rfl) ?_
                refine n_imul hx hb dX0_weave_51 ?_
                refine n_icmp_ge (tgt := 137) hx hb dX0_weave_52 (by decide) (by omega) (by omega) (fun c_52 => ?_) (fun c_52 => ?_)
                · refine lv_aload_n hx hb dX0_weave_137 rfl (lv_at hl 0 rfl) ?_
                  refine lv_iconst (v := nI 0) hx hb dX0_weave_138 (by decide) ?_
                  refine xp9_0 S hX dX0_weave_139 (fun H locs hX => ?_)
                  refine lv_iconst (v := nI 0) hx hb dX0_weave_142 (by decide) ?_
                  exact ret _ _ _ _ _ _ dX0_weave_143 (by have ei : i = 2 * sz m0 := (by omega); subst ei; exact pX_of (spWeave_4 hm0 hj hk) (⟨wf_weave hw hm0, Or.inl rfl⟩)) hX
                · refine lv_iload hx hb dX0_weave_55 (lv_at hl 5 rfl) ?_
                  refine lv_iconst (v := nI 1) hx hb dX0_weave_57 (by decide) ?_
                  refine n_ishrL (r := i / 2) hx hb rfl dX0_weave_58 (by decide) (by omega) ?_
                  refine lv_istore (lv' := [(6, .int (nI (i / 2))), (0, .ref h), (1, .int (nI m0)), (2, .int (nI j)), (3, .int (nI k)), (4, .int (nI (sz m0))), (5, .int (nI i))]) hx hb dX0_weave_59 hl (by decide) rfl (fun ls hl => ?_)
                  refine lv_iload hx hb dX0_weave_61 (lv_at hl 6 rfl) ?_
                  refine lv_iconst (v := nI 1) hx hb dX0_weave_63 (by decide) ?_
                  refine n_iand1 hx hb dX0_weave_64 (by omega) ?_
                  refine lv_istore (lv' := [(7, .int (nI (i % 2))), (6, .int (nI (i / 2))), (0, .ref h), (1, .int (nI m0)), (2, .int (nI j)), (3, .int (nI k)), (4, .int (nI (sz m0))), (5, .int (nI i))]) hx hb dX0_weave_65 hl (by decide) rfl (fun ls hl => ?_)
                  refine lv_aload_n hx hb dX0_weave_67 rfl (lv_at hl 2 rfl) ?_
                  refine xg1 S hX dX0_weave_68 ?_
                  refine lv_bipush (v := nI 12) hx hb dX0_weave_71 (by decide) ?_
                  refine lv_iload_n hx hb dX0_weave_73 rfl (lv_at hl 3 rfl) ?_
                  refine n_imul hx hb dX0_weave_74 ?_
                  refine lv_iload hx hb dX0_weave_75 (lv_at hl 7 rfl) ?_
                  refine n_iadd hx hb dX0_weave_77 ?_
                  refine lv_iload hx hb dX0_weave_78 (lv_at hl 1 rfl) ?_
                  refine lv_iload_n hx hb dX0_weave_80 rfl (lv_at hl 5 rfl) ?_
                  refine lv_iconst (v := nI 3) hx hb dX0_weave_81 (by decide) ?_
                  refine n_ishrL (r := k / 8) hx hb rfl dX0_weave_82 (by decide) (by omega) ?_
                  refine n_imul hx hb dX0_weave_83 ?_
                  refine lv_iload hx hb dX0_weave_84 (lv_at hl 0 rfl) ?_
                  refine n_iadd hx hb dX0_weave_86 ?_
                  refine lv_iload_n hx hb dX0_weave_87 rfl (lv_at hl 4 rfl) ?_
                  refine n_iadd hx hb dX0_weave_88 ?_
                  refine lv_iload hx hb dX0_weave_89 (lv_at hl 6 rfl) ?_
                  refine n_if_le (tgt := 99) hx hb dX0_weave_91 (by decide) (by omega) (fun c_91 => ?_) (fun c_91 => ?_)
                  · omega
                  · refine lv_iload hx hb dX0_weave_94 (lv_at hl 6 rfl) ?_
                    refine lv_goto (tgt := 100) hx hb dX0_weave_96 (by decide) ?_
                    refine n_irem hx hb dX0_weave_100 (by omega) (by omega) (by omega) ?_
                    refine xs1 S hX dX0_weave_101 (by omega) (fun H locs hX => ?_)
                    refine lv_aload_n hx hb dX0_weave_102 rfl (lv_at hl 2 rfl) ?_
                    refine xg2 S hX dX0_weave_103 ?_
                    refine lv_bipush (v := nI 12) hx hb dX0_weave_106 (by decide) ?_
                    refine lv_iload_n hx hb dX0_weave_108 rfl (lv_at hl 3 rfl) ?_
                    refine n_imul hx hb dX0_weave_109 ?_
                    refine lv_iload hx hb dX0_weave_110 (lv_at hl 7 rfl) ?_
                    refine n_iadd hx hb dX0_weave_112 ?_
                    refine lv_iload hx hb dX0_weave_113 (lv_at hl 1 rfl) ?_
                    refine lv_iload hx hb dX0_weave_115 (lv_at hl 1 rfl) ?_
                    refine n_imul hx hb dX0_weave_117 ?_
                    refine lv_iload hx hb dX0_weave_118 (lv_at hl 0 rfl) ?_
                    refine lv_iload_n hx hb dX0_weave_120 rfl (lv_at hl 5 rfl) ?_
                    refine lv_bipush (v := nI 7) hx hb dX0_weave_121 (by decide) ?_
                    refine n_iand7 hx hb dX0_weave_123 (by omega) ?_
                    refine n_imul hx hb dX0_weave_124 ?_
                    refine n_iadd hx hb dX0_weave_125 ?_
                    refine lv_iload_n hx hb dX0_weave_126 rfl (lv_at hl 4 rfl) ?_
                    refine n_iadd hx hb dX0_weave_127 ?_
                    refine lv_iconst (v := nI 3) hx hb dX0_weave_128 (by decide) ?_
                    refine n_iand3 hx hb dX0_weave_129 (by omega) ?_
                    refine xs2 S hX dX0_weave_130 (by omega) (fun H locs hX => ?_)
                    refine lv_iinc (v := (nI (i + 1))) (lv' := [(5, .int (nI (i + 1))), (7, .int (nI (i % 2))), (6, .int (nI (i / 2))), (0, .ref h), (1, .int (nI m0)), (2, .int (nI j)), (3, .int (nI k)), (4, .int (nI (sz m0)))]) hx hb dX0_weave_131 hl (k := 7) rfl (nI_1 _) (by decide) rfl (fun ls hl => ?_)
                    refine lv_goto (tgt := 46) hx hb dX0_weave_134 (by decide) ?_
                    exact ih (i + 1) (by omega) (by omega) _ _ _ hX (lv_sub hl [3, 4, 5, 6, 7, 0] rfl)
            exact lp _ 0 (by omega) (Nat.lt_succ_self _) _ _ _ hX (lv_sub hl [2, 3, 4, 5, 1, 0] rfl)
          · refine lv_bipush (v := -3) hx hb dX0_weave_32 (by decide) ?_
            exact ret _ _ _ _ _ _ dX0_weave_34 (pX_of (spWeave_3 hm (sdOk_nI hj) (fun z => by first | exact z.1 c_23 | exact c_29 z.2)) (hI)) hX
      · refine lv_bipush (v := -2) hx hb dX0_weave_19 (by decide) ?_
        exact ret _ _ _ _ _ _ dX0_weave_21 (pX_of (spWeave_2 hm (fun z => by first | exact z.1 c_10 | exact c_16 z.2)) (hI)) hX
  · refine lv_iload_n hx hb dX0_weave_0 rfl (lv_at hl 1 rfl) ?_
    refine callXs S hA hX (mX_isMachine_n l x hm) (va_cwS 1 S.2.2.2.2 (lw_S q64 q65 q18 q66) rfl rfl rfl (by decide +kernel) ⟨Nat.le_of_ble_eq_true rfl, Nat.le_of_ble_eq_true rfl⟩) rfl hl.1 rfl (Nat.le_of_ble_eq_true rfl) dX0_weave_1 ⟨Nat.zero_le _, Nat.zero_le _⟩ (fun r H locs hq hX => ?_)
    subst hq
    refine n_if_ne (tgt := 9) hx hb dX0_weave_4 (by decide) (by decide) (fun q => absurd q (by decide)) (fun _ => ?_)
    refine lv_iconst (v := -1) hx hb dX0_weave_7 (by decide) ?_
    exact ret _ _ _ _ _ _ dX0_weave_8 (pX_of (spWeave_1 hm) (hI)) hX
set_option maxHeartbeats 4000000 in
set_option maxRecDepth 100000 in
theorem mY_weave (l : Launch) (sz nx an : Nat → Nat) (ct : Nat) (mb : Nat → Nat) (x : Int32) (y : Int32) (z : Int32) (hw : wf sz nx an) : MetY l yX1_weave cX1_weave 7 (some .int) rmX1_weave [.int x, .int y, .int z] (sz, nx, an, ct, mb) (pY (spWeave x y z sz nx an)) := by
  refine entYi rfl (by decide) rfl rfl (fun _ => Nat.le_of_ble_eq_true rfl) ?_
  intro G d h a A p e s m below meth c args Q S hA hX ret ls hl
  have hx := S.1
  have hb := S.2.1
  have hl : lv_has ls 7 [(0, .ref h), (1, .int x), (2, .int y), (3, .int z)] := hl
  have hZ := hw.2.1
  have hN := hw.2.2.2.1
  have hA4 := hw.2.2.2.2
  by_cases hm : mOk x
  · obtain ⟨m0, hm0, rfl⟩ := mOk_of hm
    refine lv_aload_n hx hb dX1_weave_0 rfl (lv_at hl 0 rfl) ?_
    refine lv_iload_n hx hb dX1_weave_1 rfl (lv_at hl 1 rfl) ?_
    refine callYi S hA hX (mY_bad l sz nx an ct mb (nI m0)) (cwV 1 S.2.2.2.2 (lw_V q192 q194 qs9 q19 q195) rfl rfl rfl (by decide +kernel) ⟨Nat.le_of_ble_eq_true rfl, Nat.le_of_ble_eq_true rfl⟩) rfl hl.1 rfl (Nat.le_of_ble_eq_true rfl) dX1_weave_2 ⟨Nat.zero_le _, Nat.zero_le _⟩ (fun r u1 H locs hq hX => ?_)
    obtain ⟨rfl, rfl⟩ := hq
    refine n_top (congrArg nI (if_neg (fun z => z (mOk_nI hm0)))) ?_
    refine n_if_eq (tgt := 10) hx hb dX1_weave_5 (by decide) (by decide) (fun _ => ?_) (fun q => absurd q (by decide))
    refine lv_iload_n hx hb dX1_weave_10 rfl (lv_at hl 2 rfl) ?_
    refine lv_if_lt (tgt := 20) hx hb dX1_weave_11 (by decide) (fun c_11 => ?_) (fun c_11 => ?_)
    · refine lv_bipush (v := -2) hx hb dX1_weave_20 (by decide) ?_
      exact ret _ _ _ _ _ _ dX1_weave_22 (pY_of (spWeave_2 hm (fun z => by first | exact z.1 c_11 | exact c_17 z.2))) hX
    · refine lv_iload_n hx hb dX1_weave_14 rfl (lv_at hl 2 rfl) ?_
      refine lv_bipush (v := nI 20) hx hb dX1_weave_15 (by decide) ?_
      refine lv_icmp_le (tgt := 23) hx hb dX1_weave_17 (by decide) (fun c_17 => ?_) (fun c_17 => ?_)
      · obtain ⟨j, hj, rfl⟩ := rng0 20 (by decide) c_11 c_17
        refine lv_iload_n hx hb dX1_weave_23 rfl (lv_at hl 3 rfl) ?_
        refine lv_if_lt (tgt := 33) hx hb dX1_weave_24 (by decide) (fun c_24 => ?_) (fun c_24 => ?_)
        · refine lv_bipush (v := -3) hx hb dX1_weave_33 (by decide) ?_
          exact ret _ _ _ _ _ _ dX1_weave_35 (pY_of (spWeave_3 hm (sdOk_nI hj) (fun z => by first | exact z.1 c_24 | exact c_30 z.2))) hX
        · refine lv_iload_n hx hb dX1_weave_27 rfl (lv_at hl 3 rfl) ?_
          refine lv_bipush (v := nI 63) hx hb dX1_weave_28 (by decide) ?_
          refine lv_icmp_le (tgt := 36) hx hb dX1_weave_30 (by decide) (fun c_30 => ?_) (fun c_30 => ?_)
          · obtain ⟨k, hk, rfl⟩ := rng0 63 (by decide) c_24 c_30
            refine lv_aload_n hx hb dX1_weave_36 rfl (lv_at hl 0 rfl) ?_
            refine yg0 S hX dX1_weave_37 ?_
            refine lv_iload_n hx hb dX1_weave_40 rfl (lv_at hl 1 rfl) ?_
            refine yl0 S hX dX1_weave_41 (by omega) ?_
            have b_41 := hZ m0
            refine lv_iconst (v := nI 1) hx hb dX1_weave_42 (by decide) ?_
            refine n_icmp_ge (tgt := 50) hx hb dX1_weave_43 (by decide) (by omega) (by omega) (fun c_43 => ?_) (fun c_43 => ?_)
            · refine lv_aload_n hx hb dX1_weave_50 rfl (lv_at hl 0 rfl) ?_
              refine yg0 S hX dX1_weave_51 ?_
              refine lv_iload_n hx hb dX1_weave_54 rfl (lv_at hl 1 rfl) ?_
              refine yl0 S hX dX1_weave_55 (by omega) ?_
              have b_55 := hZ m0
              refine lv_istore (lv' := [(4, .int (nI (sz m0))), (0, .ref h), (1, .int (nI m0)), (2, .int (nI j)), (3, .int (nI k))]) hx hb dX1_weave_56 hl (by decide) rfl (fun ls hl => ?_)
              refine lv_iconst (v := nI 0) hx hb dX1_weave_58 (by decide) ?_
              refine lv_istore (lv' := [(5, .int (nI 0)), (4, .int (nI (sz m0))), (0, .ref h), (1, .int (nI m0)), (2, .int (nI j)), (3, .int (nI k))]) hx hb dX1_weave_59 hl (by decide) rfl (fun ls hl => ?_)
              have lp : ∀ (N : Nat) (s0 : Nat), (s0 ≤ sz m0) → sz m0 - s0 < N → ∀ (H : Heap) (locs : List Loc) (ls : Array Slot), HY G d h a A s (sz, (wvN nx m0 (sz m0) j k (2 * s0)), (wvA an m0 j k (2 * s0)), ct, mb) H locs → lv_has ls 7 [(0, .ref h), (1, .int (nI m0)), (2, .int (nI j)), (3, .int (nI k)), (4, .int (nI (sz m0))), (5, .int (nI s0))] → W p l e rmX1_weave s m args below meth c H locs 0 0 Q (F0 m 61 ls []) := by
                intro N
                induction N with
                | zero =>
                  intro s0 hs0 hms
                  exact absurd hms (Nat.not_lt_zero _)
                | succ N ih =>
                  intro s0 hs0 hms H locs ls hX hl
                  have z1 := hZ m0
                  have z2 := hw.1 m0 hm0
                  refine lv_iload hx hb dX1_weave_61 (lv_at hl 5 rfl) ?_
                  refine lv_iload hx hb dX1_weave_63 (lv_at hl 4 rfl) ?_
                  refine n_icmp_ge (tgt := 162) hx hb dX1_weave_65 (by decide) (by omega) (by omega) (fun c_65 => ?_) (fun c_65 => ?_)
                  · refine lv_iconst (v := nI 0) hx hb dX1_weave_162 (by decide) ?_
                    exact ret _ _ _ _ _ _ dX1_weave_163 (by have ei : s0 = sz m0 := (by omega); subst ei; exact pY_of (spWeave_4 hm0 hj hk)) hX
                  · refine lv_iload hx hb dX1_weave_68 (lv_at hl 5 rfl) ?_
                    refine lv_bipush (v := nI 6) hx hb dX1_weave_70 (by decide) ?_
                    refine n_icmp_ge (tgt := 162) hx hb dX1_weave_72 (by decide) (by omega) (by omega) (fun c_72 => ?_) (fun c_72 => ?_)
                    · refine lv_iconst (v := nI 0) hx hb dX1_weave_162 (by decide) ?_
                      exact ret _ _ _ _ _ _ dX1_weave_163 (by have ei : s0 = sz m0 := (by omega); subst ei; exact pY_of (spWeave_4 hm0 hj hk)) hX
                    · refine lv_iconst (v := nI 0) hx hb dX1_weave_75 (by decide) ?_
                      refine lv_istore (lv' := [(6, .int (nI 0)), (0, .ref h), (1, .int (nI m0)), (2, .int (nI j)), (3, .int (nI k)), (4, .int (nI (sz m0))), (5, .int (nI s0))]) hx hb dX1_weave_76 hl (by decide) rfl (fun ls hl => ?_)
                      have lp2 : ∀ (N2 : Nat) (b : Nat), (b ≤ 2) → 2 - b < N2 → ∀ (H : Heap) (locs : List Loc) (ls : Array Slot), HY G d h a A s (sz, (wvN nx m0 (sz m0) j k (2 * s0 + b)), (wvA an m0 j k (2 * s0 + b)), ct, mb) H locs → lv_has ls 7 [(0, .ref h), (1, .int (nI m0)), (2, .int (nI j)), (3, .int (nI k)), (4, .int (nI (sz m0))), (5, .int (nI s0)), (6, .int (nI b))] → W p l e rmX1_weave s m args below meth c H locs 0 0 Q (F0 m 78 ls []) := by
                        intro N2
                        induction N2 with
                        | zero =>
                          intro b hb2 hms
                          exact absurd hms (Nat.not_lt_zero _)
                        | succ N2 ih2 =>
                          intro b hb2 hms H locs ls hX hl
                          have q1 : s0 * (k / 8) ≤ 12 * 8 := Nat.mul_le_mul (by omega) (by omega)
                          have q2 : s0 * s0 ≤ 12 * 12 := Nat.mul_le_mul (by omega) (by omega)
                          have q3 : b * (k % 8) ≤ 2 * 8 := Nat.mul_le_mul (by omega) (by omega)
                          refine lv_iload hx hb dX1_weave_78 (lv_at hl 6 rfl) ?_
                          refine lv_iconst (v := nI 2) hx hb dX1_weave_80 (by decide) ?_
                          refine n_icmp_ge (tgt := 156) hx hb dX1_weave_81 (by decide) (by omega) (by omega) (fun c_81 => ?_) (fun c_81 => ?_)
                          · refine lv_iinc (v := (nI (s0 + 1))) (lv' := [(5, .int (nI (s0 + 1))), (0, .ref h), (1, .int (nI m0)), (2, .int (nI j)), (3, .int (nI k)), (4, .int (nI (sz m0))), (6, .int (nI b))]) hx hb dX1_weave_156 hl (k := 5) rfl (nI_1 _) (by decide) rfl (fun ls hl => ?_)
                            refine lv_goto (tgt := 61) hx hb dX1_weave_159 (by decide) ?_
                            have eb : b = 2 := (by omega)
                            subst eb
                            exact ih (s0 + 1) (by omega) (by omega) _ _ _ hX (lv_sub hl [1, 2, 3, 4, 5, 0] rfl)
                          · refine lv_aload_n hx hb dX1_weave_84 rfl (lv_at hl 0 rfl) ?_
                            refine yg1 S hX dX1_weave_85 ?_
                            refine lv_bipush (v := nI 12) hx hb dX1_weave_88 (by decide) ?_
                            refine lv_iload_n hx hb dX1_weave_90 rfl (lv_at hl 1 rfl) ?_
                            refine n_imul hx hb dX1_weave_91 ?_
                            refine lv_iconst (v := nI 2) hx hb dX1_weave_92 (by decide) ?_
                            refine lv_iload hx hb dX1_weave_93 (lv_at hl 5 rfl) ?_
                            refine n_imul hx hb dX1_weave_95 ?_
                            refine n_iadd hx hb dX1_weave_96 ?_
                            refine lv_iload hx hb dX1_weave_97 (lv_at hl 6 rfl) ?_
                            refine n_iadd hx hb dX1_weave_99 ?_
                            refine lv_iload hx hb dX1_weave_100 (lv_at hl 5 rfl) ?_
                            refine lv_iload_n hx hb dX1_weave_102 rfl (lv_at hl 3 rfl) ?_
                            refine lv_bipush (v := nI 8) hx hb dX1_weave_103 (by decide) ?_
                            refine n_idiv hx hb dX1_weave_105 (by omega) (by decide) (by decide) ?_
                            refine n_imul hx hb dX1_weave_106 ?_
                            refine lv_iload hx hb dX1_weave_107 (lv_at hl 6 rfl) ?_
                            refine n_iadd hx hb dX1_weave_109 ?_
                            refine lv_iload_n hx hb dX1_weave_110 rfl (lv_at hl 2 rfl) ?_
                            refine n_iadd hx hb dX1_weave_111 ?_
                            refine lv_iload hx hb dX1_weave_112 (lv_at hl 4 rfl) ?_
                            refine n_irem hx hb dX1_weave_114 (by omega) (by omega) (by omega) ?_
                            refine ys1 S hX dX1_weave_115 (by omega) (fun H locs hX => ?_)
                            refine lv_aload_n hx hb dX1_weave_116 rfl (lv_at hl 0 rfl) ?_
                            refine yg2 S hX dX1_weave_117 ?_
                            refine lv_bipush (v := nI 12) hx hb dX1_weave_120 (by decide) ?_
                            refine lv_iload_n hx hb dX1_weave_122 rfl (lv_at hl 1 rfl) ?_
                            refine n_imul hx hb dX1_weave_123 ?_
                            refine lv_iconst (v := nI 2) hx hb dX1_weave_124 (by decide) ?_
                            refine lv_iload hx hb dX1_weave_125 (lv_at hl 5 rfl) ?_
                            refine n_imul hx hb dX1_weave_127 ?_
                            refine n_iadd hx hb dX1_weave_128 ?_
                            refine lv_iload hx hb dX1_weave_129 (lv_at hl 6 rfl) ?_
                            refine n_iadd hx hb dX1_weave_131 ?_
                            refine lv_iload hx hb dX1_weave_132 (lv_at hl 5 rfl) ?_
                            refine lv_iload hx hb dX1_weave_134 (lv_at hl 5 rfl) ?_
                            refine n_imul hx hb dX1_weave_136 ?_
                            refine lv_iload hx hb dX1_weave_137 (lv_at hl 6 rfl) ?_
                            refine lv_iload_n hx hb dX1_weave_139 rfl (lv_at hl 3 rfl) ?_
                            refine lv_bipush (v := nI 8) hx hb dX1_weave_140 (by decide) ?_
                            refine n_irem hx hb dX1_weave_142 (by omega) (by decide) (by decide) ?_
                            refine n_imul hx hb dX1_weave_143 ?_
                            refine n_iadd hx hb dX1_weave_144 ?_
                            refine lv_iload_n hx hb dX1_weave_145 rfl (lv_at hl 2 rfl) ?_
                            refine n_iadd hx hb dX1_weave_146 ?_
                            refine lv_iconst (v := nI 4) hx hb dX1_weave_147 (by decide) ?_
                            refine n_irem hx hb dX1_weave_148 (by omega) (by decide) (by decide) ?_
                            refine ys2 S hX dX1_weave_149 (by omega) (fun H locs hX => ?_)
                            refine lv_iinc (v := (nI (b + 1))) (lv' := [(6, .int (nI (b + 1))), (0, .ref h), (1, .int (nI m0)), (2, .int (nI j)), (3, .int (nI k)), (4, .int (nI (sz m0))), (5, .int (nI s0))]) hx hb dX1_weave_150 hl (k := 6) rfl (nI_1 _) (by decide) rfl (fun ls hl => ?_)
                            refine lv_goto (tgt := 78) hx hb dX1_weave_153 (by decide) ?_
                            rw [wvN_step nx m0 (sz m0) j k (by omega), wvA_step an m0 j k (by omega)] at hX
                            exact ih2 (b + 1) (by omega) (by omega) _ _ _ hX (lv_sub hl [1, 2, 3, 4, 5, 6, 0] rfl)
                      exact lp2 _ 0 (by omega) (Nat.lt_succ_self _) _ _ _ hX (lv_sub hl [1, 2, 3, 4, 5, 6, 0] rfl)
              exact lp _ 0 (by omega) (Nat.lt_succ_self _) _ _ _ hX (lv_sub hl [2, 3, 4, 5, 1, 0] rfl)
            · exact absurd (hw.1 m0 hm0) c_43
          · refine lv_bipush (v := -3) hx hb dX1_weave_33 (by decide) ?_
            exact ret _ _ _ _ _ _ dX1_weave_35 (pY_of (spWeave_3 hm (sdOk_nI hj) (fun z => by first | exact z.1 c_24 | exact c_30 z.2))) hX
      · refine lv_bipush (v := -2) hx hb dX1_weave_20 (by decide) ?_
        exact ret _ _ _ _ _ _ dX1_weave_22 (pY_of (spWeave_2 hm (fun z => by first | exact z.1 c_11 | exact c_17 z.2))) hX
  · refine lv_aload_n hx hb dX1_weave_0 rfl (lv_at hl 0 rfl) ?_
    refine lv_iload_n hx hb dX1_weave_1 rfl (lv_at hl 1 rfl) ?_
    refine callYi S hA hX (mY_bad l sz nx an ct mb x) (cwV 1 S.2.2.2.2 (lw_V q192 q194 qs9 q19 q195) rfl rfl rfl (by decide +kernel) ⟨Nat.le_of_ble_eq_true rfl, Nat.le_of_ble_eq_true rfl⟩) rfl hl.1 rfl (Nat.le_of_ble_eq_true rfl) dX1_weave_2 ⟨Nat.zero_le _, Nat.zero_le _⟩ (fun r u1 H locs hq hX => ?_)
    obtain ⟨rfl, rfl⟩ := hq
    refine n_top (congrArg nI (if_pos hm)) ?_
    refine n_if_eq (tgt := 10) hx hb dX1_weave_5 (by decide) (by decide) (fun q => absurd q (by decide)) (fun _ => ?_)
    refine lv_iconst (v := -1) hx hb dX1_weave_8 (by decide) ?_
    exact ret _ _ _ _ _ _ dX1_weave_9 (pY_of (spWeave_1 hm)) hX
def cpN (f : Nat → Nat) (m o b0 n : Nat) : Nat → (Nat → Nat)
  | 0 => f
  | k + 1 => updN (cpN f m o b0 n k) (12 * m + 2 * ((k / 2 + b0) % n) + k % 2) ((cpN f m o b0 n k (12 * o + k) + b0) % n)
def cpA (f : Nat → Nat) (m o b0 n : Nat) : Nat → (Nat → Nat)
  | 0 => f
  | k + 1 => updN (cpA f m o b0 n k) (12 * m + 2 * ((k / 2 + b0) % n) + k % 2) (cpA f m o b0 n k (12 * o + k))
theorem cpN_step (f : Nat → Nat) (m o b0 n : Nat) {s a : Nat} (ha : a < 2) : updN (cpN f m o b0 n (2 * s + a)) (12 * m + 2 * ((s + b0) % n) + a) ((cpN f m o b0 n (2 * s + a) (12 * o + 2 * s + a) + b0) % n) = cpN f m o b0 n (2 * s + (a + 1)) := by
  show _ = updN (cpN f m o b0 n (2 * s + a)) (12 * m + 2 * (((2 * s + a) / 2 + b0) % n) + (2 * s + a) % 2) ((cpN f m o b0 n (2 * s + a) (12 * o + (2 * s + a)) + b0) % n)
  rw [show (2 * s + a) / 2 = s by omega, show (2 * s + a) % 2 = a by omega, Nat.add_assoc (12 * o)]
theorem cpA_step (f : Nat → Nat) (m o b0 n : Nat) {s a : Nat} (ha : a < 2) : updN (cpA f m o b0 n (2 * s + a)) (12 * m + 2 * ((s + b0) % n) + a) (cpA f m o b0 n (2 * s + a) (12 * o + 2 * s + a)) = cpA f m o b0 n (2 * s + (a + 1)) := by
  show _ = updN (cpA f m o b0 n (2 * s + a)) (12 * m + 2 * (((2 * s + a) / 2 + b0) % n) + (2 * s + a) % 2) (cpA f m o b0 n (2 * s + a) (12 * o + (2 * s + a)))
  rw [show (2 * s + a) / 2 = s by omega, show (2 * s + a) % 2 = a by omega, Nat.add_assoc (12 * o)]
abbrev byOk (y : Int32) : Prop := ¬ y < 0 ∧ y ≤ 5
def spCopy (x y : Int32) (sz nx an : Nat → Nat) : TT := if mOk x then (if byOk y then (nI (sz (1 - x.toNatClampNeg)), updN sz x.toNatClampNeg (sz (1 - x.toNatClampNeg)), cpN nx x.toNatClampNeg (1 - x.toNatClampNeg) y.toNatClampNeg (sz (1 - x.toNatClampNeg)) (2 * sz (1 - x.toNatClampNeg)), cpA an x.toNatClampNeg (1 - x.toNatClampNeg) y.toNatClampNeg (sz (1 - x.toNatClampNeg)) (2 * sz (1 - x.toNatClampNeg))) else (-2, sz, nx, an)) else (-1, sz, nx, an)
theorem spCopy_1 {x y : Int32} {sz nx an : Nat → Nat} (h : ¬ mOk x) : spCopy x y sz nx an = (-1, sz, nx, an) := if_neg h
theorem spCopy_2 {x y : Int32} {sz nx an : Nat → Nat} (h : mOk x) (h2 : ¬ byOk y) : spCopy x y sz nx an = (-2, sz, nx, an) := by
  unfold spCopy; rw [if_pos h, if_neg h2]
theorem spCopy_3 {m j : Nat} {sz nx an : Nat → Nat} (h : m < 2) (hj : j ≤ 5) : spCopy (nI m) (nI j) sz nx an = (nI (sz (1 - m)), updN sz m (sz (1 - m)), cpN nx m (1 - m) j (sz (1 - m)) (2 * sz (1 - m)), cpA an m (1 - m) j (sz (1 - m)) (2 * sz (1 - m))) := by
  unfold spCopy; rw [if_pos (mOk_nI h), if_pos (show byOk (nI j) from ⟨nI_pos (by omega), nI_le' (n := 5) rfl hj (by decide)⟩), nI_clamp (by omega), nI_clamp (by omega)]
theorem cpN_lt {f : Nat → Nat} {m o b0 n : Nat} (hn : 0 < n) (hn6 : n ≤ 6) (h : ∀ k, f k < 6) : ∀ c k, cpN f m o b0 n c k < 6 := by
  intro c
  induction c with
  | zero => exact h
  | succ c ih =>
    intro k
    show updN (cpN f m o b0 n c) _ _ k < 6
    unfold updN
    split
    · exact Nat.lt_of_lt_of_le (Nat.mod_lt _ hn) hn6
    · exact ih k
theorem cpA_lt {f : Nat → Nat} {m o b0 n : Nat} (h : ∀ k, f k < 4) : ∀ c k, cpA f m o b0 n c k < 4 := by
  intro c
  induction c with
  | zero => exact h
  | succ c ih =>
    intro k
    show updN (cpA f m o b0 n c) _ _ k < 4
    unfold updN
    split
    · exact ih _
    · exact ih k
theorem cpN_hit {f : Nat → Nat} {m o b0 n : Nat} (hn : 0 < n) : ∀ c j, j < c → cpN f m o b0 n c (12 * m + 2 * ((j / 2 + b0) % n) + j % 2) < n := by
  intro c
  induction c with
  | zero => intro j h; omega
  | succ c ih =>
    intro j h
    show updN (cpN f m o b0 n c) _ _ _ < n
    unfold updN
    split
    · exact Nat.mod_lt _ hn
    · rename_i q
      refine ih j ?_
      rcases Nat.lt_or_ge j c with z | z
      · exact z
      · have e : j = c := by omega
        subst e
        exact absurd rfl q
theorem cpN_out {f : Nat → Nat} {m o b0 n : Nat} (hn : 0 < n) (hn6 : n ≤ 6) : ∀ c i, (i < 12 * m ∨ 12 * m + 12 ≤ i) → cpN f m o b0 n c i = f i := by
  intro c
  induction c with
  | zero => intro i _; rfl
  | succ c ih =>
    intro i h2
    show updN (cpN f m o b0 n c) _ _ i = f i
    have := Nat.mod_lt (c / 2 + b0) hn
    rw [updN_ne _ _ (by omega)]
    exact ih i h2
theorem turn_all : ∀ n, n < 7 → ∀ b, b < 6 → ∀ t, t < 6 → t < n → ∃ s, s < 6 ∧ s < n ∧ (s + b) % n = t := by decide +kernel
theorem wf_copy {sz nx an : Nat → Nat} (hw : wf sz nx an) {m j : Nat} (hm : m < 2) (hj : j ≤ 5) : wf (updN sz m (sz (1 - m))) (cpN nx m (1 - m) j (sz (1 - m)) (2 * sz (1 - m))) (cpA an m (1 - m) j (sz (1 - m)) (2 * sz (1 - m))) := by
  obtain ⟨w1, w2, w3, w4, w5⟩ := hw
  have a1 := w1 (1 - m) (by omega)
  have a2 := w2 (1 - m)
  refine ⟨fun m2 h => ?_, fun m2 => ?_, fun m2 s a h3 h4 h5 => ?_, cpN_lt a1 a2 w4 _, cpA_lt w5 _⟩
  · unfold updN; split
    · exact a1
    · exact w1 m2 h
  · unfold updN; split
    · exact a2
    · exact w2 m2
  · by_cases q : m2 = m
    · subst q
      rw [updN_same] at h4 ⊢
      obtain ⟨t, -, t2, t3⟩ := turn_all (sz (1 - m2)) (by omega) j (by omega) s (by omega) h4
      have h6 := cpN_hit (f := nx) (m := m2) (o := 1 - m2) (b0 := j) (n := sz (1 - m2)) a1 (2 * sz (1 - m2)) (2 * t + a) (by omega)
      rw [show (2 * t + a) / 2 = t by omega, show (2 * t + a) % 2 = a by omega, t3] at h6
      exact h6
    · rw [updN_ne _ _ q] at h4 ⊢
      have := w2 m2
      rw [cpN_out a1 a2 _ _ (by omega)]
      exact w3 m2 s a h3 h4 h5
set_option maxHeartbeats 4000000 in
set_option maxRecDepth 100000 in
theorem mX_copy (l : Launch) (sz nx an ap : Nat → Nat) (cn : Nat → Int32) (ld qu wo : Nat → Nat) (co cu : Nat) (x : Int32) (y : Int32) (hI : inX sz nx an ap cu) : MetX l yX0_copy cX0_copy 8 (some .int) rmX0_copy [.int x, .int y] (sz, nx, an, ap, cn, ld, qu, wo, co, cu) (pX (spCopy x y sz nx an)) := by
  refine entXi rfl (by decide) rfl rfl (fun _ => Nat.le_of_ble_eq_true rfl) ?_
  intro G d h a A p e s m below meth c args Q S hA hX ret ls hl
  have hx := S.1
  have hb := S.2.1
  have hl : lv_has ls 8 [(0, .ref h), (1, .int x), (2, .int y)] := hl
  have hw := hI.1
  have hZ := hw.2.1
  have hN := hw.2.2.2.1
  have hA4 := hw.2.2.2.2
  by_cases hm : mOk x
  · obtain ⟨m0, hm0, rfl⟩ := mOk_of hm
    refine lv_iload_n hx hb dX0_copy_0 rfl (lv_at hl 1 rfl) ?_
    refine callXs S hA hX (mX_isMachine_y l m0 hm0) (va_cwS 1 S.2.2.2.2 (lw_S q64 q65 q18 q66) rfl rfl rfl (by decide +kernel) ⟨Nat.le_of_ble_eq_true rfl, Nat.le_of_ble_eq_true rfl⟩) rfl hl.1 rfl (Nat.le_of_ble_eq_true rfl) dX0_copy_1 ⟨Nat.zero_le _, Nat.zero_le _⟩ (fun r H locs hq hX => ?_)
    subst hq
    refine n_if_ne (tgt := 9) hx hb dX0_copy_4 (by decide) (by decide) (fun _ => ?_) (fun q => absurd q (by decide))
    refine lv_iload_n hx hb dX0_copy_9 rfl (lv_at hl 2 rfl) ?_
    refine lv_if_lt (tgt := 18) hx hb dX0_copy_10 (by decide) (fun c_10 => ?_) (fun c_10 => ?_)
    · refine lv_bipush (v := -2) hx hb dX0_copy_18 (by decide) ?_
      exact ret _ _ _ _ _ _ dX0_copy_20 (pX_of (spCopy_2 hm (fun z => by first | exact z.1 c_10 | exact c_15 z.2)) (hI)) hX
    · refine lv_iload_n hx hb dX0_copy_13 rfl (lv_at hl 2 rfl) ?_
      refine lv_iconst (v := nI 5) hx hb dX0_copy_14 (by decide) ?_
      refine lv_icmp_le (tgt := 21) hx hb dX0_copy_15 (by decide) (fun c_15 => ?_) (fun c_15 => ?_)
      · obtain ⟨j, hj, rfl⟩ := rng0 5 (by decide) c_10 c_15
        refine lv_iconst (v := nI 1) hx hb dX0_copy_21 (by decide) ?_
        refine lv_iload_n hx hb dX0_copy_22 rfl (lv_at hl 1 rfl) ?_
        refine n_isub hx hb dX0_copy_23 (by omega) ?_
        have z1 := hZ (1 - m0)
        have z2 := hw.1 (1 - m0) (by omega)
        refine lv_istore_n (lv' := [(3, .int (nI (1 - m0))), (0, .ref h), (1, .int (nI m0)), (2, .int (nI j))]) hx hb dX0_copy_24 rfl hl (by decide) rfl (fun ls hl => ?_)
        refine lv_aload_n hx hb dX0_copy_25 rfl (lv_at hl 1 rfl) ?_
        refine xg0 S hX dX0_copy_26 ?_
        refine lv_iload_n hx hb dX0_copy_29 rfl (lv_at hl 0 rfl) ?_
        refine xl0 S hX dX0_copy_30 (by omega) ?_
        refine n_if_le (tgt := 43) hx hb dX0_copy_31 (by decide) (by omega) (fun c_31 => ?_) (fun c_31 => ?_)
        · omega
        · refine lv_aload_n hx hb dX0_copy_34 rfl (lv_at hl 1 rfl) ?_
          refine xg0 S hX dX0_copy_35 ?_
          refine lv_iload_n hx hb dX0_copy_38 rfl (lv_at hl 0 rfl) ?_
          refine xl0 S hX dX0_copy_39 (by omega) ?_
          refine lv_goto (tgt := 44) hx hb dX0_copy_40 (by decide) ?_
          refine lv_istore (lv' := [(4, .int (nI (sz (1 - m0)))), (3, .int (nI (1 - m0))), (0, .ref h), (1, .int (nI m0)), (2, .int (nI j))]) hx hb dX0_copy_44 hl (by decide) rfl (fun ls hl => ?_)
          refine lv_aload_n hx hb dX0_copy_46 rfl (lv_at hl 2 rfl) ?_
          refine xg0 S hX dX0_copy_47 ?_
          refine lv_iload_n hx hb dX0_copy_50 rfl (lv_at hl 3 rfl) ?_
          refine lv_iload hx hb dX0_copy_51 (lv_at hl 0 rfl) ?_
          refine xs0 S hX dX0_copy_53 (by omega) (fun H locs hX => ?_)
          refine lv_iconst (v := nI 0) hx hb dX0_copy_54 (by decide) ?_
          refine lv_istore (lv' := [(5, .int (nI 0)), (4, .int (nI (sz (1 - m0)))), (3, .int (nI (1 - m0))), (0, .ref h), (1, .int (nI m0)), (2, .int (nI j))]) hx hb dX0_copy_55 hl (by decide) rfl (fun ls hl => ?_)
          have lp : ∀ (N : Nat) (i : Nat), (i ≤ 2 * sz (1 - m0)) → 2 * sz (1 - m0) - i < N → ∀ (H : Heap) (locs : List Loc) (ls : Array Slot), HX G d h a A s ((updN sz m0 (sz (1 - m0))), (cpN nx m0 (1 - m0) j (sz (1 - m0)) i), (cpA an m0 (1 - m0) j (sz (1 - m0)) i), ap, cn, ld, qu, wo, co, cu) H locs → lv_has ls 8 [(0, .ref h), (1, .int (nI m0)), (2, .int (nI j)), (3, .int (nI (1 - m0))), (4, .int (nI (sz (1 - m0)))), (5, .int (nI i))] → W p l e rmX0_copy s m args below meth c H locs 0 0 Q (F0 m 57 ls []) := by
            intro N
            induction N with
            | zero =>
              intro i hi hms
              exact absurd hms (Nat.not_lt_zero _)
            | succ N ih =>
              intro i hi hms H locs ls hX hl
              have g1 := Nat.mod_lt (i / 2 + j) z2
              refine lv_iload hx hb dX0_copy_57 (lv_at hl 5 rfl) ?_
              refine lv_iconst (v := nI 2) hx hb dX0_copy_59 (by decide) ?_
              refine lv_iload hx hb dX0_copy_60 (lv_at hl 4 rfl) ?_
              refine n_imul hx hb dX0_copy_62 ?_
              refine n_icmp_ge (tgt := 142) hx hb dX0_copy_63 (by decide) (by omega) (by omega) (fun c_63 => ?_) (fun c_63 => ?_)
              · refine lv_aload_n hx hb dX0_copy_142 rfl (lv_at hl 0 rfl) ?_
                refine lv_iconst (v := nI 0) hx hb dX0_copy_143 (by decide) ?_
                refine xp9_0 S hX dX0_copy_144 (fun H locs hX => ?_)
                refine lv_iload hx hb dX0_copy_147 (lv_at hl 4 rfl) ?_
                exact ret _ _ _ _ _ _ dX0_copy_149 (by have ei : i = 2 * sz (1 - m0) := (by omega); subst ei; exact pX_of (spCopy_3 hm0 hj) (⟨wf_copy hw hm0 hj, Or.inl rfl⟩)) hX
              · refine lv_iload hx hb dX0_copy_66 (lv_at hl 5 rfl) ?_
                refine lv_iconst (v := nI 1) hx hb dX0_copy_68 (by decide) ?_
                refine n_ishrL (r := i / 2) hx hb rfl dX0_copy_69 (by decide) (by omega) ?_
                refine lv_iload_n hx hb dX0_copy_70 rfl (lv_at hl 2 rfl) ?_
                refine n_iadd hx hb dX0_copy_71 ?_
                refine lv_iload hx hb dX0_copy_72 (lv_at hl 4 rfl) ?_
                refine n_irem hx hb dX0_copy_74 (by omega) (by omega) (by omega) ?_
                refine lv_istore (lv' := [(6, .int (nI ((i / 2 + j) % (sz (1 - m0))))), (0, .ref h), (1, .int (nI m0)), (2, .int (nI j)), (3, .int (nI (1 - m0))), (4, .int (nI (sz (1 - m0)))), (5, .int (nI i))]) hx hb dX0_copy_75 hl (by decide) rfl (fun ls hl => ?_)
                refine lv_bipush (v := nI 12) hx hb dX0_copy_77 (by decide) ?_
                refine lv_iload_n hx hb dX0_copy_79 rfl (lv_at hl 2 rfl) ?_
                refine n_imul hx hb dX0_copy_80 ?_
                refine lv_iconst (v := nI 2) hx hb dX0_copy_81 (by decide) ?_
                refine lv_iload hx hb dX0_copy_82 (lv_at hl 0 rfl) ?_
                refine n_imul hx hb dX0_copy_84 ?_
                refine n_iadd hx hb dX0_copy_85 ?_
                refine lv_iload hx hb dX0_copy_86 (lv_at hl 6 rfl) ?_
                refine lv_iconst (v := nI 1) hx hb dX0_copy_88 (by decide) ?_
                refine n_iand1 hx hb dX0_copy_89 (by omega) ?_
                refine n_iadd hx hb dX0_copy_90 ?_
                refine lv_istore (lv' := [(7, .int (nI (12 * m0 + (2 * ((i / 2 + j) % (sz (1 - m0)))) + (i % 2)))), (6, .int (nI ((i / 2 + j) % (sz (1 - m0))))), (0, .ref h), (1, .int (nI m0)), (2, .int (nI j)), (3, .int (nI (1 - m0))), (4, .int (nI (sz (1 - m0)))), (5, .int (nI i))]) hx hb dX0_copy_91 hl (by decide) rfl (fun ls hl => ?_)
                refine lv_aload_n hx hb dX0_copy_93 rfl (lv_at hl 2 rfl) ?_
                refine xg1 S hX dX0_copy_94 ?_
                refine lv_iload hx hb dX0_copy_97 (lv_at hl 0 rfl) ?_
                refine lv_aload_n hx hb dX0_copy_99 rfl (lv_at hl 2 rfl) ?_
                refine xg1 S hX dX0_copy_100 ?_
                refine lv_bipush (v := nI 12) hx hb dX0_copy_103 (by decide) ?_
                refine lv_iload_n hx hb dX0_copy_105 rfl (lv_at hl 5 rfl) ?_
                refine n_imul hx hb dX0_copy_106 ?_
                refine lv_iload hx hb dX0_copy_107 (lv_at hl 7 rfl) ?_
                refine n_iadd hx hb dX0_copy_109 ?_
                refine xl1 S hX dX0_copy_110 (by omega) ?_
                have b_110 := cpN_lt (m := m0) (o := 1 - m0) (b0 := j) z2 z1 hN i (12 * (1 - m0) + i)
                refine lv_iload_n hx hb dX0_copy_111 rfl (lv_at hl 4 rfl) ?_
                refine n_iadd hx hb dX0_copy_112 ?_
                refine lv_iload hx hb dX0_copy_113 (lv_at hl 6 rfl) ?_
                refine n_irem hx hb dX0_copy_115 (by omega) (by omega) (by omega) ?_
                refine xs1 S hX dX0_copy_116 (by omega) (fun H locs hX => ?_)
                refine lv_aload_n hx hb dX0_copy_117 rfl (lv_at hl 2 rfl) ?_
                refine xg2 S hX dX0_copy_118 ?_
                refine lv_iload hx hb dX0_copy_121 (lv_at hl 0 rfl) ?_
                refine lv_aload_n hx hb dX0_copy_123 rfl (lv_at hl 2 rfl) ?_
                refine xg2 S hX dX0_copy_124 ?_
                refine lv_bipush (v := nI 12) hx hb dX0_copy_127 (by decide) ?_
                refine lv_iload_n hx hb dX0_copy_129 rfl (lv_at hl 5 rfl) ?_
                refine n_imul hx hb dX0_copy_130 ?_
                refine lv_iload hx hb dX0_copy_131 (lv_at hl 7 rfl) ?_
                refine n_iadd hx hb dX0_copy_133 ?_
                refine xl2 S hX dX0_copy_134 (by omega) ?_
                have b_134 := cpA_lt (m := m0) (o := 1 - m0) (b0 := j) (n := sz (1 - m0)) hA4 i (12 * (1 - m0) + i)
                refine xs2 S hX dX0_copy_135 (by omega) (fun H locs hX => ?_)
                refine lv_iinc (v := (nI (i + 1))) (lv' := [(5, .int (nI (i + 1))), (7, .int (nI (12 * m0 + (2 * ((i / 2 + j) % (sz (1 - m0)))) + (i % 2)))), (6, .int (nI ((i / 2 + j) % (sz (1 - m0))))), (0, .ref h), (1, .int (nI m0)), (2, .int (nI j)), (3, .int (nI (1 - m0))), (4, .int (nI (sz (1 - m0))))]) hx hb dX0_copy_136 hl (k := 7) rfl (nI_1 _) (by decide) rfl (fun ls hl => ?_)
                refine lv_goto (tgt := 57) hx hb dX0_copy_139 (by decide) ?_
                exact ih (i + 1) (by omega) (by omega) _ _ _ hX (lv_sub hl [3, 4, 5, 6, 7, 0] rfl)
          exact lp _ 0 (by omega) (Nat.lt_succ_self _) _ _ _ hX (lv_sub hl [3, 4, 5, 2, 1, 0] rfl)
      · refine lv_bipush (v := -2) hx hb dX0_copy_18 (by decide) ?_
        exact ret _ _ _ _ _ _ dX0_copy_20 (pX_of (spCopy_2 hm (fun z => by first | exact z.1 c_10 | exact c_15 z.2)) (hI)) hX
  · refine lv_iload_n hx hb dX0_copy_0 rfl (lv_at hl 1 rfl) ?_
    refine callXs S hA hX (mX_isMachine_n l x hm) (va_cwS 1 S.2.2.2.2 (lw_S q64 q65 q18 q66) rfl rfl rfl (by decide +kernel) ⟨Nat.le_of_ble_eq_true rfl, Nat.le_of_ble_eq_true rfl⟩) rfl hl.1 rfl (Nat.le_of_ble_eq_true rfl) dX0_copy_1 ⟨Nat.zero_le _, Nat.zero_le _⟩ (fun r H locs hq hX => ?_)
    subst hq
    refine n_if_ne (tgt := 9) hx hb dX0_copy_4 (by decide) (by decide) (fun q => absurd q (by decide)) (fun _ => ?_)
    refine lv_iconst (v := -1) hx hb dX0_copy_7 (by decide) ?_
    exact ret _ _ _ _ _ _ dX0_copy_8 (pX_of (spCopy_1 hm) (hI)) hX
set_option maxHeartbeats 4000000 in
set_option maxRecDepth 100000 in
theorem mY_copy (l : Launch) (sz nx an : Nat → Nat) (ct : Nat) (mb : Nat → Nat) (x : Int32) (y : Int32) (hw : wf sz nx an) : MetY l yX1_copy cX1_copy 8 (some .int) rmX1_copy [.int x, .int y] (sz, nx, an, ct, mb) (pY (spCopy x y sz nx an)) := by
  refine entYi rfl (by decide) rfl rfl (fun _ => Nat.le_of_ble_eq_true rfl) ?_
  intro G d h a A p e s m below meth c args Q S hA hX ret ls hl
  have hx := S.1
  have hb := S.2.1
  have hl : lv_has ls 8 [(0, .ref h), (1, .int x), (2, .int y)] := hl
  have hZ := hw.2.1
  have hN := hw.2.2.2.1
  have hA4 := hw.2.2.2.2
  by_cases hm : mOk x
  · obtain ⟨m0, hm0, rfl⟩ := mOk_of hm
    refine lv_aload_n hx hb dX1_copy_0 rfl (lv_at hl 0 rfl) ?_
    refine lv_iload_n hx hb dX1_copy_1 rfl (lv_at hl 1 rfl) ?_
    refine callYi S hA hX (mY_bad l sz nx an ct mb (nI m0)) (cwV 1 S.2.2.2.2 (lw_V q192 q194 qs9 q19 q195) rfl rfl rfl (by decide +kernel) ⟨Nat.le_of_ble_eq_true rfl, Nat.le_of_ble_eq_true rfl⟩) rfl hl.1 rfl (Nat.le_of_ble_eq_true rfl) dX1_copy_2 ⟨Nat.zero_le _, Nat.zero_le _⟩ (fun r u1 H locs hq hX => ?_)
    obtain ⟨rfl, rfl⟩ := hq
    refine n_top (congrArg nI (if_neg (fun z => z (mOk_nI hm0)))) ?_
    refine n_if_eq (tgt := 10) hx hb dX1_copy_5 (by decide) (by decide) (fun _ => ?_) (fun q => absurd q (by decide))
    refine lv_iload_n hx hb dX1_copy_10 rfl (lv_at hl 2 rfl) ?_
    refine lv_if_lt (tgt := 19) hx hb dX1_copy_11 (by decide) (fun c_11 => ?_) (fun c_11 => ?_)
    · refine lv_bipush (v := -2) hx hb dX1_copy_19 (by decide) ?_
      exact ret _ _ _ _ _ _ dX1_copy_21 (pY_of (spCopy_2 hm (fun z => by first | exact z.1 c_11 | exact c_16 z.2))) hX
    · refine lv_iload_n hx hb dX1_copy_14 rfl (lv_at hl 2 rfl) ?_
      refine lv_iconst (v := nI 5) hx hb dX1_copy_15 (by decide) ?_
      refine lv_icmp_le (tgt := 22) hx hb dX1_copy_16 (by decide) (fun c_16 => ?_) (fun c_16 => ?_)
      · obtain ⟨j, hj, rfl⟩ := rng0 5 (by decide) c_11 c_16
        refine lv_iconst (v := nI 1) hx hb dX1_copy_22 (by decide) ?_
        refine lv_iload_n hx hb dX1_copy_23 rfl (lv_at hl 1 rfl) ?_
        refine n_isub hx hb dX1_copy_24 (by omega) ?_
        have z1 := hZ (1 - m0)
        have z2 := hw.1 (1 - m0) (by omega)
        refine lv_istore_n (lv' := [(3, .int (nI (1 - m0))), (0, .ref h), (1, .int (nI m0)), (2, .int (nI j))]) hx hb dX1_copy_25 rfl hl (by decide) rfl (fun ls hl => ?_)
        refine lv_aload_n hx hb dX1_copy_26 rfl (lv_at hl 1 rfl) ?_
        refine yg0 S hX dX1_copy_27 ?_
        refine lv_iload_n hx hb dX1_copy_30 rfl (lv_at hl 0 rfl) ?_
        refine yl0 S hX dX1_copy_31 (by omega) ?_
        refine lv_iconst (v := nI 1) hx hb dX1_copy_32 (by decide) ?_
        refine n_icmp_ge (tgt := 40) hx hb dX1_copy_33 (by decide) (by omega) (by omega) (fun c_33 => ?_) (fun c_33 => ?_)
        · refine lv_aload_n hx hb dX1_copy_40 rfl (lv_at hl 1 rfl) ?_
          refine yg0 S hX dX1_copy_41 ?_
          refine lv_iload_n hx hb dX1_copy_44 rfl (lv_at hl 0 rfl) ?_
          refine yl0 S hX dX1_copy_45 (by omega) ?_
          refine lv_istore (lv' := [(4, .int (nI (sz (1 - m0)))), (3, .int (nI (1 - m0))), (0, .ref h), (1, .int (nI m0)), (2, .int (nI j))]) hx hb dX1_copy_46 hl (by decide) rfl (fun ls hl => ?_)
          refine lv_aload_n hx hb dX1_copy_48 rfl (lv_at hl 2 rfl) ?_
          refine yg0 S hX dX1_copy_49 ?_
          refine lv_iload_n hx hb dX1_copy_52 rfl (lv_at hl 3 rfl) ?_
          refine lv_iload hx hb dX1_copy_53 (lv_at hl 0 rfl) ?_
          refine ys0 S hX dX1_copy_55 (by omega) (fun H locs hX => ?_)
          refine lv_iconst (v := nI 0) hx hb dX1_copy_56 (by decide) ?_
          refine lv_istore (lv' := [(5, .int (nI 0)), (4, .int (nI (sz (1 - m0)))), (3, .int (nI (1 - m0))), (0, .ref h), (1, .int (nI m0)), (2, .int (nI j))]) hx hb dX1_copy_57 hl (by decide) rfl (fun ls hl => ?_)
          have lp : ∀ (N : Nat) (s0 : Nat), (s0 ≤ sz (1 - m0)) → sz (1 - m0) - s0 < N → ∀ (H : Heap) (locs : List Loc) (ls : Array Slot), HY G d h a A s ((updN sz m0 (sz (1 - m0))), (cpN nx m0 (1 - m0) j (sz (1 - m0)) (2 * s0)), (cpA an m0 (1 - m0) j (sz (1 - m0)) (2 * s0)), ct, mb) H locs → lv_has ls 8 [(0, .ref h), (1, .int (nI m0)), (2, .int (nI j)), (3, .int (nI (1 - m0))), (4, .int (nI (sz (1 - m0)))), (5, .int (nI s0))] → W p l e rmX1_copy s m args below meth c H locs 0 0 Q (F0 m 59 ls []) := by
            intro N
            induction N with
            | zero =>
              intro s0 hs0 hms
              exact absurd hms (Nat.not_lt_zero _)
            | succ N ih =>
              intro s0 hs0 hms H locs ls hX hl
              refine lv_iload hx hb dX1_copy_59 (lv_at hl 5 rfl) ?_
              refine lv_iload hx hb dX1_copy_61 (lv_at hl 4 rfl) ?_
              refine n_icmp_ge (tgt := 166) hx hb dX1_copy_63 (by decide) (by omega) (by omega) (fun c_63 => ?_) (fun c_63 => ?_)
              · refine lv_iload hx hb dX1_copy_166 (lv_at hl 4 rfl) ?_
                exact ret _ _ _ _ _ _ dX1_copy_168 (by have ei : s0 = sz (1 - m0) := (by omega); subst ei; exact pY_of (spCopy_3 hm0 hj)) hX
              · refine lv_iload hx hb dX1_copy_66 (lv_at hl 5 rfl) ?_
                refine lv_bipush (v := nI 6) hx hb dX1_copy_68 (by decide) ?_
                refine n_icmp_ge (tgt := 166) hx hb dX1_copy_70 (by decide) (by omega) (by omega) (fun c_70 => ?_) (fun c_70 => ?_)
                · refine lv_iload hx hb dX1_copy_166 (lv_at hl 4 rfl) ?_
                  exact ret _ _ _ _ _ _ dX1_copy_168 (by have ei : s0 = sz (1 - m0) := (by omega); subst ei; exact pY_of (spCopy_3 hm0 hj)) hX
                · refine lv_iconst (v := nI 0) hx hb dX1_copy_73 (by decide) ?_
                  refine lv_istore (lv' := [(6, .int (nI 0)), (0, .ref h), (1, .int (nI m0)), (2, .int (nI j)), (3, .int (nI (1 - m0))), (4, .int (nI (sz (1 - m0)))), (5, .int (nI s0))]) hx hb dX1_copy_74 hl (by decide) rfl (fun ls hl => ?_)
                  have lp2 : ∀ (N2 : Nat) (b : Nat), (b ≤ 2) → 2 - b < N2 → ∀ (H : Heap) (locs : List Loc) (ls : Array Slot), HY G d h a A s ((updN sz m0 (sz (1 - m0))), (cpN nx m0 (1 - m0) j (sz (1 - m0)) (2 * s0 + b)), (cpA an m0 (1 - m0) j (sz (1 - m0)) (2 * s0 + b)), ct, mb) H locs → lv_has ls 8 [(0, .ref h), (1, .int (nI m0)), (2, .int (nI j)), (3, .int (nI (1 - m0))), (4, .int (nI (sz (1 - m0)))), (5, .int (nI s0)), (6, .int (nI b))] → W p l e rmX1_copy s m args below meth c H locs 0 0 Q (F0 m 76 ls []) := by
                    intro N2
                    induction N2 with
                    | zero =>
                      intro b hb2 hms
                      exact absurd hms (Nat.not_lt_zero _)
                    | succ N2 ih2 =>
                      intro b hb2 hms H locs ls hX hl
                      have g1 := Nat.mod_lt (s0 + j) z2
                      refine lv_iload hx hb dX1_copy_76 (lv_at hl 6 rfl) ?_
                      refine lv_iconst (v := nI 2) hx hb dX1_copy_78 (by decide) ?_
                      refine n_icmp_ge (tgt := 160) hx hb dX1_copy_79 (by decide) (by omega) (by omega) (fun c_79 => ?_) (fun c_79 => ?_)
                      · refine lv_iinc (v := (nI (s0 + 1))) (lv' := [(5, .int (nI (s0 + 1))), (0, .ref h), (1, .int (nI m0)), (2, .int (nI j)), (3, .int (nI (1 - m0))), (4, .int (nI (sz (1 - m0)))), (6, .int (nI b))]) hx hb dX1_copy_160 hl (k := 5) rfl (nI_1 _) (by decide) rfl (fun ls hl => ?_)
                        refine lv_goto (tgt := 59) hx hb dX1_copy_163 (by decide) ?_
                        have eb : b = 2 := (by omega)
                        subst eb
                        exact ih (s0 + 1) (by omega) (by omega) _ _ _ hX (lv_sub hl [1, 2, 3, 4, 5, 0] rfl)
                      · refine lv_bipush (v := nI 12) hx hb dX1_copy_82 (by decide) ?_
                        refine lv_iload_n hx hb dX1_copy_84 rfl (lv_at hl 1 rfl) ?_
                        refine n_imul hx hb dX1_copy_85 ?_
                        refine lv_iconst (v := nI 2) hx hb dX1_copy_86 (by decide) ?_
                        refine lv_iload hx hb dX1_copy_87 (lv_at hl 5 rfl) ?_
                        refine lv_iload_n hx hb dX1_copy_89 rfl (lv_at hl 2 rfl) ?_
                        refine n_iadd hx hb dX1_copy_90 ?_
                        refine lv_iload hx hb dX1_copy_91 (lv_at hl 4 rfl) ?_
                        refine n_irem hx hb dX1_copy_93 (by omega) (by omega) (by omega) ?_
                        refine n_imul hx hb dX1_copy_94 ?_
                        refine n_iadd hx hb dX1_copy_95 ?_
                        refine lv_iload hx hb dX1_copy_96 (lv_at hl 6 rfl) ?_
                        refine n_iadd hx hb dX1_copy_98 ?_
                        refine lv_istore (lv' := [(7, .int (nI (12 * m0 + (2 * ((s0 + j) % (sz (1 - m0)))) + b))), (0, .ref h), (1, .int (nI m0)), (2, .int (nI j)), (3, .int (nI (1 - m0))), (4, .int (nI (sz (1 - m0)))), (5, .int (nI s0)), (6, .int (nI b))]) hx hb dX1_copy_99 hl (by decide) rfl (fun ls hl => ?_)
                        refine lv_aload_n hx hb dX1_copy_101 rfl (lv_at hl 1 rfl) ?_
                        refine yg1 S hX dX1_copy_102 ?_
                        refine lv_iload hx hb dX1_copy_105 (lv_at hl 0 rfl) ?_
                        refine lv_aload_n hx hb dX1_copy_107 rfl (lv_at hl 1 rfl) ?_
                        refine yg1 S hX dX1_copy_108 ?_
                        refine lv_bipush (v := nI 12) hx hb dX1_copy_111 (by decide) ?_
                        refine lv_iload_n hx hb dX1_copy_113 rfl (lv_at hl 4 rfl) ?_
                        refine n_imul hx hb dX1_copy_114 ?_
                        refine lv_iconst (v := nI 2) hx hb dX1_copy_115 (by decide) ?_
                        refine lv_iload hx hb dX1_copy_116 (lv_at hl 6 rfl) ?_
                        refine n_imul hx hb dX1_copy_118 ?_
                        refine n_iadd hx hb dX1_copy_119 ?_
                        refine lv_iload hx hb dX1_copy_120 (lv_at hl 7 rfl) ?_
                        refine n_iadd hx hb dX1_copy_122 ?_
                        refine yl1 S hX dX1_copy_123 (by omega) ?_
                        have b_123 := cpN_lt (m := m0) (o := 1 - m0) (b0 := j) z2 z1 hN (2 * s0 + b) (12 * (1 - m0) + (2 * s0) + b)
                        refine lv_iload_n hx hb dX1_copy_124 rfl (lv_at hl 3 rfl) ?_
                        refine n_iadd hx hb dX1_copy_125 ?_
                        refine lv_iload hx hb dX1_copy_126 (lv_at hl 5 rfl) ?_
                        refine n_irem hx hb dX1_copy_128 (by omega) (by omega) (by omega) ?_
                        refine ys1 S hX dX1_copy_129 (by omega) (fun H locs hX => ?_)
                        refine lv_aload_n hx hb dX1_copy_130 rfl (lv_at hl 1 rfl) ?_
                        refine yg2 S hX dX1_copy_131 ?_
                        refine lv_iload hx hb dX1_copy_134 (lv_at hl 0 rfl) ?_
                        refine lv_aload_n hx hb dX1_copy_136 rfl (lv_at hl 1 rfl) ?_
                        refine yg2 S hX dX1_copy_137 ?_
                        refine lv_bipush (v := nI 12) hx hb dX1_copy_140 (by decide) ?_
                        refine lv_iload_n hx hb dX1_copy_142 rfl (lv_at hl 4 rfl) ?_
                        refine n_imul hx hb dX1_copy_143 ?_
                        refine lv_iconst (v := nI 2) hx hb dX1_copy_144 (by decide) ?_
                        refine lv_iload hx hb dX1_copy_145 (lv_at hl 6 rfl) ?_
                        refine n_imul hx hb dX1_copy_147 ?_
                        refine n_iadd hx hb dX1_copy_148 ?_
                        refine lv_iload hx hb dX1_copy_149 (lv_at hl 7 rfl) ?_
                        refine n_iadd hx hb dX1_copy_151 ?_
                        refine yl2 S hX dX1_copy_152 (by omega) ?_
                        have b_152 := cpA_lt (m := m0) (o := 1 - m0) (b0 := j) (n := sz (1 - m0)) hA4 (2 * s0 + b) (12 * (1 - m0) + (2 * s0) + b)
                        refine ys2 S hX dX1_copy_153 (by omega) (fun H locs hX => ?_)
                        refine lv_iinc (v := (nI (b + 1))) (lv' := [(6, .int (nI (b + 1))), (7, .int (nI (12 * m0 + (2 * ((s0 + j) % (sz (1 - m0)))) + b))), (0, .ref h), (1, .int (nI m0)), (2, .int (nI j)), (3, .int (nI (1 - m0))), (4, .int (nI (sz (1 - m0)))), (5, .int (nI s0))]) hx hb dX1_copy_154 hl (k := 7) rfl (nI_1 _) (by decide) rfl (fun ls hl => ?_)
                        refine lv_goto (tgt := 76) hx hb dX1_copy_157 (by decide) ?_
                        rw [cpN_step nx m0 (1 - m0) j (sz (1 - m0)) (by omega), cpA_step an m0 (1 - m0) j (sz (1 - m0)) (by omega)] at hX
                        exact ih2 (b + 1) (by omega) (by omega) _ _ _ hX (lv_sub hl [2, 3, 4, 5, 6, 7, 0] rfl)
                  exact lp2 _ 0 (by omega) (Nat.lt_succ_self _) _ _ _ hX (lv_sub hl [1, 2, 3, 4, 5, 6, 0] rfl)
          exact lp _ 0 (by omega) (Nat.lt_succ_self _) _ _ _ hX (lv_sub hl [3, 4, 5, 2, 1, 0] rfl)
        · exact absurd z2 c_33
      · refine lv_bipush (v := -2) hx hb dX1_copy_19 (by decide) ?_
        exact ret _ _ _ _ _ _ dX1_copy_21 (pY_of (spCopy_2 hm (fun z => by first | exact z.1 c_11 | exact c_16 z.2))) hX
  · refine lv_aload_n hx hb dX1_copy_0 rfl (lv_at hl 0 rfl) ?_
    refine lv_iload_n hx hb dX1_copy_1 rfl (lv_at hl 1 rfl) ?_
    refine callYi S hA hX (mY_bad l sz nx an ct mb x) (cwV 1 S.2.2.2.2 (lw_V q192 q194 qs9 q19 q195) rfl rfl rfl (by decide +kernel) ⟨Nat.le_of_ble_eq_true rfl, Nat.le_of_ble_eq_true rfl⟩) rfl hl.1 rfl (Nat.le_of_ble_eq_true rfl) dX1_copy_2 ⟨Nat.zero_le _, Nat.zero_le _⟩ (fun r u1 H locs hq hX => ?_)
    obtain ⟨rfl, rfl⟩ := hq
    refine n_top (congrArg nI (if_pos hm)) ?_
    refine n_if_eq (tgt := 10) hx hb dX1_copy_5 (by decide) (by decide) (fun q => absurd q (by decide)) (fun _ => ?_)
    refine lv_iconst (v := -1) hx hb dX1_copy_8 (by decide) ?_
    exact ret _ _ _ _ _ _ dX1_copy_9 (pY_of (spCopy_1 hm)) hX
end
section
set_option maxRecDepth 100000
/-! run, response -/
abbrev cdOk (y : Int32) : Prop := ¬ y < 1 ∧ y ≤ 4095
def spRun (x y : Int32) (sz nx an : Nat → Nat) : TT := if stOk sz x then (if cdOk y then (nI (gl nx (x.toNatClampNeg / 8) (x.toNatClampNeg % 8) y.toNatClampNeg), sz, nx, an) else (-2, sz, nx, an)) else (-1, sz, nx, an)
def spResponse (x y : Int32) (sz nx an : Nat → Nat) : TT := if stOk sz x then (if cdOk y then (nI (tl nx an (x.toNatClampNeg / 8) (x.toNatClampNeg % 8) y.toNatClampNeg), sz, nx, an) else (-2, sz, nx, an)) else (-1, sz, nx, an)
theorem cdOk_nI {c : Nat} (h1 : 1 ≤ c) (h2 : c ≤ 4095) : cdOk (nI c) := ⟨nI_ge1 h1 (by omega), nI_le' (n := 4095) rfl h2 (by decide)⟩
theorem spRun_1 {x y : Int32} {sz nx an : Nat → Nat} (h : ¬ stOk sz x) : spRun x y sz nx an = (-1, sz, nx, an) := if_neg h
theorem spRun_2 {x y : Int32} {sz nx an : Nat → Nat} (h : stOk sz x) (h2 : ¬ cdOk y) : spRun x y sz nx an = (-2, sz, nx, an) := by
  unfold spRun; rw [if_pos h, if_neg h2]
theorem spRun_3 {v c : Nat} {sz nx an : Nat → Nat} (hv : v < 16) (h : v % 8 < sz (v / 8)) (h1 : 1 ≤ c) (h2 : c ≤ 4095) : spRun (nI v) (nI c) sz nx an = (nI (gl nx (v / 8) (v % 8) c), sz, nx, an) := by
  unfold spRun; rw [if_pos ((stOk_nI hv).mpr h), if_pos (cdOk_nI h1 h2), nI_clamp (by omega), nI_clamp (by omega)]
theorem spResponse_1 {x y : Int32} {sz nx an : Nat → Nat} (h : ¬ stOk sz x) : spResponse x y sz nx an = (-1, sz, nx, an) := if_neg h
theorem spResponse_2 {x y : Int32} {sz nx an : Nat → Nat} (h : stOk sz x) (h2 : ¬ cdOk y) : spResponse x y sz nx an = (-2, sz, nx, an) := by
  unfold spResponse; rw [if_pos h, if_neg h2]
theorem spResponse_3 {v c : Nat} {sz nx an : Nat → Nat} (hv : v < 16) (h : v % 8 < sz (v / 8)) (h1 : 1 ≤ c) (h2 : c ≤ 4095) : spResponse (nI v) (nI c) sz nx an = (nI (tl nx an (v / 8) (v % 8) c), sz, nx, an) := by
  unfold spResponse; rw [if_pos ((stOk_nI hv).mpr h), if_pos (cdOk_nI h1 h2), nI_clamp (by omega), nI_clamp (by omega)]
theorem plc_no {sz : Nat → Nat} {x : Int32} (h : ¬ stOk sz x) : plc sz x = -1 := if_neg h
theorem plc_yes {sz : Nat → Nat} {v : Nat} (hv : v < 16) (h : v % 8 < sz (v / 8)) : plc sz (nI v) = nI (6 * (v / 8) + v % 8) := by
  rw [plc_nI hv, if_pos h]
theorem stOk_of {sz : Nat → Nat} {x : Int32} (h : stOk sz x) : ∃ v : Nat, v < 16 ∧ v % 8 < sz (v / 8) ∧ x = nI v := by
  obtain ⟨v, hv, rfl⟩ := in15 h.1
  exact ⟨v, hv, (stOk_nI hv).mp h, rfl⟩
theorem af_at {nx : Nat → Nat} {m g a : Nat} (hg : g < 6) : 6 * ((6 * m + g) / 6) + nx (2 * (6 * m + g) + a) = 6 * m + nx (12 * m + 2 * g + a) := by
  rw [show (6 * m + g) / 6 = m by omega, show 2 * (6 * m + g) + a = 12 * m + 2 * g + a by omega]
theorem an_at {an : Nat → Nat} {m g a : Nat} : an (2 * (6 * m + g) + a) = an (12 * m + 2 * g + a) := by
  rw [show 2 * (6 * m + g) + a = 12 * m + 2 * g + a by omega]
set_option maxHeartbeats 600000 in
set_option maxRecDepth 100000 in
theorem mX_run (l : Launch) (sz nx an ap : Nat → Nat) (cn : Nat → Int32) (ld qu wo : Nat → Nat) (co cu : Nat) (x : Int32) (y : Int32) (hI : inX sz nx an ap cu) : MetX l yX0_run cX0_run 6 (some .int) rmX0_run [.int x, .int y] (sz, nx, an, ap, cn, ld, qu, wo, co, cu) (pX (spRun x y sz nx an)) := by
  refine entXi rfl (by decide) rfl rfl (fun _ => Nat.le_of_ble_eq_true rfl) ?_
  intro G d h a A p e s m below meth c args Q S hA hX ret ls hl
  have hx := S.1
  have hb := S.2.1
  have hl : lv_has ls 6 [(0, .ref h), (1, .int x), (2, .int y)] := hl
  have hw := hI.1
  have hZ := hw.2.1
  have hN := hw.2.2.2.1
  have hA4 := hw.2.2.2.2
  refine lv_aload_n hx hb dX0_run_0 rfl (lv_at hl 0 rfl) ?_
  refine lv_iload_n hx hb dX0_run_1 rfl (lv_at hl 1 rfl) ?_
  refine callXi S hA hX (mX_placeOf l sz nx an ap cn ld qu wo co cu x hZ) (cwV 1 S.2.2.2.2 (lw_V q87 q89 qs0 q18 q90) rfl rfl rfl (by decide +kernel) ⟨Nat.le_of_ble_eq_true rfl, Nat.le_of_ble_eq_true rfl⟩) rfl hl.1 rfl (Nat.le_of_ble_eq_true rfl) dX0_run_2 ⟨Nat.zero_le _, Nat.zero_le _⟩ (fun r u1 H locs hq hX => ?_)
  obtain ⟨rfl, rfl⟩ := hq
  by_cases hso : stOk sz x
  · obtain ⟨v, hv, hs, rfl⟩ := stOk_of hso
    refine n_top (plc_yes hv hs) ?_
    have z1 := hZ (v / 8)
    refine lv_istore_n (lv' := [(3, .int (nI (6 * (v / 8) + v % 8))), (0, .ref h), (1, .int (nI v)), (2, .int y)]) hx hb dX0_run_5 rfl hl (by decide) rfl (fun ls hl => ?_)
    refine lv_iload_n hx hb dX0_run_6 rfl (lv_at hl 0 rfl) ?_
    refine n_if_ge (tgt := 12) hx hb dX0_run_7 (by decide) (by omega) ?_
    refine lv_iload_n hx hb dX0_run_12 rfl (lv_at hl 3 rfl) ?_
    refine lv_iconst (v := nI 1) hx hb dX0_run_13 (by decide) ?_
    refine lv_icmp_lt (tgt := 24) hx hb dX0_run_14 (by decide) (fun c_14 => ?_) (fun c_14 => ?_)
    · refine lv_bipush (v := -2) hx hb dX0_run_24 (by decide) ?_
      exact ret _ _ _ _ _ _ dX0_run_26 (pX_of (spRun_2 hso (fun z => by first | exact z.1 c_14 | exact c_21 z.2)) (hI)) hX
    · refine lv_iload_n hx hb dX0_run_17 rfl (lv_at hl 3 rfl) ?_
      refine lv_sipush (v := nI 4095) hx hb dX0_run_18 (by decide) ?_
      refine lv_icmp_le (tgt := 27) hx hb dX0_run_21 (by decide) (fun c_21 => ?_) (fun c_21 => ?_)
      · obtain ⟨c1, hc1, hc2, rfl⟩ := rng 4095 (by decide) c_14 c_21
        refine lv_iload_n hx hb dX0_run_27 rfl (lv_at hl 3 rfl) ?_
        refine callXs S hA hX (mX_lettersOf l c1 hc1 hc2) (va_cwS 1 S.2.2.2.2 (lw_S q91 q92 q18 q93) rfl rfl rfl (by decide +kernel) ⟨Nat.le_of_ble_eq_true rfl, Nat.le_of_ble_eq_true rfl⟩) rfl hl.1 rfl (Nat.le_of_ble_eq_true rfl) dX0_run_28 ⟨Nat.zero_le _, Nat.zero_le _⟩ (fun r H locs hq hX => ?_)
        obtain ⟨L, rfl, hL, hL1, hL2⟩ := hq
        refine lv_istore (lv' := [(4, .int (nI L)), (3, .int (nI (6 * (v / 8) + v % 8))), (0, .ref h), (1, .int (nI v)), (2, .int (nI c1))]) hx hb dX0_run_31 hl (by decide) rfl (fun ls hl => ?_)
        refine lv_iload hx hb dX0_run_33 (lv_at hl 0 rfl) ?_
        refine lv_iconst (v := nI 1) hx hb dX0_run_35 (by decide) ?_
        refine lv_isub hx hb dX0_run_36 ?_
        refine n_top (y := kI L) rfl ?_
        refine lv_istore (lv' := [(5, .int (kI L)), (4, .int (nI L)), (3, .int (nI (6 * (v / 8) + v % 8))), (0, .ref h), (1, .int (nI v)), (2, .int (nI c1))]) hx hb dX0_run_37 hl (by decide) rfl (fun ls hl => ?_)
        have lp : ∀ (k : Nat), (2 ^ k ≤ c1) → (k ≤ 11) → ∀ (H : Heap) (locs : List Loc) (ls : Array Slot), HX G d h a A s (sz, nx, an, ap, cn, ld, qu, wo, co, cu) H locs → lv_has ls 6 [(0, .ref h), (1, .int (nI v)), (2, .int (nI c1)), (3, .int (nI (6 * (v / 8) + gl nx (v / 8) (v % 8) (c1 / 2 ^ k)))), (5, .int (kI k))] → W p l e rmX0_run s m args below meth c H locs 0 0 Q (F0 m 39 ls []) := by
          intro k
          induction k with
          | zero =>
            intro hk hk11 H locs ls hX hl
            have g0 := gl_lt hw (m := v / 8) (by omega) hs (c1 / 2 ^ 0)
            refine lv_iload hx hb dX0_run_39 (lv_at hl 4 rfl) ?_
            refine lv_if_lt (tgt := 62) hx hb dX0_run_41 (by decide) (fun _ => ?_) (fun q => absurd (by decide) q)
            refine lv_iload_n hx hb dX0_run_62 rfl (lv_at hl 3 rfl) ?_
            refine lv_bipush (v := nI 6) hx hb dX0_run_63 (by decide) ?_
            refine n_irem hx hb dX0_run_65 (by omega) (by decide) (by decide) ?_
            exact ret _ _ _ _ _ _ dX0_run_66 (by rw [show (6 * (v / 8) + gl nx (v / 8) (v % 8) (c1 / 2 ^ 0)) % 6 = gl nx (v / 8) (v % 8) c1 by rw [Nat.pow_zero, Nat.div_one] at g0 ⊢; omega]; exact pX_of (spRun_3 hv hs hc1 hc2) (hI)) hX
          | succ k ih =>
            intro hk hk11 H locs ls hX hl
            rw [kI_succ] at hl
            have g1 := gl_lt hw (m := v / 8) (by omega) hs (c1 / 2 ^ (k + 1))
            refine lv_iload hx hb dX0_run_39 (lv_at hl 4 rfl) ?_
            refine n_if_lt (tgt := 62) hx hb dX0_run_41 (by decide) (by omega) ?_
            refine lv_aload_n hx hb dX0_run_44 rfl (lv_at hl 0 rfl) ?_
            refine lv_iload_n hx hb dX0_run_45 rfl (lv_at hl 3 rfl) ?_
            refine lv_iload_n hx hb dX0_run_46 rfl (lv_at hl 2 rfl) ?_
            refine lv_iload hx hb dX0_run_47 (lv_at hl 4 rfl) ?_
            refine n_ishr hx hb dX0_run_49 (by omega) (by omega) ?_
            refine lv_iconst (v := nI 1) hx hb dX0_run_50 (by decide) ?_
            refine n_iand1 hx hb dX0_run_51 (divlt (by omega)) ?_
            refine callXi S hA hX (mX_after l sz nx an ap cn ld qu wo co cu (6 * (v / 8) + gl nx (v / 8) (v % 8) (c1 / 2 ^ (k + 1))) ((c1 / 2 ^ k) % 2) (by omega) (by omega) hN) (cwV 2 S.2.2.2.2 (lw_V q94 q96 qs1 q18 q97) rfl rfl rfl (by decide +kernel) ⟨Nat.le_of_ble_eq_true rfl, Nat.le_of_ble_eq_true rfl⟩) rfl hl.1 rfl (Nat.le_of_ble_eq_true rfl) dX0_run_52 ⟨Nat.zero_le _, Nat.zero_le _⟩ (fun r u1 H locs hq hX => ?_)
            obtain ⟨rfl, rfl⟩ := hq
            refine n_top (congrArg nI ((af_at (by omega)).trans (congrArg (fun z => 6 * (v / 8) + z) (gl_step hk)))) ?_
            refine lv_istore_n (lv' := [(3, .int (nI (6 * (v / 8) + gl nx (v / 8) (v % 8) (c1 / 2 ^ k)))), (0, .ref h), (1, .int (nI v)), (2, .int (nI c1)), (5, .int (nI k))]) hx hb dX0_run_55 rfl hl (by decide) rfl (fun ls hl => ?_)
            refine lv_iinc (v := (kI k)) (lv' := [(5, .int (kI k)), (3, .int (nI (6 * (v / 8) + gl nx (v / 8) (v % 8) (c1 / 2 ^ k)))), (0, .ref h), (1, .int (nI v)), (2, .int (nI c1))]) hx hb dX0_run_56 hl (k := 4) rfl (kI_dec _) (by decide) rfl (fun ls hl => ?_)
            refine lv_goto (tgt := 39) hx hb dX0_run_59 (by decide) ?_
            exact ih  (pow_dn hk) (by omega) _ _ _ hX (lv_sub hl [2, 3, 4, 1, 0] rfl)
        have hl := lv_sub hl [3, 4, 5, 2, 0] rfl
        have e1 : gl nx (v / 8) (v % 8) (c1 / 2 ^ L) = v % 8 := by rw [log_div hL1 hL2]; exact gl_lo (by decide)
        exact lp L hL1 hL _ _ _ hX (by rw [e1]; exact hl)
      · refine lv_bipush (v := -2) hx hb dX0_run_24 (by decide) ?_
        exact ret _ _ _ _ _ _ dX0_run_26 (pX_of (spRun_2 hso (fun z => by first | exact z.1 c_14 | exact c_21 z.2)) (hI)) hX
  · refine n_top (plc_no hso) ?_
    refine lv_istore_n (lv' := [(3, .int (-1)), (0, .ref h), (1, .int x), (2, .int y)]) hx hb dX0_run_5 rfl hl (by decide) rfl (fun ls hl => ?_)
    refine lv_iload_n hx hb dX0_run_6 rfl (lv_at hl 0 rfl) ?_
    refine lv_if_ge (tgt := 12) hx hb dX0_run_7 (by decide) (fun q => absurd q (by decide)) (fun _ => ?_)
    refine lv_iconst (v := -1) hx hb dX0_run_10 (by decide) ?_
    exact ret _ _ _ _ _ _ dX0_run_11 (pX_of (spRun_1 hso) (hI)) hX
set_option maxHeartbeats 600000 in
set_option maxRecDepth 100000 in
theorem mX_response (l : Launch) (sz nx an ap : Nat → Nat) (cn : Nat → Int32) (ld qu wo : Nat → Nat) (co cu : Nat) (x : Int32) (y : Int32) (hI : inX sz nx an ap cu) : MetX l yX0_response cX0_response 8 (some .int) rmX0_response [.int x, .int y] (sz, nx, an, ap, cn, ld, qu, wo, co, cu) (pX (spResponse x y sz nx an)) := by
  refine entXi rfl (by decide) rfl rfl (fun _ => Nat.le_of_ble_eq_true rfl) ?_
  intro G d h a A p e s m below meth c args Q S hA hX ret ls hl
  have hx := S.1
  have hb := S.2.1
  have hl : lv_has ls 8 [(0, .ref h), (1, .int x), (2, .int y)] := hl
  have hw := hI.1
  have hZ := hw.2.1
  have hN := hw.2.2.2.1
  have hA4 := hw.2.2.2.2
  refine lv_aload_n hx hb dX0_response_0 rfl (lv_at hl 0 rfl) ?_
  refine lv_iload_n hx hb dX0_response_1 rfl (lv_at hl 1 rfl) ?_
  refine callXi S hA hX (mX_placeOf l sz nx an ap cn ld qu wo co cu x hZ) (cwV 1 S.2.2.2.2 (lw_V q87 q89 qs0 q18 q90) rfl rfl rfl (by decide +kernel) ⟨Nat.le_of_ble_eq_true rfl, Nat.le_of_ble_eq_true rfl⟩) rfl hl.1 rfl (Nat.le_of_ble_eq_true rfl) dX0_response_2 ⟨Nat.zero_le _, Nat.zero_le _⟩ (fun r u1 H locs hq hX => ?_)
  obtain ⟨rfl, rfl⟩ := hq
  by_cases hso : stOk sz x
  · obtain ⟨v, hv, hs, rfl⟩ := stOk_of hso
    refine n_top (plc_yes hv hs) ?_
    have z1 := hZ (v / 8)
    refine lv_istore_n (lv' := [(3, .int (nI (6 * (v / 8) + v % 8))), (0, .ref h), (1, .int (nI v)), (2, .int y)]) hx hb dX0_response_5 rfl hl (by decide) rfl (fun ls hl => ?_)
    refine lv_iload_n hx hb dX0_response_6 rfl (lv_at hl 0 rfl) ?_
    refine n_if_ge (tgt := 12) hx hb dX0_response_7 (by decide) (by omega) ?_
    refine lv_iload_n hx hb dX0_response_12 rfl (lv_at hl 3 rfl) ?_
    refine lv_iconst (v := nI 1) hx hb dX0_response_13 (by decide) ?_
    refine lv_icmp_lt (tgt := 24) hx hb dX0_response_14 (by decide) (fun c_14 => ?_) (fun c_14 => ?_)
    · refine lv_bipush (v := -2) hx hb dX0_response_24 (by decide) ?_
      exact ret _ _ _ _ _ _ dX0_response_26 (pX_of (spResponse_2 hso (fun z => by first | exact z.1 c_14 | exact c_21 z.2)) (hI)) hX
    · refine lv_iload_n hx hb dX0_response_17 rfl (lv_at hl 3 rfl) ?_
      refine lv_sipush (v := nI 4095) hx hb dX0_response_18 (by decide) ?_
      refine lv_icmp_le (tgt := 27) hx hb dX0_response_21 (by decide) (fun c_21 => ?_) (fun c_21 => ?_)
      · obtain ⟨c1, hc1, hc2, rfl⟩ := rng 4095 (by decide) c_14 c_21
        refine lv_iload_n hx hb dX0_response_27 rfl (lv_at hl 3 rfl) ?_
        refine callXs S hA hX (mX_lettersOf l c1 hc1 hc2) (va_cwS 1 S.2.2.2.2 (lw_S q91 q92 q18 q93) rfl rfl rfl (by decide +kernel) ⟨Nat.le_of_ble_eq_true rfl, Nat.le_of_ble_eq_true rfl⟩) rfl hl.1 rfl (Nat.le_of_ble_eq_true rfl) dX0_response_28 ⟨Nat.zero_le _, Nat.zero_le _⟩ (fun r H locs hq hX => ?_)
        obtain ⟨L, rfl, hL, hL1, hL2⟩ := hq
        refine lv_istore (lv' := [(4, .int (nI L)), (3, .int (nI (6 * (v / 8) + v % 8))), (0, .ref h), (1, .int (nI v)), (2, .int (nI c1))]) hx hb dX0_response_31 hl (by decide) rfl (fun ls hl => ?_)
        refine lv_iconst (v := nI 0) hx hb dX0_response_33 (by decide) ?_
        refine lv_istore (lv' := [(5, .int (nI 0)), (4, .int (nI L)), (3, .int (nI (6 * (v / 8) + v % 8))), (0, .ref h), (1, .int (nI v)), (2, .int (nI c1))]) hx hb dX0_response_34 hl (by decide) rfl (fun ls hl => ?_)
        refine lv_iload hx hb dX0_response_36 (lv_at hl 1 rfl) ?_
        refine lv_iconst (v := nI 1) hx hb dX0_response_38 (by decide) ?_
        refine lv_isub hx hb dX0_response_39 ?_
        refine n_top (y := kI L) rfl ?_
        refine lv_istore (lv' := [(6, .int (kI L)), (5, .int (nI 0)), (4, .int (nI L)), (3, .int (nI (6 * (v / 8) + v % 8))), (0, .ref h), (1, .int (nI v)), (2, .int (nI c1))]) hx hb dX0_response_40 hl (by decide) rfl (fun ls hl => ?_)
        have lp : ∀ (k : Nat), (2 ^ k ≤ c1) → (k ≤ 11) → ∀ (H : Heap) (locs : List Loc) (ls : Array Slot), HX G d h a A s (sz, nx, an, ap, cn, ld, qu, wo, co, cu) H locs → lv_has ls 8 [(0, .ref h), (1, .int (nI v)), (2, .int (nI c1)), (3, .int (nI (6 * (v / 8) + gl nx (v / 8) (v % 8) (c1 / 2 ^ k)))), (5, .int (nI (tl nx an (v / 8) (v % 8) (c1 / 2 ^ k)))), (6, .int (kI k))] → W p l e rmX0_response s m args below meth c H locs 0 0 Q (F0 m 42 ls []) := by
          intro k
          induction k with
          | zero =>
            intro hk hk11 H locs ls hX hl
            refine lv_iload hx hb dX0_response_42 (lv_at hl 5 rfl) ?_
            refine lv_if_lt (tgt := 87) hx hb dX0_response_44 (by decide) (fun _ => ?_) (fun q => absurd (by decide) q)
            refine lv_iload hx hb dX0_response_87 (lv_at hl 4 rfl) ?_
            exact ret _ _ _ _ _ _ dX0_response_89 (by rw [Nat.pow_zero, Nat.div_one]; exact pX_of (spResponse_3 hv hs hc1 hc2) (hI)) hX
          | succ k ih =>
            intro hk hk11 H locs ls hX hl
            rw [kI_succ] at hl
            have g1 := gl_lt hw (m := v / 8) (by omega) hs (c1 / 2 ^ (k + 1))
            refine lv_iload hx hb dX0_response_42 (lv_at hl 5 rfl) ?_
            refine n_if_lt (tgt := 87) hx hb dX0_response_44 (by decide) (by omega) ?_
            refine lv_iload_n hx hb dX0_response_47 rfl (lv_at hl 2 rfl) ?_
            refine lv_iload hx hb dX0_response_48 (lv_at hl 5 rfl) ?_
            refine n_ishr hx hb dX0_response_50 (by omega) (by omega) ?_
            refine lv_iconst (v := nI 1) hx hb dX0_response_51 (by decide) ?_
            refine n_iand1 hx hb dX0_response_52 (divlt (by omega)) ?_
            refine lv_istore (lv' := [(7, .int (nI ((c1 / 2 ^ k) % 2))), (0, .ref h), (1, .int (nI v)), (2, .int (nI c1)), (3, .int (nI (6 * (v / 8) + gl nx (v / 8) (v % 8) (c1 / 2 ^ (k + 1))))), (5, .int (nI (tl nx an (v / 8) (v % 8) (c1 / 2 ^ (k + 1))))), (6, .int (nI k))]) hx hb dX0_response_53 hl (by decide) rfl (fun ls hl => ?_)
            refine lv_iconst (v := nI 4) hx hb dX0_response_55 (by decide) ?_
            refine lv_iload hx hb dX0_response_56 (lv_at hl 5 rfl) ?_
            refine n_imul hx hb dX0_response_58 ?_
            refine lv_aload_n hx hb dX0_response_59 rfl (lv_at hl 1 rfl) ?_
            refine xg2 S hX dX0_response_60 ?_
            refine lv_iconst (v := nI 2) hx hb dX0_response_63 (by decide) ?_
            refine lv_iload_n hx hb dX0_response_64 rfl (lv_at hl 4 rfl) ?_
            refine n_imul hx hb dX0_response_65 ?_
            refine lv_iload hx hb dX0_response_66 (lv_at hl 0 rfl) ?_
            refine n_iadd hx hb dX0_response_68 ?_
            refine xl2 S hX dX0_response_69 (by omega) ?_
            refine n_iadd hx hb dX0_response_70 ?_
            refine n_top (congrArg nI ((congrArg (fun z => 4 * tl nx an (v / 8) (v % 8) (c1 / 2 ^ (k + 1)) + z) an_at).trans (tl_step hk))) ?_
            refine lv_istore (lv' := [(5, .int (nI (tl nx an (v / 8) (v % 8) (c1 / 2 ^ k)))), (7, .int (nI ((c1 / 2 ^ k) % 2))), (0, .ref h), (1, .int (nI v)), (2, .int (nI c1)), (3, .int (nI (6 * (v / 8) + gl nx (v / 8) (v % 8) (c1 / 2 ^ (k + 1))))), (6, .int (nI k))]) hx hb dX0_response_71 hl (by decide) rfl (fun ls hl => ?_)
            refine lv_aload_n hx hb dX0_response_73 rfl (lv_at hl 2 rfl) ?_
            refine lv_iload_n hx hb dX0_response_74 rfl (lv_at hl 5 rfl) ?_
            refine lv_iload hx hb dX0_response_75 (lv_at hl 1 rfl) ?_
            refine callXi S hA hX (mX_after l sz nx an ap cn ld qu wo co cu (6 * (v / 8) + gl nx (v / 8) (v % 8) (c1 / 2 ^ (k + 1))) ((c1 / 2 ^ k) % 2) (by omega) (by omega) hN) (cwV 2 S.2.2.2.2 (lw_V q94 q96 qs1 q18 q97) rfl rfl rfl (by decide +kernel) ⟨Nat.le_of_ble_eq_true rfl, Nat.le_of_ble_eq_true rfl⟩) rfl hl.1 rfl (Nat.le_of_ble_eq_true rfl) dX0_response_77 ⟨Nat.zero_le _, Nat.zero_le _⟩ (fun r u1 H locs hq hX => ?_)
            obtain ⟨rfl, rfl⟩ := hq
            refine n_top (congrArg nI ((af_at (by omega)).trans (congrArg (fun z => 6 * (v / 8) + z) (gl_step hk)))) ?_
            refine lv_istore_n (lv' := [(3, .int (nI (6 * (v / 8) + gl nx (v / 8) (v % 8) (c1 / 2 ^ k)))), (5, .int (nI (tl nx an (v / 8) (v % 8) (c1 / 2 ^ k)))), (7, .int (nI ((c1 / 2 ^ k) % 2))), (0, .ref h), (1, .int (nI v)), (2, .int (nI c1)), (6, .int (nI k))]) hx hb dX0_response_80 rfl hl (by decide) rfl (fun ls hl => ?_)
            refine lv_iinc (v := (kI k)) (lv' := [(6, .int (kI k)), (3, .int (nI (6 * (v / 8) + gl nx (v / 8) (v % 8) (c1 / 2 ^ k)))), (5, .int (nI (tl nx an (v / 8) (v % 8) (c1 / 2 ^ k)))), (7, .int (nI ((c1 / 2 ^ k) % 2))), (0, .ref h), (1, .int (nI v)), (2, .int (nI c1))]) hx hb dX0_response_81 hl (k := 6) rfl (kI_dec _) (by decide) rfl (fun ls hl => ?_)
            refine lv_goto (tgt := 42) hx hb dX0_response_84 (by decide) ?_
            exact ih  (pow_dn hk) (by omega) _ _ _ hX (lv_sub hl [4, 5, 6, 1, 2, 0] rfl)
        have hl := lv_sub hl [4, 5, 6, 3, 1, 0] rfl
        have e1 : gl nx (v / 8) (v % 8) (c1 / 2 ^ L) = v % 8 := by rw [log_div hL1 hL2]; exact gl_lo (by decide)
        have e2 : tl nx an (v / 8) (v % 8) (c1 / 2 ^ L) = 0 := by rw [log_div hL1 hL2]; exact tl_lo (by decide)
        exact lp L hL1 hL _ _ _ hX (by rw [e1, e2]; exact hl)
      · refine lv_bipush (v := -2) hx hb dX0_response_24 (by decide) ?_
        exact ret _ _ _ _ _ _ dX0_response_26 (pX_of (spResponse_2 hso (fun z => by first | exact z.1 c_14 | exact c_21 z.2)) (hI)) hX
  · refine n_top (plc_no hso) ?_
    refine lv_istore_n (lv' := [(3, .int (-1)), (0, .ref h), (1, .int x), (2, .int y)]) hx hb dX0_response_5 rfl hl (by decide) rfl (fun ls hl => ?_)
    refine lv_iload_n hx hb dX0_response_6 rfl (lv_at hl 0 rfl) ?_
    refine lv_if_ge (tgt := 12) hx hb dX0_response_7 (by decide) (fun q => absurd q (by decide)) (fun _ => ?_)
    refine lv_iconst (v := -1) hx hb dX0_response_10 (by decide) ?_
    exact ret _ _ _ _ _ _ dX0_response_11 (pX_of (spResponse_1 hso) (hI)) hX
set_option maxHeartbeats 600000 in
set_option maxRecDepth 100000 in
theorem mY_run (l : Launch) (sz nx an : Nat → Nat) (ct : Nat) (mb : Nat → Nat) (x : Int32) (y : Int32) (hw : wf sz nx an) : MetY l yX1_run cX1_run 3 (some .int) rmX1_run [.int x, .int y] (sz, nx, an, ct, mb) (pY (spRun x y sz nx an)) := by
  refine entYi rfl (by decide) rfl rfl (fun _ => Nat.le_of_ble_eq_true rfl) ?_
  intro G d h a A p e s m below meth c args Q S hA hX ret ls hl
  have hx := S.1
  have hb := S.2.1
  have hl : lv_has ls 3 [(0, .ref h), (1, .int x), (2, .int y)] := hl
  have hZ := hw.2.1
  have hN := hw.2.2.2.1
  have hA4 := hw.2.2.2.2
  refine lv_aload_n hx hb dX1_run_0 rfl (lv_at hl 0 rfl) ?_
  refine lv_iload_n hx hb dX1_run_1 rfl (lv_at hl 1 rfl) ?_
  refine callYi S hA hX (mY_badState l sz nx an ct mb x hZ) (cwV 1 S.2.2.2.2 (lw_V q216 q218 qs10 q19 q219) rfl rfl rfl (by decide +kernel) ⟨Nat.le_of_ble_eq_true rfl, Nat.le_of_ble_eq_true rfl⟩) rfl hl.1 rfl (Nat.le_of_ble_eq_true rfl) dX1_run_2 ⟨Nat.zero_le _, Nat.zero_le _⟩ (fun r u1 H locs hq hX => ?_)
  obtain ⟨rfl, rfl⟩ := hq
  by_cases hso : stOk sz x
  · refine n_top (congrArg nI (if_neg (fun z => z hso))) ?_
    obtain ⟨v, hv, hs, rfl⟩ := stOk_of hso
    refine n_if_eq (tgt := 10) hx hb dX1_run_5 (by decide) (by decide) (fun _ => ?_) (fun q => absurd q (by decide))
    refine lv_iload_n hx hb dX1_run_10 rfl (lv_at hl 2 rfl) ?_
    refine lv_iconst (v := nI 1) hx hb dX1_run_11 (by decide) ?_
    refine lv_icmp_lt (tgt := 22) hx hb dX1_run_12 (by decide) (fun c_12 => ?_) (fun c_12 => ?_)
    · refine lv_bipush (v := -2) hx hb dX1_run_22 (by decide) ?_
      refine lv_goto (tgt := 33) hx hb dX1_run_24 (by decide) ?_
      exact ret _ _ _ _ _ _ dX1_run_33 (pY_of (spRun_2 hso (fun z => by first | exact z.1 c_12 | exact c_19 z.2))) hX
    · refine lv_iload_n hx hb dX1_run_15 rfl (lv_at hl 2 rfl) ?_
      refine lv_sipush (v := nI 4095) hx hb dX1_run_16 (by decide) ?_
      refine lv_icmp_le (tgt := 27) hx hb dX1_run_19 (by decide) (fun c_19 => ?_) (fun c_19 => ?_)
      · obtain ⟨c1, hc1, hc2, rfl⟩ := rng 4095 (by decide) c_12 c_19
        refine lv_aload_n hx hb dX1_run_27 rfl (lv_at hl 0 rfl) ?_
        refine lv_iload_n hx hb dX1_run_28 rfl (lv_at hl 1 rfl) ?_
        refine lv_iload_n hx hb dX1_run_29 rfl (lv_at hl 2 rfl) ?_
        refine callYi S hA hX (mY_goal l sz nx an ct mb v c1 hw hv hs hc1 hc2) (cwV 2 S.2.2.2.2 (lw_V q220 q222 qs11 q19 q223) rfl rfl rfl (by decide +kernel) ⟨Nat.le_of_ble_eq_true rfl, Nat.le_of_ble_eq_true rfl⟩) rfl hl.1 rfl (Nat.le_of_ble_eq_true rfl) dX1_run_30 ⟨Nat.zero_le _, Nat.zero_le _⟩ (fun r u1 H locs hq hX => ?_)
        obtain ⟨rfl, rfl⟩ := hq
        exact ret _ _ _ _ _ _ dX1_run_33 (pY_of (spRun_3 hv hs hc1 hc2)) hX
      · refine lv_bipush (v := -2) hx hb dX1_run_22 (by decide) ?_
        refine lv_goto (tgt := 33) hx hb dX1_run_24 (by decide) ?_
        exact ret _ _ _ _ _ _ dX1_run_33 (pY_of (spRun_2 hso (fun z => by first | exact z.1 c_12 | exact c_19 z.2))) hX
  · refine n_top (congrArg nI (if_pos hso)) ?_
    refine n_if_eq (tgt := 10) hx hb dX1_run_5 (by decide) (by decide) (fun q => absurd q (by decide)) (fun _ => ?_)
    refine lv_iconst (v := -1) hx hb dX1_run_8 (by decide) ?_
    exact ret _ _ _ _ _ _ dX1_run_9 (pY_of (spRun_1 hso)) hX
set_option maxHeartbeats 600000 in
set_option maxRecDepth 100000 in
theorem mY_response (l : Launch) (sz nx an : Nat → Nat) (ct : Nat) (mb : Nat → Nat) (x : Int32) (y : Int32) (hw : wf sz nx an) : MetY l yX1_response cX1_response 3 (some .int) rmX1_response [.int x, .int y] (sz, nx, an, ct, mb) (pY (spResponse x y sz nx an)) := by
  refine entYi rfl (by decide) rfl rfl (fun _ => Nat.le_of_ble_eq_true rfl) ?_
  intro G d h a A p e s m below meth c args Q S hA hX ret ls hl
  have hx := S.1
  have hb := S.2.1
  have hl : lv_has ls 3 [(0, .ref h), (1, .int x), (2, .int y)] := hl
  have hZ := hw.2.1
  have hN := hw.2.2.2.1
  have hA4 := hw.2.2.2.2
  refine lv_aload_n hx hb dX1_response_0 rfl (lv_at hl 0 rfl) ?_
  refine lv_iload_n hx hb dX1_response_1 rfl (lv_at hl 1 rfl) ?_
  refine callYi S hA hX (mY_badState l sz nx an ct mb x hZ) (cwV 1 S.2.2.2.2 (lw_V q216 q218 qs10 q19 q219) rfl rfl rfl (by decide +kernel) ⟨Nat.le_of_ble_eq_true rfl, Nat.le_of_ble_eq_true rfl⟩) rfl hl.1 rfl (Nat.le_of_ble_eq_true rfl) dX1_response_2 ⟨Nat.zero_le _, Nat.zero_le _⟩ (fun r u1 H locs hq hX => ?_)
  obtain ⟨rfl, rfl⟩ := hq
  by_cases hso : stOk sz x
  · refine n_top (congrArg nI (if_neg (fun z => z hso))) ?_
    obtain ⟨v, hv, hs, rfl⟩ := stOk_of hso
    refine n_if_eq (tgt := 10) hx hb dX1_response_5 (by decide) (by decide) (fun _ => ?_) (fun q => absurd q (by decide))
    refine lv_iload_n hx hb dX1_response_10 rfl (lv_at hl 2 rfl) ?_
    refine lv_iconst (v := nI 1) hx hb dX1_response_11 (by decide) ?_
    refine lv_icmp_lt (tgt := 22) hx hb dX1_response_12 (by decide) (fun c_12 => ?_) (fun c_12 => ?_)
    · refine lv_bipush (v := -2) hx hb dX1_response_22 (by decide) ?_
      refine lv_goto (tgt := 33) hx hb dX1_response_24 (by decide) ?_
      exact ret _ _ _ _ _ _ dX1_response_33 (pY_of (spResponse_2 hso (fun z => by first | exact z.1 c_12 | exact c_19 z.2))) hX
    · refine lv_iload_n hx hb dX1_response_15 rfl (lv_at hl 2 rfl) ?_
      refine lv_sipush (v := nI 4095) hx hb dX1_response_16 (by decide) ?_
      refine lv_icmp_le (tgt := 27) hx hb dX1_response_19 (by decide) (fun c_19 => ?_) (fun c_19 => ?_)
      · obtain ⟨c1, hc1, hc2, rfl⟩ := rng 4095 (by decide) c_12 c_19
        refine lv_aload_n hx hb dX1_response_27 rfl (lv_at hl 0 rfl) ?_
        refine lv_iload_n hx hb dX1_response_28 rfl (lv_at hl 1 rfl) ?_
        refine lv_iload_n hx hb dX1_response_29 rfl (lv_at hl 2 rfl) ?_
        refine callYi S hA hX (mY_told l sz nx an ct mb v c1 hw hv hs hc1 hc2) (cwV 2 S.2.2.2.2 (lw_V q232 q234 qs13 q19 q235) rfl rfl rfl (by decide +kernel) ⟨Nat.le_of_ble_eq_true rfl, Nat.le_of_ble_eq_true rfl⟩) rfl hl.1 rfl (Nat.le_of_ble_eq_true rfl) dX1_response_30 ⟨Nat.zero_le _, Nat.zero_le _⟩ (fun r u1 H locs hq hX => ?_)
        obtain ⟨rfl, rfl⟩ := hq
        exact ret _ _ _ _ _ _ dX1_response_33 (pY_of (spResponse_3 hv hs hc1 hc2)) hX
      · refine lv_bipush (v := -2) hx hb dX1_response_22 (by decide) ?_
        refine lv_goto (tgt := 33) hx hb dX1_response_24 (by decide) ?_
        exact ret _ _ _ _ _ _ dX1_response_33 (pY_of (spResponse_2 hso (fun z => by first | exact z.1 c_12 | exact c_19 z.2))) hX
  · refine n_top (congrArg nI (if_pos hso)) ?_
    refine n_if_eq (tgt := 10) hx hb dX1_response_5 (by decide) (by decide) (fun q => absurd q (by decide)) (fun _ => ?_)
    refine lv_iconst (v := -1) hx hb dX1_response_8 (by decide) ?_
    exact ret _ _ _ _ _ _ dX1_response_9 (pY_of (spResponse_1 hso)) hX
end
section
set_option maxRecDepth 100000
/-! goesTo, refresh -/
theorem pick_lt {c : Prop} {a b B : Nat} (ha : a < B) (hb : b < B) : pick c a b < B := by
  by_cases h : c
  · rw [pick_t h]; exact ha
  · rw [pick_f h]; exact hb
theorem pick_0 {c : Prop} (h : pick c 1 0 = 0) : ¬ c := fun z => by rw [pick_t z] at h; exact absurd h (by decide)
theorem pick_1 {c : Prop} (h : ¬ pick c 1 0 = 0) : c := Classical.byContradiction fun z => h (pick_f z)
theorem if_pick (c : Prop) [Decidable c] (a b : Nat) : (if c then a else b) = pick c a b := by
  by_cases h : c
  · rw [pick_t h, if_pos h]
  · rw [pick_f h, if_neg h]
def mix (f g : Nat → Nat) (k : Nat) : Nat → Nat := fun j => if j < k then f j else g j
theorem mix_lo {f g : Nat → Nat} {k j : Nat} (h : j < k) : mix f g k j = f j := if_pos h
theorem mix_hi {f g : Nat → Nat} {k j : Nat} (h : k ≤ j) : mix f g k j = g j := if_neg (by omega)
theorem mix_0 (f g : Nat → Nat) : mix f g 0 = g := funext fun j => mix_hi (Nat.zero_le j)
theorem mix_put (f g : Nat → Nat) (k : Nat) : updN (mix f g k) k (f k) = mix f g (k + 1) := by
  funext j
  unfold updN
  split
  · rename_i e
    subst e
    exact (mix_lo (by omega)).symm
  · rename_i e
    rcases Nat.lt_or_ge j k with q | q
    · rw [mix_lo q, mix_lo (by omega)]
    · rw [mix_hi q, mix_hi (by omega)]
theorem mix_keep {f g : Nat → Nat} {k : Nat} (h : f k = g k) : mix f g k = mix f g (k + 1) := by
  funext j
  rcases Nat.lt_or_ge j k with q | q
  · rw [mix_lo q, mix_lo (by omega)]
  · by_cases e : j = k
    · subst e
      rw [mix_hi q, mix_lo (by omega), h]
    · rw [mix_hi q, mix_hi (by omega)]
theorem mix_mix (f g h : Nat → Nat) (n : Nat) : mix f (mix g h n) n = mix f h n := by
  funext j
  rcases Nat.lt_or_ge j n with q | q
  · rw [mix_lo q, mix_lo q]
  · rw [mix_hi q, mix_hi q, mix_hi q]
noncomputable def dsA (sz nx an : Nat → Nat) (L j : Nat) : Nat := ds sz nx an L (j / 12) (j % 12)
theorem ds_one (sz nx an : Nat → Nat) (p q : Nat) : ds sz nx an 1 p q = pick (dif an p q ∧ th sz p ∧ th sz q) 1 0 := by
  show (if 0 = 0 then _ else _) = _
  rw [if_pos rfl]
theorem ds_succ (sz nx an : Nat → Nat) {L : Nat} (hL : 1 ≤ L) (p q : Nat) : ds sz nx an (L + 1) p q = pick (ds sz nx an L p q = 0 ∧ th sz p ∧ th sz q) (pick (ds sz nx an L (af nx p 0) (af nx q 0) = L ∨ ds sz nx an L (af nx p 1) (af nx q 1) = L) (L + 1) 0) (ds sz nx an L p q) := by
  show (if L = 0 then _ else _) = _
  rw [if_neg (by omega)]
theorem ds_le (sz nx an : Nat → Nat) : ∀ L p q, ds sz nx an L p q ≤ L := by
  intro L
  induction L with
  | zero => intro p q; exact Nat.le_refl _
  | succ L ih =>
    intro p q
    rcases Nat.eq_zero_or_pos L with z | z
    · subst z
      rw [ds_one]
      exact Nat.le_of_lt_succ (pick_lt (by omega) (by omega))
    · rw [ds_succ _ _ _ z]
      exact Nat.le_of_lt_succ (pick_lt (pick_lt (by omega) (by omega)) (by have := ih p q; omega))
theorem ds_eqL (sz nx an : Nat → Nat) {L : Nat} (hL : 1 ≤ L) (p q : Nat) : ds sz nx an (L + 1) p q = L ↔ ds sz nx an L p q = L := by
  rw [ds_succ _ _ _ hL]
  by_cases h : ds sz nx an L p q = 0 ∧ th sz p ∧ th sz q
  · rw [pick_t h, h.1]
    by_cases h2 : ds sz nx an L (af nx p 0) (af nx q 0) = L ∨ ds sz nx an L (af nx p 1) (af nx q 1) = L
    · rw [pick_t h2]; omega
    · rw [pick_f h2]
  · rw [pick_f h]
theorem dsA_at (sz nx an : Nat → Nat) (L p q : Nat) (hq : q < 12) : dsA sz nx an L (12 * p + q) = ds sz nx an L p q := by
  unfold dsA
  rw [show (12 * p + q) / 12 = p by omega, show (12 * p + q) % 12 = q by omega]
/-- the table in the midst of a round -/
noncomputable def mid (sz nx an ap : Nat → Nat) (L k : Nat) : Nat → Nat := mix (dsA sz nx an (L + 1)) (mix (dsA sz nx an L) ap 144) k
theorem mid_at {sz nx an ap : Nat → Nat} {L k j : Nat} (hk : k ≤ j) (hj : j < 144) : mid sz nx an ap L k j = dsA sz nx an L j := by
  unfold mid
  rw [mix_hi hk, mix_lo hj]
theorem mid_put (sz nx an ap : Nat → Nat) (L k : Nat) : updN (mid sz nx an ap L k) k (dsA sz nx an (L + 1) k) = mid sz nx an ap L (k + 1) := mix_put _ _ k
theorem mid_keep {sz nx an ap : Nat → Nat} {L k : Nat} (hk : k < 144) (h : ds sz nx an (L + 1) (k / 12) (k % 12) = ds sz nx an L (k / 12) (k % 12)) : mid sz nx an ap L k = mid sz nx an ap L (k + 1) := by
  unfold mid
  exact mix_keep (show dsA sz nx an (L + 1) k = mix (dsA sz nx an L) ap 144 k by rw [mix_lo hk]; exact h)
theorem mid_le {sz nx an ap : Nat → Nat} {L k j : Nat} (hj : j < 144) : mid sz nx an ap L k j ≤ L + 1 := by
  unfold mid
  rcases Nat.lt_or_ge j k with q | q
  · rw [mix_lo q]; exact ds_le _ _ _ _ _ _
  · rw [mix_hi q, mix_lo hj]; exact Nat.le_succ_of_le (ds_le _ _ _ _ _ _)
theorem mid_eqL {sz nx an ap : Nat → Nat} {L k p q : Nat} (hL : 1 ≤ L) (hp : p < 12) (hq : q < 12) : mid sz nx an ap L k (12 * p + q) = L ↔ ds sz nx an L p q = L := by
  unfold mid
  rcases Nat.lt_or_ge (12 * p + q) k with z | z
  · rw [mix_lo z, dsA_at _ _ _ _ _ _ hq]; exact ds_eqL _ _ _ hL p q
  · rw [mix_hi z, mix_lo (by omega), dsA_at _ _ _ _ _ _ hq]
theorem af_lt {nx : Nat → Nat} (hN : ∀ k, nx k < 6) {p : Nat} (hp : p < 12) (a : Nat) : af nx p a < 12 := by
  have := hN (2 * p + a)
  unfold af
  omega
theorem mid_go {sz nx an ap : Nat → Nat} (hN : ∀ k, nx k < 6) {L k p q : Nat} (hL : 1 ≤ L) (hp : p < 12) (hq : q < 12) : (mid sz nx an ap L k (12 * af nx p 0 + af nx q 0) = L ∨ mid sz nx an ap L k (12 * af nx p 1 + af nx q 1) = L) ↔ (ds sz nx an L (af nx p 0) (af nx q 0) = L ∨ ds sz nx an L (af nx p 1) (af nx q 1) = L) := by
  rw [mid_eqL hL (af_lt hN hp 0) (af_lt hN hq 0), mid_eqL hL (af_lt hN hp 1) (af_lt hN hq 1)]
theorem apOk_end (sz nx an ap : Nat → Nat) : apOk sz nx an (mix (dsA sz nx an 11) ap 144) := by
  intro p q hp hq
  rw [mix_lo (by omega), dsA_at _ _ _ _ _ _ hq]
theorem mX_isThereP (l : Launch) (sz nx an ap : Nat → Nat) (cn : Nat → Int32) (ld qu wo : Nat → Nat) (co cu : Nat) (q : Nat) (hq : q < 12) (hZ : ∀ k, sz k ≤ 6) : MetX l yX0_isThere cX0_isThere 2 (some .boolean) rmX0_isThere [.int (nI q)] (sz, nx, an, ap, cn, ld, qu, wo, co, cu) (fun r u1 => r = nI (pick (th sz q) 1 0) ∧ u1 = (sz, nx, an, ap, cn, ld, qu, wo, co, cu)) := by
  have h := mX_isThere l sz nx an ap cn ld qu wo co cu q hq hZ
  rw [if_pick] at h
  exact h
set_option maxHeartbeats 600000 in
set_option maxRecDepth 100000 in
theorem mX_goesTo (l : Launch) (sz nx an ap : Nat → Nat) (cn : Nat → Int32) (ld qu wo : Nat → Nat) (co cu : Nat) (q1 q2 L : Nat) (hq1 : q1 < 12) (hq2 : q2 < 12) (hL : L ≤ 11) (hN : ∀ k, nx k < 6) (hap : ∀ k, k < 144 → ap k ≤ 11) : MetX l yX0_goesTo cX0_goesTo 7 (some .boolean) rmX0_goesTo [.int (nI q1), .int (nI q2), .int (nI L)] (sz, nx, an, ap, cn, ld, qu, wo, co, cu) (fun r u1 => r = nI (pick (ap (12 * af nx q1 0 + af nx q2 0) = L ∨ ap (12 * af nx q1 1 + af nx q2 1) = L) 1 0) ∧ u1 = (sz, nx, an, ap, cn, ld, qu, wo, co, cu)) := by
  refine entXz rfl (by decide) rfl rfl (fun _ => Nat.le_of_ble_eq_true rfl) ?_
  intro G d h a A p e s m below meth c args Q S hA hX ret ls hl
  have hx := S.1
  have hb := S.2.1
  have hl : lv_has ls 7 [(0, .ref h), (1, .int (nI q1)), (2, .int (nI q2)), (3, .int (nI L))] := hl
  refine lv_iconst (v := nI 0) hx hb dX0_goesTo_0 (by decide) ?_
  refine lv_istore (lv' := [(4, .int (nI 0)), (0, .ref h), (1, .int (nI q1)), (2, .int (nI q2)), (3, .int (nI L))]) hx hb dX0_goesTo_1 hl (by decide) rfl (fun ls hl => ?_)
  have lp : ∀ (N : Nat) (b : Nat), (b ≤ 2) → (∀ j, j < b → ¬ ap (12 * af nx q1 j + af nx q2 j) = L) → 2 - b < N → ∀ (H : Heap) (locs : List Loc) (ls : Array Slot), HX G d h a A s (sz, nx, an, ap, cn, ld, qu, wo, co, cu) H locs → lv_has ls 7 [(0, .ref h), (1, .int (nI q1)), (2, .int (nI q2)), (3, .int (nI L)), (4, .int (nI b))] → W p l e rmX0_goesTo s m args below meth c H locs 0 0 Q (F0 m 3 ls []) := by
    intro N
    induction N with
    | zero =>
      intro b hb2 hno hms
      exact absurd hms (Nat.not_lt_zero _)
    | succ N ih =>
      intro b hb2 hno hms H locs ls hX hl
      refine lv_iload hx hb dX0_goesTo_3 (lv_at hl 4 rfl) ?_
      refine lv_iconst (v := nI 2) hx hb dX0_goesTo_5 (by decide) ?_
      refine n_icmp_ge (tgt := 52) hx hb dX0_goesTo_6 (by decide) (by omega) (by omega) (fun c_6 => ?_) (fun c_6 => ?_)
      · refine lv_iconst (v := nI 0) hx hb dX0_goesTo_52 (by decide) ?_
        exact ret _ _ _ _ _ _ dX0_goesTo_53 (by omega) (⟨by rw [pick_f (show ¬ (ap (12 * af nx q1 0 + af nx q2 0) = L ∨ ap (12 * af nx q1 1 + af nx q2 1) = L) from fun z => z.elim (hno 0 (by omega)) (hno 1 (by omega)))], rfl⟩) hX
      · refine lv_aload_n hx hb dX0_goesTo_9 rfl (lv_at hl 0 rfl) ?_
        refine lv_iload_n hx hb dX0_goesTo_10 rfl (lv_at hl 1 rfl) ?_
        refine lv_iload hx hb dX0_goesTo_11 (lv_at hl 4 rfl) ?_
        refine callXi S hA hX (mX_after l sz nx an ap cn ld qu wo co cu q1 b (by omega) (by omega) hN) (cwV 2 S.2.2.2.2 (lw_V q94 q96 qs1 q18 q97) rfl rfl rfl (by decide +kernel) ⟨Nat.le_of_ble_eq_true rfl, Nat.le_of_ble_eq_true rfl⟩) rfl hl.1 rfl (Nat.le_of_ble_eq_true rfl) dX0_goesTo_13 ⟨Nat.zero_le _, Nat.zero_le _⟩ (fun r u1 H locs hq hX => ?_)
        obtain ⟨rfl, rfl⟩ := hq
        refine n_top (y := nI (af nx q1 b)) rfl ?_
        have g_16 := af_lt hN (p := q1) (by omega) b
        refine lv_istore (lv' := [(5, .int (nI (af nx q1 b))), (0, .ref h), (1, .int (nI q1)), (2, .int (nI q2)), (3, .int (nI L)), (4, .int (nI b))]) hx hb dX0_goesTo_16 hl (by decide) rfl (fun ls hl => ?_)
        refine lv_aload_n hx hb dX0_goesTo_18 rfl (lv_at hl 1 rfl) ?_
        refine lv_iload_n hx hb dX0_goesTo_19 rfl (lv_at hl 3 rfl) ?_
        refine lv_iload hx hb dX0_goesTo_20 (lv_at hl 5 rfl) ?_
        refine callXi S hA hX (mX_after l sz nx an ap cn ld qu wo co cu q2 b (by omega) (by omega) hN) (cwV 2 S.2.2.2.2 (lw_V q94 q96 qs1 q18 q97) rfl rfl rfl (by decide +kernel) ⟨Nat.le_of_ble_eq_true rfl, Nat.le_of_ble_eq_true rfl⟩) rfl hl.1 rfl (Nat.le_of_ble_eq_true rfl) dX0_goesTo_22 ⟨Nat.zero_le _, Nat.zero_le _⟩ (fun r u1 H locs hq hX => ?_)
        obtain ⟨rfl, rfl⟩ := hq
        refine n_top (y := nI (af nx q2 b)) rfl ?_
        have g_25 := af_lt hN (p := q2) (by omega) b
        refine lv_istore (lv' := [(6, .int (nI (af nx q2 b))), (5, .int (nI (af nx q1 b))), (0, .ref h), (1, .int (nI q1)), (2, .int (nI q2)), (3, .int (nI L)), (4, .int (nI b))]) hx hb dX0_goesTo_25 hl (by decide) rfl (fun ls hl => ?_)
        refine lv_aload_n hx hb dX0_goesTo_27 rfl (lv_at hl 2 rfl) ?_
        refine xg3 S hX dX0_goesTo_28 ?_
        refine lv_bipush (v := nI 12) hx hb dX0_goesTo_31 (by decide) ?_
        refine lv_iload hx hb dX0_goesTo_33 (lv_at hl 1 rfl) ?_
        refine n_imul hx hb dX0_goesTo_35 ?_
        refine lv_iload hx hb dX0_goesTo_36 (lv_at hl 0 rfl) ?_
        refine n_iadd hx hb dX0_goesTo_38 ?_
        have b_39 := hap (12 * af nx q1 b + af nx q2 b) (by omega)
        refine xl3 S hX dX0_goesTo_39 (by omega) ?_
        refine lv_iload_n hx hb dX0_goesTo_40 rfl (lv_at hl 5 rfl) ?_
        refine n_icmp_ne (tgt := 46) hx hb dX0_goesTo_41 (by decide) (by omega) (by omega) (fun c_41 => ?_) (fun c_41 => ?_)
        · refine lv_iinc (v := (nI (b + 1))) (lv' := [(4, .int (nI (b + 1))), (6, .int (nI (af nx q2 b))), (5, .int (nI (af nx q1 b))), (0, .ref h), (1, .int (nI q1)), (2, .int (nI q2)), (3, .int (nI L))]) hx hb dX0_goesTo_46 hl (k := 6) rfl (nI_1 _) (by decide) rfl (fun ls hl => ?_)
          refine lv_goto (tgt := 3) hx hb dX0_goesTo_49 (by decide) ?_
          exact ih (b + 1) (by omega) (fun j hj => by rcases Nat.lt_or_ge j b with z | z; exact hno j z; (have e : j = b := (by omega)); subst e; exact c_41) (by omega) _ _ _ hX (lv_sub hl [3, 4, 5, 6, 0] rfl)
        · refine lv_iconst (v := nI 1) hx hb dX0_goesTo_44 (by decide) ?_
          exact ret _ _ _ _ _ _ dX0_goesTo_45 (by omega) (⟨by rw [pick_t (show ap (12 * af nx q1 0 + af nx q2 0) = L ∨ ap (12 * af nx q1 1 + af nx q2 1) = L by rcases (show b = 0 ∨ b = 1 by omega) with z | z; (subst z; exact Or.inl c_41); (subst z; exact Or.inr c_41))], rfl⟩) hX
  exact lp _ 0 (by omega) (fun j hj => absurd hj (Nat.not_lt_zero _)) (Nat.lt_succ_self _) _ _ _ hX (lv_sub hl [1, 2, 3, 4, 0] rfl)
set_option maxHeartbeats 600000 in
set_option maxRecDepth 100000 in
/-- the table of differences is brought up to date -/
theorem mX_refresh (l : Launch) (sz nx an ap : Nat → Nat) (cn : Nat → Int32) (ld qu wo : Nat → Nat) (co cu : Nat) (hI : inX sz nx an ap cu) : MetXv l yX0_refresh cX0_refresh 5 rmX0_refresh [] (sz, nx, an, ap, cn, ld, qu, wo, co, cu) (fun u1 => ∃ ap1 : Nat → Nat, u1 = (sz, nx, an, ap1, cn, ld, qu, wo, co, 1) ∧ apOk sz nx an ap1) := by
  refine entXv rfl (by decide) rfl rfl (fun _ => Nat.le_of_ble_eq_true rfl) ?_
  intro G d h a A p e s m below meth c args Q S hA hX ret ls hl
  have hx := S.1
  have hb := S.2.1
  have hl : lv_has ls 5 [(0, .ref h)] := hl
  have hw := hI.1
  have hZ := hw.2.1
  have hN := hw.2.2.2.1
  have hA4 := hw.2.2.2.2
  have hcu : cu < 2 := by rcases hI.2 with z | z; omega; omega
  refine lv_aload_n hx hb dX0_refresh_0 rfl (lv_at hl 0 rfl) ?_
  refine xg9 S hX dX0_refresh_1 ?_
  refine n_if_eq (tgt := 8) hx hb dX0_refresh_4 (by decide) (by omega) (fun c_4 => ?_) (fun c_4 => ?_)
  · refine lv_aload_n hx hb dX0_refresh_8 rfl (lv_at hl 0 rfl) ?_
    refine lv_iconst (v := nI 1) hx hb dX0_refresh_9 (by decide) ?_
    refine xp9_1 S hX dX0_refresh_10 (fun H locs hX => ?_)
    refine lv_iconst (v := nI 0) hx hb dX0_refresh_13 (by decide) ?_
    refine lv_istore_n (lv' := [(1, .int (nI 0)), (0, .ref h)]) hx hb dX0_refresh_14 rfl hl (by decide) rfl (fun ls hl => ?_)
    have lp : ∀ (N : Nat) (k : Nat), (k ≤ 144) → 144 - k < N → ∀ (H : Heap) (locs : List Loc) (ls : Array Slot), HX G d h a A s (sz, nx, an, (mix (dsA sz nx an 1) ap k), cn, ld, qu, wo, co, 1) H locs → lv_has ls 5 [(0, .ref h), (1, .int (nI k))] → W p l e rmX0_refresh s m args below meth c H locs 0 0 Q (F0 m 15 ls []) := by
      intro N
      induction N with
      | zero =>
        intro k hk hms
        exact absurd hms (Nat.not_lt_zero _)
      | succ N ih =>
        intro k hk hms H locs ls hX hl
        refine lv_iload_n hx hb dX0_refresh_15 rfl (lv_at hl 1 rfl) ?_
        refine lv_sipush (v := nI 144) hx hb dX0_refresh_16 (by decide) ?_
        refine n_icmp_ge (tgt := 119) hx hb dX0_refresh_19 (by decide) (by omega) (by omega) (fun c_19 => ?_) (fun c_19 => ?_)
        · refine lv_iconst (v := nI 2) hx hb dX0_refresh_119 (by decide) ?_
          refine lv_istore_n (lv' := [(1, .int (nI 2)), (0, .ref h)]) hx hb dX0_refresh_120 rfl hl (by decide) rfl (fun ls hl => ?_)
          rw [show k = 144 by omega] at hX
          have lp2 : ∀ (N : Nat) (L : Nat), (1 ≤ L) → (L ≤ 11) → 11 - L < N → ∀ (H : Heap) (locs : List Loc) (ls : Array Slot), HX G d h a A s (sz, nx, an, (mix (dsA sz nx an L) ap 144), cn, ld, qu, wo, co, 1) H locs → lv_has ls 5 [(0, .ref h), (1, .int (nI (L + 1)))] → W p l e rmX0_refresh s m args below meth c H locs 0 0 Q (F0 m 121 ls []) := by
            intro N
            induction N with
            | zero =>
              intro L hL1 hL hms
              exact absurd hms (Nat.not_lt_zero _)
            | succ N ih =>
              intro L hL1 hL hms H locs ls hX hl
              refine lv_iload_n hx hb dX0_refresh_121 rfl (lv_at hl 1 rfl) ?_
              refine lv_bipush (v := nI 11) hx hb dX0_refresh_122 (by decide) ?_
              refine n_icmp_gt (tgt := 208) hx hb dX0_refresh_124 (by decide) (by omega) (by omega) (fun c_124 => ?_) (fun c_124 => ?_)
              · exact ret _ _ _ _ _ dX0_refresh_208 (⟨_, rfl, by have eL : L = 11 := (by omega); subst eL; exact apOk_end sz nx an ap⟩) hX
              · refine lv_iconst (v := nI 0) hx hb dX0_refresh_127 (by decide) ?_
                refine lv_istore_n (lv' := [(2, .int (nI 0)), (0, .ref h), (1, .int (nI (L + 1)))]) hx hb dX0_refresh_128 rfl hl (by decide) rfl (fun ls hl => ?_)
                have lp3 : ∀ (N2 : Nat) (k : Nat), (k ≤ 144) → 144 - k < N2 → ∀ (H : Heap) (locs : List Loc) (ls : Array Slot), HX G d h a A s (sz, nx, an, (mid sz nx an ap L k), cn, ld, qu, wo, co, 1) H locs → lv_has ls 5 [(0, .ref h), (1, .int (nI (L + 1))), (2, .int (nI k))] → W p l e rmX0_refresh s m args below meth c H locs 0 0 Q (F0 m 129 ls []) := by
                  intro N2
                  induction N2 with
                  | zero =>
                    intro k hk hms
                    exact absurd hms (Nat.not_lt_zero _)
                  | succ N2 ih2 =>
                    intro k hk hms H locs ls hX hl
                    refine lv_iload_n hx hb dX0_refresh_129 rfl (lv_at hl 2 rfl) ?_
                    refine lv_sipush (v := nI 144) hx hb dX0_refresh_130 (by decide) ?_
                    refine n_icmp_ge (tgt := 202) hx hb dX0_refresh_133 (by decide) (by omega) (by omega) (fun c_133 => ?_) (fun c_133 => ?_)
                    · refine lv_iinc (v := (nI (L + 1 + 1))) (lv' := [(1, .int (nI (L + 1 + 1))), (0, .ref h), (2, .int (nI k))]) hx hb dX0_refresh_202 hl (k := 1) rfl (nI_1 _) (by decide) rfl (fun ls hl => ?_)
                      refine lv_goto (tgt := 121) hx hb dX0_refresh_205 (by decide) ?_
                      rw [show k = 144 by omega] at hX
                      rw [show mid sz nx an ap L 144 = mix (dsA sz nx an (L + 1)) ap 144 from mix_mix _ _ _ 144] at hX
                      exact ih (L + 1) (by omega) (by omega) (by omega) _ _ _ hX (lv_sub hl [1, 0] rfl)
                    · refine lv_aload_n hx hb dX0_refresh_136 rfl (lv_at hl 0 rfl) ?_
                      refine xg3 S hX dX0_refresh_137 ?_
                      refine lv_iload_n hx hb dX0_refresh_140 rfl (lv_at hl 2 rfl) ?_
                      refine xl3 S hX dX0_refresh_141 (by omega) ?_
                      refine n_top (y := (nI (dsA sz nx an L k))) (congrArg nI (mid_at (Nat.le_refl k) (by omega))) ?_
                      refine n_if_ne (tgt := 196) hx hb dX0_refresh_142 (by decide) (Nat.lt_of_le_of_lt (ds_le _ _ _ _ _ _) (by omega)) (fun c_142 => ?_) (fun c_142 => ?_)
                      · refine lv_iinc (v := (nI (k + 1))) (lv' := [(2, .int (nI (k + 1))), (0, .ref h), (1, .int (nI (L + 1)))]) hx hb dX0_refresh_196 hl (k := 2) rfl (nI_1 _) (by decide) rfl (fun ls hl => ?_)
                        refine lv_goto (tgt := 129) hx hb dX0_refresh_199 (by decide) ?_
                        rw [mid_keep (by omega) ((ds_succ sz nx an hL1 (k / 12) (k % 12)).trans (pick_f (fun z => by first | exact c_142 z.1 | exact pick_0 c_164 z.2.2 | exact pick_0 c_153 z.2.1)))] at hX
                        exact ih2 (k + 1) (by omega) (by omega) _ _ _ hX (lv_sub hl [1, 2, 0] rfl)
                      · refine lv_aload_n hx hb dX0_refresh_145 rfl (lv_at hl 0 rfl) ?_
                        refine lv_iload_n hx hb dX0_refresh_146 rfl (lv_at hl 2 rfl) ?_
                        refine lv_bipush (v := nI 12) hx hb dX0_refresh_147 (by decide) ?_
                        refine n_idiv hx hb dX0_refresh_149 (by omega) (by decide) (by decide) ?_
                        refine callXi S hA hX (mX_isThereP l sz nx an ((mid sz nx an ap L k)) cn ld qu wo co 1 (k / 12) (by omega) hZ) (cwV 1 S.2.2.2.2 (lw_V q110 q112 qs3 q18 q113) rfl rfl rfl (by decide +kernel) ⟨Nat.le_of_ble_eq_true rfl, Nat.le_of_ble_eq_true rfl⟩) rfl hl.1 rfl (Nat.le_of_ble_eq_true rfl) dX0_refresh_150 ⟨Nat.zero_le _, Nat.zero_le _⟩ (fun r u1 H locs hq hX => ?_)
                        obtain ⟨rfl, rfl⟩ := hq
                        refine n_if_eq (tgt := 196) hx hb dX0_refresh_153 (by decide) (pick_lt (by decide) (by decide)) (fun c_153 => ?_) (fun c_153 => ?_)
                        · refine lv_iinc (v := (nI (k + 1))) (lv' := [(2, .int (nI (k + 1))), (0, .ref h), (1, .int (nI (L + 1)))]) hx hb dX0_refresh_196 hl (k := 2) rfl (nI_1 _) (by decide) rfl (fun ls hl => ?_)
                          refine lv_goto (tgt := 129) hx hb dX0_refresh_199 (by decide) ?_
                          rw [mid_keep (by omega) ((ds_succ sz nx an hL1 (k / 12) (k % 12)).trans (pick_f (fun z => by first | exact c_142 z.1 | exact pick_0 c_164 z.2.2 | exact pick_0 c_153 z.2.1)))] at hX
                          exact ih2 (k + 1) (by omega) (by omega) _ _ _ hX (lv_sub hl [1, 2, 0] rfl)
                        · refine lv_aload_n hx hb dX0_refresh_156 rfl (lv_at hl 0 rfl) ?_
                          refine lv_iload_n hx hb dX0_refresh_157 rfl (lv_at hl 2 rfl) ?_
                          refine lv_bipush (v := nI 12) hx hb dX0_refresh_158 (by decide) ?_
                          refine n_irem hx hb dX0_refresh_160 (by omega) (by decide) (by decide) ?_
                          refine callXi S hA hX (mX_isThereP l sz nx an ((mid sz nx an ap L k)) cn ld qu wo co 1 (k % 12) (by omega) hZ) (cwV 1 S.2.2.2.2 (lw_V q110 q112 qs3 q18 q113) rfl rfl rfl (by decide +kernel) ⟨Nat.le_of_ble_eq_true rfl, Nat.le_of_ble_eq_true rfl⟩) rfl hl.1 rfl (Nat.le_of_ble_eq_true rfl) dX0_refresh_161 ⟨Nat.zero_le _, Nat.zero_le _⟩ (fun r u1 H locs hq hX => ?_)
                          obtain ⟨rfl, rfl⟩ := hq
                          refine n_if_eq (tgt := 196) hx hb dX0_refresh_164 (by decide) (pick_lt (by decide) (by decide)) (fun c_164 => ?_) (fun c_164 => ?_)
                          · refine lv_iinc (v := (nI (k + 1))) (lv' := [(2, .int (nI (k + 1))), (0, .ref h), (1, .int (nI (L + 1)))]) hx hb dX0_refresh_196 hl (k := 2) rfl (nI_1 _) (by decide) rfl (fun ls hl => ?_)
                            refine lv_goto (tgt := 129) hx hb dX0_refresh_199 (by decide) ?_
                            rw [mid_keep (by omega) ((ds_succ sz nx an hL1 (k / 12) (k % 12)).trans (pick_f (fun z => by first | exact c_142 z.1 | exact pick_0 c_164 z.2.2 | exact pick_0 c_153 z.2.1)))] at hX
                            exact ih2 (k + 1) (by omega) (by omega) _ _ _ hX (lv_sub hl [1, 2, 0] rfl)
                          · refine lv_aload_n hx hb dX0_refresh_167 rfl (lv_at hl 0 rfl) ?_
                            refine xg3 S hX dX0_refresh_168 ?_
                            refine lv_iload_n hx hb dX0_refresh_171 rfl (lv_at hl 2 rfl) ?_
                            refine lv_aload_n hx hb dX0_refresh_172 rfl (lv_at hl 0 rfl) ?_
                            refine lv_iload_n hx hb dX0_refresh_173 rfl (lv_at hl 2 rfl) ?_
                            refine lv_bipush (v := nI 12) hx hb dX0_refresh_174 (by decide) ?_
                            refine n_idiv hx hb dX0_refresh_176 (by omega) (by decide) (by decide) ?_
                            refine lv_iload_n hx hb dX0_refresh_177 rfl (lv_at hl 2 rfl) ?_
                            refine lv_bipush (v := nI 12) hx hb dX0_refresh_178 (by decide) ?_
                            refine n_irem hx hb dX0_refresh_180 (by omega) (by decide) (by decide) ?_
                            refine lv_iload_n hx hb dX0_refresh_181 rfl (lv_at hl 1 rfl) ?_
                            refine lv_iconst (v := nI 1) hx hb dX0_refresh_182 (by decide) ?_
                            refine n_isub hx hb dX0_refresh_183 (by omega) ?_
                            refine n_top (y := (nI L)) (rfl) ?_
                            refine callXi S hA hX (mX_goesTo l sz nx an ((mid sz nx an ap L k)) cn ld qu wo co 1 (k / 12) (k % 12) L (by omega) (by omega) (by omega) hN (fun j hj => Nat.le_trans (mid_le hj) (by omega))) (cwV 3 S.2.2.2.2 (lw_V q114 q116 qs4 q18 q117) rfl rfl rfl (by decide +kernel) ⟨Nat.le_of_ble_eq_true rfl, Nat.le_of_ble_eq_true rfl⟩) rfl hl.1 rfl (Nat.le_of_ble_eq_true rfl) dX0_refresh_184 ⟨Nat.zero_le _, Nat.zero_le _⟩ (fun r u1 H locs hq hX => ?_)
                            obtain ⟨rfl, rfl⟩ := hq
                            refine n_if_eq (tgt := 194) hx hb dX0_refresh_187 (by decide) (pick_lt (by decide) (by decide)) (fun c_187 => ?_) (fun c_187 => ?_)
                            · refine lv_iconst (v := nI 0) hx hb dX0_refresh_194 (by decide) ?_
                              refine n_top (y := (nI (dsA sz nx an (L + 1) k))) (congrArg nI ((ds_succ sz nx an hL1 (k / 12) (k % 12)).trans ((pick_t ⟨c_142, pick_1 c_153, pick_1 c_164⟩).trans (pick_f (fun z => pick_0 c_187 ((mid_go hN hL1 (by omega) (by omega)).mpr z))))).symm) ?_
                              refine xs3 S hX dX0_refresh_195 (by omega) (fun H locs hX => ?_)
                              refine lv_iinc (v := (nI (k + 1))) (lv' := [(2, .int (nI (k + 1))), (0, .ref h), (1, .int (nI (L + 1)))]) hx hb dX0_refresh_196 hl (k := 2) rfl (nI_1 _) (by decide) rfl (fun ls hl => ?_)
                              refine lv_goto (tgt := 129) hx hb dX0_refresh_199 (by decide) ?_
                              rw [mid_put] at hX
                              exact ih2 (k + 1) (by omega) (by omega) _ _ _ hX (lv_sub hl [1, 2, 0] rfl)
                            · refine lv_iload_n hx hb dX0_refresh_190 rfl (lv_at hl 1 rfl) ?_
                              refine lv_goto (tgt := 195) hx hb dX0_refresh_191 (by decide) ?_
                              refine n_top (y := (nI (dsA sz nx an (L + 1) k))) (congrArg nI ((ds_succ sz nx an hL1 (k / 12) (k % 12)).trans ((pick_t ⟨c_142, pick_1 c_153, pick_1 c_164⟩).trans (pick_t ((mid_go hN hL1 (by omega) (by omega)).mp (pick_1 c_187))))).symm) ?_
                              refine xs3 S hX dX0_refresh_195 (by omega) (fun H locs hX => ?_)
                              refine lv_iinc (v := (nI (k + 1))) (lv' := [(2, .int (nI (k + 1))), (0, .ref h), (1, .int (nI (L + 1)))]) hx hb dX0_refresh_196 hl (k := 2) rfl (nI_1 _) (by decide) rfl (fun ls hl => ?_)
                              refine lv_goto (tgt := 129) hx hb dX0_refresh_199 (by decide) ?_
                              rw [mid_put] at hX
                              exact ih2 (k + 1) (by omega) (by omega) _ _ _ hX (lv_sub hl [1, 2, 0] rfl)
                rw [show mix (dsA sz nx an L) ap 144 = mid sz nx an ap L 0 from (mix_0 _ _).symm] at hX
                exact lp3 _ 0 (by omega) (Nat.lt_succ_self _) _ _ _ hX (lv_sub hl [1, 2, 0] rfl)
          exact lp2 _ 1 (by omega) (by omega) (Nat.lt_succ_self _) _ _ _ hX (lv_sub hl [1, 0] rfl)
        · refine lv_iload_n hx hb dX0_refresh_22 rfl (lv_at hl 1 rfl) ?_
          refine lv_bipush (v := nI 12) hx hb dX0_refresh_23 (by decide) ?_
          refine n_idiv hx hb dX0_refresh_25 (by omega) (by decide) (by decide) ?_
          refine lv_istore_n (lv' := [(2, .int (nI (k / 12))), (0, .ref h), (1, .int (nI k))]) hx hb dX0_refresh_26 rfl hl (by decide) rfl (fun ls hl => ?_)
          refine lv_iload_n hx hb dX0_refresh_27 rfl (lv_at hl 2 rfl) ?_
          refine lv_bipush (v := nI 12) hx hb dX0_refresh_28 (by decide) ?_
          refine n_irem hx hb dX0_refresh_30 (by omega) (by decide) (by decide) ?_
          refine lv_istore_n (lv' := [(3, .int (nI (k % 12))), (2, .int (nI (k / 12))), (0, .ref h), (1, .int (nI k))]) hx hb dX0_refresh_31 rfl hl (by decide) rfl (fun ls hl => ?_)
          refine lv_aload_n hx hb dX0_refresh_32 rfl (lv_at hl 2 rfl) ?_
          refine xg2 S hX dX0_refresh_33 ?_
          refine lv_iconst (v := nI 2) hx hb dX0_refresh_36 (by decide) ?_
          refine lv_iload_n hx hb dX0_refresh_37 rfl (lv_at hl 1 rfl) ?_
          refine n_imul hx hb dX0_refresh_38 ?_
          refine xl2 S hX dX0_refresh_39 (by omega) ?_
          have b_39 := hA4 (2 * (k / 12))
          refine lv_aload_n hx hb dX0_refresh_40 rfl (lv_at hl 2 rfl) ?_
          refine xg2 S hX dX0_refresh_41 ?_
          refine lv_iconst (v := nI 2) hx hb dX0_refresh_44 (by decide) ?_
          refine lv_iload_n hx hb dX0_refresh_45 rfl (lv_at hl 0 rfl) ?_
          refine n_imul hx hb dX0_refresh_46 ?_
          refine xl2 S hX dX0_refresh_47 (by omega) ?_
          have b_47 := hA4 (2 * (k % 12))
          refine n_icmp_ne (tgt := 74) hx hb dX0_refresh_48 (by decide) (by omega) (by omega) (fun c_48 => ?_) (fun c_48 => ?_)
          · refine lv_iconst (v := nI 1) hx hb dX0_refresh_74 (by decide) ?_
            refine lv_goto (tgt := 79) hx hb dX0_refresh_75 (by decide) ?_
            have hdf : dif an (k / 12) (k % 12) := by first | exact Or.inr c_71 | exact Or.inl c_48
            refine lv_istore (lv' := [(4, .int (nI 1)), (3, .int (nI (k % 12))), (2, .int (nI (k / 12))), (0, .ref h), (1, .int (nI k))]) hx hb dX0_refresh_79 hl (by decide) rfl (fun ls hl => ?_)
            refine lv_aload_n hx hb dX0_refresh_81 rfl (lv_at hl 3 rfl) ?_
            refine xg3 S hX dX0_refresh_82 ?_
            refine lv_iload_n hx hb dX0_refresh_85 rfl (lv_at hl 4 rfl) ?_
            refine lv_iload hx hb dX0_refresh_86 (lv_at hl 0 rfl) ?_
            refine n_if_eq (tgt := 111) hx hb dX0_refresh_88 (by decide) (by decide) (fun q => absurd q (by decide)) (fun _ => ?_)
            refine lv_aload_n hx hb dX0_refresh_91 rfl (lv_at hl 3 rfl) ?_
            refine lv_iload_n hx hb dX0_refresh_92 rfl (lv_at hl 2 rfl) ?_
            refine callXi S hA hX (mX_isThereP l sz nx an ((mix (dsA sz nx an 1) ap k)) cn ld qu wo co 1 (k / 12) (by omega) hZ) (cwV 1 S.2.2.2.2 (lw_V q110 q112 qs3 q18 q113) rfl rfl rfl (by decide +kernel) ⟨Nat.le_of_ble_eq_true rfl, Nat.le_of_ble_eq_true rfl⟩) rfl hl.1 rfl (Nat.le_of_ble_eq_true rfl) dX0_refresh_93 ⟨Nat.zero_le _, Nat.zero_le _⟩ (fun r u1 H locs hq hX => ?_)
            obtain ⟨rfl, rfl⟩ := hq
            refine n_if_eq (tgt := 111) hx hb dX0_refresh_96 (by decide) (pick_lt (by decide) (by decide)) (fun c_96 => ?_) (fun c_96 => ?_)
            · refine lv_iconst (v := nI 0) hx hb dX0_refresh_111 (by decide) ?_
              refine n_top (y := (nI (dsA sz nx an 1 k))) (congrArg nI ((ds_one sz nx an (k / 12) (k % 12)).trans (pick_f (fun z => by first | exact hdf z.1 | exact pick_0 c_104 z.2.2 | exact pick_0 c_96 z.2.1))).symm) ?_
              refine xs3 S hX dX0_refresh_112 (by omega) (fun H locs hX => ?_)
              refine lv_iinc (v := (nI (k + 1))) (lv' := [(1, .int (nI (k + 1))), (4, .int (nI 1)), (3, .int (nI (k % 12))), (2, .int (nI (k / 12))), (0, .ref h)]) hx hb dX0_refresh_113 hl (k := 4) rfl (nI_1 _) (by decide) rfl (fun ls hl => ?_)
              refine lv_goto (tgt := 15) hx hb dX0_refresh_116 (by decide) ?_
              rw [mix_put] at hX
              exact ih (k + 1) (by omega) (by omega) _ _ _ hX (lv_sub hl [4, 0] rfl)
            · refine lv_aload_n hx hb dX0_refresh_99 rfl (lv_at hl 3 rfl) ?_
              refine lv_iload_n hx hb dX0_refresh_100 rfl (lv_at hl 1 rfl) ?_
              refine callXi S hA hX (mX_isThereP l sz nx an ((mix (dsA sz nx an 1) ap k)) cn ld qu wo co 1 (k % 12) (by omega) hZ) (cwV 1 S.2.2.2.2 (lw_V q110 q112 qs3 q18 q113) rfl rfl rfl (by decide +kernel) ⟨Nat.le_of_ble_eq_true rfl, Nat.le_of_ble_eq_true rfl⟩) rfl hl.1 rfl (Nat.le_of_ble_eq_true rfl) dX0_refresh_101 ⟨Nat.zero_le _, Nat.zero_le _⟩ (fun r u1 H locs hq hX => ?_)
              obtain ⟨rfl, rfl⟩ := hq
              refine n_if_eq (tgt := 111) hx hb dX0_refresh_104 (by decide) (pick_lt (by decide) (by decide)) (fun c_104 => ?_) (fun c_104 => ?_)
              · refine lv_iconst (v := nI 0) hx hb dX0_refresh_111 (by decide) ?_
                refine n_top (y := (nI (dsA sz nx an 1 k))) (congrArg nI ((ds_one sz nx an (k / 12) (k % 12)).trans (pick_f (fun z => by first | exact hdf z.1 | exact pick_0 c_104 z.2.2 | exact pick_0 c_96 z.2.1))).symm) ?_
                refine xs3 S hX dX0_refresh_112 (by omega) (fun H locs hX => ?_)
                refine lv_iinc (v := (nI (k + 1))) (lv' := [(1, .int (nI (k + 1))), (4, .int (nI 1)), (3, .int (nI (k % 12))), (2, .int (nI (k / 12))), (0, .ref h)]) hx hb dX0_refresh_113 hl (k := 4) rfl (nI_1 _) (by decide) rfl (fun ls hl => ?_)
                refine lv_goto (tgt := 15) hx hb dX0_refresh_116 (by decide) ?_
                rw [mix_put] at hX
                exact ih (k + 1) (by omega) (by omega) _ _ _ hX (lv_sub hl [4, 0] rfl)
              · refine lv_iconst (v := nI 1) hx hb dX0_refresh_107 (by decide) ?_
                refine lv_goto (tgt := 112) hx hb dX0_refresh_108 (by decide) ?_
                refine n_top (y := (nI (dsA sz nx an 1 k))) (congrArg nI ((ds_one sz nx an (k / 12) (k % 12)).trans (pick_t ⟨hdf, pick_1 c_96, pick_1 c_104⟩)).symm) ?_
                refine xs3 S hX dX0_refresh_112 (by omega) (fun H locs hX => ?_)
                refine lv_iinc (v := (nI (k + 1))) (lv' := [(1, .int (nI (k + 1))), (4, .int (nI 1)), (3, .int (nI (k % 12))), (2, .int (nI (k / 12))), (0, .ref h)]) hx hb dX0_refresh_113 hl (k := 4) rfl (nI_1 _) (by decide) rfl (fun ls hl => ?_)
                refine lv_goto (tgt := 15) hx hb dX0_refresh_116 (by decide) ?_
                rw [mix_put] at hX
                exact ih (k + 1) (by omega) (by omega) _ _ _ hX (lv_sub hl [4, 0] rfl)
          · refine lv_aload_n hx hb dX0_refresh_51 rfl (lv_at hl 2 rfl) ?_
            refine xg2 S hX dX0_refresh_52 ?_
            refine lv_iconst (v := nI 2) hx hb dX0_refresh_55 (by decide) ?_
            refine lv_iload_n hx hb dX0_refresh_56 rfl (lv_at hl 1 rfl) ?_
            refine n_imul hx hb dX0_refresh_57 ?_
            refine lv_iconst (v := nI 1) hx hb dX0_refresh_58 (by decide) ?_
            refine n_iadd hx hb dX0_refresh_59 ?_
            refine xl2 S hX dX0_refresh_60 (by omega) ?_
            have b_60 := hA4 (2 * (k / 12) + 1)
            refine lv_aload_n hx hb dX0_refresh_61 rfl (lv_at hl 2 rfl) ?_
            refine xg2 S hX dX0_refresh_62 ?_
            refine lv_iconst (v := nI 2) hx hb dX0_refresh_65 (by decide) ?_
            refine lv_iload_n hx hb dX0_refresh_66 rfl (lv_at hl 0 rfl) ?_
            refine n_imul hx hb dX0_refresh_67 ?_
            refine lv_iconst (v := nI 1) hx hb dX0_refresh_68 (by decide) ?_
            refine n_iadd hx hb dX0_refresh_69 ?_
            refine xl2 S hX dX0_refresh_70 (by omega) ?_
            have b_70 := hA4 (2 * (k % 12) + 1)
            refine n_icmp_eq (tgt := 78) hx hb dX0_refresh_71 (by decide) (by omega) (by omega) (fun c_71 => ?_) (fun c_71 => ?_)
            · refine lv_iconst (v := nI 0) hx hb dX0_refresh_78 (by decide) ?_
              have hdf : ¬ dif an (k / 12) (k % 12) := fun z => z.elim (fun q => q c_48) (fun q => q c_71)
              refine lv_istore (lv' := [(4, .int (nI 0)), (3, .int (nI (k % 12))), (2, .int (nI (k / 12))), (0, .ref h), (1, .int (nI k))]) hx hb dX0_refresh_79 hl (by decide) rfl (fun ls hl => ?_)
              refine lv_aload_n hx hb dX0_refresh_81 rfl (lv_at hl 3 rfl) ?_
              refine xg3 S hX dX0_refresh_82 ?_
              refine lv_iload_n hx hb dX0_refresh_85 rfl (lv_at hl 4 rfl) ?_
              refine lv_iload hx hb dX0_refresh_86 (lv_at hl 0 rfl) ?_
              refine n_if_eq (tgt := 111) hx hb dX0_refresh_88 (by decide) (by decide) (fun _ => ?_) (fun q => absurd q (by decide))
              refine lv_iconst (v := nI 0) hx hb dX0_refresh_111 (by decide) ?_
              refine n_top (y := (nI (dsA sz nx an 1 k))) (congrArg nI ((ds_one sz nx an (k / 12) (k % 12)).trans (pick_f (fun z => by first | exact hdf z.1 | exact pick_0 c_104 z.2.2 | exact pick_0 c_96 z.2.1))).symm) ?_
              refine xs3 S hX dX0_refresh_112 (by omega) (fun H locs hX => ?_)
              refine lv_iinc (v := (nI (k + 1))) (lv' := [(1, .int (nI (k + 1))), (4, .int (nI 0)), (3, .int (nI (k % 12))), (2, .int (nI (k / 12))), (0, .ref h)]) hx hb dX0_refresh_113 hl (k := 4) rfl (nI_1 _) (by decide) rfl (fun ls hl => ?_)
              refine lv_goto (tgt := 15) hx hb dX0_refresh_116 (by decide) ?_
              rw [mix_put] at hX
              exact ih (k + 1) (by omega) (by omega) _ _ _ hX (lv_sub hl [4, 0] rfl)
            · refine lv_iconst (v := nI 1) hx hb dX0_refresh_74 (by decide) ?_
              refine lv_goto (tgt := 79) hx hb dX0_refresh_75 (by decide) ?_
              have hdf : dif an (k / 12) (k % 12) := by first | exact Or.inr c_71 | exact Or.inl c_48
              refine lv_istore (lv' := [(4, .int (nI 1)), (3, .int (nI (k % 12))), (2, .int (nI (k / 12))), (0, .ref h), (1, .int (nI k))]) hx hb dX0_refresh_79 hl (by decide) rfl (fun ls hl => ?_)
              refine lv_aload_n hx hb dX0_refresh_81 rfl (lv_at hl 3 rfl) ?_
              refine xg3 S hX dX0_refresh_82 ?_
              refine lv_iload_n hx hb dX0_refresh_85 rfl (lv_at hl 4 rfl) ?_
              refine lv_iload hx hb dX0_refresh_86 (lv_at hl 0 rfl) ?_
              refine n_if_eq (tgt := 111) hx hb dX0_refresh_88 (by decide) (by decide) (fun q => absurd q (by decide)) (fun _ => ?_)
              refine lv_aload_n hx hb dX0_refresh_91 rfl (lv_at hl 3 rfl) ?_
              refine lv_iload_n hx hb dX0_refresh_92 rfl (lv_at hl 2 rfl) ?_
              refine callXi S hA hX (mX_isThereP l sz nx an ((mix (dsA sz nx an 1) ap k)) cn ld qu wo co 1 (k / 12) (by omega) hZ) (cwV 1 S.2.2.2.2 (lw_V q110 q112 qs3 q18 q113) rfl rfl rfl (by decide +kernel) ⟨Nat.le_of_ble_eq_true rfl, Nat.le_of_ble_eq_true rfl⟩) rfl hl.1 rfl (Nat.le_of_ble_eq_true rfl) dX0_refresh_93 ⟨Nat.zero_le _, Nat.zero_le _⟩ (fun r u1 H locs hq hX => ?_)
              obtain ⟨rfl, rfl⟩ := hq
              refine n_if_eq (tgt := 111) hx hb dX0_refresh_96 (by decide) (pick_lt (by decide) (by decide)) (fun c_96 => ?_) (fun c_96 => ?_)
              · refine lv_iconst (v := nI 0) hx hb dX0_refresh_111 (by decide) ?_
                refine n_top (y := (nI (dsA sz nx an 1 k))) (congrArg nI ((ds_one sz nx an (k / 12) (k % 12)).trans (pick_f (fun z => by first | exact hdf z.1 | exact pick_0 c_104 z.2.2 | exact pick_0 c_96 z.2.1))).symm) ?_
                refine xs3 S hX dX0_refresh_112 (by omega) (fun H locs hX => ?_)
                refine lv_iinc (v := (nI (k + 1))) (lv' := [(1, .int (nI (k + 1))), (4, .int (nI 1)), (3, .int (nI (k % 12))), (2, .int (nI (k / 12))), (0, .ref h)]) hx hb dX0_refresh_113 hl (k := 4) rfl (nI_1 _) (by decide) rfl (fun ls hl => ?_)
                refine lv_goto (tgt := 15) hx hb dX0_refresh_116 (by decide) ?_
                rw [mix_put] at hX
                exact ih (k + 1) (by omega) (by omega) _ _ _ hX (lv_sub hl [4, 0] rfl)
              · refine lv_aload_n hx hb dX0_refresh_99 rfl (lv_at hl 3 rfl) ?_
                refine lv_iload_n hx hb dX0_refresh_100 rfl (lv_at hl 1 rfl) ?_
                refine callXi S hA hX (mX_isThereP l sz nx an ((mix (dsA sz nx an 1) ap k)) cn ld qu wo co 1 (k % 12) (by omega) hZ) (cwV 1 S.2.2.2.2 (lw_V q110 q112 qs3 q18 q113) rfl rfl rfl (by decide +kernel) ⟨Nat.le_of_ble_eq_true rfl, Nat.le_of_ble_eq_true rfl⟩) rfl hl.1 rfl (Nat.le_of_ble_eq_true rfl) dX0_refresh_101 ⟨Nat.zero_le _, Nat.zero_le _⟩ (fun r u1 H locs hq hX => ?_)
                obtain ⟨rfl, rfl⟩ := hq
                refine n_if_eq (tgt := 111) hx hb dX0_refresh_104 (by decide) (pick_lt (by decide) (by decide)) (fun c_104 => ?_) (fun c_104 => ?_)
                · refine lv_iconst (v := nI 0) hx hb dX0_refresh_111 (by decide) ?_
                  refine n_top (y := (nI (dsA sz nx an 1 k))) (congrArg nI ((ds_one sz nx an (k / 12) (k % 12)).trans (pick_f (fun z => by first | exact hdf z.1 | exact pick_0 c_104 z.2.2 | exact pick_0 c_96 z.2.1))).symm) ?_
                  refine xs3 S hX dX0_refresh_112 (by omega) (fun H locs hX => ?_)
                  refine lv_iinc (v := (nI (k + 1))) (lv' := [(1, .int (nI (k + 1))), (4, .int (nI 1)), (3, .int (nI (k % 12))), (2, .int (nI (k / 12))), (0, .ref h)]) hx hb dX0_refresh_113 hl (k := 4) rfl (nI_1 _) (by decide) rfl (fun ls hl => ?_)
                  refine lv_goto (tgt := 15) hx hb dX0_refresh_116 (by decide) ?_
                  rw [mix_put] at hX
                  exact ih (k + 1) (by omega) (by omega) _ _ _ hX (lv_sub hl [4, 0] rfl)
                · refine lv_iconst (v := nI 1) hx hb dX0_refresh_107 (by decide) ?_
                  refine lv_goto (tgt := 112) hx hb dX0_refresh_108 (by decide) ?_
                  refine n_top (y := (nI (dsA sz nx an 1 k))) (congrArg nI ((ds_one sz nx an (k / 12) (k % 12)).trans (pick_t ⟨hdf, pick_1 c_96, pick_1 c_104⟩)).symm) ?_
                  refine xs3 S hX dX0_refresh_112 (by omega) (fun H locs hX => ?_)
                  refine lv_iinc (v := (nI (k + 1))) (lv' := [(1, .int (nI (k + 1))), (4, .int (nI 1)), (3, .int (nI (k % 12))), (2, .int (nI (k / 12))), (0, .ref h)]) hx hb dX0_refresh_113 hl (k := 4) rfl (nI_1 _) (by decide) rfl (fun ls hl => ?_)
                  refine lv_goto (tgt := 15) hx hb dX0_refresh_116 (by decide) ?_
                  rw [mix_put] at hX
                  exact ih (k + 1) (by omega) (by omega) _ _ _ hX (lv_sub hl [4, 0] rfl)
    rw [← mix_0 (dsA sz nx an 1) ap] at hX
    exact lp _ 0 (by omega) (Nat.lt_succ_self _) _ _ _ hX (lv_sub hl [1, 0] rfl)
  · exact ret _ _ _ _ _ dX0_refresh_7 (⟨ap, by rw [show cu = 1 by rcases hI.2 with z | z; exact absurd z c_4; exact z.1], by rcases hI.2 with z | z; exact absurd z c_4; exact z.2⟩) hX
end
section
set_option maxRecDepth 100000
/-! plain theory: words, equivalence by words of at most n letters, the number of letters of a shortest difference -/
def gp (nx : Nat → Nat) (p : Nat) (c : Nat) : Nat := if c < 2 then p else af nx (gp nx p (c / 2)) (c % 2)
termination_by c
decreasing_by omega
theorem gp_lo {nx : Nat → Nat} {p c : Nat} (h : c < 2) : gp nx p c = p := by
  rw [gp, if_pos h]
theorem gp_hi {nx : Nat → Nat} {p c : Nat} (h : 2 ≤ c) : gp nx p c = af nx (gp nx p (c / 2)) (c % 2) := by
  rw [gp, if_neg (by omega)]
def tp (nx an : Nat → Nat) (p : Nat) (c : Nat) : Nat := if c < 2 then 0 else 4 * tp nx an p (c / 2) + an (2 * gp nx p (c / 2) + c % 2)
termination_by c
decreasing_by omega
theorem tp_lo {nx an : Nat → Nat} {p c : Nat} (h : c < 2) : tp nx an p c = 0 := by
  rw [tp, if_pos h]
theorem tp_hi {nx an : Nat → Nat} {p c : Nat} (h : 2 ≤ c) : tp nx an p c = 4 * tp nx an p (c / 2) + an (2 * gp nx p (c / 2) + c % 2) := by
  rw [tp, if_neg (by omega)]
theorem gp_gl {nx : Nat → Nat} (hN : ∀ k, nx k < 6) {m s : Nat} (hs : s < 6) : ∀ c, gp nx (6 * m + s) c = 6 * m + gl nx m s c ∧ gl nx m s c < 6 := by
  intro c
  induction c using Nat.strongRecOn with
  | ind c ih =>
    by_cases h : c < 2
    · rw [gp_lo h, gl_lo h]; exact ⟨rfl, hs⟩
    · obtain ⟨h1, h2⟩ := ih (c / 2) (by omega)
      rw [gp_hi (by omega), gl_hi (by omega), h1]
      unfold af
      rw [af_at h2]
      exact ⟨rfl, hN _⟩
theorem tp_tl {nx an : Nat → Nat} (hN : ∀ k, nx k < 6) {m s : Nat} (hs : s < 6) : ∀ c, tp nx an (6 * m + s) c = tl nx an m s c := by
  intro c
  induction c using Nat.strongRecOn with
  | ind c ih =>
    by_cases h : c < 2
    · rw [tp_lo h, tl_lo h]
    · rw [tp_hi (by omega), tl_hi (by omega), ih (c / 2) (by omega), (gp_gl hN hs (c / 2)).1, an_at (an := an)]
/-- the front: a word's first letter -/
theorem front {nx an : Nat → Nat} {p a : Nat} (ha : a < 2) : ∀ n r, r < 2 ^ n → gp nx p (2 ^ (n + 1) + a * 2 ^ n + r) = gp nx (af nx p a) (2 ^ n + r) ∧ tp nx an p (2 ^ (n + 1) + a * 2 ^ n + r) = an (2 * p + a) * 4 ^ n + tp nx an (af nx p a) (2 ^ n + r) := by
  intro n
  induction n with
  | zero =>
    intro r hr
    have e : r = 0 := by omega
    subst e
    rw [gp_hi (by omega), tp_hi (by omega), gp_lo (c := 2 ^ 0 + 0) (by omega), tp_lo (c := 2 ^ 0 + 0) (by omega)]
    rw [show (2 ^ (0 + 1) + a * 2 ^ 0 + 0) / 2 = 1 by omega, show (2 ^ (0 + 1) + a * 2 ^ 0 + 0) % 2 = a by omega, gp_lo (c := 1) (by omega), tp_lo (c := 1) (by omega)]
    exact ⟨rfl, by omega⟩
  | succ n ih =>
    intro r hr
    have hp : 2 ^ (n + 1) = 2 * 2 ^ n := by rw [Nat.pow_succ]; omega
    have hp2 : 2 ^ (n + 1 + 1) = 4 * 2 ^ n := by rw [Nat.pow_succ, hp]; omega
    have hpos : 0 < 2 ^ n := Nat.two_pow_pos n
    have ha2 : a * 2 ^ (n + 1) = 2 * (a * 2 ^ n) := by rw [hp, Nat.mul_left_comm]
    obtain ⟨h1, h2⟩ := ih (r / 2) (by omega)
    have e1 : (2 ^ (n + 1 + 1) + a * 2 ^ (n + 1) + r) / 2 = 2 ^ (n + 1) + a * 2 ^ n + r / 2 := by rw [ha2]; omega
    have e2 : (2 ^ (n + 1 + 1) + a * 2 ^ (n + 1) + r) % 2 = r % 2 := by rw [ha2]; omega
    have e3 : (2 ^ (n + 1) + r) / 2 = 2 ^ n + r / 2 := by omega
    have e4 : (2 ^ (n + 1) + r) % 2 = r % 2 := by omega
    rw [gp_hi (by omega), tp_hi (by omega), gp_hi (c := 2 ^ (n + 1) + r) (by omega), tp_hi (c := 2 ^ (n + 1) + r) (by omega), e1, e2, e3, e4, h1, h2]
    refine ⟨rfl, ?_⟩
    rw [Nat.pow_succ 4 n, ← Nat.mul_assoc]
    omega
/-- a code is a power of two and a rest -/
theorem code_split {c : Nat} (h : 1 ≤ c) : ∃ n r, r < 2 ^ n ∧ c = 2 ^ n + r := by
  induction c using Nat.strongRecOn with
  | ind c ih =>
    by_cases h2 : c < 2
    · exact ⟨0, 0, by decide, by omega⟩
    · obtain ⟨n, r, h3, h4⟩ := ih (c / 2) (by omega) (by omega)
      refine ⟨n + 1, 2 * r + c % 2, ?_, ?_⟩
      · rw [Nat.pow_succ]; omega
      · rw [Nat.pow_succ]; omega
/-- a code of a letter at least: its first letter and the rest -/
theorem code_front {c : Nat} (h : 2 ≤ c) : ∃ n a r, a < 2 ∧ r < 2 ^ n ∧ c = 2 ^ (n + 1) + a * 2 ^ n + r := by
  obtain ⟨n, r, h3, h4⟩ := code_split (c := c) (by omega)
  cases n with
  | zero => exfalso; have : r = 0 := by omega
            subst this; omega
  | succ n =>
    rw [Nat.pow_succ] at h3
    rcases Nat.lt_or_ge r (2 ^ n) with q | q
    · exact ⟨n, 0, r, by omega, q, by omega⟩
    · exact ⟨n, 1, r - 2 ^ n, by omega, by omega, by omega⟩
/-- alike by all words of at most n letters -/
def Eq_ (nx an : Nat → Nat) (n p q : Nat) : Prop := ∀ c, 1 ≤ c → c < 2 ^ (n + 1) → tp nx an p c = tp nx an q c
theorem Eq_rfl {nx an : Nat → Nat} {n p : Nat} : Eq_ nx an n p p := fun _ _ _ => rfl
theorem Eq_symm {nx an : Nat → Nat} {n p q : Nat} (h : Eq_ nx an n p q) : Eq_ nx an n q p := fun c h1 h2 => (h c h1 h2).symm
theorem Eq_trans {nx an : Nat → Nat} {n p q r : Nat} (h : Eq_ nx an n p q) (h' : Eq_ nx an n q r) : Eq_ nx an n p r := fun c h1 h2 => (h c h1 h2).trans (h' c h1 h2)
theorem Eq_mono {nx an : Nat → Nat} {n k p q : Nat} (h : Eq_ nx an n p q) (hk : k ≤ n) : Eq_ nx an k p q := fun c h1 h2 => h c h1 (Nat.lt_of_lt_of_le h2 (Nat.pow_le_pow_right (by decide) (by omega)))
theorem Eq_zero (nx an : Nat → Nat) (p q : Nat) : Eq_ nx an 0 p q := by
  intro c h1 h2
  rw [tp_lo (by omega), tp_lo (by omega)]
theorem front_lt {n k a r : Nat} (hk : k ≤ n) (ha : a < 2) (hr : r < 2 ^ k) : 2 ^ (k + 1) + a * 2 ^ k + r < 2 ^ (n + 1 + 1) := by
  have h1 : 2 ^ (k + 1 + 1) ≤ 2 ^ (n + 1 + 1) := Nat.pow_le_pow_right (by decide) (by omega)
  have h2 : 2 ^ (k + 1 + 1) = 4 * 2 ^ k := by rw [Nat.pow_succ, Nat.pow_succ]; omega
  have h3 : 2 ^ (k + 1) = 2 * 2 ^ k := by rw [Nat.pow_succ]; omega
  have h4 : a * 2 ^ k ≤ 1 * 2 ^ k := Nat.mul_le_mul (by omega) (Nat.le_refl _)
  omega
theorem Eq_succ (nx an : Nat → Nat) (n p q : Nat) : Eq_ nx an (n + 1) p q ↔ (∀ a, a < 2 → an (2 * p + a) = an (2 * q + a)) ∧ ∀ a, a < 2 → Eq_ nx an n (af nx p a) (af nx q a) := by
  constructor
  · intro h
    have ho : ∀ a, a < 2 → an (2 * p + a) = an (2 * q + a) := by
      intro a ha
      have h1 := h (2 ^ (0 + 1) + a * 2 ^ 0 + 0) (by omega) (front_lt (Nat.zero_le n) ha (by decide))
      rw [(front (nx := nx) (an := an) (p := p) ha 0 0 (by decide)).2, (front (nx := nx) (an := an) (p := q) ha 0 0 (by decide)).2, tp_lo (by decide), tp_lo (by decide)] at h1
      omega
    refine ⟨ho, fun a ha c h1 h2 => ?_⟩
    obtain ⟨k, r, h3, h4⟩ := code_split h1
    subst h4
    have hk : k ≤ n := by
      have : 2 ^ k < 2 ^ (n + 1) := by omega
      have := (Nat.pow_lt_pow_iff_right (a := 2) (by decide)).mp this
      omega
    have h5 := h (2 ^ (k + 1) + a * 2 ^ k + r) (by have := Nat.two_pow_pos (k + 1); omega) (front_lt hk ha h3)
    rw [(front ha k r h3).2, (front ha k r h3).2, ho a ha] at h5
    omega
  · rintro ⟨ho, hs⟩ c h1 h2
    by_cases h3 : c < 2
    · rw [tp_lo h3, tp_lo h3]
    · obtain ⟨k, a, r, ha, hr, hc⟩ := code_front (c := c) (by omega)
      have hk : k ≤ n := by
        have h4 : 2 ^ (k + 1) < 2 ^ (n + 1 + 1) := by omega
        have := (Nat.pow_lt_pow_iff_right (a := 2) (by decide)).mp h4
        omega
      rw [hc, (front ha k r hr).2, (front ha k r hr).2, ho a ha]
      have h5 := hs a ha (2 ^ k + r) (by have := Nat.two_pow_pos k; omega) (by
        have h6 : 2 ^ (k + 1) ≤ 2 ^ (n + 1) := Nat.pow_le_pow_right (by decide) (by omega)
        rw [Nat.pow_succ] at h6
        omega)
      rw [h5]
theorem dif_iff {an : Nat → Nat} {p q : Nat} : ¬ dif an p q ↔ ∀ a, a < 2 → an (2 * p + a) = an (2 * q + a) := by
  constructor
  · intro h a ha
    rcases (show a = 0 ∨ a = 1 by omega) with z | z
    · subst z; exact Classical.byContradiction fun z => h (Or.inl z)
    · subst z; exact Classical.byContradiction fun z => h (Or.inr z)
  · intro h z
    exact z.elim (fun q => q (h 0 (by decide))) (fun q => q (h 1 (by decide)))
theorem th_af {sz nx an : Nat → Nat} (hw : wf sz nx an) {p a : Nat} (hp : p < 12) (ht : th sz p) (ha : a < 2) : th sz (af nx p a) ∧ af nx p a < 12 ∧ af nx p a / 6 = p / 6 := by
  have h1 := hw.2.2.1 (p / 6) (p % 6) a (by omega) ht ha
  have h2 := hw.2.2.2.1 (2 * p + a)
  have h3 : 12 * (p / 6) + 2 * (p % 6) + a = 2 * p + a := by omega
  rw [h3] at h1
  unfold th af
  rw [show (6 * (p / 6) + nx (2 * p + a)) % 6 = nx (2 * p + a) by omega, show (6 * (p / 6) + nx (2 * p + a)) / 6 = p / 6 by omega]
  exact ⟨h1, by omega, rfl⟩
/-- what the table holds after the round of L letters -/
theorem ds_is {sz nx an : Nat → Nat} (hw : wf sz nx an) : ∀ L, 1 ≤ L → ∀ p q, p < 12 → q < 12 → th sz p → th sz q → (ds sz nx an L p q = 0 ∧ Eq_ nx an L p q) ∨ (1 ≤ ds sz nx an L p q ∧ ds sz nx an L p q ≤ L ∧ Eq_ nx an (ds sz nx an L p q - 1) p q ∧ ¬ Eq_ nx an (ds sz nx an L p q) p q) := by
  intro L
  induction L with
  | zero => intro h; omega
  | succ L ih =>
    intro _ p q hp hq tp tq
    rcases Nat.eq_zero_or_pos L with z | z
    · subst z
      rw [ds_one]
      by_cases hd : dif an p q
      · rw [pick_t ⟨hd, tp, tq⟩]
        refine Or.inr ⟨Nat.le_refl _, Nat.le_refl _, Eq_zero nx an p q, fun h => ?_⟩
        exact absurd hd (dif_iff.mpr ((Eq_succ nx an 0 p q).mp h).1)
      · rw [pick_f (fun z => hd z.1)]
        exact Or.inl ⟨rfl, (Eq_succ nx an 0 p q).mpr ⟨dif_iff.mp hd, fun a _ => Eq_zero _ _ _ _⟩⟩
    · rw [ds_succ _ _ _ z]
      rcases ih z p q hp hq tp tq with ⟨h1, h2⟩ | ⟨h1, h2, h3, h4⟩
      · rw [pick_t ⟨h1, tp, tq⟩]
        obtain ⟨L', rfl⟩ : ∃ L', L = L' + 1 := ⟨L - 1, by omega⟩
        have h2' := (Eq_succ nx an L' p q).mp h2
        have key : ∀ a, a < 2 → (ds sz nx an (L' + 1) (af nx p a) (af nx q a) = L' + 1 ↔ ¬ Eq_ nx an (L' + 1) (af nx p a) (af nx q a)) := by
          intro a ha
          obtain ⟨t1, t2, -⟩ := th_af hw hp tp ha
          obtain ⟨t3, t4, -⟩ := th_af hw hq tq ha
          rcases ih z _ _ t2 t4 t1 t3 with ⟨g1, g2⟩ | ⟨g1, g2, g3, g4⟩
          · rw [g1]
            exact ⟨fun e => by omega, fun e => absurd g2 e⟩
          · constructor
            · intro e; rw [e] at g4; exact g4
            · intro e
              rcases Nat.lt_or_ge (ds sz nx an (L' + 1) (af nx p a) (af nx q a)) (L' + 1) with y | y
              · exact absurd (Eq_mono (h2'.2 a ha) (by omega)) g4
              · omega
        by_cases hc : ds sz nx an (L' + 1) (af nx p 0) (af nx q 0) = L' + 1 ∨ ds sz nx an (L' + 1) (af nx p 1) (af nx q 1) = L' + 1
        · rw [pick_t hc]
          refine Or.inr ⟨by omega, Nat.le_refl _, by rw [Nat.add_sub_cancel]; exact h2, fun h => ?_⟩
          have h5 := ((Eq_succ nx an (L' + 1) p q).mp h).2
          rcases hc with e | e
          · exact (key 0 (by decide)).mp e (h5 0 (by decide))
          · exact (key 1 (by decide)).mp e (h5 1 (by decide))
        · rw [pick_f hc]
          refine Or.inl ⟨rfl, (Eq_succ nx an (L' + 1) p q).mpr ⟨h2'.1, fun a ha => ?_⟩⟩
          refine Classical.byContradiction fun e => hc ?_
          rcases (show a = 0 ∨ a = 1 by omega) with y | y
          · subst y; exact Or.inl ((key 0 (by decide)).mpr e)
          · subst y; exact Or.inr ((key 1 (by decide)).mpr e)
      · rw [pick_f (fun y => by omega)]
        exact Or.inr ⟨h1, by omega, h3, h4⟩
theorem ds_0 {sz nx an : Nat → Nat} (hw : wf sz nx an) {L p q : Nat} (hL : 1 ≤ L) (hp : p < 12) (hq : q < 12) (t1 : th sz p) (t2 : th sz q) : ds sz nx an L p q = 0 ↔ Eq_ nx an L p q := by
  rcases ds_is hw L hL p q hp hq t1 t2 with ⟨h1, h2⟩ | ⟨h1, h2, h3, h4⟩
  · exact ⟨fun _ => h2, fun _ => h1⟩
  · exact ⟨fun e => by omega, fun e => absurd (Eq_mono e h2) h4⟩
theorem ds_d {sz nx an : Nat → Nat} (hw : wf sz nx an) {L p q d : Nat} (hd : 1 ≤ d) (hdL : d ≤ L) (hp : p < 12) (hq : q < 12) (t1 : th sz p) (t2 : th sz q) : ds sz nx an L p q = d ↔ Eq_ nx an (d - 1) p q ∧ ¬ Eq_ nx an d p q := by
  rcases ds_is hw L (by omega) p q hp hq t1 t2 with ⟨h1, h2⟩ | ⟨h1, h2, h3, h4⟩
  · exact ⟨fun e => by omega, fun e => absurd (Eq_mono h2 hdL) e.2⟩
  · constructor
    · intro e; rw [e] at h3 h4; exact ⟨h3, h4⟩
    · intro e
      rcases Nat.lt_or_ge (ds sz nx an L p q) d with y | y
      · exact absurd (Eq_mono e.1 (by omega)) h4
      · rcases Nat.lt_or_ge d (ds sz nx an L p q) with y2 | y2
        · exact absurd (Eq_mono h3 (by omega)) e.2
        · omega
/-! counting -/
noncomputable def cnt (P : Nat → Prop) : Nat → Nat
  | 0 => 0
  | n + 1 => cnt P n + pick (P n) 1 0
theorem cnt_t {P : Nat → Prop} {n : Nat} (h : P n) : cnt P (n + 1) = cnt P n + 1 := by
  show cnt P n + pick (P n) 1 0 = _
  rw [pick_t h]
theorem cnt_f {P : Nat → Prop} {n : Nat} (h : ¬ P n) : cnt P (n + 1) = cnt P n := by
  show cnt P n + pick (P n) 1 0 = _
  rw [pick_f h]; rfl
theorem cnt_sub {P Q : Nat → Prop} : ∀ {n : Nat}, (∀ k, k < n → P k → Q k) → cnt P n ≤ cnt Q n := by
  intro n
  induction n with
  | zero => intro _; exact Nat.le_refl _
  | succ n ih =>
    intro h
    have h1 := ih (fun k hk => h k (by omega))
    by_cases hp : P n
    · rw [cnt_t hp, cnt_t (h n (by omega) hp)]; omega
    · rw [cnt_f hp]
      by_cases hq : Q n
      · rw [cnt_t hq]; omega
      · rw [cnt_f hq]; exact h1
theorem cnt_back {P Q : Nat → Prop} : ∀ {n : Nat}, (∀ k, k < n → P k → Q k) → cnt Q n ≤ cnt P n → ∀ k, k < n → Q k → P k := by
  intro n
  induction n with
  | zero => intro _ _ k hk; omega
  | succ n ih =>
    intro h he k hk hq
    have h1 : cnt P n ≤ cnt Q n := cnt_sub (fun k hk => h k (by omega))
    by_cases hp : P n
    · rw [cnt_t hp, cnt_t (h n (by omega) hp)] at he
      rcases Nat.lt_or_ge k n with y | y
      · exact ih (fun k hk => h k (by omega)) (by omega) k y hq
      · have e : k = n := by omega
        subst e; exact hp
    · rw [cnt_f hp] at he
      have hq' : ¬ Q n := fun z => by rw [cnt_t z] at he; omega
      rw [cnt_f hq'] at he
      rcases Nat.lt_or_ge k n with y | y
      · exact ih (fun k hk => h k (by omega)) he k y hq
      · have e : k = n := by omega
        subst e; exact absurd hq hq'
theorem cnt_le (P : Nat → Prop) (n : Nat) : cnt P n ≤ n := by
  induction n with
  | zero => exact Nat.le_refl _
  | succ n ih =>
    by_cases h : P n
    · rw [cnt_t h]; omega
    · rw [cnt_f h]; omega
theorem cnt_pos {P : Nat → Prop} {n k : Nat} (hk : k < n) (h : P k) : 1 ≤ cnt P n := by
  induction n with
  | zero => omega
  | succ n ih =>
    by_cases hp : P n
    · rw [cnt_t hp]; omega
    · rw [cnt_f hp]
      refine ih ?_
      rcases Nat.lt_or_ge k n with y | y
      · exact y
      · have e : k = n := by omega
        subst e; exact absurd h hp
theorem cnt_split (P : Nat → Prop) (m : Nat) : ∀ n, cnt P (m + n) = cnt P m + cnt (fun j => P (m + j)) n := by
  intro n
  induction n with
  | zero => rfl
  | succ n ih =>
    show cnt P (m + n) + pick (P (m + n)) 1 0 = cnt P m + (cnt (fun j => P (m + j)) n + pick (P (m + n)) 1 0)
    rw [ih]; omega
theorem cnt_ltn {P : Nat → Prop} {s : Nat} (h : ∀ j, P j → j < s) : ∀ n, cnt P n ≤ s := by
  intro n
  have : cnt P n ≤ n ∧ (cnt P n ≤ s) := by
    induction n with
    | zero => exact ⟨Nat.le_refl _, Nat.zero_le _⟩
    | succ n ih =>
      refine ⟨cnt_le P _, ?_⟩
      by_cases hp : P n
      · have := h n hp
        rw [cnt_t hp]; omega
      · rw [cnt_f hp]; exact ih.2
  exact this.2
theorem cnt_none {P : Nat → Prop} {n : Nat} (h : ∀ j, j < n → ¬ P j) : cnt P n = 0 := by
  induction n with
  | zero => rfl
  | succ n ih => rw [cnt_f (h n (by omega)), ih (fun j hj => h j (by omega))]
/-! words of fewer letters than there are states tell all -/
def rep (nx an : Nat → Nat) (T : Nat → Prop) (k p : Nat) : Prop := T p ∧ ∀ r, r < p → T r → ¬ Eq_ nx an k r p
theorem rep_of {nx an : Nat → Nat} {T : Nat → Prop} {k : Nat} : ∀ p, T p → ∃ r, r ≤ p ∧ rep nx an T k r ∧ Eq_ nx an k r p := by
  intro p
  induction p using Nat.strongRecOn with
  | ind p ih =>
    intro ht
    by_cases h : ∃ r, r < p ∧ T r ∧ Eq_ nx an k r p
    · obtain ⟨r, h1, h2, h3⟩ := h
      obtain ⟨r', g1, g2, g3⟩ := ih r h1 h2
      exact ⟨r', by omega, g2, Eq_trans g3 h3⟩
    · exact ⟨p, Nat.le_refl _, ⟨ht, fun r h1 h2 h3 => h ⟨r, h1, h2, h3⟩⟩, Eq_rfl⟩
theorem rep_one {nx an : Nat → Nat} {T : Nat → Prop} {k r r' : Nat} (h : rep nx an T k r) (h' : rep nx an T k r') (e : Eq_ nx an k r r') : r = r' := by
  rcases Nat.lt_or_ge r r' with y | y
  · exact absurd e (h'.2 r y h.1)
  · rcases Nat.lt_or_ge r' r with y2 | y2
    · exact absurd (Eq_symm e) (h.2 r' y2 h'.1)
    · omega
theorem stab {nx an : Nat → Nat} {T : Nat → Prop} {M N : Nat} (hM : ∀ p, T p → p < M) (hc : ∀ p a, T p → a < 2 → T (af nx p a)) (hN : cnt T M ≤ N) {p q : Nat} (tp : T p) (tq : T q) (h : Eq_ nx an (N - 1) p q) : ∀ k, Eq_ nx an k p q := by
  have grow : ∀ k, k + 1 ≤ cnt (rep nx an T k) M ∨ ∀ p q, T p → T q → Eq_ nx an k p q → ∀ j, Eq_ nx an j p q := by
    intro k
    induction k with
    | zero =>
      obtain ⟨r, -, h2, -⟩ := rep_of (nx := nx) (an := an) (k := 0) p tp
      exact Or.inl (cnt_pos (hM r h2.1) h2)
    | succ k ih =>
      rcases ih with ih | ih
      · have hsub : ∀ p, p < M → rep nx an T k p → rep nx an T (k + 1) p := fun p _ h => ⟨h.1, fun r h1 h2 h3 => h.2 r h1 h2 (Eq_mono h3 (Nat.le_succ k))⟩
        rcases Nat.lt_or_ge (cnt (rep nx an T k) M) (cnt (rep nx an T (k + 1)) M) with y | y
        · exact Or.inl (by omega)
        · right
          have hback := cnt_back hsub y
          have same : ∀ p q, T p → T q → Eq_ nx an k p q → Eq_ nx an (k + 1) p q := by
            intro p q tp tq e
            obtain ⟨r1, -, h2, h3⟩ := rep_of (nx := nx) (an := an) (k := k + 1) p tp
            obtain ⟨r2, -, g2, g3⟩ := rep_of (nx := nx) (an := an) (k := k + 1) q tq
            have e1 := rep_one (hback r1 (hM r1 h2.1) h2) (hback r2 (hM r2 g2.1) g2) (Eq_trans (Eq_mono h3 (Nat.le_succ k)) (Eq_trans e (Eq_symm (Eq_mono g3 (Nat.le_succ k)))))
            subst e1
            exact Eq_trans (Eq_symm h3) g3
          have up : ∀ j, ∀ p q, T p → T q → Eq_ nx an (k + 1) p q → Eq_ nx an (k + 1 + j) p q := by
            intro j
            induction j with
            | zero => intro p q _ _ h; exact h
            | succ j ihj =>
              intro p q tp tq h
              have h1 := (Eq_succ nx an k p q).mp h
              refine (Eq_succ nx an (k + 1 + j) p q).mpr ⟨h1.1, fun a ha => ?_⟩
              exact ihj _ _ (hc p a tp ha) (hc q a tq ha) (same _ _ (hc p a tp ha) (hc q a tq ha) (h1.2 a ha))
          intro p q tp tq h j
          exact Eq_mono (up j p q tp tq h) (by omega)
      · exact Or.inr (fun p q tp tq h => ih p q tp tq (Eq_mono h (Nat.le_succ k)))
  rcases grow (N - 1) with g | g
  · have hsub : ∀ p, p < M → rep nx an T (N - 1) p → T p := fun p _ h => h.1
    have hback := cnt_back hsub (by omega)
    rcases Nat.lt_or_ge p q with y | y
    · exact absurd h ((hback q (hM q tq) tq).2 p y tp)
    · rcases Nat.lt_or_ge q p with y2 | y2
      · exact absurd (Eq_symm h) ((hback p (hM p tp) tp).2 q y2 tq)
      · have e : p = q := by omega
        subst e
        exact fun k => Eq_rfl
  · exact g p q tp tq h
end
section
set_option maxRecDepth 100000
/-! the least code with a property; the first difference -/
noncomputable def lst (P : Nat → Prop) : Nat → Nat
  | 0 => 0
  | n + 1 => if lst P n = 0 then pick (P n ∧ 1 ≤ n) n 0 else lst P n
theorem lst_zero {P : Nat → Prop} : ∀ {n : Nat}, (∀ c, 1 ≤ c → c < n → ¬ P c) → lst P n = 0 := by
  intro n
  induction n with
  | zero => intro _; rfl
  | succ n ih =>
    intro h
    show (if lst P n = 0 then pick (P n ∧ 1 ≤ n) n 0 else lst P n) = 0
    rw [if_pos (ih (fun c h1 h2 => h c h1 (by omega)))]
    exact pick_f (fun z => h n z.2 (by omega) z.1)
theorem lst_is {P : Nat → Prop} {c : Nat} (h1 : 1 ≤ c) (hP : P c) (hm : ∀ j, 1 ≤ j → j < c → ¬ P j) : ∀ {n : Nat}, c < n → lst P n = c := by
  intro n
  induction n with
  | zero => intro h; omega
  | succ n ih =>
    intro h
    show (if lst P n = 0 then pick (P n ∧ 1 ≤ n) n 0 else lst P n) = c
    rcases Nat.lt_or_ge c n with y | y
    · rw [ih y, if_neg (by omega)]
    · have e : c = n := by omega
      subst e
      rw [if_pos (lst_zero hm)]
      exact pick_t ⟨hP, h1⟩
theorem lst_cases (P : Nat → Prop) (n : Nat) : (lst P n = 0 ∧ ∀ c, 1 ≤ c → c < n → ¬ P c) ∨ (1 ≤ lst P n ∧ lst P n < n ∧ P (lst P n) ∧ ∀ j, 1 ≤ j → j < lst P n → ¬ P j) := by
  by_cases h : ∃ c, c < n ∧ 1 ≤ c ∧ P c
  · obtain ⟨c, hc, hm⟩ := pk_least (fun c => c < n ∧ 1 ≤ c ∧ P c) h
    have e : lst P n = c := lst_is hc.2.1 hc.2.2 (fun j h1 h2 h3 => hm j h2 ⟨by omega, h1, h3⟩) hc.1
    rw [e]
    exact Or.inr ⟨hc.2.1, hc.1, hc.2.2, fun j h1 h2 h3 => hm j h2 ⟨by omega, h1, h3⟩⟩
  · have h2 : ∀ c, 1 ≤ c → c < n → ¬ P c := fun c h1 h2 h3 => h ⟨c, h2, h1, h3⟩
    exact Or.inl ⟨lst_zero h2, h2⟩
theorem lst_0 {P : Nat → Prop} {n : Nat} (h : lst P n = 0) : ∀ c, 1 ≤ c → c < n → ¬ P c := by
  rcases lst_cases P n with ⟨-, h2⟩ | ⟨h1, -⟩
  · exact h2
  · omega
/-- a smaller bound finds the same, when nothing stands beyond it alone -/
theorem lst_bound {P : Nat → Prop} {n k : Nat} (hnk : n ≤ k) (h : (∀ c, 1 ≤ c → c < n → ¬ P c) → ∀ c, 1 ≤ c → c < k → ¬ P c) : lst P n = lst P k := by
  rcases lst_cases P n with ⟨h1, h2⟩ | ⟨h1, h2, h3, h4⟩
  · rw [h1, lst_zero (h h2)]
  · exact (lst_is h1 h3 h4 (by omega)).symm
theorem lst_congr {P Q : Nat → Prop} {n : Nat} (h : ∀ c, 1 ≤ c → c < n → (P c ↔ Q c)) : lst P n = lst Q n := by
  rcases lst_cases P n with ⟨h1, h2⟩ | ⟨h1, h2, h3, h4⟩
  · rw [h1, lst_zero (fun c g1 g2 g3 => h2 c g1 g2 ((h c g1 g2).mpr g3))]
  · exact (lst_is h1 ((h _ h1 h2).mp h3) (fun j g1 g2 g3 => h4 j g1 g2 ((h j g1 (by omega)).mpr g3)) h2).symm
/-- two places told apart by the word c -/
def Df (nx an : Nat → Nat) (p q c : Nat) : Prop := ¬ tp nx an p c = tp nx an q c
/-- the first difference of two places: its code, 0 if there is none of at most 11 letters -/
noncomputable def fwd (nx an : Nat → Nat) (p q : Nat) : Nat := lst (Df nx an p q) 4096
theorem fwd_0 {nx an : Nat → Nat} {p q : Nat} : fwd nx an p q = 0 ↔ Eq_ nx an 11 p q := by
  constructor
  · intro h c h1 h2
    exact Classical.byContradiction (lst_0 h c h1 h2)
  · intro h
    exact lst_zero (fun c h1 h2 h3 => h3 (h c h1 h2))
theorem fwd_is {nx an : Nat → Nat} {p q c : Nat} (h1 : 1 ≤ c) (h2 : c < 4096) (hd : ¬ tp nx an p c = tp nx an q c) (hm : ∀ j, 1 ≤ j → j < c → tp nx an p j = tp nx an q j) : fwd nx an p q = c :=
  lst_is h1 hd (fun j g1 g2 g3 => g3 (hm j g1 g2)) h2
theorem ds_fwd {sz nx an : Nat → Nat} (hw : wf sz nx an) {p q : Nat} (hp : p < 12) (hq : q < 12) (t1 : th sz p) (t2 : th sz q) : ds sz nx an 11 p q = 0 ↔ fwd nx an p q = 0 := by
  rw [ds_0 hw (by decide) hp hq t1 t2, fwd_0]
/-- a difference of d letters and no shorter one: the first difference has d letters -/
theorem fwd_len {nx an : Nat → Nat} {p q d : Nat} (hd1 : 1 ≤ d) (hd : d ≤ 11) (h1 : Eq_ nx an (d - 1) p q) (h2 : ¬ Eq_ nx an d p q) : 2 ^ d ≤ fwd nx an p q ∧ fwd nx an p q < 2 ^ (d + 1) ∧ ¬ tp nx an p (fwd nx an p q) = tp nx an q (fwd nx an p q) ∧ ∀ j, 1 ≤ j → j < fwd nx an p q → tp nx an p j = tp nx an q j := by
  have h3 : ∃ c, 1 ≤ c ∧ c < 2 ^ (d + 1) ∧ Df nx an p q c := Classical.byContradiction fun z => h2 (fun c g1 g2 => Classical.byContradiction fun g3 => z ⟨c, g1, g2, g3⟩)
  obtain ⟨c, g1, g2, g3⟩ := h3
  have hb : 2 ^ (d + 1) ≤ 4096 := pow_le12 (by omega)
  rcases lst_cases (Df nx an p q) 4096 with ⟨k1, k2⟩ | ⟨k1, k2, k3, k4⟩
  · exact absurd g3 (k2 c g1 (by omega))
  · refine ⟨?_, ?_, k3, fun j e1 e2 => Classical.byContradiction (k4 j e1 e2)⟩
    · rcases Nat.lt_or_ge (fwd nx an p q) (2 ^ d) with y | y
      · rw [show d = d - 1 + 1 by omega] at y
        exact absurd (h1 _ k1 y) k3
      · exact y
    · rcases Nat.lt_or_ge (fwd nx an p q) (2 ^ (d + 1)) with y | y
      · exact y
      · exact absurd g3 (k4 c g1 (Nat.lt_of_lt_of_le g2 y))
/-- the first letter of the first difference -/
theorem fwd_step {nx an : Nat → Nat} {p q d x : Nat} (hd1 : 1 ≤ d) (hd : d + 1 ≤ 11) (hx : x < 2) (h1 : Eq_ nx an d p q) (h2 : Eq_ nx an (d - 1) (af nx p x) (af nx q x)) (h3 : ¬ Eq_ nx an d (af nx p x) (af nx q x)) (h0 : x = 1 → Eq_ nx an d (af nx p 0) (af nx q 0)) :
    fwd nx an p q = 2 ^ (d + 1) + x * 2 ^ d + (fwd nx an (af nx p x) (af nx q x) - 2 ^ d) := by
  obtain ⟨k1, k2, k3, k4⟩ := fwd_len hd1 (by omega) h2 h3
  generalize fwd nx an (af nx p x) (af nx q x) = f at k1 k2 k3 k4 ⊢
  have hout : ∀ a, a < 2 → an (2 * p + a) = an (2 * q + a) := by
    have := Eq_mono h1 hd1
    exact ((Eq_succ nx an 0 p q).mp this).1
  have hp2 : 2 ^ (d + 1) = 2 * 2 ^ d := by rw [Nat.pow_succ]; omega
  have hr : f - 2 ^ d < 2 ^ d := by omega
  have hf : 2 ^ d + (f - 2 ^ d) = f := by omega
  refine fwd_is (by have := Nat.two_pow_pos (d + 1); omega) ?_ ?_ ?_
  · have := front_lt (n := 10) (k := d) (a := x) (r := f - 2 ^ d) (by omega) hx hr
    exact this
  · rw [(front hx d _ hr).2, (front hx d _ hr).2, hout x hx, hf]
    intro e
    exact k3 (by omega)
  · intro j g1 g2
    rcases Nat.lt_or_ge j (2 ^ (d + 1)) with y | y
    · exact h1 j g1 y
    · obtain ⟨n, a, r, ha, hr2, hj⟩ := code_front (c := j) (by have := Nat.two_pow_pos d; omega)
      have hx2 : x * 2 ^ d ≤ 1 * 2 ^ d := Nat.mul_le_mul (by omega) (Nat.le_refl _)
      have ha2 : a * 2 ^ n ≤ 1 * 2 ^ n := Nat.mul_le_mul (by omega) (Nat.le_refl _)
      have hn2 : 2 ^ (n + 1) = 2 * 2 ^ n := by rw [Nat.pow_succ]; omega
      have hn3 : 2 ^ (n + 1 + 1) = 4 * 2 ^ n := by rw [Nat.pow_succ, hn2]; omega
      have hd3 : 2 ^ (d + 1 + 1) = 4 * 2 ^ d := by rw [Nat.pow_succ, hp2]; omega
      have hn : n + 1 = d + 1 := log_one (c := j) (by omega) (by omega) y (by omega)
      have hn : n = d := by omega
      subst hn
      rw [hj, (front ha n r hr2).2, (front ha n r hr2).2, hout a ha]
      have key : tp nx an (af nx p a) (2 ^ n + r) = tp nx an (af nx q a) (2 ^ n + r) := by
        have hpos := Nat.two_pow_pos n
        rcases (show a = 0 ∨ a = 1 by omega) with za | za
        · rcases (show x = 0 ∨ x = 1 by omega) with zx | zx
          · subst za; subst zx
            exact k4 _ (by omega) (by omega)
          · subst za
            exact h0 zx _ (by omega) (by omega)
        · rcases (show x = 0 ∨ x = 1 by omega) with zx | zx
          · subst za; subst zx
            exfalso
            omega
          · subst za; subst zx
            exact k4 _ (by omega) (by omega)
      rw [key]
/-- one letter: the first difference -/
theorem fwd_one {nx an : Nat → Nat} {p q x : Nat} (hx : x < 2) (h1 : ¬ an (2 * p + x) = an (2 * q + x)) (h0 : x = 1 → an (2 * p) = an (2 * q)) : fwd nx an p q = 2 + x := by
  have e2 : ∀ p a, a < 2 → tp nx an p (2 + a) = an (2 * p + a) := by
    intro p a ha
    rw [tp_hi (by omega), show (2 + a) / 2 = 1 by omega, show (2 + a) % 2 = a by omega, tp_lo (by decide), gp_lo (by decide)]
    omega
  refine fwd_is (by omega) (by omega) ?_ ?_
  · rw [e2 p x hx, e2 q x hx]; exact h1
  · intro j g1 g2
    by_cases hj : j < 2
    · rw [tp_lo hj, tp_lo hj]
    · have e : j = 2 + 0 := by omega
      have ex : x = 1 := by omega
      rw [e, e2 p 0 (by decide), e2 q 0 (by decide)]
      exact h0 ex
/-! as few letters as the model tries -/
def Tm (sz : Nat → Nat) (m p : Nat) : Prop := p / 6 = m ∧ p < 12 ∧ th sz p
def Ta (sz : Nat → Nat) (p : Nat) : Prop := p < 12 ∧ th sz p
theorem cnt_Tm {sz : Nat → Nat} {m : Nat} (hm : m < 2) : cnt (Tm sz m) 12 ≤ sz m := by
  have h : cnt (Tm sz m) 12 = cnt (Tm sz m) 6 + cnt (fun j => Tm sz m (6 + j)) 6 := cnt_split (Tm sz m) 6 6
  rcases (show m = 0 ∨ m = 1 by omega) with z | z
  · subst z
    have h1 : cnt (Tm sz 0) 6 ≤ sz 0 := cnt_ltn (fun j hj => by
      have h2 := hj.2.2
      unfold th at h2
      rw [hj.1] at h2
      have := hj.1
      omega) 6
    have h2 : cnt (fun j => Tm sz 0 (6 + j)) 6 = 0 := cnt_none (fun j hj hz => by have := hz.1; omega)
    omega
  · subst z
    have h1 : cnt (Tm sz 1) 6 = 0 := cnt_none (fun j hj hz => by have := hz.1; omega)
    have h2 : cnt (fun j => Tm sz 1 (6 + j)) 6 ≤ sz 1 := cnt_ltn (fun j hj => by
      have h2 := hj.2.2
      unfold th at h2
      rw [hj.1] at h2
      have := hj.1
      omega) 6
    omega
theorem cnt_Ta {sz : Nat → Nat} : cnt (Ta sz) 12 ≤ sz 0 + sz 1 := by
  have h : cnt (Ta sz) 12 = cnt (Ta sz) 6 + cnt (fun j => Ta sz (6 + j)) 6 := cnt_split (Ta sz) 6 6
  have e0 : cnt (Ta sz) 6 ≤ cnt (Tm sz 0) 6 := cnt_sub (fun k hk hz => ⟨by omega, hz⟩)
  have h1 : cnt (Tm sz 0) 6 ≤ sz 0 := cnt_ltn (fun j hj => by
    have h2 := hj.2.2
    unfold th at h2
    rw [hj.1] at h2
    have := hj.1
    omega) 6
  have h2 : cnt (fun j => Ta sz (6 + j)) 6 ≤ sz 1 := cnt_ltn (fun j hj => by
    have h2 := hj.2
    unfold th at h2
    have h3 := hj.1
    rw [show (6 + j) / 6 = 1 by omega] at h2
    omega) 6
  omega
theorem Eq_up {sz nx an : Nat → Nat} (hw : wf sz nx an) {p q N : Nat} (hp : p < 12) (hq : q < 12) (t1 : th sz p) (t2 : th sz q) (hN : (p / 6 = q / 6 ∧ N = sz (p / 6)) ∨ N = sz 0 + sz 1) (h : Eq_ nx an (N - 1) p q) : ∀ k, Eq_ nx an k p q := by
  rcases hN with ⟨h1, h2⟩ | h2
  · subst h2
    refine stab (T := Tm sz (p / 6)) (M := 12) (fun r hr => hr.2.1) (fun r a hr ha => ?_) (cnt_Tm (by omega)) ⟨rfl, hp, t1⟩ ⟨h1.symm, hq, t2⟩ h
    obtain ⟨g1, g2, g3⟩ := th_af hw hr.2.1 hr.2.2 ha
    exact ⟨g3.trans hr.1, g2, g1⟩
  · subst h2
    refine stab (T := Ta sz) (M := 12) (fun r hr => hr.1) (fun r a hr ha => ?_) cnt_Ta ⟨hp, t1⟩ ⟨hq, t2⟩ h
    obtain ⟨g1, g2, g3⟩ := th_af hw hr.1 hr.2 ha
    exact ⟨g2, g1⟩
/-- the model's bound is enough -/
theorem fwd_small {sz nx an : Nat → Nat} (hw : wf sz nx an) {p q N : Nat} (hp : p < 12) (hq : q < 12) (t1 : th sz p) (t2 : th sz q) (hN : (p / 6 = q / 6 ∧ N = sz (p / 6)) ∨ N = sz 0 + sz 1) (h1 : 1 ≤ N) (h12 : N ≤ 12) : lst (Df nx an p q) (2 ^ N) = fwd nx an p q := by
  refine lst_bound (pow_le12 h12) (fun h c g1 g2 g3 => g3 ?_)
  refine Eq_up hw hp hq t1 t2 hN (fun c g1 g2 => Classical.byContradiction (h c g1 ?_)) 11 c g1 g2
  rw [Nat.sub_add_cancel h1] at g2
  exact g2
end
section
set_option maxRecDepth 100000
/-! apart, firstWord, alike, difference, same, classes -/
abbrev pl (v : Nat) : Nat := 6 * (v / 8) + v % 8
theorem pl_facts {sz : Nat → Nat} (hZ : ∀ k, sz k ≤ 6) {v : Nat} (hv : v < 16) (hs : v % 8 < sz (v / 8)) : pl v < 12 ∧ th sz (pl v) ∧ pl v / 6 = v / 8 ∧ pl v % 6 = v % 8 := by
  have := hZ (v / 8)
  have h1 : pl v / 6 = v / 8 := by unfold pl; omega
  have h2 : pl v % 6 = v % 8 := by unfold pl; omega
  refine ⟨by unfold pl; omega, ?_, h1, h2⟩
  unfold th
  rw [h1, h2]
  exact hs
theorem Df_tl {sz nx an : Nat → Nat} (hw : wf sz nx an) {v w c : Nat} (hv : v % 8 < sz (v / 8)) (hq : w % 8 < sz (w / 8)) : Df nx an (pl v) (pl w) c ↔ ¬ tl nx an (v / 8) (v % 8) c = tl nx an (w / 8) (w % 8) c := by
  have h1 := hw.2.1 (v / 8)
  have h2 := hw.2.1 (w / 8)
  unfold Df pl
  rw [tp_tl hw.2.2.2.1 (by omega), tp_tl hw.2.2.2.1 (by omega)]
theorem two_pow {N : Nat} (h : 1 ≤ N) : 2 * 2 ^ (N - 1) = 2 ^ N := by
  obtain ⟨k, rfl⟩ : ∃ k, N = k + 1 := ⟨N - 1, by omega⟩
  rw [Nat.add_sub_cancel, Nat.pow_succ, Nat.mul_comm]
theorem kI_pred {d : Nat} (h : 1 ≤ d) : kI d = nI (d - 1) := by
  obtain ⟨k, rfl⟩ : ∃ k, d = k + 1 := ⟨d - 1, by omega⟩
  exact kI_succ k
theorem fwd_sym {nx an : Nat → Nat} {p q : Nat} : fwd nx an p q = 0 ↔ fwd nx an q p = 0 := by
  rw [fwd_0, fwd_0]
  exact ⟨Eq_symm, Eq_symm⟩
theorem fwd_lt (nx an : Nat → Nat) (p q : Nat) : fwd nx an p q < 4096 := by
  rcases lst_cases (Df nx an p q) 4096 with ⟨h, -⟩ | ⟨-, h, -⟩
  · unfold fwd; omega
  · exact h
set_option maxHeartbeats 600000 in
set_option maxRecDepth 100000 in
/-- the first difference -/
theorem mY_apart (l : Launch) (sz nx an : Nat → Nat) (ct : Nat) (mb : Nat → Nat) (p0 q0 : Nat) (hw : wf sz nx an) (hp : p0 < 16) (hs : p0 % 8 < sz (p0 / 8)) (hq : q0 < 16) (hs2 : q0 % 8 < sz (q0 / 8)) : MetY l yX1_apart cX1_apart 5 (some .int) rmX1_apart [.int (nI p0), .int (nI q0)] (sz, nx, an, ct, mb) (fun r u1 => r = nI (fwd nx an (pl p0) (pl q0)) ∧ u1 = (sz, nx, an, ct, mb)) := by
  refine entYi rfl (by decide) rfl rfl (fun _ => Nat.le_of_ble_eq_true rfl) ?_
  intro G d h a A p e s m below meth c args Q S hA hX ret ls hl
  have hx := S.1
  have hb := S.2.1
  have hl : lv_has ls 5 [(0, .ref h), (1, .int (nI p0)), (2, .int (nI q0))] := hl
  have hZ := hw.2.1
  have hA4 := hw.2.2.2.2
  have f1 := pl_facts hZ hp hs
  have f2 := pl_facts hZ hq hs2
  have z0 := hw.1 0 (by decide)
  have z1 := hw.1 1 (by decide)
  have z3 := hw.1 (p0 / 8) (by omega)
  refine lv_iload_n hx hb dX1_apart_0 rfl (lv_at hl 1 rfl) ?_
  refine lv_bipush (v := nI 8) hx hb dX1_apart_1 (by decide) ?_
  refine n_idiv hx hb dX1_apart_3 (by omega) (by decide) (by decide) ?_
  refine lv_iload_n hx hb dX1_apart_4 rfl (lv_at hl 2 rfl) ?_
  refine lv_bipush (v := nI 8) hx hb dX1_apart_5 (by decide) ?_
  refine n_idiv hx hb dX1_apart_7 (by omega) (by decide) (by decide) ?_
  refine n_icmp_ne (tgt := 25) hx hb dX1_apart_8 (by decide) (by omega) (by omega) (fun c_8 => ?_) (fun c_8 => ?_)
  · refine lv_aload_n hx hb dX1_apart_25 rfl (lv_at hl 0 rfl) ?_
    refine yg0 S hX dX1_apart_26 ?_
    refine lv_iconst (v := nI 0) hx hb dX1_apart_29 (by decide) ?_
    refine yl0 S hX dX1_apart_30 (by omega) ?_
    have b_30 := hZ 0
    refine lv_aload_n hx hb dX1_apart_31 rfl (lv_at hl 0 rfl) ?_
    refine yg0 S hX dX1_apart_32 ?_
    refine lv_iconst (v := nI 1) hx hb dX1_apart_35 (by decide) ?_
    refine yl0 S hX dX1_apart_36 (by omega) ?_
    have b_36 := hZ 1
    refine n_iadd hx hb dX1_apart_37 ?_
    refine lv_iconst (v := nI 1) hx hb dX1_apart_38 (by decide) ?_
    refine n_isub hx hb dX1_apart_39 (by omega) ?_
    obtain ⟨Nb, hN1, hN12, hNe, hN⟩ : ∃ Nb : Nat, 1 ≤ Nb ∧ Nb ≤ 12 ∧ (sz 0 + (sz 1)) - 1 = Nb - 1 ∧ ((pl p0 / 6 = pl q0 / 6 ∧ Nb = sz (pl p0 / 6)) ∨ Nb = sz 0 + sz 1) := ⟨sz 0 + sz 1, by omega, by omega, by omega, Or.inr rfl⟩
    have hpw := two_pow hN1
    have hpw2 := pow_le12 hN12
    refine n_top (y := (nI (Nb - 1))) (congrArg nI hNe) ?_
    refine lv_istore_n (lv' := [(3, .int (nI (Nb - 1))), (0, .ref h), (1, .int (nI p0)), (2, .int (nI q0))]) hx hb dX1_apart_40 rfl hl (by decide) rfl (fun ls hl => ?_)
    refine lv_iconst (v := nI 1) hx hb dX1_apart_41 (by decide) ?_
    refine lv_istore (lv' := [(4, .int (nI 1)), (3, .int (nI (Nb - 1))), (0, .ref h), (1, .int (nI p0)), (2, .int (nI q0))]) hx hb dX1_apart_42 hl (by decide) rfl (fun ls hl => ?_)
    have lp : ∀ (N : Nat) (c1 : Nat), (1 ≤ c1) → (c1 ≤ 2 ^ Nb) → (∀ j, 1 ≤ j → j < c1 → ¬ Df nx an (pl p0) (pl q0) j) → 2 ^ Nb - c1 < N → ∀ (H : Heap) (locs : List Loc) (ls : Array Slot), HY G d h a A s (sz, nx, an, ct, mb) H locs → lv_has ls 5 [(0, .ref h), (1, .int (nI p0)), (2, .int (nI q0)), (3, .int (nI (Nb - 1))), (4, .int (nI c1))] → W p l e rmX1_apart s m args below meth c H locs 0 0 Q (F0 m 44 ls []) := by
      intro N
      induction N with
      | zero =>
        intro c1 hc1 hc2 hno hms
        exact absurd hms (Nat.not_lt_zero _)
      | succ N ih =>
        intro c1 hc1 hc2 hno hms H locs ls hX hl
        refine lv_iload hx hb dX1_apart_44 (lv_at hl 4 rfl) ?_
        refine lv_iconst (v := nI 2) hx hb dX1_apart_46 (by decide) ?_
        refine lv_iload_n hx hb dX1_apart_47 rfl (lv_at hl 3 rfl) ?_
        refine n_ishl hx hb dX1_apart_48 (by omega) (by omega) ?_
        refine n_top (y := (nI (2 ^ Nb))) (congrArg nI hpw) ?_
        refine n_icmp_ge (tgt := 78) hx hb dX1_apart_49 (by decide) (by omega) (by omega) (fun c_49 => ?_) (fun c_49 => ?_)
        · refine lv_iconst (v := nI 0) hx hb dX1_apart_78 (by decide) ?_
          exact ret _ _ _ _ _ _ dX1_apart_79 (⟨congrArg nI (((fwd_small hw f1.1 f2.1 f1.2.1 f2.2.1 hN hN1 hN12).symm.trans (lst_zero (fun j h1 h2 => hno j h1 (by omega)))).symm), rfl⟩) hX
        · refine lv_aload_n hx hb dX1_apart_52 rfl (lv_at hl 0 rfl) ?_
          refine lv_iload_n hx hb dX1_apart_53 rfl (lv_at hl 1 rfl) ?_
          refine lv_iload hx hb dX1_apart_54 (lv_at hl 4 rfl) ?_
          refine callYi S hA hX (mY_told l sz nx an ct mb p0 c1 hw hp hs hc1 (by omega)) (cwV 2 S.2.2.2.2 (lw_V q232 q234 qs13 q19 q235) rfl rfl rfl (by decide +kernel) ⟨Nat.le_of_ble_eq_true rfl, Nat.le_of_ble_eq_true rfl⟩) rfl hl.1 rfl (Nat.le_of_ble_eq_true rfl) dX1_apart_56 ⟨Nat.zero_le _, Nat.zero_le _⟩ (fun r u1 H locs hq hX => ?_)
          obtain ⟨rfl, rfl⟩ := hq
          have b_59 := tl_small (nx := nx) hA4 (p0 / 8) (p0 % 8) (c := c1) (by omega)
          refine lv_aload_n hx hb dX1_apart_59 rfl (lv_at hl 0 rfl) ?_
          refine lv_iload_n hx hb dX1_apart_60 rfl (lv_at hl 2 rfl) ?_
          refine lv_iload hx hb dX1_apart_61 (lv_at hl 4 rfl) ?_
          refine callYi S hA hX (mY_told l sz nx an ct mb q0 c1 hw hq hs2 hc1 (by omega)) (cwV 2 S.2.2.2.2 (lw_V q232 q234 qs13 q19 q235) rfl rfl rfl (by decide +kernel) ⟨Nat.le_of_ble_eq_true rfl, Nat.le_of_ble_eq_true rfl⟩) rfl hl.1 rfl (Nat.le_of_ble_eq_true rfl) dX1_apart_63 ⟨Nat.zero_le _, Nat.zero_le _⟩ (fun r u1 H locs hq hX => ?_)
          obtain ⟨rfl, rfl⟩ := hq
          have b_66 := tl_small (nx := nx) hA4 (q0 / 8) (q0 % 8) (c := c1) (by omega)
          refine n_icmp_eq (tgt := 72) hx hb dX1_apart_66 (by decide) (by omega) (by omega) (fun c_66 => ?_) (fun c_66 => ?_)
          · refine lv_iinc (v := (nI (c1 + 1))) (lv' := [(4, .int (nI (c1 + 1))), (0, .ref h), (1, .int (nI p0)), (2, .int (nI q0)), (3, .int (nI (Nb - 1)))]) hx hb dX1_apart_72 hl (k := 4) rfl (nI_1 _) (by decide) rfl (fun ls hl => ?_)
            refine lv_goto (tgt := 44) hx hb dX1_apart_75 (by decide) ?_
            exact ih (c1 + 1) (by omega) (by omega) (fun j h1 h2 => by rcases Nat.lt_or_ge j c1 with z | z; exact hno j h1 z; (have e : j = c1 := (by omega)); subst e; exact fun z => (Df_tl hw hs hs2).mp z c_66) (by omega) _ _ _ hX (lv_sub hl [1, 2, 3, 4, 0] rfl)
          · refine lv_iload hx hb dX1_apart_69 (lv_at hl 4 rfl) ?_
            exact ret _ _ _ _ _ _ dX1_apart_71 (⟨congrArg nI (((fwd_small hw f1.1 f2.1 f1.2.1 f2.2.1 hN hN1 hN12).symm.trans (lst_is hc1 ((Df_tl hw hs hs2).mpr c_66) hno (by omega))).symm), rfl⟩) hX
    exact lp _ 1 (by omega) (Nat.two_pow_pos _) (fun j h1 h2 => by omega) (Nat.lt_succ_self _) _ _ _ hX (lv_sub hl [2, 3, 4, 1, 0] rfl)
  · refine lv_aload_n hx hb dX1_apart_11 rfl (lv_at hl 0 rfl) ?_
    refine yg0 S hX dX1_apart_12 ?_
    refine lv_iload_n hx hb dX1_apart_15 rfl (lv_at hl 1 rfl) ?_
    refine lv_bipush (v := nI 8) hx hb dX1_apart_16 (by decide) ?_
    refine n_idiv hx hb dX1_apart_18 (by omega) (by decide) (by decide) ?_
    refine yl0 S hX dX1_apart_19 (by omega) ?_
    have b_19 := hZ (p0 / 8)
    refine lv_iconst (v := nI 1) hx hb dX1_apart_20 (by decide) ?_
    refine n_isub hx hb dX1_apart_21 (by omega) ?_
    refine lv_goto (tgt := 40) hx hb dX1_apart_22 (by decide) ?_
    obtain ⟨Nb, hN1, hN12, hNe, hN⟩ : ∃ Nb : Nat, 1 ≤ Nb ∧ Nb ≤ 12 ∧ (sz (p0 / 8)) - 1 = Nb - 1 ∧ ((pl p0 / 6 = pl q0 / 6 ∧ Nb = sz (pl p0 / 6)) ∨ Nb = sz 0 + sz 1) := ⟨sz (p0 / 8), by omega, by omega, rfl, Or.inl ⟨by rw [f1.2.2.1, f2.2.2.1]; omega, by rw [f1.2.2.1]⟩⟩
    have hpw := two_pow hN1
    have hpw2 := pow_le12 hN12
    refine n_top (y := (nI (Nb - 1))) (congrArg nI hNe) ?_
    refine lv_istore_n (lv' := [(3, .int (nI (Nb - 1))), (0, .ref h), (1, .int (nI p0)), (2, .int (nI q0))]) hx hb dX1_apart_40 rfl hl (by decide) rfl (fun ls hl => ?_)
    refine lv_iconst (v := nI 1) hx hb dX1_apart_41 (by decide) ?_
    refine lv_istore (lv' := [(4, .int (nI 1)), (3, .int (nI (Nb - 1))), (0, .ref h), (1, .int (nI p0)), (2, .int (nI q0))]) hx hb dX1_apart_42 hl (by decide) rfl (fun ls hl => ?_)
    have lp : ∀ (N : Nat) (c1 : Nat), (1 ≤ c1) → (c1 ≤ 2 ^ Nb) → (∀ j, 1 ≤ j → j < c1 → ¬ Df nx an (pl p0) (pl q0) j) → 2 ^ Nb - c1 < N → ∀ (H : Heap) (locs : List Loc) (ls : Array Slot), HY G d h a A s (sz, nx, an, ct, mb) H locs → lv_has ls 5 [(0, .ref h), (1, .int (nI p0)), (2, .int (nI q0)), (3, .int (nI (Nb - 1))), (4, .int (nI c1))] → W p l e rmX1_apart s m args below meth c H locs 0 0 Q (F0 m 44 ls []) := by
      intro N
      induction N with
      | zero =>
        intro c1 hc1 hc2 hno hms
        exact absurd hms (Nat.not_lt_zero _)
      | succ N ih =>
        intro c1 hc1 hc2 hno hms H locs ls hX hl
        refine lv_iload hx hb dX1_apart_44 (lv_at hl 4 rfl) ?_
        refine lv_iconst (v := nI 2) hx hb dX1_apart_46 (by decide) ?_
        refine lv_iload_n hx hb dX1_apart_47 rfl (lv_at hl 3 rfl) ?_
        refine n_ishl hx hb dX1_apart_48 (by omega) (by omega) ?_
        refine n_top (y := (nI (2 ^ Nb))) (congrArg nI hpw) ?_
        refine n_icmp_ge (tgt := 78) hx hb dX1_apart_49 (by decide) (by omega) (by omega) (fun c_49 => ?_) (fun c_49 => ?_)
        · refine lv_iconst (v := nI 0) hx hb dX1_apart_78 (by decide) ?_
          exact ret _ _ _ _ _ _ dX1_apart_79 (⟨congrArg nI (((fwd_small hw f1.1 f2.1 f1.2.1 f2.2.1 hN hN1 hN12).symm.trans (lst_zero (fun j h1 h2 => hno j h1 (by omega)))).symm), rfl⟩) hX
        · refine lv_aload_n hx hb dX1_apart_52 rfl (lv_at hl 0 rfl) ?_
          refine lv_iload_n hx hb dX1_apart_53 rfl (lv_at hl 1 rfl) ?_
          refine lv_iload hx hb dX1_apart_54 (lv_at hl 4 rfl) ?_
          refine callYi S hA hX (mY_told l sz nx an ct mb p0 c1 hw hp hs hc1 (by omega)) (cwV 2 S.2.2.2.2 (lw_V q232 q234 qs13 q19 q235) rfl rfl rfl (by decide +kernel) ⟨Nat.le_of_ble_eq_true rfl, Nat.le_of_ble_eq_true rfl⟩) rfl hl.1 rfl (Nat.le_of_ble_eq_true rfl) dX1_apart_56 ⟨Nat.zero_le _, Nat.zero_le _⟩ (fun r u1 H locs hq hX => ?_)
          obtain ⟨rfl, rfl⟩ := hq
          have b_59 := tl_small (nx := nx) hA4 (p0 / 8) (p0 % 8) (c := c1) (by omega)
          refine lv_aload_n hx hb dX1_apart_59 rfl (lv_at hl 0 rfl) ?_
          refine lv_iload_n hx hb dX1_apart_60 rfl (lv_at hl 2 rfl) ?_
          refine lv_iload hx hb dX1_apart_61 (lv_at hl 4 rfl) ?_
          refine callYi S hA hX (mY_told l sz nx an ct mb q0 c1 hw hq hs2 hc1 (by omega)) (cwV 2 S.2.2.2.2 (lw_V q232 q234 qs13 q19 q235) rfl rfl rfl (by decide +kernel) ⟨Nat.le_of_ble_eq_true rfl, Nat.le_of_ble_eq_true rfl⟩) rfl hl.1 rfl (Nat.le_of_ble_eq_true rfl) dX1_apart_63 ⟨Nat.zero_le _, Nat.zero_le _⟩ (fun r u1 H locs hq hX => ?_)
          obtain ⟨rfl, rfl⟩ := hq
          have b_66 := tl_small (nx := nx) hA4 (q0 / 8) (q0 % 8) (c := c1) (by omega)
          refine n_icmp_eq (tgt := 72) hx hb dX1_apart_66 (by decide) (by omega) (by omega) (fun c_66 => ?_) (fun c_66 => ?_)
          · refine lv_iinc (v := (nI (c1 + 1))) (lv' := [(4, .int (nI (c1 + 1))), (0, .ref h), (1, .int (nI p0)), (2, .int (nI q0)), (3, .int (nI (Nb - 1)))]) hx hb dX1_apart_72 hl (k := 4) rfl (nI_1 _) (by decide) rfl (fun ls hl => ?_)
            refine lv_goto (tgt := 44) hx hb dX1_apart_75 (by decide) ?_
            exact ih (c1 + 1) (by omega) (by omega) (fun j h1 h2 => by rcases Nat.lt_or_ge j c1 with z | z; exact hno j h1 z; (have e : j = c1 := (by omega)); subst e; exact fun z => (Df_tl hw hs hs2).mp z c_66) (by omega) _ _ _ hX (lv_sub hl [1, 2, 3, 4, 0] rfl)
          · refine lv_iload hx hb dX1_apart_69 (lv_at hl 4 rfl) ?_
            exact ret _ _ _ _ _ _ dX1_apart_71 (⟨congrArg nI (((fwd_small hw f1.1 f2.1 f1.2.1 f2.2.1 hN hN1 hN12).symm.trans (lst_is hc1 ((Df_tl hw hs hs2).mpr c_66) hno (by omega))).symm), rfl⟩) hX
    exact lp _ 1 (by omega) (Nat.two_pow_pos _) (fun j h1 h2 => by omega) (Nat.lt_succ_self _) _ _ _ hX (lv_sub hl [2, 3, 4, 1, 0] rfl)
noncomputable def spAlike (x y : Int32) (sz nx an : Nat → Nat) : TT := if stOk sz x ∧ stOk sz y then (nI (pick (fwd nx an (pl x.toNatClampNeg) (pl y.toNatClampNeg) = 0) 1 0), sz, nx, an) else (-1, sz, nx, an)
noncomputable def spDifference (x y : Int32) (sz nx an : Nat → Nat) : TT := if stOk sz x ∧ stOk sz y then (nI (fwd nx an (pl x.toNatClampNeg) (pl y.toNatClampNeg)), sz, nx, an) else (-1, sz, nx, an)
noncomputable def spSame (sz nx an : Nat → Nat) : TT := (nI (pick (fwd nx an 0 6 = 0) 1 0), sz, nx, an)
def fresh (nx an : Nat → Nat) (m s : Nat) : Prop := ∀ r, r < s → ¬ fwd nx an (6 * m + r) (6 * m + s) = 0
noncomputable def spClasses (x : Int32) (sz nx an : Nat → Nat) : TT := if mOk x then (nI (cnt (fresh nx an x.toNatClampNeg) (sz x.toNatClampNeg)), sz, nx, an) else (-1, sz, nx, an)
theorem spAlike_1 {x y : Int32} {sz nx an : Nat → Nat} (h : ¬ (stOk sz x ∧ stOk sz y)) : spAlike x y sz nx an = (-1, sz, nx, an) := if_neg h
theorem spAlike_2 {v w : Nat} {sz nx an : Nat → Nat} (hv : v < 16) (hw : w < 16) (h1 : v % 8 < sz (v / 8)) (h2 : w % 8 < sz (w / 8)) : spAlike (nI v) (nI w) sz nx an = (nI (pick (fwd nx an (pl v) (pl w) = 0) 1 0), sz, nx, an) := by
  unfold spAlike; rw [if_pos ⟨(stOk_nI hv).mpr h1, (stOk_nI hw).mpr h2⟩, nI_clamp (by omega), nI_clamp (by omega)]
theorem spDifference_1 {x y : Int32} {sz nx an : Nat → Nat} (h : ¬ (stOk sz x ∧ stOk sz y)) : spDifference x y sz nx an = (-1, sz, nx, an) := if_neg h
theorem spDifference_2 {v w : Nat} {sz nx an : Nat → Nat} (hv : v < 16) (hw : w < 16) (h1 : v % 8 < sz (v / 8)) (h2 : w % 8 < sz (w / 8)) : spDifference (nI v) (nI w) sz nx an = (nI (fwd nx an (pl v) (pl w)), sz, nx, an) := by
  unfold spDifference; rw [if_pos ⟨(stOk_nI hv).mpr h1, (stOk_nI hw).mpr h2⟩, nI_clamp (by omega), nI_clamp (by omega)]
theorem spClasses_1 {x : Int32} {sz nx an : Nat → Nat} (h : ¬ mOk x) : spClasses x sz nx an = (-1, sz, nx, an) := if_neg h
theorem spClasses_2 {m : Nat} {sz nx an : Nat → Nat} (h : m < 2) : spClasses (nI m) sz nx an = (nI (cnt (fresh nx an m) (sz m)), sz, nx, an) := by
  unfold spClasses
  rw [if_pos (mOk_nI h), nI_clamp (by omega)]
set_option maxHeartbeats 600000 in
set_option maxRecDepth 100000 in
theorem mY_alike (l : Launch) (sz nx an : Nat → Nat) (ct : Nat) (mb : Nat → Nat) (x : Int32) (y : Int32) (hw : wf sz nx an) : MetY l yX1_alike cX1_alike 3 (some .int) rmX1_alike [.int x, .int y] (sz, nx, an, ct, mb) (pY (spAlike x y sz nx an)) := by
  refine entYi rfl (by decide) rfl rfl (fun _ => Nat.le_of_ble_eq_true rfl) ?_
  intro G d h a A p e s m below meth c args Q S hA hX ret ls hl
  have hx := S.1
  have hb := S.2.1
  have hl : lv_has ls 3 [(0, .ref h), (1, .int x), (2, .int y)] := hl
  have hZ := hw.2.1
  have hN := hw.2.2.2.1
  have hA4 := hw.2.2.2.2
  refine lv_aload_n hx hb dX1_alike_0 rfl (lv_at hl 0 rfl) ?_
  refine lv_iload_n hx hb dX1_alike_1 rfl (lv_at hl 1 rfl) ?_
  refine callYi S hA hX (mY_badState l sz nx an ct mb x hZ) (cwV 1 S.2.2.2.2 (lw_V q216 q218 qs10 q19 q219) rfl rfl rfl (by decide +kernel) ⟨Nat.le_of_ble_eq_true rfl, Nat.le_of_ble_eq_true rfl⟩) rfl hl.1 rfl (Nat.le_of_ble_eq_true rfl) dX1_alike_2 ⟨Nat.zero_le _, Nat.zero_le _⟩ (fun r u1 H locs hq hX => ?_)
  obtain ⟨rfl, rfl⟩ := hq
  by_cases hsox : stOk sz x
  · refine n_top (congrArg nI (if_neg (fun z => z hsox))) ?_
    obtain ⟨v1, hv1, hsv1, rfl⟩ := stOk_of hsox
    refine n_if_ne (tgt := 16) hx hb dX1_alike_5 (by decide) (by decide) (fun q => absurd q (by decide)) (fun _ => ?_)
    refine lv_aload_n hx hb dX1_alike_8 rfl (lv_at hl 0 rfl) ?_
    refine lv_iload_n hx hb dX1_alike_9 rfl (lv_at hl 2 rfl) ?_
    refine callYi S hA hX (mY_badState l sz nx an ct mb y hZ) (cwV 1 S.2.2.2.2 (lw_V q216 q218 qs10 q19 q219) rfl rfl rfl (by decide +kernel) ⟨Nat.le_of_ble_eq_true rfl, Nat.le_of_ble_eq_true rfl⟩) rfl hl.1 rfl (Nat.le_of_ble_eq_true rfl) dX1_alike_10 ⟨Nat.zero_le _, Nat.zero_le _⟩ (fun r u1 H locs hq hX => ?_)
    obtain ⟨rfl, rfl⟩ := hq
    by_cases hsoy : stOk sz y
    · refine n_top (congrArg nI (if_neg (fun z => z hsoy))) ?_
      obtain ⟨v2, hv2, hsv2, rfl⟩ := stOk_of hsoy
      refine n_if_eq (tgt := 18) hx hb dX1_alike_13 (by decide) (by decide) (fun _ => ?_) (fun q => absurd q (by decide))
      refine lv_aload_n hx hb dX1_alike_18 rfl (lv_at hl 0 rfl) ?_
      refine lv_iload_n hx hb dX1_alike_19 rfl (lv_at hl 1 rfl) ?_
      refine lv_iload_n hx hb dX1_alike_20 rfl (lv_at hl 2 rfl) ?_
      refine callYi S hA hX (mY_apart l sz nx an ct mb v1 v2 hw hv1 hsv1 hv2 hsv2) (cwV 2 S.2.2.2.2 (lw_V q240 q242 qs14 q19 q243) rfl rfl rfl (by decide +kernel) ⟨Nat.le_of_ble_eq_true rfl, Nat.le_of_ble_eq_true rfl⟩) rfl hl.1 rfl (Nat.le_of_ble_eq_true rfl) dX1_alike_21 ⟨Nat.zero_le _, Nat.zero_le _⟩ (fun r u1 H locs hq hX => ?_)
      obtain ⟨rfl, rfl⟩ := hq
      have b_f := fwd_lt nx an (pl v1) (pl v2)
      refine n_if_ne (tgt := 31) hx hb dX1_alike_24 (by decide) (by omega) (fun c_24 => ?_) (fun c_24 => ?_)
      · refine lv_iconst (v := nI 0) hx hb dX1_alike_31 (by decide) ?_
        exact ret _ _ _ _ _ _ dX1_alike_32 (pY_of ((spAlike_2 hv1 hv2 hsv1 hsv2).trans (by rw [pick_f c_24]))) hX
      · refine lv_iconst (v := nI 1) hx hb dX1_alike_27 (by decide) ?_
        refine lv_goto (tgt := 32) hx hb dX1_alike_28 (by decide) ?_
        exact ret _ _ _ _ _ _ dX1_alike_32 (pY_of ((spAlike_2 hv1 hv2 hsv1 hsv2).trans (by rw [pick_t c_24]))) hX
    · refine n_top (congrArg nI (if_pos hsoy)) ?_
      refine n_if_eq (tgt := 18) hx hb dX1_alike_13 (by decide) (by decide) (fun q => absurd q (by decide)) (fun _ => ?_)
      refine lv_iconst (v := -1) hx hb dX1_alike_16 (by decide) ?_
      exact ret _ _ _ _ _ _ dX1_alike_17 (pY_of (spAlike_1 (by first | exact fun z => hsox z.1 | exact fun z => hsoy z.2))) hX
  · refine n_top (congrArg nI (if_pos hsox)) ?_
    refine n_if_ne (tgt := 16) hx hb dX1_alike_5 (by decide) (by decide) (fun _ => ?_) (fun q => absurd q (by decide))
    refine lv_iconst (v := -1) hx hb dX1_alike_16 (by decide) ?_
    exact ret _ _ _ _ _ _ dX1_alike_17 (pY_of (spAlike_1 (by first | exact fun z => hsox z.1 | exact fun z => hsoy z.2))) hX
set_option maxHeartbeats 600000 in
set_option maxRecDepth 100000 in
theorem mY_difference (l : Launch) (sz nx an : Nat → Nat) (ct : Nat) (mb : Nat → Nat) (x : Int32) (y : Int32) (hw : wf sz nx an) : MetY l yX1_difference cX1_difference 3 (some .int) rmX1_difference [.int x, .int y] (sz, nx, an, ct, mb) (pY (spDifference x y sz nx an)) := by
  refine entYi rfl (by decide) rfl rfl (fun _ => Nat.le_of_ble_eq_true rfl) ?_
  intro G d h a A p e s m below meth c args Q S hA hX ret ls hl
  have hx := S.1
  have hb := S.2.1
  have hl : lv_has ls 3 [(0, .ref h), (1, .int x), (2, .int y)] := hl
  have hZ := hw.2.1
  have hN := hw.2.2.2.1
  have hA4 := hw.2.2.2.2
  refine lv_aload_n hx hb dX1_difference_0 rfl (lv_at hl 0 rfl) ?_
  refine lv_iload_n hx hb dX1_difference_1 rfl (lv_at hl 1 rfl) ?_
  refine callYi S hA hX (mY_badState l sz nx an ct mb x hZ) (cwV 1 S.2.2.2.2 (lw_V q216 q218 qs10 q19 q219) rfl rfl rfl (by decide +kernel) ⟨Nat.le_of_ble_eq_true rfl, Nat.le_of_ble_eq_true rfl⟩) rfl hl.1 rfl (Nat.le_of_ble_eq_true rfl) dX1_difference_2 ⟨Nat.zero_le _, Nat.zero_le _⟩ (fun r u1 H locs hq hX => ?_)
  obtain ⟨rfl, rfl⟩ := hq
  by_cases hsox : stOk sz x
  · refine n_top (congrArg nI (if_neg (fun z => z hsox))) ?_
    obtain ⟨v1, hv1, hsv1, rfl⟩ := stOk_of hsox
    refine n_if_ne (tgt := 16) hx hb dX1_difference_5 (by decide) (by decide) (fun q => absurd q (by decide)) (fun _ => ?_)
    refine lv_aload_n hx hb dX1_difference_8 rfl (lv_at hl 0 rfl) ?_
    refine lv_iload_n hx hb dX1_difference_9 rfl (lv_at hl 2 rfl) ?_
    refine callYi S hA hX (mY_badState l sz nx an ct mb y hZ) (cwV 1 S.2.2.2.2 (lw_V q216 q218 qs10 q19 q219) rfl rfl rfl (by decide +kernel) ⟨Nat.le_of_ble_eq_true rfl, Nat.le_of_ble_eq_true rfl⟩) rfl hl.1 rfl (Nat.le_of_ble_eq_true rfl) dX1_difference_10 ⟨Nat.zero_le _, Nat.zero_le _⟩ (fun r u1 H locs hq hX => ?_)
    obtain ⟨rfl, rfl⟩ := hq
    by_cases hsoy : stOk sz y
    · refine n_top (congrArg nI (if_neg (fun z => z hsoy))) ?_
      obtain ⟨v2, hv2, hsv2, rfl⟩ := stOk_of hsoy
      refine n_if_eq (tgt := 20) hx hb dX1_difference_13 (by decide) (by decide) (fun _ => ?_) (fun q => absurd q (by decide))
      refine lv_aload_n hx hb dX1_difference_20 rfl (lv_at hl 0 rfl) ?_
      refine lv_iload_n hx hb dX1_difference_21 rfl (lv_at hl 1 rfl) ?_
      refine lv_iload_n hx hb dX1_difference_22 rfl (lv_at hl 2 rfl) ?_
      refine callYi S hA hX (mY_apart l sz nx an ct mb v1 v2 hw hv1 hsv1 hv2 hsv2) (cwV 2 S.2.2.2.2 (lw_V q240 q242 qs14 q19 q243) rfl rfl rfl (by decide +kernel) ⟨Nat.le_of_ble_eq_true rfl, Nat.le_of_ble_eq_true rfl⟩) rfl hl.1 rfl (Nat.le_of_ble_eq_true rfl) dX1_difference_23 ⟨Nat.zero_le _, Nat.zero_le _⟩ (fun r u1 H locs hq hX => ?_)
      obtain ⟨rfl, rfl⟩ := hq
      have b_f := fwd_lt nx an (pl v1) (pl v2)
      exact ret _ _ _ _ _ _ dX1_difference_26 (pY_of (spDifference_2 hv1 hv2 hsv1 hsv2)) hX
    · refine n_top (congrArg nI (if_pos hsoy)) ?_
      refine n_if_eq (tgt := 20) hx hb dX1_difference_13 (by decide) (by decide) (fun q => absurd q (by decide)) (fun _ => ?_)
      refine lv_iconst (v := -1) hx hb dX1_difference_16 (by decide) ?_
      refine lv_goto (tgt := 26) hx hb dX1_difference_17 (by decide) ?_
      exact ret _ _ _ _ _ _ dX1_difference_26 (pY_of (spDifference_1 (by first | exact fun z => hsox z.1 | exact fun z => hsoy z.2))) hX
  · refine n_top (congrArg nI (if_pos hsox)) ?_
    refine n_if_ne (tgt := 16) hx hb dX1_difference_5 (by decide) (by decide) (fun _ => ?_) (fun q => absurd q (by decide))
    refine lv_iconst (v := -1) hx hb dX1_difference_16 (by decide) ?_
    refine lv_goto (tgt := 26) hx hb dX1_difference_17 (by decide) ?_
    exact ret _ _ _ _ _ _ dX1_difference_26 (pY_of (spDifference_1 (by first | exact fun z => hsox z.1 | exact fun z => hsoy z.2))) hX
set_option maxHeartbeats 600000 in
set_option maxRecDepth 100000 in
theorem mY_same (l : Launch) (sz nx an : Nat → Nat) (ct : Nat) (mb : Nat → Nat)  (hw : wf sz nx an) : MetY l yX1_same cX1_same 1 (some .int) rmX1_same [] (sz, nx, an, ct, mb) (pY (spSame  sz nx an)) := by
  refine entYi rfl (by decide) rfl rfl (fun _ => Nat.le_of_ble_eq_true rfl) ?_
  intro G d h a A p e s m below meth c args Q S hA hX ret ls hl
  have hx := S.1
  have hb := S.2.1
  have hl : lv_has ls 1 [(0, .ref h)] := hl
  have hZ := hw.2.1
  have hN := hw.2.2.2.1
  have hA4 := hw.2.2.2.2
  refine lv_aload_n hx hb dX1_same_0 rfl (lv_at hl 0 rfl) ?_
  refine lv_iconst (v := nI 0) hx hb dX1_same_1 (by decide) ?_
  refine lv_bipush (v := nI 8) hx hb dX1_same_2 (by decide) ?_
  refine callYi S hA hX (mY_apart l sz nx an ct mb 0 8 hw (by decide) (hw.1 0 (by decide)) (by decide) (hw.1 1 (by decide))) (cwV 2 S.2.2.2.2 (lw_V q240 q242 qs14 q19 q243) rfl rfl rfl (by decide +kernel) ⟨Nat.le_of_ble_eq_true rfl, Nat.le_of_ble_eq_true rfl⟩) rfl hl.1 rfl (Nat.le_of_ble_eq_true rfl) dX1_same_4 ⟨Nat.zero_le _, Nat.zero_le _⟩ (fun r u1 H locs hq hX => ?_)
  obtain ⟨rfl, rfl⟩ := hq
  have b_f := fwd_lt nx an 0 6
  refine n_top (y := nI (fwd nx an 0 6)) rfl ?_
  refine n_if_ne (tgt := 14) hx hb dX1_same_7 (by decide) (by omega) (fun c_7 => ?_) (fun c_7 => ?_)
  · refine lv_iconst (v := nI 0) hx hb dX1_same_14 (by decide) ?_
    exact ret _ _ _ _ _ _ dX1_same_15 (pY_of (by unfold spSame; rw [pick_f c_7])) hX
  · refine lv_iconst (v := nI 1) hx hb dX1_same_10 (by decide) ?_
    refine lv_goto (tgt := 15) hx hb dX1_same_11 (by decide) ?_
    exact ret _ _ _ _ _ _ dX1_same_15 (pY_of (by unfold spSame; rw [pick_t c_7])) hX
theorem fresh_up {nx an : Nat → Nat} {m s r : Nat} (h : ¬ fwd nx an (6 * m + r) (6 * m + s) = 0) : pick (∀ r0, r0 < r + 1 → ¬ fwd nx an (6 * m + r0) (6 * m + s) = 0) 1 0 = pick (∀ r0, r0 < r → ¬ fwd nx an (6 * m + r0) (6 * m + s) = 0) 1 0 := by
  by_cases q : ∀ r0, r0 < r → ¬ fwd nx an (6 * m + r0) (6 * m + s) = 0
  · rw [pick_t q, pick_t (fun r0 h0 => by
      rcases Nat.lt_or_ge r0 r with z | z
      · exact q r0 z
      · have e : r0 = r := by omega
        subst e; exact h)]
  · rw [pick_f q, pick_f (fun z => q (fun r0 h0 => z r0 (by omega)))]
set_option maxHeartbeats 600000 in
set_option maxRecDepth 100000 in
theorem mY_classes (l : Launch) (sz nx an : Nat → Nat) (ct : Nat) (mb : Nat → Nat) (x : Int32) (hw : wf sz nx an) : MetY l yX1_classes cX1_classes 6 (some .int) rmX1_classes [.int x] (sz, nx, an, ct, mb) (pY (spClasses x sz nx an)) := by
  refine entYi rfl (by decide) rfl rfl (fun _ => Nat.le_of_ble_eq_true rfl) ?_
  intro G d h a A p e s m below meth c args Q S hA hX ret ls hl
  have hx := S.1
  have hb := S.2.1
  have hl : lv_has ls 6 [(0, .ref h), (1, .int x)] := hl
  have hZ := hw.2.1
  have hN := hw.2.2.2.1
  have hA4 := hw.2.2.2.2
  by_cases hm : mOk x
  · obtain ⟨m0, hm0, rfl⟩ := mOk_of hm
    refine lv_aload_n hx hb dX1_classes_0 rfl (lv_at hl 0 rfl) ?_
    refine lv_iload_n hx hb dX1_classes_1 rfl (lv_at hl 1 rfl) ?_
    refine callYi S hA hX (mY_bad l sz nx an ct mb (nI m0)) (cwV 1 S.2.2.2.2 (lw_V q192 q194 qs9 q19 q195) rfl rfl rfl (by decide +kernel) ⟨Nat.le_of_ble_eq_true rfl, Nat.le_of_ble_eq_true rfl⟩) rfl hl.1 rfl (Nat.le_of_ble_eq_true rfl) dX1_classes_2 ⟨Nat.zero_le _, Nat.zero_le _⟩ (fun r u1 H locs hq hX => ?_)
    obtain ⟨rfl, rfl⟩ := hq
    refine n_top (congrArg nI (if_neg (fun z => z (mOk_nI hm0)))) ?_
    refine n_if_eq (tgt := 10) hx hb dX1_classes_5 (by decide) (by decide) (fun _ => ?_) (fun q => absurd q (by decide))
    refine lv_iconst (v := nI 0) hx hb dX1_classes_10 (by decide) ?_
    refine lv_istore_n (lv' := [(2, .int (nI 0)), (0, .ref h), (1, .int (nI m0))]) hx hb dX1_classes_11 rfl hl (by decide) rfl (fun ls hl => ?_)
    refine lv_iconst (v := nI 0) hx hb dX1_classes_12 (by decide) ?_
    refine lv_istore_n (lv' := [(3, .int (nI 0)), (2, .int (nI 0)), (0, .ref h), (1, .int (nI m0))]) hx hb dX1_classes_13 rfl hl (by decide) rfl (fun ls hl => ?_)
    have lp : ∀ (N : Nat) (s0 : Nat), (s0 ≤ sz m0) → sz m0 - s0 < N → ∀ (H : Heap) (locs : List Loc) (ls : Array Slot), HY G d h a A s (sz, nx, an, ct, mb) H locs → lv_has ls 6 [(0, .ref h), (1, .int (nI m0)), (2, .int (nI (cnt (fresh nx an m0) s0))), (3, .int (nI s0))] → W p l e rmX1_classes s m args below meth c H locs 0 0 Q (F0 m 14 ls []) := by
      intro N
      induction N with
      | zero =>
        intro s0 hs0 hms
        exact absurd hms (Nat.not_lt_zero _)
      | succ N ih =>
        intro s0 hs0 hms H locs ls hX hl
        have z1 := hZ m0
        have hcl := cnt_le (fresh nx an m0) s0
        refine lv_iload_n hx hb dX1_classes_14 rfl (lv_at hl 3 rfl) ?_
        refine lv_aload_n hx hb dX1_classes_15 rfl (lv_at hl 0 rfl) ?_
        refine yg0 S hX dX1_classes_16 ?_
        refine lv_iload_n hx hb dX1_classes_19 rfl (lv_at hl 1 rfl) ?_
        refine yl0 S hX dX1_classes_20 (by omega) ?_
        have b_20 := hZ m0
        refine n_icmp_ge (tgt := 79) hx hb dX1_classes_21 (by decide) (by omega) (by omega) (fun c_21 => ?_) (fun c_21 => ?_)
        · refine lv_iload_n hx hb dX1_classes_79 rfl (lv_at hl 2 rfl) ?_
          exact ret _ _ _ _ _ _ dX1_classes_80 (pY_of ((spClasses_2 hm0).trans (by rw [show s0 = sz m0 by omega]))) hX
        · refine lv_iconst (v := nI 1) hx hb dX1_classes_24 (by decide) ?_
          refine lv_istore (lv' := [(4, .int (nI 1)), (0, .ref h), (1, .int (nI m0)), (2, .int (nI (cnt (fresh nx an m0) s0))), (3, .int (nI s0))]) hx hb dX1_classes_25 hl (by decide) rfl (fun ls hl => ?_)
          refine lv_iconst (v := nI 0) hx hb dX1_classes_27 (by decide) ?_
          refine lv_istore (lv' := [(5, .int (nI 0)), (4, .int (nI 1)), (0, .ref h), (1, .int (nI m0)), (2, .int (nI (cnt (fresh nx an m0) s0))), (3, .int (nI s0))]) hx hb dX1_classes_28 hl (by decide) rfl (fun ls hl => ?_)
          have lp2 : ∀ (N2 : Nat) (r1 : Nat), (r1 ≤ s0) → s0 - r1 < N2 → ∀ (H : Heap) (locs : List Loc) (ls : Array Slot), HY G d h a A s (sz, nx, an, ct, mb) H locs → lv_has ls 6 [(0, .ref h), (1, .int (nI m0)), (2, .int (nI (cnt (fresh nx an m0) s0))), (3, .int (nI s0)), (4, .int (nI (pick (∀ r0, r0 < r1 → ¬ fwd nx an (6 * m0 + r0) (6 * m0 + s0) = 0) 1 0))), (5, .int (nI r1))] → W p l e rmX1_classes s m args below meth c H locs 0 0 Q (F0 m 30 ls []) := by
            intro N2
            induction N2 with
            | zero =>
              intro r1 hr1 hms
              exact absurd hms (Nat.not_lt_zero _)
            | succ N2 ih2 =>
              intro r1 hr1 hms H locs ls hX hl
              refine lv_iload hx hb dX1_classes_30 (lv_at hl 5 rfl) ?_
              refine lv_iload_n hx hb dX1_classes_32 rfl (lv_at hl 3 rfl) ?_
              refine n_icmp_ge (tgt := 65) hx hb dX1_classes_33 (by decide) (by omega) (by omega) (fun c_33 => ?_) (fun c_33 => ?_)
              · refine lv_iload hx hb dX1_classes_65 (lv_at hl 4 rfl) ?_
                refine n_if_eq (tgt := 73) hx hb dX1_classes_67 (by decide) (pick_lt (by decide) (by decide)) (fun c_67 => ?_) (fun c_67 => ?_)
                · refine lv_iinc (v := (nI (s0 + 1))) (lv' := [(3, .int (nI (s0 + 1))), (0, .ref h), (1, .int (nI m0)), (2, .int (nI (cnt (fresh nx an m0) s0))), (4, .int (nI (pick (∀ r0, r0 < r1 → ¬ fwd nx an (6 * m0 + r0) (6 * m0 + s0) = 0) 1 0))), (5, .int (nI r1))]) hx hb dX1_classes_73 hl (k := 3) rfl (nI_1 _) (by decide) rfl (fun ls hl => ?_)
                  refine lv_goto (tgt := 14) hx hb dX1_classes_76 (by decide) ?_
                  have er : r1 = s0 := (by omega)
                  rw [er] at c_67
                  have hl := lv_sub hl [1, 2, 3, 0] rfl
                  exact ih (s0 + 1) (by omega) (by omega) _ _ _ hX (by rw [cnt_f (pick_0 c_67)]; exact hl)
                · refine lv_iinc (v := (nI (cnt (fresh nx an m0) s0 + 1))) (lv' := [(2, .int (nI (cnt (fresh nx an m0) s0 + 1))), (0, .ref h), (1, .int (nI m0)), (3, .int (nI s0)), (4, .int (nI (pick (∀ r0, r0 < r1 → ¬ fwd nx an (6 * m0 + r0) (6 * m0 + s0) = 0) 1 0))), (5, .int (nI r1))]) hx hb dX1_classes_70 hl (k := 2) rfl (nI_1 _) (by decide) rfl (fun ls hl => ?_)
                  refine lv_iinc (v := (nI (s0 + 1))) (lv' := [(3, .int (nI (s0 + 1))), (2, .int (nI (cnt (fresh nx an m0) s0 + 1))), (0, .ref h), (1, .int (nI m0)), (4, .int (nI (pick (∀ r0, r0 < r1 → ¬ fwd nx an (6 * m0 + r0) (6 * m0 + s0) = 0) 1 0))), (5, .int (nI r1))]) hx hb dX1_classes_73 hl (k := 3) rfl (nI_1 _) (by decide) rfl (fun ls hl => ?_)
                  refine lv_goto (tgt := 14) hx hb dX1_classes_76 (by decide) ?_
                  have er : r1 = s0 := (by omega)
                  rw [er] at c_67
                  have hl := lv_sub hl [2, 3, 1, 0] rfl
                  exact ih (s0 + 1) (by omega) (by omega) _ _ _ hX (by rw [cnt_t (pick_1 c_67)]; exact hl)
              · refine lv_aload_n hx hb dX1_classes_36 rfl (lv_at hl 0 rfl) ?_
                refine lv_bipush (v := nI 8) hx hb dX1_classes_37 (by decide) ?_
                refine lv_iload_n hx hb dX1_classes_39 rfl (lv_at hl 1 rfl) ?_
                refine n_imul hx hb dX1_classes_40 ?_
                refine lv_iload_n hx hb dX1_classes_41 rfl (lv_at hl 3 rfl) ?_
                refine n_iadd hx hb dX1_classes_42 ?_
                refine lv_bipush (v := nI 8) hx hb dX1_classes_43 (by decide) ?_
                refine lv_iload_n hx hb dX1_classes_45 rfl (lv_at hl 1 rfl) ?_
                refine n_imul hx hb dX1_classes_46 ?_
                refine lv_iload hx hb dX1_classes_47 (lv_at hl 5 rfl) ?_
                refine n_iadd hx hb dX1_classes_49 ?_
                refine callYi S hA hX (mY_apart l sz nx an ct mb (8 * m0 + s0) (8 * m0 + r1) hw (by omega) (by rw [show (8 * m0 + s0) % 8 = s0 by omega, show (8 * m0 + s0) / 8 = m0 by omega]; omega) (by omega) (by rw [show (8 * m0 + r1) % 8 = r1 by omega, show (8 * m0 + r1) / 8 = m0 by omega]; omega)) (cwV 2 S.2.2.2.2 (lw_V q240 q242 qs14 q19 q243) rfl rfl rfl (by decide +kernel) ⟨Nat.le_of_ble_eq_true rfl, Nat.le_of_ble_eq_true rfl⟩) rfl hl.1 rfl (Nat.le_of_ble_eq_true rfl) dX1_classes_50 ⟨Nat.zero_le _, Nat.zero_le _⟩ (fun r u1 H locs hq hX => ?_)
                obtain ⟨rfl, rfl⟩ := hq
                refine n_top (y := nI (fwd nx an (6 * m0 + s0) (6 * m0 + r1))) (congrArg nI (by rw [show pl (8 * m0 + s0) = 6 * m0 + s0 by unfold pl; omega, show pl (8 * m0 + r1) = 6 * m0 + r1 by unfold pl; omega])) ?_
                have b_f := fwd_lt nx an (6 * m0 + s0) (6 * m0 + r1)
                refine n_if_ne (tgt := 59) hx hb dX1_classes_53 (by decide) (by omega) (fun c_53 => ?_) (fun c_53 => ?_)
                · refine lv_iinc (v := (nI (r1 + 1))) (lv' := [(5, .int (nI (r1 + 1))), (0, .ref h), (1, .int (nI m0)), (2, .int (nI (cnt (fresh nx an m0) s0))), (3, .int (nI s0)), (4, .int (nI (pick (∀ r0, r0 < r1 → ¬ fwd nx an (6 * m0 + r0) (6 * m0 + s0) = 0) 1 0)))]) hx hb dX1_classes_59 hl (k := 5) rfl (nI_1 _) (by decide) rfl (fun ls hl => ?_)
                  refine lv_goto (tgt := 30) hx hb dX1_classes_62 (by decide) ?_
                  have hl := lv_sub hl [1, 2, 3, 4, 5, 0] rfl
                  exact ih2 (r1 + 1) (by omega) (by omega) _ _ _ hX (by rw [fresh_up (fun z => c_53 (fwd_sym.mp z))]; exact hl)
                · refine lv_iconst (v := nI 0) hx hb dX1_classes_56 (by decide) ?_
                  refine lv_istore (lv' := [(4, .int (nI 0)), (0, .ref h), (1, .int (nI m0)), (2, .int (nI (cnt (fresh nx an m0) s0))), (3, .int (nI s0)), (5, .int (nI r1))]) hx hb dX1_classes_57 hl (by decide) rfl (fun ls hl => ?_)
                  refine lv_iinc (v := (nI (r1 + 1))) (lv' := [(5, .int (nI (r1 + 1))), (4, .int (nI 0)), (0, .ref h), (1, .int (nI m0)), (2, .int (nI (cnt (fresh nx an m0) s0))), (3, .int (nI s0))]) hx hb dX1_classes_59 hl (k := 5) rfl (nI_1 _) (by decide) rfl (fun ls hl => ?_)
                  refine lv_goto (tgt := 30) hx hb dX1_classes_62 (by decide) ?_
                  have hl := lv_sub hl [2, 3, 4, 5, 1, 0] rfl
                  exact ih2 (r1 + 1) (by omega) (by omega) _ _ _ hX (by rw [pick_f (c := ∀ r0, r0 < r1 + 1 → ¬ fwd nx an (6 * m0 + r0) (6 * m0 + s0) = 0) (fun z => z r1 (by omega) (fwd_sym.mp c_53))]; exact hl)
          have hl := lv_sub hl [2, 3, 4, 5, 1, 0] rfl
          exact lp2 _ 0 (by omega) (Nat.lt_succ_self _) _ _ _ hX (by rw [pick_t (c := ∀ r0, r0 < 0 → ¬ fwd nx an (6 * m0 + r0) (6 * m0 + s0) = 0) (fun r0 h0 => absurd h0 (Nat.not_lt_zero _))]; exact hl)
    exact lp _ 0 (by omega) (Nat.lt_succ_self _) _ _ _ hX (lv_sub hl [2, 3, 1, 0] rfl)
  · refine lv_aload_n hx hb dX1_classes_0 rfl (lv_at hl 0 rfl) ?_
    refine lv_iload_n hx hb dX1_classes_1 rfl (lv_at hl 1 rfl) ?_
    refine callYi S hA hX (mY_bad l sz nx an ct mb x) (cwV 1 S.2.2.2.2 (lw_V q192 q194 qs9 q19 q195) rfl rfl rfl (by decide +kernel) ⟨Nat.le_of_ble_eq_true rfl, Nat.le_of_ble_eq_true rfl⟩) rfl hl.1 rfl (Nat.le_of_ble_eq_true rfl) dX1_classes_2 ⟨Nat.zero_le _, Nat.zero_le _⟩ (fun r u1 H locs hq hX => ?_)
    obtain ⟨rfl, rfl⟩ := hq
    refine n_top (congrArg nI (if_pos hm)) ?_
    refine n_if_eq (tgt := 10) hx hb dX1_classes_5 (by decide) (by decide) (fun q => absurd q (by decide)) (fun _ => ?_)
    refine lv_iconst (v := -1) hx hb dX1_classes_8 (by decide) ?_
    exact ret _ _ _ _ _ _ dX1_classes_9 (pY_of (spClasses_1 hm)) hX
end
section
set_option maxRecDepth 100000
/-! the class: firstWord, alike, difference, same, classes -/
theorem fw_go {sz nx an : Nat → Nat} (hw : wf sz nx an) {a b d x : Nat} (hd : 2 ≤ d) (hd11 : d ≤ 11) (ha : a < 12) (hb : b < 12) (ta : th sz a) (tb : th sz b) (h : ds sz nx an 11 a b = d) (hx : x < 2) (h1 : x = 0 → ds sz nx an 11 (af nx a 0) (af nx b 0) = d - 1) (h2 : x = 1 → ¬ ds sz nx an 11 (af nx a 0) (af nx b 0) = d - 1) :
    ds sz nx an 11 (af nx a x) (af nx b x) = d - 1 ∧ fwd nx an a b = 2 ^ d + x * 2 ^ (d - 1) + (fwd nx an (af nx a x) (af nx b x) - 2 ^ (d - 1)) := by
  obtain ⟨k, rfl⟩ : ∃ k, d = k + 1 := ⟨d - 1, by omega⟩
  rw [Nat.add_sub_cancel] at *
  obtain ⟨g1, g2⟩ := (ds_d hw (by omega) hd11 ha hb ta tb).mp h
  rw [Nat.add_sub_cancel] at g1
  have hdn : ∀ y, y < 2 → (ds sz nx an 11 (af nx a y) (af nx b y) = k ↔ ¬ Eq_ nx an k (af nx a y) (af nx b y)) ∧ Eq_ nx an (k - 1) (af nx a y) (af nx b y) := by
    intro y hy
    obtain ⟨t1, t2, -⟩ := th_af hw ha ta hy
    obtain ⟨t3, t4, -⟩ := th_af hw hb tb hy
    have e1 : Eq_ nx an (k - 1) (af nx a y) (af nx b y) := by
      have := (Eq_succ nx an (k - 1) a b).mp (by rw [Nat.sub_add_cancel (by omega)]; exact g1)
      exact this.2 y hy
    refine ⟨?_, e1⟩
    rw [ds_d hw (by omega) (by omega) t2 t4 t1 t3]
    exact ⟨fun z => z.2, fun z => ⟨e1, z⟩⟩
  have hxk : ¬ Eq_ nx an k (af nx a x) (af nx b x) := by
    rcases (show x = 0 ∨ x = 1 by omega) with z | z
    · subst z
      exact ((hdn 0 (by decide)).1).mp (h1 rfl)
    · subst z
      intro e
      apply g2
      refine (Eq_succ nx an k a b).mpr ⟨((Eq_succ nx an 0 a b).mp (Eq_mono g1 (by omega))).1, fun y hy => ?_⟩
      rcases (show y = 0 ∨ y = 1 by omega) with q | q
      · subst q
        exact Classical.byContradiction fun n => h2 rfl (((hdn 0 (by decide)).1).mpr n)
      · subst q; exact e
  refine ⟨((hdn x hx).1).mpr hxk, ?_⟩
  refine fwd_step (by omega) (by omega) hx g1 (hdn x hx).2 hxk (fun hx1 => ?_)
  exact Classical.byContradiction fun n => h2 hx1 (((hdn 0 (by decide)).1).mpr n)
theorem fw_ar {F f g d x : Nat} (hd : 1 ≤ d) (h : F = g * 2 ^ d + (2 ^ d + x * 2 ^ (d - 1) + f - 2 ^ d)) : F = (2 * g + x) * 2 ^ (d - 1) + f := by
  obtain ⟨k, rfl⟩ : ∃ k, d = k + 1 := ⟨d - 1, by omega⟩
  rw [Nat.add_sub_cancel] at *
  rw [h, Nat.pow_succ, Nat.add_mul, ← Nat.mul_assoc, Nat.mul_comm (g * 2 ^ k) 2, ← Nat.mul_assoc]
  omega
theorem fw_end {sz nx an : Nat → Nat} (hw : wf sz nx an) {a b x : Nat} (ha : a < 12) (hb : b < 12) (ta : th sz a) (tb : th sz b) (h : ds sz nx an 11 a b = 1) (hx : x < 2) (h1 : x = 0 → ¬ an (2 * a) = an (2 * b)) (h2 : x = 1 → an (2 * a) = an (2 * b)) : fwd nx an a b = 2 + x := by
  obtain ⟨-, g2⟩ := (ds_d hw (by omega) (by omega) ha hb ta tb).mp h
  have hd : dif an a b := Classical.byContradiction fun z => g2 ((Eq_succ nx an 0 a b).mpr ⟨dif_iff.mp z, fun y _ => Eq_zero _ _ _ _⟩)
  refine fwd_one hx ?_ h2
  rcases (show x = 0 ∨ x = 1 by omega) with z | z
  · subst z; exact h1 rfl
  · subst z
    rcases hd with q | q
    · exact absurd (h2 rfl) q
    · exact q
set_option maxHeartbeats 600000 in
set_option maxRecDepth 100000 in
/-- the first difference -/
theorem mX_firstWord (l : Launch) (sz nx an ap : Nat → Nat) (cn : Nat → Int32) (ld qu wo : Nat → Nat) (co cu : Nat) (p0 q0 : Nat) (hw : wf sz nx an) (hap : apOk sz nx an ap) (hp : p0 < 12) (hq : q0 < 12) (tp : th sz p0) (tq : th sz q0) : MetX l yX0_firstWord cX0_firstWord 10 (some .int) rmX0_firstWord [.int (nI p0), .int (nI q0)] (sz, nx, an, ap, cn, ld, qu, wo, co, cu) (fun r u1 => r = nI (fwd nx an p0 q0) ∧ u1 = (sz, nx, an, ap, cn, ld, qu, wo, co, cu)) := by
  refine entXi rfl (by decide) rfl rfl (fun _ => Nat.le_of_ble_eq_true rfl) ?_
  intro G d h a A p e s m below meth c args Q S hA hX ret ls hl
  have hx := S.1
  have hb := S.2.1
  have hl : lv_has ls 10 [(0, .ref h), (1, .int (nI p0)), (2, .int (nI q0))] := hl
  have hN := hw.2.2.2.1
  have hA4 := hw.2.2.2.2
  refine lv_iload_n hx hb dX0_firstWord_0 rfl (lv_at hl 1 rfl) ?_
  refine lv_istore_n (lv' := [(3, .int (nI p0)), (0, .ref h), (1, .int (nI p0)), (2, .int (nI q0))]) hx hb dX0_firstWord_1 rfl hl (by decide) rfl (fun ls hl => ?_)
  refine lv_iload_n hx hb dX0_firstWord_2 rfl (lv_at hl 3 rfl) ?_
  refine lv_istore (lv' := [(4, .int (nI q0)), (3, .int (nI p0)), (0, .ref h), (1, .int (nI p0)), (2, .int (nI q0))]) hx hb dX0_firstWord_3 hl (by decide) rfl (fun ls hl => ?_)
  refine lv_aload_n hx hb dX0_firstWord_5 rfl (lv_at hl 2 rfl) ?_
  refine xg3 S hX dX0_firstWord_6 ?_
  refine lv_bipush (v := nI 12) hx hb dX0_firstWord_9 (by decide) ?_
  refine lv_iload_n hx hb dX0_firstWord_11 rfl (lv_at hl 3 rfl) ?_
  refine n_imul hx hb dX0_firstWord_12 ?_
  refine lv_iload_n hx hb dX0_firstWord_13 rfl (lv_at hl 4 rfl) ?_
  refine n_iadd hx hb dX0_firstWord_14 ?_
  refine xl3 S hX dX0_firstWord_15 (by omega) ?_
  refine n_top (y := (nI (ds sz nx an 11 p0 q0))) (congrArg nI (hap p0 q0 hp hq)) ?_
  have b_ds := ds_le sz nx an 11 p0 q0
  refine lv_istore (lv' := [(5, .int (nI (ds sz nx an 11 p0 q0))), (4, .int (nI q0)), (3, .int (nI p0)), (0, .ref h), (1, .int (nI p0)), (2, .int (nI q0))]) hx hb dX0_firstWord_16 hl (by decide) rfl (fun ls hl => ?_)
  refine lv_iload hx hb dX0_firstWord_18 (lv_at hl 0 rfl) ?_
  refine n_if_ne (tgt := 25) hx hb dX0_firstWord_20 (by decide) (by omega) (fun c_20 => ?_) (fun c_20 => ?_)
  · refine lv_iconst (v := nI 1) hx hb dX0_firstWord_25 (by decide) ?_
    refine lv_istore (lv' := [(6, .int (nI 1)), (5, .int (nI (ds sz nx an 11 p0 q0))), (4, .int (nI q0)), (3, .int (nI p0)), (0, .ref h), (1, .int (nI p0)), (2, .int (nI q0))]) hx hb dX0_firstWord_26 hl (by decide) rfl (fun ls hl => ?_)
    have lp : ∀ (N : Nat) (a1 : Nat) (b1 : Nat) (dl : Nat) (g : Nat), (a1 < 12) → (b1 < 12) → (th sz a1) → (th sz b1) → (1 ≤ dl) → (dl ≤ 11) → (ds sz nx an 11 a1 b1 = dl) → (fwd nx an p0 q0 = g * 2 ^ dl + (fwd nx an a1 b1 - 2 ^ dl)) → dl < N → ∀ (H : Heap) (locs : List Loc) (ls : Array Slot), HX G d h a A s (sz, nx, an, ap, cn, ld, qu, wo, co, cu) H locs → lv_has ls 10 [(0, .ref h), (1, .int (nI p0)), (2, .int (nI q0)), (3, .int (nI a1)), (4, .int (nI b1)), (5, .int (nI dl)), (6, .int (nI g))] → W p l e rmX0_firstWord s m args below meth c H locs 0 0 Q (F0 m 28 ls []) := by
      intro N
      induction N with
      | zero =>
        intro a1 b1 dl g ha hb2 ta tb hd1 hd hds hF hms
        exact absurd hms (Nat.not_lt_zero _)
      | succ N ih =>
        intro a1 b1 dl g ha hb2 ta tb hd1 hd hds hF hms H locs ls hX hl
        refine lv_iload hx hb dX0_firstWord_28 (lv_at hl 5 rfl) ?_
        refine lv_iconst (v := nI 1) hx hb dX0_firstWord_30 (by decide) ?_
        refine n_icmp_le (tgt := 111) hx hb dX0_firstWord_31 (by decide) (by omega) (by omega) (fun c_31 => ?_) (fun c_31 => ?_)
        · refine lv_iconst (v := nI 2) hx hb dX0_firstWord_111 (by decide) ?_
          refine lv_iload hx hb dX0_firstWord_112 (lv_at hl 6 rfl) ?_
          refine n_imul hx hb dX0_firstWord_114 ?_
          refine lv_aload_n hx hb dX0_firstWord_115 rfl (lv_at hl 0 rfl) ?_
          refine xg2 S hX dX0_firstWord_116 ?_
          refine lv_iconst (v := nI 2) hx hb dX0_firstWord_119 (by decide) ?_
          refine lv_iload_n hx hb dX0_firstWord_120 rfl (lv_at hl 3 rfl) ?_
          refine n_imul hx hb dX0_firstWord_121 ?_
          refine xl2 S hX dX0_firstWord_122 (by omega) ?_
          have b_122 := hA4 (2 * a1)
          refine lv_aload_n hx hb dX0_firstWord_123 rfl (lv_at hl 0 rfl) ?_
          refine xg2 S hX dX0_firstWord_124 ?_
          refine lv_iconst (v := nI 2) hx hb dX0_firstWord_127 (by decide) ?_
          refine lv_iload hx hb dX0_firstWord_128 (lv_at hl 4 rfl) ?_
          refine n_imul hx hb dX0_firstWord_130 ?_
          refine xl2 S hX dX0_firstWord_131 (by omega) ?_
          have b_131 := hA4 (2 * b1)
          refine n_icmp_eq (tgt := 139) hx hb dX0_firstWord_132 (by decide) (by omega) (by omega) (fun c_132 => ?_) (fun c_132 => ?_)
          · refine lv_iconst (v := nI 1) hx hb dX0_firstWord_139 (by decide) ?_
            refine n_iadd hx hb dX0_firstWord_140 ?_
            exact ret _ _ _ _ _ _ dX0_firstWord_141 (⟨congrArg nI (by (have ed : dl = 1 := (by omega)); rw [hF, fw_end hw (x := 1) ha hb2 ta tb (hds.trans ed) (by decide) (fun z => absurd z (by decide)) (fun _ => c_132), ed]; omega), rfl⟩) hX
          · refine lv_iconst (v := nI 0) hx hb dX0_firstWord_135 (by decide) ?_
            refine lv_goto (tgt := 140) hx hb dX0_firstWord_136 (by decide) ?_
            refine n_iadd hx hb dX0_firstWord_140 ?_
            exact ret _ _ _ _ _ _ dX0_firstWord_141 (⟨congrArg nI (by (have ed : dl = 1 := (by omega)); rw [hF, fw_end hw (x := 0) ha hb2 ta tb (hds.trans ed) (by decide) (fun _ => c_132) (fun z => absurd z (by decide)), ed]; omega), rfl⟩) hX
        · refine lv_aload_n hx hb dX0_firstWord_34 rfl (lv_at hl 0 rfl) ?_
          refine lv_iload_n hx hb dX0_firstWord_35 rfl (lv_at hl 3 rfl) ?_
          refine lv_iconst (v := nI 0) hx hb dX0_firstWord_36 (by decide) ?_
          refine callXi S hA hX (mX_after l sz nx an ap cn ld qu wo co cu a1 0 (by omega) (by omega) hN) (cwV 2 S.2.2.2.2 (lw_V q94 q96 qs1 q18 q97) rfl rfl rfl (by decide +kernel) ⟨Nat.le_of_ble_eq_true rfl, Nat.le_of_ble_eq_true rfl⟩) rfl hl.1 rfl (Nat.le_of_ble_eq_true rfl) dX0_firstWord_37 ⟨Nat.zero_le _, Nat.zero_le _⟩ (fun r u1 H locs hq hX => ?_)
          obtain ⟨rfl, rfl⟩ := hq
          refine n_top (y := nI (af nx a1 0)) rfl ?_
          have g_40 := af_lt hN (p := a1) (by omega) 0
          refine lv_istore (lv' := [(7, .int (nI (af nx a1 0))), (0, .ref h), (1, .int (nI p0)), (2, .int (nI q0)), (3, .int (nI a1)), (4, .int (nI b1)), (5, .int (nI dl)), (6, .int (nI g))]) hx hb dX0_firstWord_40 hl (by decide) rfl (fun ls hl => ?_)
          refine lv_aload_n hx hb dX0_firstWord_42 rfl (lv_at hl 1 rfl) ?_
          refine lv_iload hx hb dX0_firstWord_43 (lv_at hl 5 rfl) ?_
          refine lv_iconst (v := nI 0) hx hb dX0_firstWord_45 (by decide) ?_
          refine callXi S hA hX (mX_after l sz nx an ap cn ld qu wo co cu b1 0 (by omega) (by omega) hN) (cwV 2 S.2.2.2.2 (lw_V q94 q96 qs1 q18 q97) rfl rfl rfl (by decide +kernel) ⟨Nat.le_of_ble_eq_true rfl, Nat.le_of_ble_eq_true rfl⟩) rfl hl.1 rfl (Nat.le_of_ble_eq_true rfl) dX0_firstWord_46 ⟨Nat.zero_le _, Nat.zero_le _⟩ (fun r u1 H locs hq hX => ?_)
          obtain ⟨rfl, rfl⟩ := hq
          refine n_top (y := nI (af nx b1 0)) rfl ?_
          have g_49 := af_lt hN (p := b1) (by omega) 0
          refine lv_istore (lv' := [(8, .int (nI (af nx b1 0))), (7, .int (nI (af nx a1 0))), (0, .ref h), (1, .int (nI p0)), (2, .int (nI q0)), (3, .int (nI a1)), (4, .int (nI b1)), (5, .int (nI dl)), (6, .int (nI g))]) hx hb dX0_firstWord_49 hl (by decide) rfl (fun ls hl => ?_)
          refine lv_aload_n hx hb dX0_firstWord_51 rfl (lv_at hl 2 rfl) ?_
          refine xg3 S hX dX0_firstWord_52 ?_
          refine lv_bipush (v := nI 12) hx hb dX0_firstWord_55 (by decide) ?_
          refine lv_iload hx hb dX0_firstWord_57 (lv_at hl 1 rfl) ?_
          refine n_imul hx hb dX0_firstWord_59 ?_
          refine lv_iload hx hb dX0_firstWord_60 (lv_at hl 0 rfl) ?_
          refine n_iadd hx hb dX0_firstWord_62 ?_
          refine xl3 S hX dX0_firstWord_63 (by omega) ?_
          refine n_top (y := (nI (ds sz nx an 11 (af nx a1 0) (af nx b1 0)))) (congrArg nI (hap _ _ (by omega) (by omega))) ?_
          have b_64 := ds_le sz nx an 11 (af nx a1 0) (af nx b1 0)
          refine lv_iload hx hb dX0_firstWord_64 (lv_at hl 7 rfl) ?_
          refine lv_iconst (v := nI 1) hx hb dX0_firstWord_66 (by decide) ?_
          refine n_isub hx hb dX0_firstWord_67 (by omega) ?_
          refine n_icmp_ne (tgt := 75) hx hb dX0_firstWord_68 (by decide) (by omega) (by omega) (fun c_68 => ?_) (fun c_68 => ?_)
          · refine lv_iconst (v := nI 1) hx hb dX0_firstWord_75 (by decide) ?_
            refine lv_istore (lv' := [(9, .int (nI 1)), (8, .int (nI (af nx b1 0))), (7, .int (nI (af nx a1 0))), (0, .ref h), (1, .int (nI p0)), (2, .int (nI q0)), (3, .int (nI a1)), (4, .int (nI b1)), (5, .int (nI dl)), (6, .int (nI g))]) hx hb dX0_firstWord_76 hl (by decide) rfl (fun ls hl => ?_)
            refine lv_aload_n hx hb dX0_firstWord_78 rfl (lv_at hl 3 rfl) ?_
            refine lv_iload_n hx hb dX0_firstWord_79 rfl (lv_at hl 6 rfl) ?_
            refine lv_iload hx hb dX0_firstWord_80 (lv_at hl 0 rfl) ?_
            refine callXi S hA hX (mX_after l sz nx an ap cn ld qu wo co cu a1 1 (by omega) (by omega) hN) (cwV 2 S.2.2.2.2 (lw_V q94 q96 qs1 q18 q97) rfl rfl rfl (by decide +kernel) ⟨Nat.le_of_ble_eq_true rfl, Nat.le_of_ble_eq_true rfl⟩) rfl hl.1 rfl (Nat.le_of_ble_eq_true rfl) dX0_firstWord_82 ⟨Nat.zero_le _, Nat.zero_le _⟩ (fun r u1 H locs hq hX => ?_)
            obtain ⟨rfl, rfl⟩ := hq
            refine n_top (y := nI (af nx a1 1)) rfl ?_
            have g_85 := af_lt hN (p := a1) (by omega) 1
            refine lv_istore_n (lv' := [(3, .int (nI (af nx a1 1))), (9, .int (nI 1)), (8, .int (nI (af nx b1 0))), (7, .int (nI (af nx a1 0))), (0, .ref h), (1, .int (nI p0)), (2, .int (nI q0)), (4, .int (nI b1)), (5, .int (nI dl)), (6, .int (nI g))]) hx hb dX0_firstWord_85 rfl hl (by decide) rfl (fun ls hl => ?_)
            refine lv_aload_n hx hb dX0_firstWord_86 rfl (lv_at hl 4 rfl) ?_
            refine lv_iload hx hb dX0_firstWord_87 (lv_at hl 7 rfl) ?_
            refine lv_iload hx hb dX0_firstWord_89 (lv_at hl 1 rfl) ?_
            refine callXi S hA hX (mX_after l sz nx an ap cn ld qu wo co cu b1 1 (by omega) (by omega) hN) (cwV 2 S.2.2.2.2 (lw_V q94 q96 qs1 q18 q97) rfl rfl rfl (by decide +kernel) ⟨Nat.le_of_ble_eq_true rfl, Nat.le_of_ble_eq_true rfl⟩) rfl hl.1 rfl (Nat.le_of_ble_eq_true rfl) dX0_firstWord_91 ⟨Nat.zero_le _, Nat.zero_le _⟩ (fun r u1 H locs hq hX => ?_)
            obtain ⟨rfl, rfl⟩ := hq
            refine n_top (y := nI (af nx b1 1)) rfl ?_
            have g_94 := af_lt hN (p := b1) (by omega) 1
            refine lv_istore (lv' := [(4, .int (nI (af nx b1 1))), (3, .int (nI (af nx a1 1))), (9, .int (nI 1)), (8, .int (nI (af nx b1 0))), (7, .int (nI (af nx a1 0))), (0, .ref h), (1, .int (nI p0)), (2, .int (nI q0)), (5, .int (nI dl)), (6, .int (nI g))]) hx hb dX0_firstWord_94 hl (by decide) rfl (fun ls hl => ?_)
            refine lv_iconst (v := nI 2) hx hb dX0_firstWord_96 (by decide) ?_
            refine lv_iload hx hb dX0_firstWord_97 (lv_at hl 9 rfl) ?_
            refine n_imul hx hb dX0_firstWord_99 ?_
            refine lv_iload hx hb dX0_firstWord_100 (lv_at hl 2 rfl) ?_
            refine n_iadd hx hb dX0_firstWord_102 ?_
            refine lv_istore (lv' := [(6, .int (nI (2 * g + 1))), (4, .int (nI (af nx b1 1))), (3, .int (nI (af nx a1 1))), (9, .int (nI 1)), (8, .int (nI (af nx b1 0))), (7, .int (nI (af nx a1 0))), (0, .ref h), (1, .int (nI p0)), (2, .int (nI q0)), (5, .int (nI dl))]) hx hb dX0_firstWord_103 hl (by decide) rfl (fun ls hl => ?_)
            refine lv_iinc (v := (kI dl)) (lv' := [(5, .int (kI dl)), (6, .int (nI (2 * g + 1))), (4, .int (nI (af nx b1 1))), (3, .int (nI (af nx a1 1))), (9, .int (nI 1)), (8, .int (nI (af nx b1 0))), (7, .int (nI (af nx a1 0))), (0, .ref h), (1, .int (nI p0)), (2, .int (nI q0))]) hx hb dX0_firstWord_105 hl (k := 9) rfl (kI_dec _) (by decide) rfl (fun ls hl => ?_)
            refine lv_goto (tgt := 28) hx hb dX0_firstWord_108 (by decide) ?_
            rw [kI_pred hd1] at hl
            obtain ⟨k1, k2⟩ := fw_go hw (x := 1) (by omega) hd ha hb2 ta tb hds (by decide) (fun z => by first | exact absurd z (by decide) | exact c_68) (fun z => by first | exact absurd z (by decide) | exact c_68)
            obtain ⟨e1, e2, -⟩ := th_af hw ha ta (a := 1) (by decide)
            obtain ⟨e3, e4, -⟩ := th_af hw hb2 tb (a := 1) (by decide)
            exact ih (af nx a1 1) (af nx b1 1) (dl - 1) (2 * g + 1) (e2) (e4) (e1) (e3) (by omega) (by omega) (k1) (fw_ar hd1 (by rw [← Nat.add_sub_assoc (by have z := fwd_len (nx := nx) (an := an) (d := dl - 1) (by omega) (by omega) ((ds_d hw (by omega) (by omega) e2 e4 e1 e3).mp k1).1 ((ds_d hw (by omega) (by omega) e2 e4 e1 e3).mp k1).2; exact z.1)] at k2; rw [hF, k2]; have zz := fwd_len (nx := nx) (an := an) (d := dl - 1) (by omega) (by omega) ((ds_d hw (by omega) (by omega) e2 e4 e1 e3).mp k1).1 ((ds_d hw (by omega) (by omega) e2 e4 e1 e3).mp k1).2; omega)) (by omega) _ _ _ hX (lv_sub hl [7, 8, 9, 3, 2, 0, 1] rfl)
          · refine lv_iconst (v := nI 0) hx hb dX0_firstWord_71 (by decide) ?_
            refine lv_goto (tgt := 76) hx hb dX0_firstWord_72 (by decide) ?_
            refine lv_istore (lv' := [(9, .int (nI 0)), (8, .int (nI (af nx b1 0))), (7, .int (nI (af nx a1 0))), (0, .ref h), (1, .int (nI p0)), (2, .int (nI q0)), (3, .int (nI a1)), (4, .int (nI b1)), (5, .int (nI dl)), (6, .int (nI g))]) hx hb dX0_firstWord_76 hl (by decide) rfl (fun ls hl => ?_)
            refine lv_aload_n hx hb dX0_firstWord_78 rfl (lv_at hl 3 rfl) ?_
            refine lv_iload_n hx hb dX0_firstWord_79 rfl (lv_at hl 6 rfl) ?_
            refine lv_iload hx hb dX0_firstWord_80 (lv_at hl 0 rfl) ?_
            refine callXi S hA hX (mX_after l sz nx an ap cn ld qu wo co cu a1 0 (by omega) (by omega) hN) (cwV 2 S.2.2.2.2 (lw_V q94 q96 qs1 q18 q97) rfl rfl rfl (by decide +kernel) ⟨Nat.le_of_ble_eq_true rfl, Nat.le_of_ble_eq_true rfl⟩) rfl hl.1 rfl (Nat.le_of_ble_eq_true rfl) dX0_firstWord_82 ⟨Nat.zero_le _, Nat.zero_le _⟩ (fun r u1 H locs hq hX => ?_)
            obtain ⟨rfl, rfl⟩ := hq
            refine n_top (y := nI (af nx a1 0)) rfl ?_
            have g_85 := af_lt hN (p := a1) (by omega) 0
            refine lv_istore_n (lv' := [(3, .int (nI (af nx a1 0))), (9, .int (nI 0)), (8, .int (nI (af nx b1 0))), (7, .int (nI (af nx a1 0))), (0, .ref h), (1, .int (nI p0)), (2, .int (nI q0)), (4, .int (nI b1)), (5, .int (nI dl)), (6, .int (nI g))]) hx hb dX0_firstWord_85 rfl hl (by decide) rfl (fun ls hl => ?_)
            refine lv_aload_n hx hb dX0_firstWord_86 rfl (lv_at hl 4 rfl) ?_
            refine lv_iload hx hb dX0_firstWord_87 (lv_at hl 7 rfl) ?_
            refine lv_iload hx hb dX0_firstWord_89 (lv_at hl 1 rfl) ?_
            refine callXi S hA hX (mX_after l sz nx an ap cn ld qu wo co cu b1 0 (by omega) (by omega) hN) (cwV 2 S.2.2.2.2 (lw_V q94 q96 qs1 q18 q97) rfl rfl rfl (by decide +kernel) ⟨Nat.le_of_ble_eq_true rfl, Nat.le_of_ble_eq_true rfl⟩) rfl hl.1 rfl (Nat.le_of_ble_eq_true rfl) dX0_firstWord_91 ⟨Nat.zero_le _, Nat.zero_le _⟩ (fun r u1 H locs hq hX => ?_)
            obtain ⟨rfl, rfl⟩ := hq
            refine n_top (y := nI (af nx b1 0)) rfl ?_
            have g_94 := af_lt hN (p := b1) (by omega) 0
            refine lv_istore (lv' := [(4, .int (nI (af nx b1 0))), (3, .int (nI (af nx a1 0))), (9, .int (nI 0)), (8, .int (nI (af nx b1 0))), (7, .int (nI (af nx a1 0))), (0, .ref h), (1, .int (nI p0)), (2, .int (nI q0)), (5, .int (nI dl)), (6, .int (nI g))]) hx hb dX0_firstWord_94 hl (by decide) rfl (fun ls hl => ?_)
            refine lv_iconst (v := nI 2) hx hb dX0_firstWord_96 (by decide) ?_
            refine lv_iload hx hb dX0_firstWord_97 (lv_at hl 9 rfl) ?_
            refine n_imul hx hb dX0_firstWord_99 ?_
            refine lv_iload hx hb dX0_firstWord_100 (lv_at hl 2 rfl) ?_
            refine n_iadd hx hb dX0_firstWord_102 ?_
            refine lv_istore (lv' := [(6, .int (nI (2 * g + 0))), (4, .int (nI (af nx b1 0))), (3, .int (nI (af nx a1 0))), (9, .int (nI 0)), (8, .int (nI (af nx b1 0))), (7, .int (nI (af nx a1 0))), (0, .ref h), (1, .int (nI p0)), (2, .int (nI q0)), (5, .int (nI dl))]) hx hb dX0_firstWord_103 hl (by decide) rfl (fun ls hl => ?_)
            refine lv_iinc (v := (kI dl)) (lv' := [(5, .int (kI dl)), (6, .int (nI (2 * g + 0))), (4, .int (nI (af nx b1 0))), (3, .int (nI (af nx a1 0))), (9, .int (nI 0)), (8, .int (nI (af nx b1 0))), (7, .int (nI (af nx a1 0))), (0, .ref h), (1, .int (nI p0)), (2, .int (nI q0))]) hx hb dX0_firstWord_105 hl (k := 9) rfl (kI_dec _) (by decide) rfl (fun ls hl => ?_)
            refine lv_goto (tgt := 28) hx hb dX0_firstWord_108 (by decide) ?_
            rw [kI_pred hd1] at hl
            obtain ⟨k1, k2⟩ := fw_go hw (x := 0) (by omega) hd ha hb2 ta tb hds (by decide) (fun z => by first | exact absurd z (by decide) | exact c_68) (fun z => by first | exact absurd z (by decide) | exact c_68)
            obtain ⟨e1, e2, -⟩ := th_af hw ha ta (a := 0) (by decide)
            obtain ⟨e3, e4, -⟩ := th_af hw hb2 tb (a := 0) (by decide)
            exact ih (af nx a1 0) (af nx b1 0) (dl - 1) (2 * g + 0) (e2) (e4) (e1) (e3) (by omega) (by omega) (k1) (fw_ar hd1 (by rw [← Nat.add_sub_assoc (by have z := fwd_len (nx := nx) (an := an) (d := dl - 1) (by omega) (by omega) ((ds_d hw (by omega) (by omega) e2 e4 e1 e3).mp k1).1 ((ds_d hw (by omega) (by omega) e2 e4 e1 e3).mp k1).2; exact z.1)] at k2; rw [hF, k2]; have zz := fwd_len (nx := nx) (an := an) (d := dl - 1) (by omega) (by omega) ((ds_d hw (by omega) (by omega) e2 e4 e1 e3).mp k1).1 ((ds_d hw (by omega) (by omega) e2 e4 e1 e3).mp k1).2; omega)) (by omega) _ _ _ hX (lv_sub hl [7, 8, 9, 3, 2, 0, 1] rfl)
    exact lp _ p0 q0 (ds sz nx an 11 p0 q0) 1 (hp) (hq) (tp) (tq) (by omega) (by omega) (rfl) (by (have z := fwd_len (nx := nx) (an := an) (d := ds sz nx an 11 p0 q0) (by omega) (by omega) ((ds_d hw (by omega) (by omega) hp hq tp tq).mp rfl).1 ((ds_d hw (by omega) (by omega) hp hq tp tq).mp rfl).2); omega) (Nat.lt_succ_self _) _ _ _ hX (lv_sub hl [4, 5, 6, 3, 2, 1, 0] rfl)
  · refine lv_iconst (v := nI 0) hx hb dX0_firstWord_23 (by decide) ?_
    exact ret _ _ _ _ _ _ dX0_firstWord_24 (⟨congrArg nI ((ds_fwd hw hp hq tp tq).mp c_20).symm, rfl⟩) hX
set_option maxHeartbeats 600000 in
set_option maxRecDepth 100000 in
theorem mX_alike (l : Launch) (sz nx an ap : Nat → Nat) (cn : Nat → Int32) (ld qu wo : Nat → Nat) (co cu : Nat) (x : Int32) (y : Int32) (hI : inX sz nx an ap cu) : MetX l yX0_alike cX0_alike 5 (some .int) rmX0_alike [.int x, .int y] (sz, nx, an, ap, cn, ld, qu, wo, co, cu) (pX (spAlike x y sz nx an)) := by
  refine entXi rfl (by decide) rfl rfl (fun _ => Nat.le_of_ble_eq_true rfl) ?_
  intro G d h a A p e s m below meth c args Q S hA hX ret ls hl
  have hx := S.1
  have hb := S.2.1
  have hl : lv_has ls 5 [(0, .ref h), (1, .int x), (2, .int y)] := hl
  have hw := hI.1
  have hZ := hw.2.1
  have hN := hw.2.2.2.1
  have hA4 := hw.2.2.2.2
  refine lv_aload_n hx hb dX0_alike_0 rfl (lv_at hl 0 rfl) ?_
  refine lv_iload_n hx hb dX0_alike_1 rfl (lv_at hl 1 rfl) ?_
  refine callXi S hA hX (mX_placeOf l sz nx an ap cn ld qu wo co cu x hZ) (cwV 1 S.2.2.2.2 (lw_V q87 q89 qs0 q18 q90) rfl rfl rfl (by decide +kernel) ⟨Nat.le_of_ble_eq_true rfl, Nat.le_of_ble_eq_true rfl⟩) rfl hl.1 rfl (Nat.le_of_ble_eq_true rfl) dX0_alike_2 ⟨Nat.zero_le _, Nat.zero_le _⟩ (fun r u1 H locs hq hX => ?_)
  obtain ⟨rfl, rfl⟩ := hq
  by_cases hsox : stOk sz x
  · obtain ⟨v1, hv1, hsv1, rfl⟩ := stOk_of hsox
    refine n_top (y := nI (pl v1)) (plc_yes hv1 hsv1) ?_
    have fv1 := pl_facts hZ hv1 hsv1
    refine lv_istore_n (lv' := [(3, .int (nI (pl v1))), (0, .ref h), (1, .int (nI v1)), (2, .int y)]) hx hb dX0_alike_5 rfl hl (by decide) rfl (fun ls hl => ?_)
    refine lv_aload_n hx hb dX0_alike_6 rfl (lv_at hl 1 rfl) ?_
    refine lv_iload_n hx hb dX0_alike_7 rfl (lv_at hl 3 rfl) ?_
    refine callXi S hA hX (mX_placeOf l sz nx an ap cn ld qu wo co cu y hZ) (cwV 1 S.2.2.2.2 (lw_V q87 q89 qs0 q18 q90) rfl rfl rfl (by decide +kernel) ⟨Nat.le_of_ble_eq_true rfl, Nat.le_of_ble_eq_true rfl⟩) rfl hl.1 rfl (Nat.le_of_ble_eq_true rfl) dX0_alike_8 ⟨Nat.zero_le _, Nat.zero_le _⟩ (fun r u1 H locs hq hX => ?_)
    obtain ⟨rfl, rfl⟩ := hq
    by_cases hsoy : stOk sz y
    · obtain ⟨v2, hv2, hsv2, rfl⟩ := stOk_of hsoy
      refine n_top (y := nI (pl v2)) (plc_yes hv2 hsv2) ?_
      have fv2 := pl_facts hZ hv2 hsv2
      refine lv_istore (lv' := [(4, .int (nI (pl v2))), (3, .int (nI (pl v1))), (0, .ref h), (1, .int (nI v1)), (2, .int (nI v2))]) hx hb dX0_alike_11 hl (by decide) rfl (fun ls hl => ?_)
      refine lv_iload_n hx hb dX0_alike_13 rfl (lv_at hl 1 rfl) ?_
      refine n_if_lt (tgt := 22) hx hb dX0_alike_14 (by decide) (by omega) ?_
      refine lv_iload hx hb dX0_alike_17 (lv_at hl 0 rfl) ?_
      refine n_if_ge (tgt := 24) hx hb dX0_alike_19 (by decide) (by omega) ?_
      refine lv_aload_n hx hb dX0_alike_24 rfl (lv_at hl 2 rfl) ?_
      refine callXv S hA hX (mX_refresh l sz nx an ap cn ld qu wo co cu hI) (cwV 0 S.2.2.2.2 (lw_V q106 q108 qs2 q18 q109) rfl rfl rfl (by decide +kernel) ⟨Nat.le_of_ble_eq_true rfl, Nat.le_of_ble_eq_true rfl⟩) rfl hl.1 rfl (Nat.le_of_ble_eq_true rfl) dX0_alike_25 ⟨Nat.zero_le _, Nat.zero_le _⟩ (fun u1 H locs hq hX => ?_)
      obtain ⟨ap1, rfl, hap⟩ := hq
      refine lv_aload_n hx hb dX0_alike_28 rfl (lv_at hl 2 rfl) ?_
      refine xg3 S hX dX0_alike_29 ?_
      refine lv_bipush (v := nI 12) hx hb dX0_alike_32 (by decide) ?_
      refine lv_iload_n hx hb dX0_alike_34 rfl (lv_at hl 1 rfl) ?_
      refine n_imul hx hb dX0_alike_35 ?_
      refine lv_iload hx hb dX0_alike_36 (lv_at hl 0 rfl) ?_
      refine n_iadd hx hb dX0_alike_38 ?_
      refine xl3 S hX dX0_alike_39 (by omega) ?_
      refine n_top (y := (nI (ds sz nx an 11 (pl v1) (pl v2)))) (congrArg nI (hap (pl v1) (pl v2) fv1.1 fv2.1)) ?_
      have b_ds := ds_le sz nx an 11 (pl v1) (pl v2)
      refine n_if_ne (tgt := 47) hx hb dX0_alike_40 (by decide) (by omega) (fun c_40 => ?_) (fun c_40 => ?_)
      · refine lv_iconst (v := nI 0) hx hb dX0_alike_47 (by decide) ?_
        exact ret _ _ _ _ _ _ dX0_alike_48 (pX_of ((spAlike_2 hv1 hv2 hsv1 hsv2).trans (by rw [pick_f (fun z => c_40 ((ds_fwd hw fv1.1 fv2.1 fv1.2.1 fv2.2.1).mpr z))])) (⟨hw, Or.inr ⟨rfl, hap⟩⟩)) hX
      · refine lv_iconst (v := nI 1) hx hb dX0_alike_43 (by decide) ?_
        refine lv_goto (tgt := 48) hx hb dX0_alike_44 (by decide) ?_
        exact ret _ _ _ _ _ _ dX0_alike_48 (pX_of ((spAlike_2 hv1 hv2 hsv1 hsv2).trans (by rw [pick_t ((ds_fwd hw fv1.1 fv2.1 fv1.2.1 fv2.2.1).mp c_40)])) (⟨hw, Or.inr ⟨rfl, hap⟩⟩)) hX
    · refine n_top (plc_no hsoy) ?_
      refine lv_istore (lv' := [(4, .int (-1)), (3, .int (nI (pl v1))), (0, .ref h), (1, .int (nI v1)), (2, .int y)]) hx hb dX0_alike_11 hl (by decide) rfl (fun ls hl => ?_)
      refine lv_iload_n hx hb dX0_alike_13 rfl (lv_at hl 1 rfl) ?_
      refine n_if_lt (tgt := 22) hx hb dX0_alike_14 (by decide) (by omega) ?_
      refine lv_iload hx hb dX0_alike_17 (lv_at hl 0 rfl) ?_
      refine lv_if_ge (tgt := 24) hx hb dX0_alike_19 (by decide) (fun q => absurd q (by decide)) (fun _ => ?_)
      refine lv_iconst (v := -1) hx hb dX0_alike_22 (by decide) ?_
      exact ret _ _ _ _ _ _ dX0_alike_23 (pX_of (spAlike_1 (by first | exact fun z => hsox z.1 | exact fun z => hsoy z.2)) (hI)) hX
  · refine n_top (plc_no hsox) ?_
    refine lv_istore_n (lv' := [(3, .int (-1)), (0, .ref h), (1, .int x), (2, .int y)]) hx hb dX0_alike_5 rfl hl (by decide) rfl (fun ls hl => ?_)
    refine lv_aload_n hx hb dX0_alike_6 rfl (lv_at hl 1 rfl) ?_
    refine lv_iload_n hx hb dX0_alike_7 rfl (lv_at hl 3 rfl) ?_
    refine callXi S hA hX (mX_placeOf l sz nx an ap cn ld qu wo co cu y hZ) (cwV 1 S.2.2.2.2 (lw_V q87 q89 qs0 q18 q90) rfl rfl rfl (by decide +kernel) ⟨Nat.le_of_ble_eq_true rfl, Nat.le_of_ble_eq_true rfl⟩) rfl hl.1 rfl (Nat.le_of_ble_eq_true rfl) dX0_alike_8 ⟨Nat.zero_le _, Nat.zero_le _⟩ (fun r u1 H locs hq hX => ?_)
    obtain ⟨rfl, rfl⟩ := hq
    refine lv_istore (lv' := [(4, .int (plc sz y)), (3, .int (-1)), (0, .ref h), (1, .int x), (2, .int y)]) hx hb dX0_alike_11 hl (by decide) rfl (fun ls hl => ?_)
    refine lv_iload_n hx hb dX0_alike_13 rfl (lv_at hl 1 rfl) ?_
    refine lv_if_lt (tgt := 22) hx hb dX0_alike_14 (by decide) (fun _ => ?_) (fun q => absurd (by decide) q)
    refine lv_iconst (v := -1) hx hb dX0_alike_22 (by decide) ?_
    exact ret _ _ _ _ _ _ dX0_alike_23 (pX_of (spAlike_1 (by first | exact fun z => hsox z.1 | exact fun z => hsoy z.2)) (hI)) hX
set_option maxHeartbeats 600000 in
set_option maxRecDepth 100000 in
theorem mX_difference (l : Launch) (sz nx an ap : Nat → Nat) (cn : Nat → Int32) (ld qu wo : Nat → Nat) (co cu : Nat) (x : Int32) (y : Int32) (hI : inX sz nx an ap cu) : MetX l yX0_difference cX0_difference 5 (some .int) rmX0_difference [.int x, .int y] (sz, nx, an, ap, cn, ld, qu, wo, co, cu) (pX (spDifference x y sz nx an)) := by
  refine entXi rfl (by decide) rfl rfl (fun _ => Nat.le_of_ble_eq_true rfl) ?_
  intro G d h a A p e s m below meth c args Q S hA hX ret ls hl
  have hx := S.1
  have hb := S.2.1
  have hl : lv_has ls 5 [(0, .ref h), (1, .int x), (2, .int y)] := hl
  have hw := hI.1
  have hZ := hw.2.1
  have hN := hw.2.2.2.1
  have hA4 := hw.2.2.2.2
  refine lv_aload_n hx hb dX0_difference_0 rfl (lv_at hl 0 rfl) ?_
  refine lv_iload_n hx hb dX0_difference_1 rfl (lv_at hl 1 rfl) ?_
  refine callXi S hA hX (mX_placeOf l sz nx an ap cn ld qu wo co cu x hZ) (cwV 1 S.2.2.2.2 (lw_V q87 q89 qs0 q18 q90) rfl rfl rfl (by decide +kernel) ⟨Nat.le_of_ble_eq_true rfl, Nat.le_of_ble_eq_true rfl⟩) rfl hl.1 rfl (Nat.le_of_ble_eq_true rfl) dX0_difference_2 ⟨Nat.zero_le _, Nat.zero_le _⟩ (fun r u1 H locs hq hX => ?_)
  obtain ⟨rfl, rfl⟩ := hq
  by_cases hsox : stOk sz x
  · obtain ⟨v1, hv1, hsv1, rfl⟩ := stOk_of hsox
    refine n_top (y := nI (pl v1)) (plc_yes hv1 hsv1) ?_
    have fv1 := pl_facts hZ hv1 hsv1
    refine lv_istore_n (lv' := [(3, .int (nI (pl v1))), (0, .ref h), (1, .int (nI v1)), (2, .int y)]) hx hb dX0_difference_5 rfl hl (by decide) rfl (fun ls hl => ?_)
    refine lv_aload_n hx hb dX0_difference_6 rfl (lv_at hl 1 rfl) ?_
    refine lv_iload_n hx hb dX0_difference_7 rfl (lv_at hl 3 rfl) ?_
    refine callXi S hA hX (mX_placeOf l sz nx an ap cn ld qu wo co cu y hZ) (cwV 1 S.2.2.2.2 (lw_V q87 q89 qs0 q18 q90) rfl rfl rfl (by decide +kernel) ⟨Nat.le_of_ble_eq_true rfl, Nat.le_of_ble_eq_true rfl⟩) rfl hl.1 rfl (Nat.le_of_ble_eq_true rfl) dX0_difference_8 ⟨Nat.zero_le _, Nat.zero_le _⟩ (fun r u1 H locs hq hX => ?_)
    obtain ⟨rfl, rfl⟩ := hq
    by_cases hsoy : stOk sz y
    · obtain ⟨v2, hv2, hsv2, rfl⟩ := stOk_of hsoy
      refine n_top (y := nI (pl v2)) (plc_yes hv2 hsv2) ?_
      have fv2 := pl_facts hZ hv2 hsv2
      refine lv_istore (lv' := [(4, .int (nI (pl v2))), (3, .int (nI (pl v1))), (0, .ref h), (1, .int (nI v1)), (2, .int (nI v2))]) hx hb dX0_difference_11 hl (by decide) rfl (fun ls hl => ?_)
      refine lv_iload_n hx hb dX0_difference_13 rfl (lv_at hl 1 rfl) ?_
      refine n_if_lt (tgt := 22) hx hb dX0_difference_14 (by decide) (by omega) ?_
      refine lv_iload hx hb dX0_difference_17 (lv_at hl 0 rfl) ?_
      refine n_if_ge (tgt := 24) hx hb dX0_difference_19 (by decide) (by omega) ?_
      refine lv_aload_n hx hb dX0_difference_24 rfl (lv_at hl 2 rfl) ?_
      refine callXv S hA hX (mX_refresh l sz nx an ap cn ld qu wo co cu hI) (cwV 0 S.2.2.2.2 (lw_V q106 q108 qs2 q18 q109) rfl rfl rfl (by decide +kernel) ⟨Nat.le_of_ble_eq_true rfl, Nat.le_of_ble_eq_true rfl⟩) rfl hl.1 rfl (Nat.le_of_ble_eq_true rfl) dX0_difference_25 ⟨Nat.zero_le _, Nat.zero_le _⟩ (fun u1 H locs hq hX => ?_)
      obtain ⟨ap1, rfl, hap⟩ := hq
      refine lv_aload_n hx hb dX0_difference_28 rfl (lv_at hl 2 rfl) ?_
      refine lv_iload_n hx hb dX0_difference_29 rfl (lv_at hl 1 rfl) ?_
      refine lv_iload hx hb dX0_difference_30 (lv_at hl 0 rfl) ?_
      refine callXi S hA hX (mX_firstWord l sz nx an ap1 cn ld qu wo co 1 (pl v1) (pl v2) hw hap fv1.1 fv2.1 fv1.2.1 fv2.2.1) (cwV 2 S.2.2.2.2 (lw_V q122 q124 qs5 q18 q125) rfl rfl rfl (by decide +kernel) ⟨Nat.le_of_ble_eq_true rfl, Nat.le_of_ble_eq_true rfl⟩) rfl hl.1 rfl (Nat.le_of_ble_eq_true rfl) dX0_difference_32 ⟨Nat.zero_le _, Nat.zero_le _⟩ (fun r u1 H locs hq hX => ?_)
      obtain ⟨rfl, rfl⟩ := hq
      exact ret _ _ _ _ _ _ dX0_difference_35 (pX_of (spDifference_2 hv1 hv2 hsv1 hsv2) (⟨hw, Or.inr ⟨rfl, hap⟩⟩)) hX
    · refine n_top (plc_no hsoy) ?_
      refine lv_istore (lv' := [(4, .int (-1)), (3, .int (nI (pl v1))), (0, .ref h), (1, .int (nI v1)), (2, .int y)]) hx hb dX0_difference_11 hl (by decide) rfl (fun ls hl => ?_)
      refine lv_iload_n hx hb dX0_difference_13 rfl (lv_at hl 1 rfl) ?_
      refine n_if_lt (tgt := 22) hx hb dX0_difference_14 (by decide) (by omega) ?_
      refine lv_iload hx hb dX0_difference_17 (lv_at hl 0 rfl) ?_
      refine lv_if_ge (tgt := 24) hx hb dX0_difference_19 (by decide) (fun q => absurd q (by decide)) (fun _ => ?_)
      refine lv_iconst (v := -1) hx hb dX0_difference_22 (by decide) ?_
      exact ret _ _ _ _ _ _ dX0_difference_23 (pX_of (spDifference_1 (by first | exact fun z => hsox z.1 | exact fun z => hsoy z.2)) (hI)) hX
  · refine n_top (plc_no hsox) ?_
    refine lv_istore_n (lv' := [(3, .int (-1)), (0, .ref h), (1, .int x), (2, .int y)]) hx hb dX0_difference_5 rfl hl (by decide) rfl (fun ls hl => ?_)
    refine lv_aload_n hx hb dX0_difference_6 rfl (lv_at hl 1 rfl) ?_
    refine lv_iload_n hx hb dX0_difference_7 rfl (lv_at hl 3 rfl) ?_
    refine callXi S hA hX (mX_placeOf l sz nx an ap cn ld qu wo co cu y hZ) (cwV 1 S.2.2.2.2 (lw_V q87 q89 qs0 q18 q90) rfl rfl rfl (by decide +kernel) ⟨Nat.le_of_ble_eq_true rfl, Nat.le_of_ble_eq_true rfl⟩) rfl hl.1 rfl (Nat.le_of_ble_eq_true rfl) dX0_difference_8 ⟨Nat.zero_le _, Nat.zero_le _⟩ (fun r u1 H locs hq hX => ?_)
    obtain ⟨rfl, rfl⟩ := hq
    refine lv_istore (lv' := [(4, .int (plc sz y)), (3, .int (-1)), (0, .ref h), (1, .int x), (2, .int y)]) hx hb dX0_difference_11 hl (by decide) rfl (fun ls hl => ?_)
    refine lv_iload_n hx hb dX0_difference_13 rfl (lv_at hl 1 rfl) ?_
    refine lv_if_lt (tgt := 22) hx hb dX0_difference_14 (by decide) (fun _ => ?_) (fun q => absurd (by decide) q)
    refine lv_iconst (v := -1) hx hb dX0_difference_22 (by decide) ?_
    exact ret _ _ _ _ _ _ dX0_difference_23 (pX_of (spDifference_1 (by first | exact fun z => hsox z.1 | exact fun z => hsoy z.2)) (hI)) hX
set_option maxHeartbeats 600000 in
set_option maxRecDepth 100000 in
theorem mX_same (l : Launch) (sz nx an ap : Nat → Nat) (cn : Nat → Int32) (ld qu wo : Nat → Nat) (co cu : Nat)  (hI : inX sz nx an ap cu) : MetX l yX0_same cX0_same 1 (some .int) rmX0_same [] (sz, nx, an, ap, cn, ld, qu, wo, co, cu) (pX (spSame  sz nx an)) := by
  refine entXi rfl (by decide) rfl rfl (fun _ => Nat.le_of_ble_eq_true rfl) ?_
  intro G d h a A p e s m below meth c args Q S hA hX ret ls hl
  have hx := S.1
  have hb := S.2.1
  have hl : lv_has ls 1 [(0, .ref h)] := hl
  have hw := hI.1
  have hZ := hw.2.1
  have hN := hw.2.2.2.1
  have hA4 := hw.2.2.2.2
  refine lv_aload_n hx hb dX0_same_0 rfl (lv_at hl 0 rfl) ?_
  refine callXv S hA hX (mX_refresh l sz nx an ap cn ld qu wo co cu hI) (cwV 0 S.2.2.2.2 (lw_V q106 q108 qs2 q18 q109) rfl rfl rfl (by decide +kernel) ⟨Nat.le_of_ble_eq_true rfl, Nat.le_of_ble_eq_true rfl⟩) rfl hl.1 rfl (Nat.le_of_ble_eq_true rfl) dX0_same_1 ⟨Nat.zero_le _, Nat.zero_le _⟩ (fun u1 H locs hq hX => ?_)
  obtain ⟨ap1, rfl, hap⟩ := hq
  refine lv_aload_n hx hb dX0_same_4 rfl (lv_at hl 0 rfl) ?_
  refine xg3 S hX dX0_same_5 ?_
  refine lv_bipush (v := nI 6) hx hb dX0_same_8 (by decide) ?_
  refine xl3 S hX dX0_same_10 (by omega) ?_
  refine n_top (y := (nI (ds sz nx an 11 0 6))) (congrArg nI (hap 0 6 (by decide) (by decide))) ?_
  have b_ds := ds_le sz nx an 11 0 6
  refine n_if_ne (tgt := 18) hx hb dX0_same_11 (by decide) (by omega) (fun c_11 => ?_) (fun c_11 => ?_)
  · refine lv_iconst (v := nI 0) hx hb dX0_same_18 (by decide) ?_
    exact ret _ _ _ _ _ _ dX0_same_19 (pX_of (by unfold spSame; rw [pick_f (fun z => c_11 ((ds_fwd hw (p := 0) (q := 6) (by decide) (by decide) (hw.1 0 (by decide)) (hw.1 1 (by decide))).mpr z))]) (⟨hw, Or.inr ⟨rfl, hap⟩⟩)) hX
  · refine lv_iconst (v := nI 1) hx hb dX0_same_14 (by decide) ?_
    refine lv_goto (tgt := 19) hx hb dX0_same_15 (by decide) ?_
    exact ret _ _ _ _ _ _ dX0_same_19 (pX_of (by unfold spSame; rw [pick_t ((ds_fwd hw (p := 0) (q := 6) (by decide) (by decide) (hw.1 0 (by decide)) (hw.1 1 (by decide))).mp c_11)]) (⟨hw, Or.inr ⟨rfl, hap⟩⟩)) hX
theorem th_at {sz : Nat → Nat} (hZ : ∀ k, sz k ≤ 6) {m s : Nat} (h : s < sz m) : th sz (6 * m + s) := by
  have := hZ m
  unfold th
  rw [show (6 * m + s) % 6 = s by omega, show (6 * m + s) / 6 = m by omega]
  exact h
set_option maxHeartbeats 600000 in
set_option maxRecDepth 100000 in
theorem mX_classes (l : Launch) (sz nx an ap : Nat → Nat) (cn : Nat → Int32) (ld qu wo : Nat → Nat) (co cu : Nat) (x : Int32) (hI : inX sz nx an ap cu) : MetX l yX0_classes cX0_classes 6 (some .int) rmX0_classes [.int x] (sz, nx, an, ap, cn, ld, qu, wo, co, cu) (pX (spClasses x sz nx an)) := by
  refine entXi rfl (by decide) rfl rfl (fun _ => Nat.le_of_ble_eq_true rfl) ?_
  intro G d h a A p e s m below meth c args Q S hA hX ret ls hl
  have hx := S.1
  have hb := S.2.1
  have hl : lv_has ls 6 [(0, .ref h), (1, .int x)] := hl
  have hw := hI.1
  have hZ := hw.2.1
  have hN := hw.2.2.2.1
  have hA4 := hw.2.2.2.2
  by_cases hm : mOk x
  · obtain ⟨m0, hm0, rfl⟩ := mOk_of hm
    refine lv_iload_n hx hb dX0_classes_0 rfl (lv_at hl 1 rfl) ?_
    refine callXs S hA hX (mX_isMachine_y l m0 hm0) (va_cwS 1 S.2.2.2.2 (lw_S q64 q65 q18 q66) rfl rfl rfl (by decide +kernel) ⟨Nat.le_of_ble_eq_true rfl, Nat.le_of_ble_eq_true rfl⟩) rfl hl.1 rfl (Nat.le_of_ble_eq_true rfl) dX0_classes_1 ⟨Nat.zero_le _, Nat.zero_le _⟩ (fun r H locs hq hX => ?_)
    subst hq
    refine n_if_ne (tgt := 9) hx hb dX0_classes_4 (by decide) (by decide) (fun _ => ?_) (fun q => absurd q (by decide))
    refine lv_aload_n hx hb dX0_classes_9 rfl (lv_at hl 0 rfl) ?_
    refine callXv S hA hX (mX_refresh l sz nx an ap cn ld qu wo co cu hI) (cwV 0 S.2.2.2.2 (lw_V q106 q108 qs2 q18 q109) rfl rfl rfl (by decide +kernel) ⟨Nat.le_of_ble_eq_true rfl, Nat.le_of_ble_eq_true rfl⟩) rfl hl.1 rfl (Nat.le_of_ble_eq_true rfl) dX0_classes_10 ⟨Nat.zero_le _, Nat.zero_le _⟩ (fun u1 H locs hq hX => ?_)
    obtain ⟨ap1, rfl, hap⟩ := hq
    refine lv_iconst (v := nI 0) hx hb dX0_classes_13 (by decide) ?_
    refine lv_istore_n (lv' := [(2, .int (nI 0)), (0, .ref h), (1, .int (nI m0))]) hx hb dX0_classes_14 rfl hl (by decide) rfl (fun ls hl => ?_)
    refine lv_iconst (v := nI 0) hx hb dX0_classes_15 (by decide) ?_
    refine lv_istore_n (lv' := [(3, .int (nI 0)), (2, .int (nI 0)), (0, .ref h), (1, .int (nI m0))]) hx hb dX0_classes_16 rfl hl (by decide) rfl (fun ls hl => ?_)
    have lp : ∀ (N : Nat) (s0 : Nat), (s0 ≤ sz m0) → sz m0 - s0 < N → ∀ (H : Heap) (locs : List Loc) (ls : Array Slot), HX G d h a A s (sz, nx, an, ap1, cn, ld, qu, wo, co, 1) H locs → lv_has ls 6 [(0, .ref h), (1, .int (nI m0)), (2, .int (nI (cnt (fresh nx an m0) s0))), (3, .int (nI s0))] → W p l e rmX0_classes s m args below meth c H locs 0 0 Q (F0 m 17 ls []) := by
      intro N
      induction N with
      | zero =>
        intro s0 hs0 hms
        exact absurd hms (Nat.not_lt_zero _)
      | succ N ih =>
        intro s0 hs0 hms H locs ls hX hl
        have z1 := hZ m0
        have hcl := cnt_le (fresh nx an m0) s0
        refine lv_iload_n hx hb dX0_classes_17 rfl (lv_at hl 3 rfl) ?_
        refine lv_aload_n hx hb dX0_classes_18 rfl (lv_at hl 0 rfl) ?_
        refine xg0 S hX dX0_classes_19 ?_
        refine lv_iload_n hx hb dX0_classes_22 rfl (lv_at hl 1 rfl) ?_
        refine xl0 S hX dX0_classes_23 (by omega) ?_
        have b_23 := hZ m0
        refine n_icmp_ge (tgt := 101) hx hb dX0_classes_24 (by decide) (by omega) (by omega) (fun c_24 => ?_) (fun c_24 => ?_)
        · refine lv_iload_n hx hb dX0_classes_101 rfl (lv_at hl 2 rfl) ?_
          exact ret _ _ _ _ _ _ dX0_classes_102 (pX_of ((spClasses_2 hm0).trans (by rw [show s0 = sz m0 by omega])) (⟨hw, Or.inr ⟨rfl, hap⟩⟩)) hX
        · refine lv_iconst (v := nI 1) hx hb dX0_classes_27 (by decide) ?_
          refine lv_istore (lv' := [(4, .int (nI 1)), (0, .ref h), (1, .int (nI m0)), (2, .int (nI (cnt (fresh nx an m0) s0))), (3, .int (nI s0))]) hx hb dX0_classes_28 hl (by decide) rfl (fun ls hl => ?_)
          refine lv_iconst (v := nI 0) hx hb dX0_classes_30 (by decide) ?_
          refine lv_istore (lv' := [(5, .int (nI 0)), (4, .int (nI 1)), (0, .ref h), (1, .int (nI m0)), (2, .int (nI (cnt (fresh nx an m0) s0))), (3, .int (nI s0))]) hx hb dX0_classes_31 hl (by decide) rfl (fun ls hl => ?_)
          have lp2 : ∀ (N2 : Nat) (r1 : Nat), (r1 ≤ s0) → s0 - r1 < N2 → ∀ (H : Heap) (locs : List Loc) (ls : Array Slot), HX G d h a A s (sz, nx, an, ap1, cn, ld, qu, wo, co, 1) H locs → lv_has ls 6 [(0, .ref h), (1, .int (nI m0)), (2, .int (nI (cnt (fresh nx an m0) s0))), (3, .int (nI s0)), (4, .int (nI (pick (∀ r0, r0 < r1 → ¬ fwd nx an (6 * m0 + r0) (6 * m0 + s0) = 0) 1 0))), (5, .int (nI r1))] → W p l e rmX0_classes s m args below meth c H locs 0 0 Q (F0 m 33 ls []) := by
            intro N2
            induction N2 with
            | zero =>
              intro r1 hr1 hms
              exact absurd hms (Nat.not_lt_zero _)
            | succ N2 ih2 =>
              intro r1 hr1 hms H locs ls hX hl
              refine lv_iload hx hb dX0_classes_33 (lv_at hl 5 rfl) ?_
              refine lv_iload_n hx hb dX0_classes_35 rfl (lv_at hl 3 rfl) ?_
              refine n_icmp_ge (tgt := 82) hx hb dX0_classes_36 (by decide) (by omega) (by omega) (fun c_36 => ?_) (fun c_36 => ?_)
              · refine lv_iload_n hx hb dX0_classes_82 rfl (lv_at hl 2 rfl) ?_
                refine lv_iload hx hb dX0_classes_83 (lv_at hl 4 rfl) ?_
                refine n_if_eq (tgt := 92) hx hb dX0_classes_85 (by decide) (pick_lt (by decide) (by decide)) (fun c_85 => ?_) (fun c_85 => ?_)
                · refine lv_iconst (v := nI 0) hx hb dX0_classes_92 (by decide) ?_
                  refine n_iadd hx hb dX0_classes_93 ?_
                  rw [show r1 = s0 by omega] at c_85
                  refine n_top (y := (nI (cnt (fresh nx an m0) (s0 + 1)))) (congrArg nI (cnt_f (P := fresh nx an m0) (pick_0 c_85)).symm) ?_
                  refine lv_istore_n (lv' := [(2, .int (nI (cnt (fresh nx an m0) (s0 + 1)))), (0, .ref h), (1, .int (nI m0)), (3, .int (nI s0)), (4, .int (nI (pick (∀ r0, r0 < r1 → ¬ fwd nx an (6 * m0 + r0) (6 * m0 + s0) = 0) 1 0))), (5, .int (nI r1))]) hx hb dX0_classes_94 rfl hl (by decide) rfl (fun ls hl => ?_)
                  refine lv_iinc (v := (nI (s0 + 1))) (lv' := [(3, .int (nI (s0 + 1))), (2, .int (nI (cnt (fresh nx an m0) (s0 + 1)))), (0, .ref h), (1, .int (nI m0)), (4, .int (nI (pick (∀ r0, r0 < r1 → ¬ fwd nx an (6 * m0 + r0) (6 * m0 + s0) = 0) 1 0))), (5, .int (nI r1))]) hx hb dX0_classes_95 hl (k := 3) rfl (nI_1 _) (by decide) rfl (fun ls hl => ?_)
                  refine lv_goto (tgt := 17) hx hb dX0_classes_98 (by decide) ?_
                  exact ih (s0 + 1) (by omega) (by omega) _ _ _ hX (lv_sub hl [2, 3, 1, 0] rfl)
                · refine lv_iconst (v := nI 1) hx hb dX0_classes_88 (by decide) ?_
                  refine lv_goto (tgt := 93) hx hb dX0_classes_89 (by decide) ?_
                  refine n_iadd hx hb dX0_classes_93 ?_
                  rw [show r1 = s0 by omega] at c_85
                  refine n_top (y := (nI (cnt (fresh nx an m0) (s0 + 1)))) (congrArg nI (cnt_t (P := fresh nx an m0) (pick_1 c_85)).symm) ?_
                  refine lv_istore_n (lv' := [(2, .int (nI (cnt (fresh nx an m0) (s0 + 1)))), (0, .ref h), (1, .int (nI m0)), (3, .int (nI s0)), (4, .int (nI (pick (∀ r0, r0 < r1 → ¬ fwd nx an (6 * m0 + r0) (6 * m0 + s0) = 0) 1 0))), (5, .int (nI r1))]) hx hb dX0_classes_94 rfl hl (by decide) rfl (fun ls hl => ?_)
                  refine lv_iinc (v := (nI (s0 + 1))) (lv' := [(3, .int (nI (s0 + 1))), (2, .int (nI (cnt (fresh nx an m0) (s0 + 1)))), (0, .ref h), (1, .int (nI m0)), (4, .int (nI (pick (∀ r0, r0 < r1 → ¬ fwd nx an (6 * m0 + r0) (6 * m0 + s0) = 0) 1 0))), (5, .int (nI r1))]) hx hb dX0_classes_95 hl (k := 3) rfl (nI_1 _) (by decide) rfl (fun ls hl => ?_)
                  refine lv_goto (tgt := 17) hx hb dX0_classes_98 (by decide) ?_
                  exact ih (s0 + 1) (by omega) (by omega) _ _ _ hX (lv_sub hl [2, 3, 1, 0] rfl)
              · refine lv_iload hx hb dX0_classes_39 (lv_at hl 4 rfl) ?_
                refine n_if_eq (tgt := 73) hx hb dX0_classes_41 (by decide) (pick_lt (by decide) (by decide)) (fun c_41 => ?_) (fun c_41 => ?_)
                · refine lv_iconst (v := nI 0) hx hb dX0_classes_73 (by decide) ?_
                  refine n_top (y := (nI (pick (∀ r0, r0 < r1 + 1 → ¬ fwd nx an (6 * m0 + r0) (6 * m0 + s0) = 0) 1 0))) (congrArg nI ((pick_f (fun z => by first | exact z r1 (by omega) (hdf.mp c_66) | exact pick_0 c_41 (fun r0 h0 => z r0 (by omega)))).symm)) ?_
                  refine lv_istore (lv' := [(4, .int (nI (pick (∀ r0, r0 < r1 + 1 → ¬ fwd nx an (6 * m0 + r0) (6 * m0 + s0) = 0) 1 0))), (0, .ref h), (1, .int (nI m0)), (2, .int (nI (cnt (fresh nx an m0) s0))), (3, .int (nI s0)), (5, .int (nI r1))]) hx hb dX0_classes_74 hl (by decide) rfl (fun ls hl => ?_)
                  refine lv_iinc (v := (nI (r1 + 1))) (lv' := [(5, .int (nI (r1 + 1))), (4, .int (nI (pick (∀ r0, r0 < r1 + 1 → ¬ fwd nx an (6 * m0 + r0) (6 * m0 + s0) = 0) 1 0))), (0, .ref h), (1, .int (nI m0)), (2, .int (nI (cnt (fresh nx an m0) s0))), (3, .int (nI s0))]) hx hb dX0_classes_76 hl (k := 5) rfl (nI_1 _) (by decide) rfl (fun ls hl => ?_)
                  refine lv_goto (tgt := 33) hx hb dX0_classes_79 (by decide) ?_
                  exact ih2 (r1 + 1) (by omega) (by omega) _ _ _ hX (lv_sub hl [2, 3, 4, 5, 1, 0] rfl)
                · refine lv_aload_n hx hb dX0_classes_44 rfl (lv_at hl 0 rfl) ?_
                  refine xg3 S hX dX0_classes_45 ?_
                  refine lv_bipush (v := nI 12) hx hb dX0_classes_48 (by decide) ?_
                  refine lv_bipush (v := nI 6) hx hb dX0_classes_50 (by decide) ?_
                  refine lv_iload_n hx hb dX0_classes_52 rfl (lv_at hl 1 rfl) ?_
                  refine n_imul hx hb dX0_classes_53 ?_
                  refine lv_iload hx hb dX0_classes_54 (lv_at hl 5 rfl) ?_
                  refine n_iadd hx hb dX0_classes_56 ?_
                  refine n_imul hx hb dX0_classes_57 ?_
                  refine lv_bipush (v := nI 6) hx hb dX0_classes_58 (by decide) ?_
                  refine lv_iload_n hx hb dX0_classes_60 rfl (lv_at hl 1 rfl) ?_
                  refine n_imul hx hb dX0_classes_61 ?_
                  refine n_iadd hx hb dX0_classes_62 ?_
                  refine lv_iload_n hx hb dX0_classes_63 rfl (lv_at hl 3 rfl) ?_
                  refine n_iadd hx hb dX0_classes_64 ?_
                  refine xl3 S hX dX0_classes_65 (by omega) ?_
                  refine n_top (y := (nI (ds sz nx an 11 (6 * m0 + r1) (6 * m0 + s0)))) (congrArg nI ((congrArg ap1 (by omega)).trans (hap (6 * m0 + r1) (6 * m0 + s0) (by omega) (by omega)))) ?_
                  have b_66 := ds_le sz nx an 11 (6 * m0 + r1) (6 * m0 + s0)
                  have hdf := ds_fwd hw (p := 6 * m0 + r1) (q := 6 * m0 + s0) (by omega) (by omega) (th_at hZ (by omega)) (th_at hZ (by omega))
                  refine n_if_eq (tgt := 73) hx hb dX0_classes_66 (by decide) (by omega) (fun c_66 => ?_) (fun c_66 => ?_)
                  · refine lv_iconst (v := nI 0) hx hb dX0_classes_73 (by decide) ?_
                    refine n_top (y := (nI (pick (∀ r0, r0 < r1 + 1 → ¬ fwd nx an (6 * m0 + r0) (6 * m0 + s0) = 0) 1 0))) (congrArg nI ((pick_f (fun z => by first | exact z r1 (by omega) (hdf.mp c_66) | exact pick_0 c_41 (fun r0 h0 => z r0 (by omega)))).symm)) ?_
                    refine lv_istore (lv' := [(4, .int (nI (pick (∀ r0, r0 < r1 + 1 → ¬ fwd nx an (6 * m0 + r0) (6 * m0 + s0) = 0) 1 0))), (0, .ref h), (1, .int (nI m0)), (2, .int (nI (cnt (fresh nx an m0) s0))), (3, .int (nI s0)), (5, .int (nI r1))]) hx hb dX0_classes_74 hl (by decide) rfl (fun ls hl => ?_)
                    refine lv_iinc (v := (nI (r1 + 1))) (lv' := [(5, .int (nI (r1 + 1))), (4, .int (nI (pick (∀ r0, r0 < r1 + 1 → ¬ fwd nx an (6 * m0 + r0) (6 * m0 + s0) = 0) 1 0))), (0, .ref h), (1, .int (nI m0)), (2, .int (nI (cnt (fresh nx an m0) s0))), (3, .int (nI s0))]) hx hb dX0_classes_76 hl (k := 5) rfl (nI_1 _) (by decide) rfl (fun ls hl => ?_)
                    refine lv_goto (tgt := 33) hx hb dX0_classes_79 (by decide) ?_
                    exact ih2 (r1 + 1) (by omega) (by omega) _ _ _ hX (lv_sub hl [2, 3, 4, 5, 1, 0] rfl)
                  · refine lv_iconst (v := nI 1) hx hb dX0_classes_69 (by decide) ?_
                    refine lv_goto (tgt := 74) hx hb dX0_classes_70 (by decide) ?_
                    refine n_top (y := (nI (pick (∀ r0, r0 < r1 + 1 → ¬ fwd nx an (6 * m0 + r0) (6 * m0 + s0) = 0) 1 0))) (congrArg nI ((pick_t (fun r0 h0 => by rcases Nat.lt_or_ge r0 r1 with z | z; exact pick_1 c_41 r0 z; (have e : r0 = r1 := (by omega)); subst e; exact fun z => c_66 (hdf.mpr z))).symm)) ?_
                    refine lv_istore (lv' := [(4, .int (nI (pick (∀ r0, r0 < r1 + 1 → ¬ fwd nx an (6 * m0 + r0) (6 * m0 + s0) = 0) 1 0))), (0, .ref h), (1, .int (nI m0)), (2, .int (nI (cnt (fresh nx an m0) s0))), (3, .int (nI s0)), (5, .int (nI r1))]) hx hb dX0_classes_74 hl (by decide) rfl (fun ls hl => ?_)
                    refine lv_iinc (v := (nI (r1 + 1))) (lv' := [(5, .int (nI (r1 + 1))), (4, .int (nI (pick (∀ r0, r0 < r1 + 1 → ¬ fwd nx an (6 * m0 + r0) (6 * m0 + s0) = 0) 1 0))), (0, .ref h), (1, .int (nI m0)), (2, .int (nI (cnt (fresh nx an m0) s0))), (3, .int (nI s0))]) hx hb dX0_classes_76 hl (k := 5) rfl (nI_1 _) (by decide) rfl (fun ls hl => ?_)
                    refine lv_goto (tgt := 33) hx hb dX0_classes_79 (by decide) ?_
                    exact ih2 (r1 + 1) (by omega) (by omega) _ _ _ hX (lv_sub hl [2, 3, 4, 5, 1, 0] rfl)
          have hl := lv_sub hl [2, 3, 4, 5, 1, 0] rfl
          exact lp2 _ 0 (by omega) (Nat.lt_succ_self _) _ _ _ hX (by rw [pick_t (c := ∀ r0, r0 < 0 → ¬ fwd nx an (6 * m0 + r0) (6 * m0 + s0) = 0) (fun r0 h0 => absurd h0 (Nat.not_lt_zero _))]; exact hl)
    exact lp _ 0 (by omega) (Nat.lt_succ_self _) _ _ _ hX (lv_sub hl [2, 3, 1, 0] rfl)
  · refine lv_iload_n hx hb dX0_classes_0 rfl (lv_at hl 1 rfl) ?_
    refine callXs S hA hX (mX_isMachine_n l x hm) (va_cwS 1 S.2.2.2.2 (lw_S q64 q65 q18 q66) rfl rfl rfl (by decide +kernel) ⟨Nat.le_of_ble_eq_true rfl, Nat.le_of_ble_eq_true rfl⟩) rfl hl.1 rfl (Nat.le_of_ble_eq_true rfl) dX0_classes_1 ⟨Nat.zero_le _, Nat.zero_le _⟩ (fun r H locs hq hX => ?_)
    subst hq
    refine n_if_ne (tgt := 9) hx hb dX0_classes_4 (by decide) (by decide) (fun q => absurd q (by decide)) (fun _ => ?_)
    refine lv_iconst (v := -1) hx hb dX0_classes_7 (by decide) ?_
    exact ret _ _ _ _ _ _ dX0_classes_8 (pX_of (spClasses_1 hm) (hI)) hX
end
section
set_option maxRecDepth 100000
/-! plain theory: breadth first by codes -/
theorem cnt_le_of {P : Nat → Prop} {a b : Nat} (h : a ≤ b) : cnt P a ≤ cnt P b := by
  obtain ⟨k, rfl⟩ : ∃ k, b = a + k := ⟨b - a, by omega⟩
  rw [cnt_split]
  exact Nat.le_add_right _ _
theorem cnt_lt_of {P : Nat → Prop} {a b : Nat} (h : a < b) (hp : P a) : cnt P a < cnt P b := by
  have h1 : cnt P (a + 1) ≤ cnt P b := cnt_le_of h
  rw [cnt_t hp] at h1
  exact h1
theorem cnt_inj {P : Nat → Prop} {a b : Nat} (ha : P a) (hb : P b) (h : cnt P a = cnt P b) : a = b := by
  rcases Nat.lt_or_ge a b with y | y
  · have := cnt_lt_of y ha; omega
  · rcases Nat.lt_or_ge b a with y2 | y2
    · have := cnt_lt_of y2 hb; omega
    · omega
theorem cnt_kth {P : Nat → Prop} {k : Nat} : ∀ {n : Nat}, k < cnt P n → ∃ g, g < n ∧ P g ∧ cnt P g = k := by
  intro n
  induction n with
  | zero => intro h; exact absurd h (Nat.not_lt_zero _)
  | succ n ih =>
    intro h
    by_cases hp : P n
    · rw [cnt_t hp] at h
      rcases Nat.lt_or_ge k (cnt P n) with y | y
      · obtain ⟨g, h1, h2⟩ := ih y
        exact ⟨g, by omega, h2⟩
      · exact ⟨n, by omega, hp, by omega⟩
    · rw [cnt_f hp] at h
      obtain ⟨g, h1, h2⟩ := ih h
      exact ⟨g, by omega, h2⟩
theorem cnt_same {P : Nat → Prop} {a b : Nat} (h : a ≤ b) (hn : ∀ c, a ≤ c → c < b → ¬ P c) : cnt P b = cnt P a := by
  obtain ⟨k, rfl⟩ : ∃ k, b = a + k := ⟨b - a, by omega⟩
  rw [cnt_split, cnt_none (fun j hj => hn (a + j) (by omega) (by omega))]
  rfl
theorem cnt_del {P : Nat → Prop} {c0 : Nat} (h0 : P c0) : ∀ n, c0 < n → cnt P n = cnt (fun c => P c ∧ c ≠ c0) n + 1 := by
  intro n
  induction n with
  | zero => intro h; omega
  | succ n ih =>
    intro h
    by_cases e : c0 = n
    · subst e
      rw [cnt_t h0, cnt_f (fun z => z.2 rfl)]
      have : cnt P c0 = cnt (fun c => P c ∧ c ≠ c0) c0 := Nat.le_antisymm (cnt_sub (fun k hk hz => ⟨hz, by omega⟩)) (cnt_sub (fun k hk hz => hz.1))
      omega
    · have h1 := ih (by omega)
      by_cases hp : P n
      · rw [cnt_t hp, cnt_t (P := fun c => P c ∧ c ≠ c0) ⟨hp, fun z => e z.symm⟩, h1]
      · rw [cnt_f hp, cnt_f (P := fun c => P c ∧ c ≠ c0) (fun z => hp z.1), h1]
/-- drawers -/
theorem cnt_holes : ∀ (M n : Nat) (P : Nat → Prop) (f : Nat → Nat), (∀ c, c < n → P c → f c < M) → (∀ a b, a < n → b < n → P a → P b → f a = f b → a = b) → cnt P n ≤ M := by
  intro M
  induction M with
  | zero =>
    intro n P f h1 _
    rw [cnt_none (fun j hj hz => absurd (h1 j hj hz) (Nat.not_lt_zero _))]
    exact Nat.le_refl _
  | succ M ih =>
    intro n P f h1 h2
    by_cases hx : ∃ c, c < n ∧ P c ∧ f c = M
    · obtain ⟨c0, hc, hp, hf⟩ := hx
      rw [cnt_del hp n hc]
      have := ih n (fun c => P c ∧ c ≠ c0) f (fun c hc2 hz => by
        have b1 := h1 c hc2 hz.1
        have b2 : f c ≠ M := fun e => hz.2 (h2 c c0 hc2 hc hz.1 hp (e.trans hf.symm))
        omega) (fun a b ha hb hpa hpb e => h2 a b ha hb hpa.1 hpb.1 e)
      omega
    · have := ih n P f (fun c hc hz => by
        have b1 := h1 c hc hz
        have b2 : f c ≠ M := fun e => hx ⟨c, hc, hz, e⟩
        omega) h2
      omega
/-! new codes: a predicate of codes closed under the prefix -/
def pfx (Nw : Nat → Prop) : Prop := Nw 1 ∧ ¬ Nw 0 ∧ ∀ c, 2 ≤ c → Nw c → Nw (c / 2)
/-- the front of the search: what is queued is new and below B, the first k of the queue are done, codes below M matter -/
def J2 (Nw : Nat → Prop) (M k B : Nat) : Prop := 2 ≤ B ∧ (∀ c, Nw c → k ≤ cnt Nw c → B ≤ 2 * c) ∧ (∀ c, Nw c → B ≤ c → c < M → k ≤ cnt Nw (c / 2))
theorem cnt_one {Nw : Nat → Prop} (h : pfx Nw) : cnt Nw 1 = 0 := by
  rw [cnt_f h.2.1]
  rfl
theorem cnt_two {Nw : Nat → Prop} (h : pfx Nw) : cnt Nw 2 = 1 := by
  rw [cnt_t h.1, cnt_one h]
theorem J2_start {Nw : Nat → Prop} (h : pfx Nw) (M : Nat) : J2 Nw M 0 2 := by
  refine ⟨Nat.le_refl _, fun c hc _ => ?_, fun c _ _ _ => Nat.zero_le _⟩
  rcases Nat.eq_zero_or_pos c with z | z
  · subst z; exact absurd hc h.2.1
  · omega
theorem J2_skip {Nw : Nat → Prop} (h : pfx Nw) {M k B g : Nat} (hJ : J2 Nw M k B) (hg : Nw g) (hk : cnt Nw g = k) : B ≤ 2 * g ∧ ∀ c, B ≤ c → c < 2 * g → c < M → ¬ Nw c := by
  refine ⟨hJ.2.1 g hg (by omega), fun c h1 h2 h3 h4 => ?_⟩
  have h5 := hJ.2.2 c h4 h1 h3
  have h6 : Nw (c / 2) := h.2.2 c (by have := hJ.1; omega) h4
  have h7 := cnt_lt_of (P := Nw) (show c / 2 < g by omega) h6
  omega
theorem J2_step {Nw : Nat → Prop} (h : pfx Nw) {M k B g : Nat} (hJ : J2 Nw M k B) (hg : Nw g) (hk : cnt Nw g = k) : J2 Nw M (k + 1) (2 * g + 2) := by
  have hg1 : 1 ≤ g := by
    rcases Nat.eq_zero_or_pos g with z | z
    · subst z; exact absurd hg h.2.1
    · exact z
  refine ⟨by omega, fun c hc h1 => ?_, fun c hc h1 h2 => ?_⟩
  · rcases Nat.lt_or_ge g c with y | y
    · omega
    · have := cnt_le_of (P := Nw) y; omega
  · have h3 := cnt_lt_of (P := Nw) (show g < c / 2 by omega) hg
    omega
theorem J2_cap {Nw : Nat → Prop} {M k B g : Nat} (hJ : J2 Nw M k B) (hM : 2 ≤ M) (hg : Nw g) (hk : cnt Nw g = k) (hcap : M ≤ 2 * g) : J2 Nw M (k + 1) M := by
  refine ⟨hM, fun c hc h1 => ?_, fun c hc h1 h2 => by omega⟩
  rcases Nat.lt_or_ge g c with y | y
  · omega
  · have := cnt_le_of (P := Nw) y; omega
theorem J2_end {Nw : Nat → Prop} (h : pfx Nw) {M k B : Nat} (hJ : J2 Nw M k B) (hk : cnt Nw B ≤ k) : ∀ c, B ≤ c → c < M → ¬ Nw c := by
  intro c
  induction c using Nat.strongRecOn with
  | ind c ih =>
    intro h1 h2 h3
    have h4 := hJ.2.2 c h3 h1 h2
    have h5 : Nw (c / 2) := h.2.2 c (by have := hJ.1; omega) h3
    rcases Nat.lt_or_ge (c / 2) B with y | y
    · have := cnt_lt_of (P := Nw) y h5; omega
    · exact ih (c / 2) (by have := hJ.1; omega) y (by omega) h5
/-- codes that are the first to reach a node -/
def Nw_ (R : Nat → Nat → Prop) (c : Nat) : Prop := 1 ≤ c ∧ ∀ j, 1 ≤ j → j < c → ¬ R j c
theorem Nw_of {R : Nat → Nat → Prop} (hr : ∀ a, R a a) (ht : ∀ a b c, 1 ≤ a → 1 ≤ b → 1 ≤ c → R a b → R b c → R a c) : ∀ c, 1 ≤ c → ∃ g, g ≤ c ∧ Nw_ R g ∧ R g c := by
  intro c
  induction c using Nat.strongRecOn with
  | ind c ih =>
    intro h1
    by_cases h : ∃ j, 1 ≤ j ∧ j < c ∧ R j c
    · obtain ⟨j, h2, h3, h4⟩ := h
      obtain ⟨g, g1, g2, g3⟩ := ih j h3 h2
      exact ⟨g, by omega, g2, ht g j c g2.1 h2 h1 g3 h4⟩
    · exact ⟨c, Nat.le_refl _, ⟨h1, fun j h2 h3 h4 => h ⟨j, h2, h3, h4⟩⟩, hr c⟩
theorem Nw_pfx {R : Nat → Nat → Prop} (hs : ∀ a b x, 1 ≤ a → 1 ≤ b → x < 2 → R a b → R (2 * a + x) (2 * b + x)) : pfx (Nw_ R) := by
  refine ⟨⟨Nat.le_refl _, fun j h1 h2 => by omega⟩, fun h => by have := h.1; omega, fun c h2 hc => ⟨by omega, fun j h3 h4 h5 => ?_⟩⟩
  have h6 := hs j (c / 2) (c % 2) h3 (by omega) (by omega) h5
  rw [show 2 * (c / 2) + c % 2 = c by omega] at h6
  exact hc.2 (2 * j + c % 2) (by omega) (by omega) h6
theorem Nw_one {R : Nat → Nat → Prop} (hsy : ∀ a b, R a b → R b a) {a b : Nat} (ha : Nw_ R a) (hb : Nw_ R b) (h : R a b) : a = b := by
  rcases Nat.lt_or_ge a b with y | y
  · exact absurd h (hb.2 a ha.1 y)
  · rcases Nat.lt_or_ge b a with y2 | y2
    · exact absurd (hsy a b h) (ha.2 b hb.1 y2)
    · omega
/-- a new code of k letters has k + 1 new codes up to itself -/
theorem cnt_chain {Nw : Nat → Prop} (h : pfx Nw) : ∀ k c, Nw c → 2 ^ k ≤ c → k + 1 ≤ cnt Nw (c + 1) := by
  intro k
  induction k with
  | zero => intro c hc _; rw [cnt_t hc]; omega
  | succ k ih =>
    intro c hc h1
    have h2 : 2 ^ (k + 1) = 2 * 2 ^ k := by rw [Nat.pow_succ]; omega
    have h3 := Nat.two_pow_pos k
    have h4 := ih (c / 2) (h.2.2 c (by omega) hc) (by omega)
    have h5 : cnt Nw (c / 2 + 1) ≤ cnt Nw c := cnt_le_of (by omega)
    rw [cnt_t hc]
    omega
theorem Nw_small {Nw : Nat → Prop} (h : pfx Nw) {K : Nat} (hK : ∀ n, cnt Nw n ≤ K) : ∀ c, Nw c → c < 2 ^ K := by
  intro c hc
  rcases Nat.lt_or_ge c (2 ^ K) with y | y
  · exact y
  · have h1 := cnt_chain h K c hc y
    have h2 := hK (c + 1)
    omega
/-! classes of the states of a machine -/
def eqs (nx an : Nat → Nat) (m s t : Nat) : Prop := fwd nx an (6 * m + s) (6 * m + t) = 0
theorem eqs_all {sz nx an : Nat → Nat} (hw : wf sz nx an) {m s t : Nat} (hm : m < 2) (hs : s < sz m) (ht : t < sz m) : eqs nx an m s t ↔ ∀ k, Eq_ nx an k (6 * m + s) (6 * m + t) := by
  have hz := hw.2.1 m
  have hz1 := hw.1 m hm
  unfold eqs
  rw [fwd_0]
  constructor
  · intro h
    exact Eq_up hw (by omega) (by omega) (th_at hw.2.1 hs) (th_at hw.2.1 ht) (N := sz m) (Or.inl ⟨by omega, by rw [show (6 * m + s) / 6 = m by omega]⟩) (Eq_mono h (by omega))
  · intro h; exact h 11
theorem eqs_step {sz nx an : Nat → Nat} (hw : wf sz nx an) {m s t a : Nat} (hm : m < 2) (hs : s < sz m) (ht : t < sz m) (ha : a < 2) (h : eqs nx an m s t) : eqs nx an m (nx (12 * m + 2 * s + a)) (nx (12 * m + 2 * t + a)) := by
  have hz := hw.2.1 m
  rw [eqs_all hw hm hs ht] at h
  rw [eqs_all hw hm (hw.2.2.1 m s a hm hs ha) (hw.2.2.1 m t a hm ht ha)]
  intro k
  have h1 := ((Eq_succ nx an k _ _).mp (h (k + 1))).2 a ha
  unfold af at h1
  rw [af_at (by omega), af_at (by omega)] at h1
  exact h1
theorem eqs_rfl (nx an : Nat → Nat) (m s : Nat) : eqs nx an m s s := fwd_0.mpr Eq_rfl
theorem eqs_symm {nx an : Nat → Nat} {m s t : Nat} (h : eqs nx an m s t) : eqs nx an m t s := fwd_sym.mp h
theorem eqs_trans {nx an : Nat → Nat} {m s t r : Nat} (h : eqs nx an m s t) (h2 : eqs nx an m t r) : eqs nx an m s r := fwd_0.mpr (Eq_trans (fwd_0.mp h) (fwd_0.mp h2))
/-- two codes lead from state 0 to states that are alike -/
def Rc (nx an : Nat → Nat) (m a b : Nat) : Prop := eqs nx an m (gl nx m 0 a) (gl nx m 0 b)
def isNew (nx an : Nat → Nat) (m : Nat) : Nat → Prop := Nw_ (Rc nx an m)
theorem isNew_pfx {sz nx an : Nat → Nat} (hw : wf sz nx an) {m : Nat} (hm : m < 2) : pfx (isNew nx an m) := by
  refine Nw_pfx (fun a b x ha hb hx h => ?_)
  have h0 : 0 < sz m := hw.1 m hm
  unfold Rc
  rw [gl_hi (c := 2 * a + x) (by omega), gl_hi (c := 2 * b + x) (by omega), show (2 * a + x) / 2 = a by omega, show (2 * a + x) % 2 = x by omega, show (2 * b + x) / 2 = b by omega, show (2 * b + x) % 2 = x by omega]
  exact eqs_step hw hm (gl_lt hw hm h0 a) (gl_lt hw hm h0 b) hx h
theorem isNew_cnt {sz nx an : Nat → Nat} (hw : wf sz nx an) {m : Nat} (hm : m < 2) (n : Nat) : cnt (isNew nx an m) n ≤ sz m := by
  have h0 : 0 < sz m := hw.1 m hm
  refine cnt_holes (sz m) n _ (fun c => gl nx m 0 c) (fun c _ _ => gl_lt hw hm h0 c) (fun a b _ _ ha hb e => ?_)
  refine Nw_one (R := Rc nx an m) (fun _ _ h => eqs_symm h) ha hb ?_
  unfold Rc
  rw [show gl nx m 0 a = gl nx m 0 b from e]
  exact eqs_rfl _ _ _ _
theorem isNew_64 {sz nx an : Nat → Nat} (hw : wf sz nx an) {m : Nat} (hm : m < 2) {c : Nat} (h : isNew nx an m c) : c < 64 := by
  have hz := hw.2.1 m
  exact Nw_small (isNew_pfx hw hm) (K := 6) (fun n => Nat.le_trans (isNew_cnt hw hm n) hz) c h
theorem isNew_of (nx an : Nat → Nat) (m : Nat) {c : Nat} (h : 1 ≤ c) : ∃ g, g ≤ c ∧ isNew nx an m g ∧ Rc nx an m g c := Nw_of (R := Rc nx an m) (fun _ => eqs_rfl _ _ _ _) (fun _ _ _ _ _ _ h1 h2 => eqs_trans h1 h2) c h
/-- how many classes are reached; the k-th new code; the state it leads to; a state's class -/
noncomputable def ncl (nx an : Nat → Nat) (m : Nat) : Nat := cnt (isNew nx an m) 64
noncomputable def kco (nx an : Nat → Nat) (m k : Nat) : Nat := lst (fun c => isNew nx an m c ∧ cnt (isNew nx an m) c = k) 64
noncomputable def mem (nx an : Nat → Nat) (m k : Nat) : Nat := gl nx m 0 (kco nx an m k)
noncomputable def cco (nx an : Nat → Nat) (m s : Nat) : Nat := lst (fun c => isNew nx an m c ∧ eqs nx an m (gl nx m 0 c) s) 64
noncomputable def clsI (nx an : Nat → Nat) (m s : Nat) : Int32 := if cco nx an m s = 0 then -1 else nI (cnt (isNew nx an m) (cco nx an m s))
theorem kco_of {sz nx an : Nat → Nat} (hw : wf sz nx an) {m c : Nat} (hm : m < 2) (h : isNew nx an m c) : kco nx an m (cnt (isNew nx an m) c) = c := by
  refine lst_is h.1 ⟨h, rfl⟩ (fun j h1 h2 h3 => ?_) (isNew_64 hw hm h)
  have := cnt_inj h3.1 h h3.2
  omega
theorem mem_of {sz nx an : Nat → Nat} (hw : wf sz nx an) {m c : Nat} (hm : m < 2) (h : isNew nx an m c) : mem nx an m (cnt (isNew nx an m) c) = gl nx m 0 c := by
  unfold mem
  rw [kco_of hw hm h]
theorem mem_lt {sz nx an : Nat → Nat} (hw : wf sz nx an) {m : Nat} (hm : m < 2) (k : Nat) : mem nx an m k < sz m := gl_lt hw hm (hw.1 m hm) _
theorem ncl_le {sz nx an : Nat → Nat} (hw : wf sz nx an) {m : Nat} (hm : m < 2) : ncl nx an m ≤ 6 := Nat.le_trans (isNew_cnt hw hm 64) (hw.2.1 m)
theorem ncl_kth {sz nx an : Nat → Nat} (hw : wf sz nx an) {m k : Nat} (hk : k < ncl nx an m) : ∃ c, isNew nx an m c ∧ cnt (isNew nx an m) c = k := by
  obtain ⟨g, -, h2, h3⟩ := cnt_kth hk
  exact ⟨g, h2, h3⟩
theorem clsI_yes {sz nx an : Nat → Nat} (hw : wf sz nx an) {m s c : Nat} (hm : m < 2) (h : isNew nx an m c) (he : eqs nx an m (gl nx m 0 c) s) : clsI nx an m s = nI (cnt (isNew nx an m) c) := by
  have e : cco nx an m s = c := by
    refine lst_is h.1 ⟨h, he⟩ (fun j h1 h2 h3 => ?_) (isNew_64 hw hm h)
    have := Nw_one (R := Rc nx an m) (fun _ _ h => eqs_symm h) h3.1 h (eqs_trans h3.2 (eqs_symm he))
    omega
  unfold clsI
  rw [e, if_neg (by have := h.1; omega)]
theorem clsI_no {nx an : Nat → Nat} {m s : Nat} (h : ∀ c, isNew nx an m c → ¬ eqs nx an m (gl nx m 0 c) s) : clsI nx an m s = -1 := by
  unfold clsI
  rw [if_pos (show cco nx an m s = 0 from lst_zero (fun c _ _ hz => h c hz.1 hz.2))]
end
section
set_option maxRecDepth 100000
/-! a class gets its number; number -/
noncomputable def admC (sz nx an : Nat → Nat) (cn : Nat → Int32) (m p co k : Nat) : Nat → Int32 := fun j => if (6 * m ≤ j ∧ j < 6 * m + k) ∧ ds sz nx an 11 p j = 0 then nI co else cn j
theorem admC_0 (sz nx an : Nat → Nat) (cn : Nat → Int32) (m p co : Nat) : admC sz nx an cn m p co 0 = cn := funext fun j => if_neg (fun z => by omega)
theorem admC_put {sz nx an : Nat → Nat} {cn : Nat → Int32} {m p co k : Nat} (h : ds sz nx an 11 p (6 * m + k) = 0) : upd (admC sz nx an cn m p co k) (6 * m + k) (nI co) = admC sz nx an cn m p co (k + 1) := by
  funext j
  unfold upd admC
  by_cases e : j = 6 * m + k
  · subst e
    rw [if_pos rfl, if_pos ⟨by omega, h⟩]
  · rw [if_neg e]
    by_cases q : (6 * m ≤ j ∧ j < 6 * m + k) ∧ ds sz nx an 11 p j = 0
    · rw [if_pos q, if_pos ⟨by omega, q.2⟩]
    · rw [if_neg q, if_neg (fun z => q ⟨by omega, z.2⟩)]
theorem admC_keep {sz nx an : Nat → Nat} {cn : Nat → Int32} {m p co k : Nat} (h : ¬ ds sz nx an 11 p (6 * m + k) = 0) : admC sz nx an cn m p co k = admC sz nx an cn m p co (k + 1) := by
  funext j
  unfold admC
  by_cases e : j = 6 * m + k
  · subst e
    rw [if_neg (fun z => h z.2), if_neg (fun z => h z.2)]
  · by_cases q : (6 * m ≤ j ∧ j < 6 * m + k) ∧ ds sz nx an 11 p j = 0
    · rw [if_pos q, if_pos ⟨by omega, q.2⟩]
    · rw [if_neg q, if_neg (fun z => q ⟨by omega, z.2⟩)]
def NumI (sz nx an : Nat → Nat) (m B : Nat) (cn : Nat → Int32) (ld : Nat → Nat) (co : Nat) : Prop :=
  co = cnt (isNew nx an m) B ∧ (∀ c, isNew nx an m c → c < B → ld (cnt (isNew nx an m) c) = 6 * m + gl nx m 0 c) ∧
  ∀ s, s < sz m → (∀ c, isNew nx an m c → c < B → eqs nx an m (gl nx m 0 c) s → cn (6 * m + s) = nI (cnt (isNew nx an m) c)) ∧ ((∀ c, isNew nx an m c → c < B → ¬ eqs nx an m (gl nx m 0 c) s) → cn (6 * m + s) = -1)
theorem NumI_skip {sz nx an : Nat → Nat} {m B B' : Nat} {cn : Nat → Int32} {ld : Nat → Nat} {co : Nat} (h : NumI sz nx an m B cn ld co) (hB : B ≤ B') (hn : ∀ c, B ≤ c → c < B' → ¬ isNew nx an m c) : NumI sz nx an m B' cn ld co := by
  have low : ∀ c, isNew nx an m c → c < B' → c < B := fun c h1 h2 => by
    rcases Nat.lt_or_ge c B with y | y
    · exact y
    · exact absurd h1 (hn c y h2)
  exact ⟨h.1.trans (cnt_same hB hn).symm, fun c h1 h2 => h.2.1 c h1 (low c h1 h2), fun s hs => ⟨fun c h1 h2 => (h.2.2 s hs).1 c h1 (low c h1 h2), fun h1 => (h.2.2 s hs).2 (fun c h2 h3 => h1 c h2 (by omega))⟩⟩
theorem NumI_old {sz nx an : Nat → Nat} {m B : Nat} {cn : Nat → Int32} {ld : Nat → Nat} {co : Nat} (h : NumI sz nx an m B cn ld co) (hn : ¬ isNew nx an m B) : NumI sz nx an m (B + 1) cn ld co :=
  NumI_skip h (Nat.le_succ B) (fun c h1 h2 => by
    have e : c = B := by omega
    subst e; exact hn)
theorem nI_ne_m1 {k : Nat} (h : k < 2 ^ 31) : ¬ nI k = -1 := fun e => by
  have := nI_pos h
  rw [e] at this
  exact this (by decide)
theorem NumI_test {sz nx an : Nat → Nat} (hw : wf sz nx an) {m B : Nat} (hm : m < 2) {cn : Nat → Int32} {ld : Nat → Nat} {co : Nat} (h : NumI sz nx an m B cn ld co) (hB : 1 ≤ B) : cn (6 * m + gl nx m 0 B) = -1 ↔ isNew nx an m B := by
  have hs := gl_lt hw hm (hw.1 m hm) B
  constructor
  · intro e
    refine ⟨hB, fun j h1 h2 h3 => ?_⟩
    obtain ⟨g, g1, g2, g3⟩ := isNew_of nx an m h1
    have h4 := (h.2.2 _ hs).1 g g2 (by omega) (eqs_trans g3 h3)
    rw [e] at h4
    have h5 := isNew_cnt hw hm g
    have h6 := hw.2.1 m
    exact nI_ne_m1 (by omega) h4.symm
  · intro hn
    exact (h.2.2 _ hs).2 (fun c h1 h2 h3 => hn.2 c h1.1 h2 h3)
theorem NumI_new {sz nx an : Nat → Nat} (hw : wf sz nx an) {m B : Nat} (hm : m < 2) {cn : Nat → Int32} {ld : Nat → Nat} {co : Nat} (h : NumI sz nx an m B cn ld co) (hn : isNew nx an m B) : NumI sz nx an m (B + 1) (admC sz nx an cn m (6 * m + gl nx m 0 B) co (sz m)) (updN ld co (6 * m + gl nx m 0 B)) (co + 1) := by
  have hB := gl_lt hw hm (hw.1 m hm) B
  have hz := hw.2.1 m
  have hq : ∀ s, s < sz m → (ds sz nx an 11 (6 * m + gl nx m 0 B) (6 * m + s) = 0 ↔ eqs nx an m (gl nx m 0 B) s) := fun s hs => ds_fwd hw (by omega) (by omega) (th_at hw.2.1 hB) (th_at hw.2.1 hs)
  refine ⟨by rw [cnt_t hn, h.1], fun c h1 h2 => ?_, fun s hs => ⟨fun c h1 h2 h3 => ?_, fun h1 => ?_⟩⟩
  · rcases Nat.lt_or_ge c B with y | y
    · have := cnt_lt_of (P := isNew nx an m) y h1
      rw [updN_ne _ _ (by rw [h.1]; omega)]
      exact h.2.1 c h1 y
    · have e : c = B := by omega
      subst e
      rw [← h.1, updN_same]
  · unfold admC
    rcases Nat.lt_or_ge c B with y | y
    · rw [if_neg (fun z => hn.2 c h1.1 y (eqs_trans h3 (eqs_symm ((hq s hs).mp z.2))))]
      exact (h.2.2 s hs).1 c h1 y h3
    · have e : c = B := by omega
      subst e
      rw [if_pos ⟨by omega, (hq s hs).mpr h3⟩, h.1]
  · unfold admC
    rw [if_neg (fun z => h1 B hn (by omega) ((hq s hs).mp z.2))]
    exact (h.2.2 s hs).2 (fun c h2 h3 => h1 c h2 (by omega))
def neg1 (cn : Nat → Int32) (k : Nat) : Nat → Int32 := fun j => if j < k then -1 else cn j
theorem neg1_0 (cn : Nat → Int32) : neg1 cn 0 = cn := funext fun j => if_neg (Nat.not_lt_zero j)
theorem neg1_put (cn : Nat → Int32) (k : Nat) : upd (neg1 cn k) k (-1) = neg1 cn (k + 1) := by
  funext j
  unfold upd neg1
  by_cases e : j = k
  · subst e; rw [if_pos rfl, if_pos (by omega)]
  · rw [if_neg e]
    by_cases q : j < k
    · rw [if_pos q, if_pos (by omega)]
    · rw [if_neg q, if_neg (by omega)]
theorem NumI_start {sz nx an : Nat → Nat} (hw : wf sz nx an) {m : Nat} (hm : m < 2) (cn : Nat → Int32) (ld : Nat → Nat) : NumI sz nx an m 1 (neg1 cn 12) ld 0 := by
  have hz := hw.2.1 m
  refine ⟨(cnt_one (isNew_pfx hw hm)).symm, fun c h1 h2 => ?_, fun s hs => ⟨fun c h1 h2 => ?_, fun _ => if_pos (by omega)⟩⟩
  · have := h1.1; omega
  · have := h1.1; omega
/-- what number leaves -/
def NumF (sz nx an : Nat → Nat) (m : Nat) (cn : Nat → Int32) (ld : Nat → Nat) : Prop := (∀ k, k < ncl nx an m → ld k = 6 * m + mem nx an m k) ∧ ∀ s, s < sz m → cn (6 * m + s) = clsI nx an m s
theorem NumI_end {sz nx an : Nat → Nat} (hw : wf sz nx an) {m B : Nat} (hm : m < 2) {cn : Nat → Int32} {ld : Nat → Nat} {co : Nat} (h : NumI sz nx an m B cn ld co) (hn : ∀ c, B ≤ c → ¬ isNew nx an m c) : co = ncl nx an m ∧ NumF sz nx an m cn ld := by
  have low : ∀ c, isNew nx an m c → c < B := fun c h1 => by
    rcases Nat.lt_or_ge c B with y | y
    · exact y
    · exact absurd h1 (hn c y)
  have hco : co = ncl nx an m := by
    rw [h.1]
    unfold ncl
    rcases Nat.lt_or_ge B 64 with y | y
    · exact (cnt_same (by omega) (fun c h1 _ => hn c h1)).symm
    · exact cnt_same y (fun c h1 _ h3 => by have := isNew_64 hw hm h3; omega)
  refine ⟨hco, fun k hk => ?_, fun s hs => ?_⟩
  · obtain ⟨c, h1, h2⟩ := ncl_kth hw hk
    rw [← h2, h.2.1 c h1 (low c h1), mem_of hw hm h1]
  · by_cases q : ∃ c, isNew nx an m c ∧ eqs nx an m (gl nx m 0 c) s
    · obtain ⟨c, h1, h2⟩ := q
      rw [clsI_yes hw hm h1 h2]
      exact (h.2.2 s hs).1 c h1 (low c h1) h2
    · rw [clsI_no (fun c h1 h2 => q ⟨c, h1, h2⟩)]
      exact (h.2.2 s hs).2 (fun c h1 _ h2 => q ⟨c, h1, h2⟩)
theorem af_gl {sz nx an : Nat → Nat} (hw : wf sz nx an) {m g a : Nat} (hm : m < 2) (hg : 1 ≤ g) (ha : a < 2) : 6 * ((6 * m + gl nx m 0 g) / 6) + nx (2 * (6 * m + gl nx m 0 g) + a) = 6 * m + gl nx m 0 (2 * g + a) := by
  have h1 := gl_lt hw hm (hw.1 m hm) g
  have h2 := hw.2.1 m
  rw [af_at (by omega), gl_hi (c := 2 * g + a) (by omega), show (2 * g + a) / 2 = g by omega, show (2 * g + a) % 2 = a by omega]
set_option maxHeartbeats 600000 in
set_option maxRecDepth 100000 in
/-- a class gets its number -/
theorem mX_admit (l : Launch) (sz nx an ap : Nat → Nat) (cn : Nat → Int32) (ld qu wo : Nat → Nat) (co cu : Nat) (m0 p0 : Nat) (hZ : ∀ k, sz k ≤ 6) (hap : apOk sz nx an ap) (hm0 : m0 < 2) (hp : p0 < 12) (hco : co < 12) : MetXv l yX0_admit cX0_admit 5 rmX0_admit [.int (nI m0), .int (nI p0)] (sz, nx, an, ap, cn, ld, qu, wo, co, cu) (fun u1 => u1 = (sz, nx, an, ap, admC sz nx an cn m0 p0 co (sz m0), updN ld co p0, qu, wo, co + 1, cu)) := by
  refine entXv rfl (by decide) rfl rfl (fun _ => Nat.le_of_ble_eq_true rfl) ?_
  intro G d h a A p e s m below meth c args Q S hA hX ret ls hl
  have hx := S.1
  have hb := S.2.1
  have hl : lv_has ls 5 [(0, .ref h), (1, .int (nI m0)), (2, .int (nI p0))] := hl
  have z1 := hZ m0
  refine lv_aload_n hx hb dX0_admit_0 rfl (lv_at hl 0 rfl) ?_
  refine xg5 S hX dX0_admit_1 ?_
  refine lv_aload_n hx hb dX0_admit_4 rfl (lv_at hl 0 rfl) ?_
  refine xg8 S hX dX0_admit_5 ?_
  refine lv_iload_n hx hb dX0_admit_8 rfl (lv_at hl 2 rfl) ?_
  refine xs5 S hX dX0_admit_9 (by omega) (fun H locs hX => ?_)
  refine lv_iconst (v := nI 0) hx hb dX0_admit_10 (by decide) ?_
  refine lv_istore_n (lv' := [(3, .int (nI 0)), (0, .ref h), (1, .int (nI m0)), (2, .int (nI p0))]) hx hb dX0_admit_11 rfl hl (by decide) rfl (fun ls hl => ?_)
  have lp : ∀ (N : Nat) (s0 : Nat), (s0 ≤ sz m0) → sz m0 - s0 < N → ∀ (H : Heap) (locs : List Loc) (ls : Array Slot), HX G d h a A s (sz, nx, an, ap, (admC sz nx an cn m0 p0 co s0), (updN ld co p0), qu, wo, co, cu) H locs → lv_has ls 5 [(0, .ref h), (1, .int (nI m0)), (2, .int (nI p0)), (3, .int (nI s0))] → W p l e rmX0_admit s m args below meth c H locs 0 0 Q (F0 m 12 ls []) := by
    intro N
    induction N with
    | zero =>
      intro s0 hs0 hms
      exact absurd hms (Nat.not_lt_zero _)
    | succ N ih =>
      intro s0 hs0 hms H locs ls hX hl
      refine lv_iload_n hx hb dX0_admit_12 rfl (lv_at hl 3 rfl) ?_
      refine lv_aload_n hx hb dX0_admit_13 rfl (lv_at hl 0 rfl) ?_
      refine xg0 S hX dX0_admit_14 ?_
      refine lv_iload_n hx hb dX0_admit_17 rfl (lv_at hl 1 rfl) ?_
      refine xl0 S hX dX0_admit_18 (by omega) ?_
      have b_18 := hZ m0
      refine n_icmp_ge (tgt := 62) hx hb dX0_admit_19 (by decide) (by omega) (by omega) (fun c_19 => ?_) (fun c_19 => ?_)
      · refine lv_aload_n hx hb dX0_admit_62 rfl (lv_at hl 0 rfl) ?_
        refine lv_dup hx hb dX0_admit_63 rfl ?_
        refine xg8 S hX dX0_admit_64 ?_
        refine lv_iconst (v := nI 1) hx hb dX0_admit_67 (by decide) ?_
        refine n_iadd hx hb dX0_admit_68 ?_
        refine xp8 S hX dX0_admit_69 (fun H locs hX => ?_)
        exact ret _ _ _ _ _ dX0_admit_72 (by rw [show s0 = sz m0 by omega]) hX
      · refine lv_bipush (v := nI 6) hx hb dX0_admit_22 (by decide) ?_
        refine lv_iload_n hx hb dX0_admit_24 rfl (lv_at hl 1 rfl) ?_
        refine n_imul hx hb dX0_admit_25 ?_
        refine lv_iload_n hx hb dX0_admit_26 rfl (lv_at hl 3 rfl) ?_
        refine n_iadd hx hb dX0_admit_27 ?_
        refine lv_istore (lv' := [(4, .int (nI (6 * m0 + s0))), (0, .ref h), (1, .int (nI m0)), (2, .int (nI p0)), (3, .int (nI s0))]) hx hb dX0_admit_28 hl (by decide) rfl (fun ls hl => ?_)
        refine lv_aload_n hx hb dX0_admit_30 rfl (lv_at hl 1 rfl) ?_
        refine xg3 S hX dX0_admit_31 ?_
        refine lv_bipush (v := nI 12) hx hb dX0_admit_34 (by decide) ?_
        refine lv_iload_n hx hb dX0_admit_36 rfl (lv_at hl 3 rfl) ?_
        refine n_imul hx hb dX0_admit_37 ?_
        refine lv_iload hx hb dX0_admit_38 (lv_at hl 0 rfl) ?_
        refine n_iadd hx hb dX0_admit_40 ?_
        refine xl3 S hX dX0_admit_41 (by omega) ?_
        refine n_top (y := (nI (ds sz nx an 11 p0 (6 * m0 + s0)))) (congrArg nI (hap p0 (6 * m0 + s0) hp (by omega))) ?_
        have b_42 := ds_le sz nx an 11 p0 (6 * m0 + s0)
        refine n_if_ne (tgt := 56) hx hb dX0_admit_42 (by decide) (by omega) (fun c_42 => ?_) (fun c_42 => ?_)
        · refine lv_iinc (v := (nI (s0 + 1))) (lv' := [(3, .int (nI (s0 + 1))), (4, .int (nI (6 * m0 + s0))), (0, .ref h), (1, .int (nI m0)), (2, .int (nI p0))]) hx hb dX0_admit_56 hl (k := 4) rfl (nI_1 _) (by decide) rfl (fun ls hl => ?_)
          refine lv_goto (tgt := 12) hx hb dX0_admit_59 (by decide) ?_
          rw [admC_keep c_42] at hX
          exact ih (s0 + 1) (by omega) (by omega) _ _ _ hX (lv_sub hl [2, 3, 4, 0] rfl)
        · refine lv_aload_n hx hb dX0_admit_45 rfl (lv_at hl 1 rfl) ?_
          refine xg4 S hX dX0_admit_46 ?_
          refine lv_iload hx hb dX0_admit_49 (lv_at hl 0 rfl) ?_
          refine lv_aload_n hx hb dX0_admit_51 rfl (lv_at hl 1 rfl) ?_
          refine xg8 S hX dX0_admit_52 ?_
          refine xs4 S hX dX0_admit_55 (by omega) (fun H locs hX => ?_)
          refine lv_iinc (v := (nI (s0 + 1))) (lv' := [(3, .int (nI (s0 + 1))), (4, .int (nI (6 * m0 + s0))), (0, .ref h), (1, .int (nI m0)), (2, .int (nI p0))]) hx hb dX0_admit_56 hl (k := 4) rfl (nI_1 _) (by decide) rfl (fun ls hl => ?_)
          refine lv_goto (tgt := 12) hx hb dX0_admit_59 (by decide) ?_
          rw [admC_put c_42] at hX
          exact ih (s0 + 1) (by omega) (by omega) _ _ _ hX (lv_sub hl [2, 3, 4, 0] rfl)
  rw [← admC_0 sz nx an cn m0 p0 co] at hX
  exact lp _ 0 (by omega) (Nat.lt_succ_self _) _ _ _ hX (lv_sub hl [1, 2, 3, 0] rfl)
set_option maxHeartbeats 600000 in
set_option maxRecDepth 100000 in
/-- the classes of reached states are numbered -/
theorem mX_number (l : Launch) (sz nx an ap : Nat → Nat) (cn : Nat → Int32) (ld qu wo : Nat → Nat) (co cu : Nat) (m0 : Nat) (hI : inX sz nx an ap cu) (hm0 : m0 < 2) : MetXv l yX0_number cX0_number 5 rmX0_number [.int (nI m0)] (sz, nx, an, ap, cn, ld, qu, wo, co, cu) (fun u1 => ∃ (ap1 : Nat → Nat) (cn1 : Nat → Int32) (ld1 : Nat → Nat), u1 = (sz, nx, an, ap1, cn1, ld1, qu, wo, ncl nx an m0, 1) ∧ apOk sz nx an ap1 ∧ NumF sz nx an m0 cn1 ld1) := by
  refine entXv rfl (by decide) rfl rfl (fun _ => Nat.le_of_ble_eq_true rfl) ?_
  intro G d h a A p e s m below meth c args Q S hA hX ret ls hl
  have hx := S.1
  have hb := S.2.1
  have hl : lv_has ls 5 [(0, .ref h), (1, .int (nI m0))] := hl
  have hw := hI.1
  have hZ := hw.2.1
  have hN := hw.2.2.2.1
  have hpf := isNew_pfx hw hm0
  have h00 := hw.1 m0 hm0
  have hz6 := hZ m0
  refine lv_aload_n hx hb dX0_number_0 rfl (lv_at hl 0 rfl) ?_
  refine callXv S hA hX (mX_refresh l sz nx an ap cn ld qu wo co cu hI) (cwV 0 S.2.2.2.2 (lw_V q106 q108 qs2 q18 q109) rfl rfl rfl (by decide +kernel) ⟨Nat.le_of_ble_eq_true rfl, Nat.le_of_ble_eq_true rfl⟩) rfl hl.1 rfl (Nat.le_of_ble_eq_true rfl) dX0_number_1 ⟨Nat.zero_le _, Nat.zero_le _⟩ (fun u1 H locs hq hX => ?_)
  obtain ⟨ap1, rfl, hap⟩ := hq
  refine lv_iconst (v := nI 0) hx hb dX0_number_4 (by decide) ?_
  refine lv_istore_n (lv' := [(2, .int (nI 0)), (0, .ref h), (1, .int (nI m0))]) hx hb dX0_number_5 rfl hl (by decide) rfl (fun ls hl => ?_)
  have lp : ∀ (N : Nat) (k : Nat), (k ≤ 12) → 12 - k < N → ∀ (H : Heap) (locs : List Loc) (ls : Array Slot), HX G d h a A s (sz, nx, an, ap1, (neg1 cn k), ld, qu, wo, co, 1) H locs → lv_has ls 5 [(0, .ref h), (1, .int (nI m0)), (2, .int (nI k))] → W p l e rmX0_number s m args below meth c H locs 0 0 Q (F0 m 6 ls []) := by
    intro N
    induction N with
    | zero =>
      intro k hk hms
      exact absurd hms (Nat.not_lt_zero _)
    | succ N ih =>
      intro k hk hms H locs ls hX hl
      refine lv_iload_n hx hb dX0_number_6 rfl (lv_at hl 2 rfl) ?_
      refine lv_bipush (v := nI 12) hx hb dX0_number_7 (by decide) ?_
      refine n_icmp_ge (tgt := 25) hx hb dX0_number_9 (by decide) (by omega) (by omega) (fun c_9 => ?_) (fun c_9 => ?_)
      · rw [show k = 12 by omega] at hX
        refine lv_aload_n hx hb dX0_number_25 rfl (lv_at hl 0 rfl) ?_
        refine lv_iconst (v := nI 0) hx hb dX0_number_26 (by decide) ?_
        refine xp8 S hX dX0_number_27 (fun H locs hX => ?_)
        refine lv_aload_n hx hb dX0_number_30 rfl (lv_at hl 0 rfl) ?_
        refine lv_iload_n hx hb dX0_number_31 rfl (lv_at hl 1 rfl) ?_
        refine lv_bipush (v := nI 6) hx hb dX0_number_32 (by decide) ?_
        refine lv_iload_n hx hb dX0_number_34 rfl (lv_at hl 1 rfl) ?_
        refine n_imul hx hb dX0_number_35 ?_
        refine callXv S hA hX (mX_admit l sz nx an ap1 ((neg1 cn 12)) ld qu wo 0 1 m0 (6 * m0) hZ hap hm0 (by omega) (by omega)) (cwV 2 S.2.2.2.2 (lw_V q142 q144 qs7 q18 q145) rfl rfl rfl (by decide +kernel) ⟨Nat.le_of_ble_eq_true rfl, Nat.le_of_ble_eq_true rfl⟩) rfl hl.1 rfl (Nat.le_of_ble_eq_true rfl) dX0_number_36 ⟨Nat.zero_le _, Nat.zero_le _⟩ (fun u1 H locs hq hX => ?_)
        subst hq
        refine lv_iconst (v := nI 0) hx hb dX0_number_39 (by decide) ?_
        refine lv_istore_n (lv' := [(2, .int (nI 0)), (0, .ref h), (1, .int (nI m0))]) hx hb dX0_number_40 rfl hl (by decide) rfl (fun ls hl => ?_)
        have hI2 : NumI sz nx an m0 2 _ _ _ := NumI_new hw hm0 (NumI_start hw hm0 cn ld) hpf.1
        rw [gl_lo (by decide), Nat.add_zero] at hI2
        have lp2 : ∀ (N : Nat) (k : Nat) (Bd : Nat) (cn1 : Nat → Int32) (ld1 : Nat → Nat) (co1 : Nat), (k ≤ 6) → (J2 (isNew nx an m0) 4096 k Bd) → (NumI sz nx an m0 Bd cn1 ld1 co1) → 6 - k < N → ∀ (H : Heap) (locs : List Loc) (ls : Array Slot), HX G d h a A s (sz, nx, an, ap1, cn1, ld1, qu, wo, co1, 1) H locs → lv_has ls 5 [(0, .ref h), (1, .int (nI m0)), (2, .int (nI k))] → W p l e rmX0_number s m args below meth c H locs 0 0 Q (F0 m 41 ls []) := by
          intro N
          induction N with
          | zero =>
            intro k Bd cn1 ld1 co1 hk hJ hI1 hms
            exact absurd hms (Nat.not_lt_zero _)
          | succ N ih =>
            intro k Bd cn1 ld1 co1 hk hJ hI1 hms H locs ls hX hl
            refine lv_iload_n hx hb dX0_number_41 rfl (lv_at hl 2 rfl) ?_
            refine lv_bipush (v := nI 6) hx hb dX0_number_42 (by decide) ?_
            refine n_icmp_ge (tgt := 105) hx hb dX0_number_44 (by decide) (by omega) (by omega) (fun c_44 => ?_) (fun c_44 => ?_)
            · exact ret _ _ _ _ _ dX0_number_105 (by obtain ⟨e1, e2⟩ := NumI_end hw hm0 hI1 (fun c h1 h2 => J2_end hpf hJ (by (have q1 := isNew_cnt hw hm0 Bd); (have q2 := hI1.1); omega) c h1 (by have := isNew_64 hw hm0 h2; omega) h2); exact ⟨ap1, cn1, ld1, by rw [e1], hap, e2⟩) hX
            · refine lv_iload_n hx hb dX0_number_47 rfl (lv_at hl 2 rfl) ?_
              refine lv_aload_n hx hb dX0_number_48 rfl (lv_at hl 0 rfl) ?_
              refine xg8 S hX dX0_number_49 ?_
              refine n_icmp_ge (tgt := 105) hx hb dX0_number_52 (by decide) (by omega) (by rw [hI1.1]; exact Nat.lt_of_le_of_lt (isNew_cnt hw hm0 _) (by omega)) (fun c_52 => ?_) (fun c_52 => ?_)
              · exact ret _ _ _ _ _ dX0_number_105 (by obtain ⟨e1, e2⟩ := NumI_end hw hm0 hI1 (fun c h1 h2 => J2_end hpf hJ (by (have q1 := isNew_cnt hw hm0 Bd); (have q2 := hI1.1); omega) c h1 (by have := isNew_64 hw hm0 h2; omega) h2); exact ⟨ap1, cn1, ld1, by rw [e1], hap, e2⟩) hX
              · refine lv_iconst (v := nI 0) hx hb dX0_number_55 (by decide) ?_
                refine lv_istore_n (lv' := [(3, .int (nI 0)), (0, .ref h), (1, .int (nI m0)), (2, .int (nI k))]) hx hb dX0_number_56 rfl hl (by decide) rfl (fun ls hl => ?_)
                obtain ⟨g, -, hg, hgk⟩ := cnt_kth (P := isNew nx an m0) (n := Bd) (k := k) (by rw [← hI1.1]; omega)
                have hg1 : 1 ≤ g := hg.1
                have hg64 := isNew_64 hw hm0 hg
                obtain ⟨hs1, hs2⟩ := J2_skip hpf hJ hg hgk
                have hgB : g < Bd := by rcases Nat.lt_or_ge g Bd with y | y; exact y; (have := cnt_le_of (P := isNew nx an m0) y); (have := hI1.1); omega
                have hI3 := NumI_skip hI1 hs1 (fun c e1 e2 => hs2 c e1 e2 (by omega))
                have hldk := hI1.2.1 g hg hgB
                rw [hgk] at hldk
                have lp3 : ∀ (N2 : Nat) (b : Nat) (cn2 : Nat → Int32) (ld2 : Nat → Nat) (co2 : Nat), (b ≤ 2) → (NumI sz nx an m0 (2 * g + b) cn2 ld2 co2) → (ld2 k = 6 * m0 + gl nx m0 0 g) → 2 - b < N2 → ∀ (H : Heap) (locs : List Loc) (ls : Array Slot), HX G d h a A s (sz, nx, an, ap1, cn2, ld2, qu, wo, co2, 1) H locs → lv_has ls 5 [(0, .ref h), (1, .int (nI m0)), (2, .int (nI k)), (3, .int (nI b))] → W p l e rmX0_number s m args below meth c H locs 0 0 Q (F0 m 57 ls []) := by
                  intro N2
                  induction N2 with
                  | zero =>
                    intro b cn2 ld2 co2 hb2 hI4 hld2 hms
                    exact absurd hms (Nat.not_lt_zero _)
                  | succ N2 ih2 =>
                    intro b cn2 ld2 co2 hb2 hI4 hld2 hms H locs ls hX hl
                    have g2 := gl_lt hw hm0 h00 g
                    refine lv_iload_n hx hb dX0_number_57 rfl (lv_at hl 3 rfl) ?_
                    refine lv_iconst (v := nI 2) hx hb dX0_number_58 (by decide) ?_
                    refine n_icmp_ge (tgt := 99) hx hb dX0_number_59 (by decide) (by omega) (by omega) (fun c_59 => ?_) (fun c_59 => ?_)
                    · refine lv_iinc (v := (nI (k + 1))) (lv' := [(2, .int (nI (k + 1))), (0, .ref h), (1, .int (nI m0)), (3, .int (nI b))]) hx hb dX0_number_99 hl (k := 2) rfl (nI_1 _) (by decide) rfl (fun ls hl => ?_)
                      refine lv_goto (tgt := 41) hx hb dX0_number_102 (by decide) ?_
                      rw [show b = 2 by omega] at hI4
                      exact ih (k + 1) (2 * g + 2) cn2 ld2 co2 (by omega) (J2_step hpf hJ hg hgk) (hI4) (by omega) _ _ _ hX (lv_sub hl [1, 2, 0] rfl)
                    · refine lv_aload_n hx hb dX0_number_62 rfl (lv_at hl 0 rfl) ?_
                      refine lv_aload_n hx hb dX0_number_63 rfl (lv_at hl 0 rfl) ?_
                      refine xg5 S hX dX0_number_64 ?_
                      refine lv_iload_n hx hb dX0_number_67 rfl (lv_at hl 2 rfl) ?_
                      refine xl5 S hX dX0_number_68 (by omega) ?_
                      refine n_top (y := (nI (6 * m0 + gl nx m0 0 g))) (congrArg nI hld2) ?_
                      refine lv_iload_n hx hb dX0_number_69 rfl (lv_at hl 3 rfl) ?_
                      refine callXi S hA hX (mX_after l sz nx an ap1 cn2 ld2 qu wo co2 1 (6 * m0 + gl nx m0 0 g) b (by omega) (by omega) hN) (cwV 2 S.2.2.2.2 (lw_V q94 q96 qs1 q18 q97) rfl rfl rfl (by decide +kernel) ⟨Nat.le_of_ble_eq_true rfl, Nat.le_of_ble_eq_true rfl⟩) rfl hl.1 rfl (Nat.le_of_ble_eq_true rfl) dX0_number_70 ⟨Nat.zero_le _, Nat.zero_le _⟩ (fun r u1 H locs hq hX => ?_)
                      obtain ⟨rfl, rfl⟩ := hq
                      refine n_top (y := nI (6 * m0 + gl nx m0 0 (2 * g + b))) (congrArg nI (af_gl hw hm0 hg1 (by omega))) ?_
                      have g3 := gl_lt hw hm0 h00 (2 * g + b)
                      refine lv_istore (lv' := [(4, .int (nI (6 * m0 + gl nx m0 0 (2 * g + b)))), (0, .ref h), (1, .int (nI m0)), (2, .int (nI k)), (3, .int (nI b))]) hx hb dX0_number_73 hl (by decide) rfl (fun ls hl => ?_)
                      refine lv_aload_n hx hb dX0_number_75 rfl (lv_at hl 1 rfl) ?_
                      refine xg4 S hX dX0_number_76 ?_
                      refine lv_iload hx hb dX0_number_79 (lv_at hl 0 rfl) ?_
                      refine xl4 S hX dX0_number_81 (by omega) ?_
                      have htest := NumI_test hw hm0 hI4 (by omega)
                      refine lv_iconst (v := -1) hx hb dX0_number_82 (by decide) ?_
                      refine lv_icmp_ne (tgt := 93) hx hb dX0_number_83 (by decide) (fun c_83 => ?_) (fun c_83 => ?_)
                      · refine lv_iinc (v := (nI (b + 1))) (lv' := [(3, .int (nI (b + 1))), (4, .int (nI (6 * m0 + gl nx m0 0 (2 * g + b)))), (0, .ref h), (1, .int (nI m0)), (2, .int (nI k))]) hx hb dX0_number_93 hl (k := 4) rfl (nI_1 _) (by decide) rfl (fun ls hl => ?_)
                        refine lv_goto (tgt := 57) hx hb dX0_number_96 (by decide) ?_
                        exact ih2 (b + 1) cn2 ld2 co2 (by omega) (NumI_old hI4 (fun z => c_83 (htest.mpr z))) (hld2) (by omega) _ _ _ hX (lv_sub hl [2, 3, 4, 0] rfl)
                      · have hcn := isNew_cnt hw hm0 (2 * g + b)
                        have hco2 := hI4.1
                        refine lv_aload_n hx hb dX0_number_86 rfl (lv_at hl 1 rfl) ?_
                        refine lv_iload_n hx hb dX0_number_87 rfl (lv_at hl 2 rfl) ?_
                        refine lv_iload hx hb dX0_number_88 (lv_at hl 0 rfl) ?_
                        refine callXv S hA hX (mX_admit l sz nx an ap1 cn2 ld2 qu wo co2 1 m0 (6 * m0 + gl nx m0 0 (2 * g + b)) hZ hap hm0 (by omega) (by omega)) (cwV 2 S.2.2.2.2 (lw_V q142 q144 qs7 q18 q145) rfl rfl rfl (by decide +kernel) ⟨Nat.le_of_ble_eq_true rfl, Nat.le_of_ble_eq_true rfl⟩) rfl hl.1 rfl (Nat.le_of_ble_eq_true rfl) dX0_number_90 ⟨Nat.zero_le _, Nat.zero_le _⟩ (fun u1 H locs hq hX => ?_)
                        subst hq
                        refine lv_iinc (v := (nI (b + 1))) (lv' := [(3, .int (nI (b + 1))), (4, .int (nI (6 * m0 + gl nx m0 0 (2 * g + b)))), (0, .ref h), (1, .int (nI m0)), (2, .int (nI k))]) hx hb dX0_number_93 hl (k := 4) rfl (nI_1 _) (by decide) rfl (fun ls hl => ?_)
                        refine lv_goto (tgt := 57) hx hb dX0_number_96 (by decide) ?_
                        have hlt : k < co2 := by rw [hI4.1, ← hgk]; exact cnt_lt_of (by omega) hg
                        exact ih2 (b + 1) ((admC sz nx an cn2 m0 (6 * m0 + gl nx m0 0 (2 * g + b)) co2 (sz m0))) ((updN ld2 co2 (6 * m0 + gl nx m0 0 (2 * g + b)))) ((co2 + 1)) (by omega) (NumI_new hw hm0 hI4 (htest.mp c_83)) (by rw [updN_ne _ _ (by omega)]; exact hld2) (by omega) _ _ _ hX (lv_sub hl [2, 3, 4, 0] rfl)
                exact lp3 _ 0 cn1 ld1 co1 (by omega) (hI3) (hldk) (Nat.lt_succ_self _) _ _ _ hX (lv_sub hl [1, 2, 3, 0] rfl)
        exact lp2 _ 0 2 ((admC sz nx an ((neg1 cn 12)) m0 (6 * m0) 0 (sz m0))) ((updN ld 0 (6 * m0))) ((0 + 1)) (by omega) (J2_start hpf 4096) (hI2) (Nat.lt_succ_self _) _ _ _ hX (lv_sub hl [1, 2, 0] rfl)
      · refine lv_aload_n hx hb dX0_number_12 rfl (lv_at hl 0 rfl) ?_
        refine xg4 S hX dX0_number_13 ?_
        refine lv_iload_n hx hb dX0_number_16 rfl (lv_at hl 2 rfl) ?_
        refine lv_iconst (v := -1) hx hb dX0_number_17 (by decide) ?_
        refine xs4 S hX dX0_number_18 (by omega) (fun H locs hX => ?_)
        refine lv_iinc (v := (nI (k + 1))) (lv' := [(2, .int (nI (k + 1))), (0, .ref h), (1, .int (nI m0))]) hx hb dX0_number_19 hl (k := 2) rfl (nI_1 _) (by decide) rfl (fun ls hl => ?_)
        refine lv_goto (tgt := 6) hx hb dX0_number_22 (by decide) ?_
        rw [neg1_put] at hX
        exact ih (k + 1) (by omega) (by omega) _ _ _ hX (lv_sub hl [1, 2, 0] rfl)
  rw [← neg1_0 cn] at hX
  exact lp _ 0 (by omega) (Nat.lt_succ_self _) _ _ _ hX (lv_sub hl [1, 2, 0] rfl)
end
section
set_option maxRecDepth 100000
/-! place, work; core, coreNext, coreAnswer, classOf on both sides -/
/-- the model's core so far: codes below B have been tried -/
def WrkI (nx an : Nat → Nat) (m B : Nat) (ct : Nat) (mb : Nat → Nat) : Prop := ct = cnt (isNew nx an m) B ∧ ∀ c, isNew nx an m c → c < B → mb (cnt (isNew nx an m) c) = gl nx m 0 c
theorem WrkI_start {sz nx an : Nat → Nat} (hw : wf sz nx an) {m : Nat} (hm : m < 2) (mb : Nat → Nat) : WrkI nx an m 1 0 mb := by
  refine ⟨(cnt_one (isNew_pfx hw hm)).symm, fun c h1 h2 => ?_⟩
  have := h1.1
  omega
theorem WrkI_old {nx an : Nat → Nat} {m B ct : Nat} {mb : Nat → Nat} (h : WrkI nx an m B ct mb) (hn : ¬ isNew nx an m B) : WrkI nx an m (B + 1) ct mb := by
  refine ⟨by rw [cnt_f hn]; exact h.1, fun c h1 h2 => h.2 c h1 ?_⟩
  rcases Nat.lt_or_ge c B with y | y
  · exact y
  · have e : c = B := by omega
    subst e; exact absurd h1 hn
theorem WrkI_new {nx an : Nat → Nat} {m B ct : Nat} {mb : Nat → Nat} (h : WrkI nx an m B ct mb) (hn : isNew nx an m B) : WrkI nx an m (B + 1) (ct + 1) (updN mb ct (gl nx m 0 B)) := by
  refine ⟨by rw [cnt_t hn, h.1], fun c h1 h2 => ?_⟩
  rcases Nat.lt_or_ge c B with y | y
  · have := cnt_lt_of (P := isNew nx an m) y h1
    rw [updN_ne _ _ (by rw [h.1]; omega)]
    exact h.2 c h1 y
  · have e : c = B := by omega
    subst e
    rw [← h.1, updN_same]
theorem WrkI_test {nx an : Nat → Nat} {m B ct : Nat} {mb : Nat → Nat} (h : WrkI nx an m B ct mb) (hB : 1 ≤ B) : (∀ k, k < ct → ¬ eqs nx an m (mb k) (gl nx m 0 B)) ↔ isNew nx an m B := by
  constructor
  · intro e
    refine ⟨hB, fun j h1 h2 h3 => ?_⟩
    obtain ⟨g, g1, g2, g3⟩ := isNew_of nx an m h1
    have h4 := cnt_lt_of (P := isNew nx an m) (show g < B by omega) g2
    have h5 := e (cnt (isNew nx an m) g) (by rw [h.1]; exact h4)
    rw [h.2 g g2 (by omega)] at h5
    exact h5 (eqs_trans g3 h3)
  · intro hn k hk he
    rw [h.1] at hk
    obtain ⟨g, g1, g2, g3⟩ := cnt_kth hk
    rw [← g3, h.2 g g2 g1] at he
    exact hn.2 g g2.1 g1 he
theorem WrkI_lt {sz nx an : Nat → Nat} (hw : wf sz nx an) {m B ct : Nat} (hm : m < 2) {mb : Nat → Nat} (h : WrkI nx an m B ct mb) : ct ≤ 6 ∧ ∀ k, k < ct → mb k < sz m := by
  refine ⟨by rw [h.1]; exact Nat.le_trans (isNew_cnt hw hm B) (hw.2.1 m), fun k hk => ?_⟩
  rw [h.1] at hk
  obtain ⟨g, g1, g2, g3⟩ := cnt_kth hk
  rw [← g3, h.2 g g2 g1]
  exact gl_lt hw hm (hw.1 m hm) g
theorem WrkI_full {sz nx an : Nat → Nat} (hw : wf sz nx an) {m B ct : Nat} (hm : m < 2) {mb : Nat → Nat} (h : WrkI nx an m B ct mb) (h6 : 6 ≤ ct) : ¬ isNew nx an m B := by
  intro hn
  have h1 := isNew_cnt hw hm (B + 1)
  have h2 := hw.2.1 m
  rw [cnt_t hn, ← h.1] at h1
  omega
theorem WrkI_end {sz nx an : Nat → Nat} (hw : wf sz nx an) {m ct : Nat} (hm : m < 2) {mb : Nat → Nat} (h : WrkI nx an m 64 ct mb) : ct = ncl nx an m ∧ ∀ k, k < ncl nx an m → mb k = mem nx an m k := by
  refine ⟨h.1, fun k hk => ?_⟩
  obtain ⟨c, h1, h2⟩ := ncl_kth hw hk
  rw [← h2, h.2 c h1 (isNew_64 hw hm h1), mem_of hw hm h1]
/-- what place answers, over a whole core -/
theorem cls_yes {sz nx an : Nat → Nat} (hw : wf sz nx an) {m k s : Nat} (hm : m < 2) (hk : k < ncl nx an m) (he : eqs nx an m (mem nx an m k) s) : clsI nx an m s = nI k := by
  obtain ⟨c, h1, h2⟩ := ncl_kth hw hk
  rw [← h2, mem_of hw hm h1] at he
  rw [clsI_yes hw hm h1 he, h2]
theorem cls_no {sz nx an : Nat → Nat} (hw : wf sz nx an) {m s : Nat} (hm : m < 2) (h : ∀ k, k < ncl nx an m → ¬ eqs nx an m (mem nx an m k) s) : clsI nx an m s = -1 := by
  refine clsI_no (fun c h1 h2 => ?_)
  have h3 := cnt_lt_of (P := isNew nx an m) (isNew_64 hw hm h1) h1
  have h4 := h _ h3
  rw [mem_of hw hm h1] at h4
  exact h4 h2
set_option maxHeartbeats 600000 in
set_option maxRecDepth 100000 in
/-- the place in the core of the class of a state -/
theorem mY_place (l : Launch) (sz nx an : Nat → Nat) (ct : Nat) (mb : Nat → Nat) (m0 s1 : Nat) (hw : wf sz nx an) (hm0 : m0 < 2) (hs1 : s1 < sz m0) (hct : ct ≤ 6) (hmb : ∀ k, k < ct → mb k < sz m0) : MetY l yX1_place cX1_place 4 (some .int) rmX1_place [.int (nI (8 * m0 + s1))] (sz, nx, an, ct, mb) (fun r u1 => ((∃ k, k < ct ∧ eqs nx an m0 (mb k) s1 ∧ r = nI k) ∨ ((∀ k, k < ct → ¬ eqs nx an m0 (mb k) s1) ∧ r = -1)) ∧ u1 = (sz, nx, an, ct, mb)) := by
  refine entYi rfl (by decide) rfl rfl (fun _ => Nat.le_of_ble_eq_true rfl) ?_
  intro G d h a A p e s m below meth c args Q S hA hX ret ls hl
  have hx := S.1
  have hb := S.2.1
  have hl : lv_has ls 4 [(0, .ref h), (1, .int (nI (8 * m0 + s1)))] := hl
  have hz6 := hw.2.1 m0
  refine lv_iload_n hx hb dX1_place_0 rfl (lv_at hl 1 rfl) ?_
  refine lv_bipush (v := nI 8) hx hb dX1_place_1 (by decide) ?_
  refine n_idiv hx hb dX1_place_3 (by omega) (by decide) (by decide) ?_
  refine n_top (y := (nI m0)) (congrArg nI (by omega)) ?_
  refine lv_istore_n (lv' := [(2, .int (nI m0)), (0, .ref h), (1, .int (nI (8 * m0 + s1)))]) hx hb dX1_place_4 rfl hl (by decide) rfl (fun ls hl => ?_)
  refine lv_iconst (v := nI 0) hx hb dX1_place_5 (by decide) ?_
  refine lv_istore_n (lv' := [(3, .int (nI 0)), (2, .int (nI m0)), (0, .ref h), (1, .int (nI (8 * m0 + s1)))]) hx hb dX1_place_6 rfl hl (by decide) rfl (fun ls hl => ?_)
  have lp : ∀ (N : Nat) (k : Nat), (k ≤ ct) → (∀ j, j < k → ¬ eqs nx an m0 (mb j) s1) → ct - k < N → ∀ (H : Heap) (locs : List Loc) (ls : Array Slot), HY G d h a A s (sz, nx, an, ct, mb) H locs → lv_has ls 4 [(0, .ref h), (1, .int (nI (8 * m0 + s1))), (2, .int (nI m0)), (3, .int (nI k))] → W p l e rmX1_place s m args below meth c H locs 0 0 Q (F0 m 7 ls []) := by
    intro N
    induction N with
    | zero =>
      intro k hk hno hms
      exact absurd hms (Nat.not_lt_zero _)
    | succ N ih =>
      intro k hk hno hms H locs ls hX hl
      refine lv_iload_n hx hb dX1_place_7 rfl (lv_at hl 3 rfl) ?_
      refine lv_aload_n hx hb dX1_place_8 rfl (lv_at hl 0 rfl) ?_
      refine yg3 S hX dX1_place_9 ?_
      refine n_icmp_ge (tgt := 48) hx hb dX1_place_12 (by decide) (by omega) (by omega) (fun c_12 => ?_) (fun c_12 => ?_)
      · refine lv_iconst (v := -1) hx hb dX1_place_48 (by decide) ?_
        exact ret _ _ _ _ _ _ dX1_place_49 (⟨Or.inr ⟨fun j hj => hno j (by omega), rfl⟩, rfl⟩) hX
      · refine lv_iload_n hx hb dX1_place_15 rfl (lv_at hl 3 rfl) ?_
        refine lv_bipush (v := nI 6) hx hb dX1_place_16 (by decide) ?_
        refine n_icmp_ge (tgt := 48) hx hb dX1_place_18 (by decide) (by omega) (by omega) (fun c_18 => ?_) (fun c_18 => ?_)
        · omega
        · have hmk := hmb k (by omega)
          refine lv_aload_n hx hb dX1_place_21 rfl (lv_at hl 0 rfl) ?_
          refine lv_bipush (v := nI 8) hx hb dX1_place_22 (by decide) ?_
          refine lv_iload_n hx hb dX1_place_24 rfl (lv_at hl 2 rfl) ?_
          refine n_imul hx hb dX1_place_25 ?_
          refine lv_aload_n hx hb dX1_place_26 rfl (lv_at hl 0 rfl) ?_
          refine yg4 S hX dX1_place_27 ?_
          refine lv_iload_n hx hb dX1_place_30 rfl (lv_at hl 3 rfl) ?_
          refine yl4 S hX dX1_place_31 (by omega) ?_
          refine n_iadd hx hb dX1_place_32 ?_
          refine lv_iload_n hx hb dX1_place_33 rfl (lv_at hl 1 rfl) ?_
          refine callYi S hA hX (mY_apart l sz nx an ct mb (8 * m0 + mb k) (8 * m0 + s1) hw (by omega) (by rw [show (8 * m0 + mb k) % 8 = mb k by omega, show (8 * m0 + mb k) / 8 = m0 by omega]; omega) (by omega) (by rw [show (8 * m0 + s1) % 8 = s1 by omega, show (8 * m0 + s1) / 8 = m0 by omega]; omega)) (cwV 2 S.2.2.2.2 (lw_V q240 q242 qs14 q19 q243) rfl rfl rfl (by decide +kernel) ⟨Nat.le_of_ble_eq_true rfl, Nat.le_of_ble_eq_true rfl⟩) rfl hl.1 rfl (Nat.le_of_ble_eq_true rfl) dX1_place_34 ⟨Nat.zero_le _, Nat.zero_le _⟩ (fun r u1 H locs hq hX => ?_)
          obtain ⟨rfl, rfl⟩ := hq
          refine n_top (y := nI (fwd nx an (6 * m0 + mb k) (6 * m0 + s1))) (congrArg nI (by rw [show pl (8 * m0 + mb k) = 6 * m0 + mb k by unfold pl; omega, show pl (8 * m0 + s1) = 6 * m0 + s1 by unfold pl; omega])) ?_
          have b_f := fwd_lt nx an (6 * m0 + mb k) (6 * m0 + s1)
          refine n_if_ne (tgt := 42) hx hb dX1_place_37 (by decide) (by omega) (fun c_37 => ?_) (fun c_37 => ?_)
          · refine lv_iinc (v := (nI (k + 1))) (lv' := [(3, .int (nI (k + 1))), (0, .ref h), (1, .int (nI (8 * m0 + s1))), (2, .int (nI m0))]) hx hb dX1_place_42 hl (k := 3) rfl (nI_1 _) (by decide) rfl (fun ls hl => ?_)
            refine lv_goto (tgt := 7) hx hb dX1_place_45 (by decide) ?_
            exact ih (k + 1) (by omega) (fun j hj => by rcases Nat.lt_or_ge j k with z | z; exact hno j z; (have e : j = k := (by omega)); subst e; exact c_37) (by omega) _ _ _ hX (lv_sub hl [1, 2, 3, 0] rfl)
          · refine lv_iload_n hx hb dX1_place_40 rfl (lv_at hl 3 rfl) ?_
            exact ret _ _ _ _ _ _ dX1_place_41 (⟨Or.inl ⟨k, by omega, c_37, rfl⟩, rfl⟩) hX
  exact lp _ 0 (by omega) (fun j hj => absurd hj (Nat.not_lt_zero _)) (Nat.lt_succ_self _) _ _ _ hX (lv_sub hl [2, 3, 1, 0] rfl)
set_option maxHeartbeats 600000 in
set_option maxRecDepth 100000 in
/-- the core is worked out -/
theorem mY_work (l : Launch) (sz nx an : Nat → Nat) (ct : Nat) (mb : Nat → Nat) (m0 : Nat) (hw : wf sz nx an) (hm0 : m0 < 2) : MetYv l yX1_work cX1_work 4 rmX1_work [.int (nI m0)] (sz, nx, an, ct, mb) (fun u1 => ∃ mb1 : Nat → Nat, u1 = (sz, nx, an, ncl nx an m0, mb1) ∧ ∀ k, k < ncl nx an m0 → mb1 k = mem nx an m0 k) := by
  refine entYv rfl (by decide) rfl rfl (fun _ => Nat.le_of_ble_eq_true rfl) ?_
  intro G d h a A p e s m below meth c args Q S hA hX ret ls hl
  have hx := S.1
  have hb := S.2.1
  have hl : lv_has ls 4 [(0, .ref h), (1, .int (nI m0))] := hl
  have h00 := hw.1 m0 hm0
  have hz6 := hw.2.1 m0
  refine lv_aload_n hx hb dX1_work_0 rfl (lv_at hl 0 rfl) ?_
  refine lv_iconst (v := nI 0) hx hb dX1_work_1 (by decide) ?_
  refine yp3 S hX dX1_work_2 (fun H locs hX => ?_)
  refine lv_iconst (v := nI 1) hx hb dX1_work_5 (by decide) ?_
  refine lv_istore_n (lv' := [(2, .int (nI 1)), (0, .ref h), (1, .int (nI m0))]) hx hb dX1_work_6 rfl hl (by decide) rfl (fun ls hl => ?_)
  have lp : ∀ (N : Nat) (c1 : Nat) (ct1 : Nat) (mb1 : Nat → Nat), (1 ≤ c1) → (c1 ≤ 64) → (WrkI nx an m0 c1 ct1 mb1) → 64 - c1 < N → ∀ (H : Heap) (locs : List Loc) (ls : Array Slot), HY G d h a A s (sz, nx, an, ct1, mb1) H locs → lv_has ls 4 [(0, .ref h), (1, .int (nI m0)), (2, .int (nI c1))] → W p l e rmX1_work s m args below meth c H locs 0 0 Q (F0 m 7 ls []) := by
    intro N
    induction N with
    | zero =>
      intro c1 ct1 mb1 hc1 hc hWk hms
      exact absurd hms (Nat.not_lt_zero _)
    | succ N ih =>
      intro c1 ct1 mb1 hc1 hc hWk hms H locs ls hX hl
      have hW6 := WrkI_lt hw hm0 hWk
      have hW7 := hW6.1
      refine lv_iload_n hx hb dX1_work_7 rfl (lv_at hl 2 rfl) ?_
      refine lv_bipush (v := nI 64) hx hb dX1_work_8 (by decide) ?_
      refine n_icmp_ge (tgt := 71) hx hb dX1_work_10 (by decide) (by omega) (by omega) (fun c_10 => ?_) (fun c_10 => ?_)
      · exact ret _ _ _ _ _ dX1_work_71 (by rw [show c1 = 64 by omega] at hWk; obtain ⟨e1, e2⟩ := WrkI_end hw hm0 hWk; exact ⟨mb1, by rw [e1], e2⟩) hX
      · refine lv_aload_n hx hb dX1_work_13 rfl (lv_at hl 0 rfl) ?_
        refine lv_bipush (v := nI 8) hx hb dX1_work_14 (by decide) ?_
        refine lv_iload_n hx hb dX1_work_16 rfl (lv_at hl 1 rfl) ?_
        refine n_imul hx hb dX1_work_17 ?_
        refine lv_iload_n hx hb dX1_work_18 rfl (lv_at hl 2 rfl) ?_
        refine callYi S hA hX (mY_goal l sz nx an ct1 mb1 (8 * m0) c1 hw (by omega) (by rw [show 8 * m0 / 8 = m0 by omega, show 8 * m0 % 8 = 0 by omega]; exact h00) hc1 (by omega)) (cwV 2 S.2.2.2.2 (lw_V q220 q222 qs11 q19 q223) rfl rfl rfl (by decide +kernel) ⟨Nat.le_of_ble_eq_true rfl, Nat.le_of_ble_eq_true rfl⟩) rfl hl.1 rfl (Nat.le_of_ble_eq_true rfl) dX1_work_19 ⟨Nat.zero_le _, Nat.zero_le _⟩ (fun r u1 H locs hq hX => ?_)
        obtain ⟨rfl, rfl⟩ := hq
        refine n_top (y := nI (gl nx m0 0 c1)) (congrArg nI (by rw [show 8 * m0 / 8 = m0 by omega, show 8 * m0 % 8 = 0 by omega])) ?_
        have g1 := gl_lt hw hm0 h00 c1
        refine lv_istore_n (lv' := [(3, .int (nI (gl nx m0 0 c1))), (0, .ref h), (1, .int (nI m0)), (2, .int (nI c1))]) hx hb dX1_work_22 rfl hl (by decide) rfl (fun ls hl => ?_)
        refine lv_aload_n hx hb dX1_work_23 rfl (lv_at hl 1 rfl) ?_
        refine yg3 S hX dX1_work_24 ?_
        refine lv_bipush (v := nI 6) hx hb dX1_work_27 (by decide) ?_
        refine n_icmp_ge (tgt := 65) hx hb dX1_work_29 (by decide) (by omega) (by omega) (fun c_29 => ?_) (fun c_29 => ?_)
        · refine lv_iinc (v := (nI (c1 + 1))) (lv' := [(2, .int (nI (c1 + 1))), (3, .int (nI (gl nx m0 0 c1))), (0, .ref h), (1, .int (nI m0))]) hx hb dX1_work_65 hl (k := 3) rfl (nI_1 _) (by decide) rfl (fun ls hl => ?_)
          refine lv_goto (tgt := 7) hx hb dX1_work_68 (by decide) ?_
          exact ih (c1 + 1) ct1 mb1 (by omega) (by omega) (WrkI_old hWk (by first | exact WrkI_full hw hm0 hWk c_29 | exact fun z => (WrkI_test hWk hc1).mpr z k hk he)) (by omega) _ _ _ hX (lv_sub hl [2, 3, 0] rfl)
        · refine lv_aload_n hx hb dX1_work_32 rfl (lv_at hl 1 rfl) ?_
          refine lv_bipush (v := nI 8) hx hb dX1_work_33 (by decide) ?_
          refine lv_iload_n hx hb dX1_work_35 rfl (lv_at hl 2 rfl) ?_
          refine n_imul hx hb dX1_work_36 ?_
          refine lv_iload_n hx hb dX1_work_37 rfl (lv_at hl 0 rfl) ?_
          refine n_iadd hx hb dX1_work_38 ?_
          refine callYi S hA hX (mY_place l sz nx an ct1 mb1 m0 (gl nx m0 0 c1) hw hm0 g1 hW6.1 hW6.2) (cwV 1 S.2.2.2.2 (lw_V q264 q266 qs16 q19 q267) rfl rfl rfl (by decide +kernel) ⟨Nat.le_of_ble_eq_true rfl, Nat.le_of_ble_eq_true rfl⟩) rfl hl.1 rfl (Nat.le_of_ble_eq_true rfl) dX1_work_39 ⟨Nat.zero_le _, Nat.zero_le _⟩ (fun r u1 H locs hq hX => ?_)
          obtain ⟨hq, rfl⟩ := hq
          rcases hq with ⟨k, hk, he, rfl⟩ | ⟨hno, rfl⟩
          · refine n_if_ge (tgt := 65) hx hb dX1_work_42 (by decide) (by omega) ?_
            refine lv_iinc (v := (nI (c1 + 1))) (lv' := [(2, .int (nI (c1 + 1))), (3, .int (nI (gl nx m0 0 c1))), (0, .ref h), (1, .int (nI m0))]) hx hb dX1_work_65 hl (k := 3) rfl (nI_1 _) (by decide) rfl (fun ls hl => ?_)
            refine lv_goto (tgt := 7) hx hb dX1_work_68 (by decide) ?_
            exact ih (c1 + 1) ct1 mb1 (by omega) (by omega) (WrkI_old hWk (by first | exact WrkI_full hw hm0 hWk c_29 | exact fun z => (WrkI_test hWk hc1).mpr z k hk he)) (by omega) _ _ _ hX (lv_sub hl [2, 3, 0] rfl)
          · refine lv_if_ge (tgt := 65) hx hb dX1_work_42 (by decide) (fun q => absurd q (by decide)) (fun _ => ?_)
            refine lv_aload_n hx hb dX1_work_45 rfl (lv_at hl 1 rfl) ?_
            refine yg4 S hX dX1_work_46 ?_
            refine lv_aload_n hx hb dX1_work_49 rfl (lv_at hl 1 rfl) ?_
            refine yg3 S hX dX1_work_50 ?_
            refine lv_iload_n hx hb dX1_work_53 rfl (lv_at hl 0 rfl) ?_
            refine ys4 S hX dX1_work_54 (by omega) (fun H locs hX => ?_)
            refine lv_aload_n hx hb dX1_work_55 rfl (lv_at hl 1 rfl) ?_
            refine lv_dup hx hb dX1_work_56 rfl ?_
            refine yg3 S hX dX1_work_57 ?_
            refine lv_iconst (v := nI 1) hx hb dX1_work_60 (by decide) ?_
            refine n_iadd hx hb dX1_work_61 ?_
            refine yp3 S hX dX1_work_62 (fun H locs hX => ?_)
            refine lv_iinc (v := (nI (c1 + 1))) (lv' := [(2, .int (nI (c1 + 1))), (3, .int (nI (gl nx m0 0 c1))), (0, .ref h), (1, .int (nI m0))]) hx hb dX1_work_65 hl (k := 3) rfl (nI_1 _) (by decide) rfl (fun ls hl => ?_)
            refine lv_goto (tgt := 7) hx hb dX1_work_68 (by decide) ?_
            exact ih (c1 + 1) (ct1 + 1) (updN mb1 ct1 (gl nx m0 0 c1)) (by omega) (by omega) (WrkI_new hWk ((WrkI_test hWk hc1).mp hno)) (by omega) _ _ _ hX (lv_sub hl [2, 3, 0] rfl)
  exact lp _ 1 0 mb (by omega) (by omega) (WrkI_start hw hm0 mb) (Nat.lt_succ_self _) _ _ _ hX (lv_sub hl [1, 2, 0] rfl)
noncomputable def spCore (x : Int32) (sz nx an : Nat → Nat) : TT := if mOk x then (nI (ncl nx an x.toNatClampNeg), sz, nx, an) else (-1, sz, nx, an)
theorem spCore_1 {x : Int32} {sz nx an : Nat → Nat} (h : ¬ mOk x) : spCore x sz nx an = (-1, sz, nx, an) := if_neg h
theorem spCore_2 {m : Nat} {sz nx an : Nat → Nat} (h : m < 2) : spCore (nI m) sz nx an = (nI (ncl nx an m), sz, nx, an) := by
  unfold spCore
  rw [if_pos (mOk_nI h), nI_clamp (by omega)]
def kOk (nx an : Nat → Nat) (m : Nat) (y : Int32) : Prop := ¬ y < 0 ∧ y.toNatClampNeg < ncl nx an m
noncomputable def tri (c : Prop) (a b : TT) : TT := @ite _ c (Classical.propDecidable c) a b
theorem tri_t {c : Prop} {a b : TT} (h : c) : tri c a b = a := by unfold tri; exact if_pos h
theorem tri_f {c : Prop} {a b : TT} (h : ¬ c) : tri c a b = b := by unfold tri; exact if_neg h
noncomputable def spCoreNext (x y z : Int32) (sz nx an : Nat → Nat) : TT := tri (mOk x) (tri (kOk nx an x.toNatClampNeg y) (tri (mOk z) (clsI nx an x.toNatClampNeg (nx (12 * x.toNatClampNeg + 2 * mem nx an x.toNatClampNeg y.toNatClampNeg + z.toNatClampNeg)), sz, nx, an) (-3, sz, nx, an)) (-2, sz, nx, an)) (-1, sz, nx, an)
noncomputable def spCoreAnswer (x y z : Int32) (sz nx an : Nat → Nat) : TT := tri (mOk x) (tri (kOk nx an x.toNatClampNeg y) (tri (mOk z) (nI (an (12 * x.toNatClampNeg + 2 * mem nx an x.toNatClampNeg y.toNatClampNeg + z.toNatClampNeg)), sz, nx, an) (-3, sz, nx, an)) (-2, sz, nx, an)) (-1, sz, nx, an)
theorem kOk_lo {nx an : Nat → Nat} {m : Nat} {y : Int32} (h : y < 0) : ¬ kOk nx an m y := fun z => z.1 h
theorem kOk_hi {nx an : Nat → Nat} {m k : Nat} (hk : k < 2 ^ 31) (h : ¬ k < ncl nx an m) : ¬ kOk nx an m (nI k) := fun z => h (by have := z.2; rw [nI_clamp hk] at this; exact this)
theorem kOk_nI {nx an : Nat → Nat} {m k : Nat} (hk : k < 2 ^ 31) (h : k < ncl nx an m) : kOk nx an m (nI k) := ⟨nI_pos hk, by rw [nI_clamp hk]; exact h⟩
theorem spCoreNext_1 {x y z : Int32} {sz nx an : Nat → Nat} (h : ¬ mOk x) : spCoreNext x y z sz nx an = (-1, sz, nx, an) := by
  unfold spCoreNext; rw [tri_f h]
theorem spCoreNext_2 {m : Nat} {y z : Int32} {sz nx an : Nat → Nat} (h : m < 2) (h2 : ¬ kOk nx an m y) : spCoreNext (nI m) y z sz nx an = (-2, sz, nx, an) := by
  unfold spCoreNext; rw [tri_t (mOk_nI h), nI_clamp (show m < 2 ^ 31 by omega), tri_f h2]
theorem spCoreNext_3 {m : Nat} {y z : Int32} {sz nx an : Nat → Nat} (h : m < 2) (h2 : kOk nx an m y) (h3 : ¬ mOk z) : spCoreNext (nI m) y z sz nx an = (-3, sz, nx, an) := by
  unfold spCoreNext; rw [tri_t (mOk_nI h), nI_clamp (show m < 2 ^ 31 by omega), tri_t h2, tri_f h3]
theorem spCoreNext_4 {m k a : Nat} {sz nx an : Nat → Nat} (h : m < 2) (hk : k < 2 ^ 31) (h2 : k < ncl nx an m) (ha : a < 2) : spCoreNext (nI m) (nI k) (nI a) sz nx an = (clsI nx an m (nx (12 * m + 2 * mem nx an m k + a)), sz, nx, an) := by
  unfold spCoreNext; rw [tri_t (mOk_nI h), nI_clamp (show m < 2 ^ 31 by omega), tri_t (kOk_nI hk h2), tri_t (mOk_nI ha), nI_clamp hk, nI_clamp (show a < 2 ^ 31 by omega)]
theorem spCoreAnswer_1 {x y z : Int32} {sz nx an : Nat → Nat} (h : ¬ mOk x) : spCoreAnswer x y z sz nx an = (-1, sz, nx, an) := by
  unfold spCoreAnswer; rw [tri_f h]
theorem spCoreAnswer_2 {m : Nat} {y z : Int32} {sz nx an : Nat → Nat} (h : m < 2) (h2 : ¬ kOk nx an m y) : spCoreAnswer (nI m) y z sz nx an = (-2, sz, nx, an) := by
  unfold spCoreAnswer; rw [tri_t (mOk_nI h), nI_clamp (show m < 2 ^ 31 by omega), tri_f h2]
theorem spCoreAnswer_3 {m : Nat} {y z : Int32} {sz nx an : Nat → Nat} (h : m < 2) (h2 : kOk nx an m y) (h3 : ¬ mOk z) : spCoreAnswer (nI m) y z sz nx an = (-3, sz, nx, an) := by
  unfold spCoreAnswer; rw [tri_t (mOk_nI h), nI_clamp (show m < 2 ^ 31 by omega), tri_t h2, tri_f h3]
theorem spCoreAnswer_4 {m k a : Nat} {sz nx an : Nat → Nat} (h : m < 2) (hk : k < 2 ^ 31) (h2 : k < ncl nx an m) (ha : a < 2) : spCoreAnswer (nI m) (nI k) (nI a) sz nx an = (nI (an (12 * m + 2 * mem nx an m k + a)), sz, nx, an) := by
  unfold spCoreAnswer; rw [tri_t (mOk_nI h), nI_clamp (show m < 2 ^ 31 by omega), tri_t (kOk_nI hk h2), tri_t (mOk_nI ha), nI_clamp hk, nI_clamp (show a < 2 ^ 31 by omega)]
noncomputable def spClassOf (x : Int32) (sz nx an : Nat → Nat) : TT := if stOk sz x then ((if clsI nx an (x.toNatClampNeg / 8) (x.toNatClampNeg % 8) = -1 then -2 else clsI nx an (x.toNatClampNeg / 8) (x.toNatClampNeg % 8)), sz, nx, an) else (-1, sz, nx, an)
theorem spClassOf_1 {x : Int32} {sz nx an : Nat → Nat} (h : ¬ stOk sz x) : spClassOf x sz nx an = (-1, sz, nx, an) := if_neg h
theorem spClassOf_2 {v : Nat} {sz nx an : Nat → Nat} (hv : v < 16) (h : v % 8 < sz (v / 8)) (h2 : clsI nx an (v / 8) (v % 8) = -1) : spClassOf (nI v) sz nx an = (-2, sz, nx, an) := by
  unfold spClassOf; rw [if_pos ((stOk_nI hv).mpr h), nI_clamp (by omega), if_pos h2]
theorem spClassOf_3 {v : Nat} {sz nx an : Nat → Nat} (hv : v < 16) (h : v % 8 < sz (v / 8)) (h2 : ¬ clsI nx an (v / 8) (v % 8) = -1) : spClassOf (nI v) sz nx an = (clsI nx an (v / 8) (v % 8), sz, nx, an) := by
  unfold spClassOf; rw [if_pos ((stOk_nI hv).mpr h), nI_clamp (by omega), if_neg h2]
set_option maxHeartbeats 600000 in
set_option maxRecDepth 100000 in
theorem mY_core (l : Launch) (sz nx an : Nat → Nat) (ct : Nat) (mb : Nat → Nat) (x : Int32) (hw : wf sz nx an) : MetY l yX1_core cX1_core 2 (some .int) rmX1_core [.int x] (sz, nx, an, ct, mb) (pY (spCore x sz nx an)) := by
  refine entYi rfl (by decide) rfl rfl (fun _ => Nat.le_of_ble_eq_true rfl) ?_
  intro G d h a A p e s m below meth c args Q S hA hX ret ls hl
  have hx := S.1
  have hb := S.2.1
  have hl : lv_has ls 2 [(0, .ref h), (1, .int x)] := hl
  have hZ := hw.2.1
  have hN := hw.2.2.2.1
  have hA4 := hw.2.2.2.2
  by_cases hm : mOk x
  · obtain ⟨m0, hm0, rfl⟩ := mOk_of hm
    refine lv_aload_n hx hb dX1_core_0 rfl (lv_at hl 0 rfl) ?_
    refine lv_iload_n hx hb dX1_core_1 rfl (lv_at hl 1 rfl) ?_
    refine callYi S hA hX (mY_bad l sz nx an ct mb (nI m0)) (cwV 1 S.2.2.2.2 (lw_V q192 q194 qs9 q19 q195) rfl rfl rfl (by decide +kernel) ⟨Nat.le_of_ble_eq_true rfl, Nat.le_of_ble_eq_true rfl⟩) rfl hl.1 rfl (Nat.le_of_ble_eq_true rfl) dX1_core_2 ⟨Nat.zero_le _, Nat.zero_le _⟩ (fun r u1 H locs hq hX => ?_)
    obtain ⟨rfl, rfl⟩ := hq
    refine n_top (congrArg nI (if_neg (fun z => z (mOk_nI hm0)))) ?_
    refine n_if_eq (tgt := 10) hx hb dX1_core_5 (by decide) (by decide) (fun _ => ?_) (fun q => absurd q (by decide))
    refine lv_aload_n hx hb dX1_core_10 rfl (lv_at hl 0 rfl) ?_
    refine lv_iload_n hx hb dX1_core_11 rfl (lv_at hl 1 rfl) ?_
    refine callYv S hA hX (mY_work l sz nx an ct mb m0 hw hm0) (cwV 1 S.2.2.2.2 (lw_V q260 q262 qs15 q19 q263) rfl rfl rfl (by decide +kernel) ⟨Nat.le_of_ble_eq_true rfl, Nat.le_of_ble_eq_true rfl⟩) rfl hl.1 rfl (Nat.le_of_ble_eq_true rfl) dX1_core_12 ⟨Nat.zero_le _, Nat.zero_le _⟩ (fun u1 H locs hq hX => ?_)
    obtain ⟨mb1, rfl, hmb⟩ := hq
    have hn6 := ncl_le hw (m := m0) hm0
    refine lv_aload_n hx hb dX1_core_15 rfl (lv_at hl 0 rfl) ?_
    refine yg3 S hX dX1_core_16 ?_
    exact ret _ _ _ _ _ _ dX1_core_19 (pY_of (spCore_2 hm0)) hX
  · refine lv_aload_n hx hb dX1_core_0 rfl (lv_at hl 0 rfl) ?_
    refine lv_iload_n hx hb dX1_core_1 rfl (lv_at hl 1 rfl) ?_
    refine callYi S hA hX (mY_bad l sz nx an ct mb x) (cwV 1 S.2.2.2.2 (lw_V q192 q194 qs9 q19 q195) rfl rfl rfl (by decide +kernel) ⟨Nat.le_of_ble_eq_true rfl, Nat.le_of_ble_eq_true rfl⟩) rfl hl.1 rfl (Nat.le_of_ble_eq_true rfl) dX1_core_2 ⟨Nat.zero_le _, Nat.zero_le _⟩ (fun r u1 H locs hq hX => ?_)
    obtain ⟨rfl, rfl⟩ := hq
    refine n_top (congrArg nI (if_pos hm)) ?_
    refine n_if_eq (tgt := 10) hx hb dX1_core_5 (by decide) (by decide) (fun q => absurd q (by decide)) (fun _ => ?_)
    refine lv_iconst (v := -1) hx hb dX1_core_8 (by decide) ?_
    exact ret _ _ _ _ _ _ dX1_core_9 (pY_of (spCore_1 hm)) hX
set_option maxHeartbeats 600000 in
set_option maxRecDepth 100000 in
theorem mY_coreNext (l : Launch) (sz nx an : Nat → Nat) (ct : Nat) (mb : Nat → Nat) (x : Int32) (y : Int32) (z : Int32) (hw : wf sz nx an) : MetY l yX1_coreNext cX1_coreNext 4 (some .int) rmX1_coreNext [.int x, .int y, .int z] (sz, nx, an, ct, mb) (pY (spCoreNext x y z sz nx an)) := by
  refine entYi rfl (by decide) rfl rfl (fun _ => Nat.le_of_ble_eq_true rfl) ?_
  intro G d h a A p e s m below meth c args Q S hA hX ret ls hl
  have hx := S.1
  have hb := S.2.1
  have hl : lv_has ls 4 [(0, .ref h), (1, .int x), (2, .int y), (3, .int z)] := hl
  have hZ := hw.2.1
  have hN := hw.2.2.2.1
  have hA4 := hw.2.2.2.2
  by_cases hm : mOk x
  · obtain ⟨m0, hm0, rfl⟩ := mOk_of hm
    refine lv_aload_n hx hb dX1_coreNext_0 rfl (lv_at hl 0 rfl) ?_
    refine lv_iload_n hx hb dX1_coreNext_1 rfl (lv_at hl 1 rfl) ?_
    refine callYi S hA hX (mY_bad l sz nx an ct mb (nI m0)) (cwV 1 S.2.2.2.2 (lw_V q192 q194 qs9 q19 q195) rfl rfl rfl (by decide +kernel) ⟨Nat.le_of_ble_eq_true rfl, Nat.le_of_ble_eq_true rfl⟩) rfl hl.1 rfl (Nat.le_of_ble_eq_true rfl) dX1_coreNext_2 ⟨Nat.zero_le _, Nat.zero_le _⟩ (fun r u1 H locs hq hX => ?_)
    obtain ⟨rfl, rfl⟩ := hq
    refine n_top (congrArg nI (if_neg (fun z => z (mOk_nI hm0)))) ?_
    refine n_if_eq (tgt := 10) hx hb dX1_coreNext_5 (by decide) (by decide) (fun _ => ?_) (fun q => absurd q (by decide))
    refine lv_aload_n hx hb dX1_coreNext_10 rfl (lv_at hl 0 rfl) ?_
    refine lv_iload_n hx hb dX1_coreNext_11 rfl (lv_at hl 1 rfl) ?_
    refine callYv S hA hX (mY_work l sz nx an ct mb m0 hw hm0) (cwV 1 S.2.2.2.2 (lw_V q260 q262 qs15 q19 q263) rfl rfl rfl (by decide +kernel) ⟨Nat.le_of_ble_eq_true rfl, Nat.le_of_ble_eq_true rfl⟩) rfl hl.1 rfl (Nat.le_of_ble_eq_true rfl) dX1_coreNext_12 ⟨Nat.zero_le _, Nat.zero_le _⟩ (fun u1 H locs hq hX => ?_)
    obtain ⟨mb1, rfl, hmb⟩ := hq
    have hn6 := ncl_le hw (m := m0) hm0
    refine lv_iload_n hx hb dX1_coreNext_15 rfl (lv_at hl 2 rfl) ?_
    refine lv_if_lt (tgt := 32) hx hb dX1_coreNext_16 (by decide) (fun c_16 => ?_) (fun c_16 => ?_)
    · refine lv_bipush (v := -2) hx hb dX1_coreNext_32 (by decide) ?_
      exact ret _ _ _ _ _ _ dX1_coreNext_34 (pY_of (spCoreNext_2 hm0 (by first | exact kOk_lo c_16 | exact kOk_hi hk (by omega)))) hX
    · obtain ⟨k, hk, rfl⟩ := nI_of' c_16
      refine lv_iload_n hx hb dX1_coreNext_19 rfl (lv_at hl 2 rfl) ?_
      refine lv_aload_n hx hb dX1_coreNext_20 rfl (lv_at hl 0 rfl) ?_
      refine yg3 S hX dX1_coreNext_21 ?_
      refine n_icmp_ge (tgt := 32) hx hb dX1_coreNext_24 (by decide) (by omega) (by omega) (fun c_24 => ?_) (fun c_24 => ?_)
      · refine lv_bipush (v := -2) hx hb dX1_coreNext_32 (by decide) ?_
        exact ret _ _ _ _ _ _ dX1_coreNext_34 (pY_of (spCoreNext_2 hm0 (by first | exact kOk_lo c_16 | exact kOk_hi hk (by omega)))) hX
      · refine lv_iload_n hx hb dX1_coreNext_27 rfl (lv_at hl 2 rfl) ?_
        refine lv_iconst (v := nI 5) hx hb dX1_coreNext_28 (by decide) ?_
        refine n_icmp_le (tgt := 35) hx hb dX1_coreNext_29 (by decide) (by omega) (by omega) (fun c_29 => ?_) (fun c_29 => ?_)
        · refine lv_iload_n hx hb dX1_coreNext_35 rfl (lv_at hl 3 rfl) ?_
          refine lv_if_lt (tgt := 44) hx hb dX1_coreNext_36 (by decide) (fun c_36 => ?_) (fun c_36 => ?_)
          · refine lv_bipush (v := -3) hx hb dX1_coreNext_44 (by decide) ?_
            exact ret _ _ _ _ _ _ dX1_coreNext_46 (pY_of (spCoreNext_3 hm0 (kOk_nI hk (by omega)) (by first | exact badM1 c_36 | exact badM3 c_41))) hX
          · refine lv_iload_n hx hb dX1_coreNext_39 rfl (lv_at hl 3 rfl) ?_
            refine lv_iconst (v := nI 1) hx hb dX1_coreNext_40 (by decide) ?_
            refine lv_icmp_le (tgt := 47) hx hb dX1_coreNext_41 (by decide) (fun c_41 => ?_) (fun c_41 => ?_)
            · obtain ⟨a0, ha0, rfl⟩ := rng0 1 (by decide) c_36 c_41
              refine lv_aload_n hx hb dX1_coreNext_47 rfl (lv_at hl 0 rfl) ?_
              refine lv_bipush (v := nI 8) hx hb dX1_coreNext_48 (by decide) ?_
              refine lv_iload_n hx hb dX1_coreNext_50 rfl (lv_at hl 1 rfl) ?_
              refine n_imul hx hb dX1_coreNext_51 ?_
              refine lv_aload_n hx hb dX1_coreNext_52 rfl (lv_at hl 0 rfl) ?_
              refine yg1 S hX dX1_coreNext_53 ?_
              refine lv_bipush (v := nI 12) hx hb dX1_coreNext_56 (by decide) ?_
              refine lv_iload_n hx hb dX1_coreNext_58 rfl (lv_at hl 1 rfl) ?_
              refine n_imul hx hb dX1_coreNext_59 ?_
              refine lv_iconst (v := nI 2) hx hb dX1_coreNext_60 (by decide) ?_
              refine lv_aload_n hx hb dX1_coreNext_61 rfl (lv_at hl 0 rfl) ?_
              refine yg4 S hX dX1_coreNext_62 ?_
              refine lv_iload_n hx hb dX1_coreNext_65 rfl (lv_at hl 2 rfl) ?_
              refine yl4 S hX dX1_coreNext_66 (by omega) ?_
              refine n_top (y := (nI (mem nx an m0 k))) (congrArg nI (hmb k (by omega))) ?_
              have hm6 := mem_lt hw (an := an) hm0 k
              have hz6 := hZ m0
              refine n_imul hx hb dX1_coreNext_67 ?_
              refine n_iadd hx hb dX1_coreNext_68 ?_
              refine lv_iload_n hx hb dX1_coreNext_69 rfl (lv_at hl 3 rfl) ?_
              refine n_iadd hx hb dX1_coreNext_70 ?_
              refine yl1 S hX dX1_coreNext_71 (by omega) ?_
              have hnn := hw.2.2.1 m0 (mem nx an m0 k) a0 hm0 hm6 (by omega)
              refine n_iadd hx hb dX1_coreNext_72 ?_
              refine callYi S hA hX (mY_place l sz nx an ((ncl nx an m0)) mb1 m0 (nx (12 * m0 + 2 * mem nx an m0 k + a0)) hw hm0 (hnn) hn6 (fun j hj => by rw [hmb j hj]; exact mem_lt hw hm0 j)) (cwV 1 S.2.2.2.2 (lw_V q264 q266 qs16 q19 q267) rfl rfl rfl (by decide +kernel) ⟨Nat.le_of_ble_eq_true rfl, Nat.le_of_ble_eq_true rfl⟩) rfl hl.1 rfl (Nat.le_of_ble_eq_true rfl) dX1_coreNext_73 ⟨Nat.zero_le _, Nat.zero_le _⟩ (fun r u1 H locs hq hX => ?_)
              obtain ⟨hq, rfl⟩ := hq
              rcases hq with ⟨j1, hj1, he, rfl⟩ | ⟨hno, rfl⟩
              · exact ret _ _ _ _ _ _ dX1_coreNext_76 (pY_of ((spCoreNext_4 hm0 hk (by omega) (by omega)).trans (by rw [cls_yes hw hm0 hj1 (by rw [hmb j1 hj1] at he; exact he)]))) hX
              · exact ret _ _ _ _ _ _ dX1_coreNext_76 (pY_of ((spCoreNext_4 hm0 hk (by omega) (by omega)).trans (by rw [cls_no hw hm0 (fun j hj z => hno j hj (by rw [hmb j hj]; exact z))]))) hX
            · refine lv_bipush (v := -3) hx hb dX1_coreNext_44 (by decide) ?_
              exact ret _ _ _ _ _ _ dX1_coreNext_46 (pY_of (spCoreNext_3 hm0 (kOk_nI hk (by omega)) (by first | exact badM1 c_36 | exact badM3 c_41))) hX
        · omega
  · refine lv_aload_n hx hb dX1_coreNext_0 rfl (lv_at hl 0 rfl) ?_
    refine lv_iload_n hx hb dX1_coreNext_1 rfl (lv_at hl 1 rfl) ?_
    refine callYi S hA hX (mY_bad l sz nx an ct mb x) (cwV 1 S.2.2.2.2 (lw_V q192 q194 qs9 q19 q195) rfl rfl rfl (by decide +kernel) ⟨Nat.le_of_ble_eq_true rfl, Nat.le_of_ble_eq_true rfl⟩) rfl hl.1 rfl (Nat.le_of_ble_eq_true rfl) dX1_coreNext_2 ⟨Nat.zero_le _, Nat.zero_le _⟩ (fun r u1 H locs hq hX => ?_)
    obtain ⟨rfl, rfl⟩ := hq
    refine n_top (congrArg nI (if_pos hm)) ?_
    refine n_if_eq (tgt := 10) hx hb dX1_coreNext_5 (by decide) (by decide) (fun q => absurd q (by decide)) (fun _ => ?_)
    refine lv_iconst (v := -1) hx hb dX1_coreNext_8 (by decide) ?_
    exact ret _ _ _ _ _ _ dX1_coreNext_9 (pY_of (spCoreNext_1 hm)) hX
set_option maxHeartbeats 600000 in
set_option maxRecDepth 100000 in
theorem mY_coreAnswer (l : Launch) (sz nx an : Nat → Nat) (ct : Nat) (mb : Nat → Nat) (x : Int32) (y : Int32) (z : Int32) (hw : wf sz nx an) : MetY l yX1_coreAnswer cX1_coreAnswer 4 (some .int) rmX1_coreAnswer [.int x, .int y, .int z] (sz, nx, an, ct, mb) (pY (spCoreAnswer x y z sz nx an)) := by
  refine entYi rfl (by decide) rfl rfl (fun _ => Nat.le_of_ble_eq_true rfl) ?_
  intro G d h a A p e s m below meth c args Q S hA hX ret ls hl
  have hx := S.1
  have hb := S.2.1
  have hl : lv_has ls 4 [(0, .ref h), (1, .int x), (2, .int y), (3, .int z)] := hl
  have hZ := hw.2.1
  have hN := hw.2.2.2.1
  have hA4 := hw.2.2.2.2
  by_cases hm : mOk x
  · obtain ⟨m0, hm0, rfl⟩ := mOk_of hm
    refine lv_aload_n hx hb dX1_coreAnswer_0 rfl (lv_at hl 0 rfl) ?_
    refine lv_iload_n hx hb dX1_coreAnswer_1 rfl (lv_at hl 1 rfl) ?_
    refine callYi S hA hX (mY_bad l sz nx an ct mb (nI m0)) (cwV 1 S.2.2.2.2 (lw_V q192 q194 qs9 q19 q195) rfl rfl rfl (by decide +kernel) ⟨Nat.le_of_ble_eq_true rfl, Nat.le_of_ble_eq_true rfl⟩) rfl hl.1 rfl (Nat.le_of_ble_eq_true rfl) dX1_coreAnswer_2 ⟨Nat.zero_le _, Nat.zero_le _⟩ (fun r u1 H locs hq hX => ?_)
    obtain ⟨rfl, rfl⟩ := hq
    refine n_top (congrArg nI (if_neg (fun z => z (mOk_nI hm0)))) ?_
    refine n_if_eq (tgt := 10) hx hb dX1_coreAnswer_5 (by decide) (by decide) (fun _ => ?_) (fun q => absurd q (by decide))
    refine lv_aload_n hx hb dX1_coreAnswer_10 rfl (lv_at hl 0 rfl) ?_
    refine lv_iload_n hx hb dX1_coreAnswer_11 rfl (lv_at hl 1 rfl) ?_
    refine callYv S hA hX (mY_work l sz nx an ct mb m0 hw hm0) (cwV 1 S.2.2.2.2 (lw_V q260 q262 qs15 q19 q263) rfl rfl rfl (by decide +kernel) ⟨Nat.le_of_ble_eq_true rfl, Nat.le_of_ble_eq_true rfl⟩) rfl hl.1 rfl (Nat.le_of_ble_eq_true rfl) dX1_coreAnswer_12 ⟨Nat.zero_le _, Nat.zero_le _⟩ (fun u1 H locs hq hX => ?_)
    obtain ⟨mb1, rfl, hmb⟩ := hq
    have hn6 := ncl_le hw (m := m0) hm0
    refine lv_iload_n hx hb dX1_coreAnswer_15 rfl (lv_at hl 2 rfl) ?_
    refine lv_if_lt (tgt := 32) hx hb dX1_coreAnswer_16 (by decide) (fun c_16 => ?_) (fun c_16 => ?_)
    · refine lv_bipush (v := -2) hx hb dX1_coreAnswer_32 (by decide) ?_
      exact ret _ _ _ _ _ _ dX1_coreAnswer_34 (pY_of (spCoreAnswer_2 hm0 (by first | exact kOk_lo c_16 | exact kOk_hi hk (by omega)))) hX
    · obtain ⟨k, hk, rfl⟩ := nI_of' c_16
      refine lv_iload_n hx hb dX1_coreAnswer_19 rfl (lv_at hl 2 rfl) ?_
      refine lv_aload_n hx hb dX1_coreAnswer_20 rfl (lv_at hl 0 rfl) ?_
      refine yg3 S hX dX1_coreAnswer_21 ?_
      refine n_icmp_ge (tgt := 32) hx hb dX1_coreAnswer_24 (by decide) (by omega) (by omega) (fun c_24 => ?_) (fun c_24 => ?_)
      · refine lv_bipush (v := -2) hx hb dX1_coreAnswer_32 (by decide) ?_
        exact ret _ _ _ _ _ _ dX1_coreAnswer_34 (pY_of (spCoreAnswer_2 hm0 (by first | exact kOk_lo c_16 | exact kOk_hi hk (by omega)))) hX
      · refine lv_iload_n hx hb dX1_coreAnswer_27 rfl (lv_at hl 2 rfl) ?_
        refine lv_iconst (v := nI 5) hx hb dX1_coreAnswer_28 (by decide) ?_
        refine n_icmp_le (tgt := 35) hx hb dX1_coreAnswer_29 (by decide) (by omega) (by omega) (fun c_29 => ?_) (fun c_29 => ?_)
        · refine lv_iload_n hx hb dX1_coreAnswer_35 rfl (lv_at hl 3 rfl) ?_
          refine lv_if_lt (tgt := 44) hx hb dX1_coreAnswer_36 (by decide) (fun c_36 => ?_) (fun c_36 => ?_)
          · refine lv_bipush (v := -3) hx hb dX1_coreAnswer_44 (by decide) ?_
            exact ret _ _ _ _ _ _ dX1_coreAnswer_46 (pY_of (spCoreAnswer_3 hm0 (kOk_nI hk (by omega)) (by first | exact badM1 c_36 | exact badM3 c_41))) hX
          · refine lv_iload_n hx hb dX1_coreAnswer_39 rfl (lv_at hl 3 rfl) ?_
            refine lv_iconst (v := nI 1) hx hb dX1_coreAnswer_40 (by decide) ?_
            refine lv_icmp_le (tgt := 47) hx hb dX1_coreAnswer_41 (by decide) (fun c_41 => ?_) (fun c_41 => ?_)
            · obtain ⟨a0, ha0, rfl⟩ := rng0 1 (by decide) c_36 c_41
              refine lv_aload_n hx hb dX1_coreAnswer_47 rfl (lv_at hl 0 rfl) ?_
              refine yg2 S hX dX1_coreAnswer_48 ?_
              refine lv_bipush (v := nI 12) hx hb dX1_coreAnswer_51 (by decide) ?_
              refine lv_iload_n hx hb dX1_coreAnswer_53 rfl (lv_at hl 1 rfl) ?_
              refine n_imul hx hb dX1_coreAnswer_54 ?_
              refine lv_iconst (v := nI 2) hx hb dX1_coreAnswer_55 (by decide) ?_
              refine lv_aload_n hx hb dX1_coreAnswer_56 rfl (lv_at hl 0 rfl) ?_
              refine yg4 S hX dX1_coreAnswer_57 ?_
              refine lv_iload_n hx hb dX1_coreAnswer_60 rfl (lv_at hl 2 rfl) ?_
              refine yl4 S hX dX1_coreAnswer_61 (by omega) ?_
              refine n_top (y := (nI (mem nx an m0 k))) (congrArg nI (hmb k (by omega))) ?_
              have hm6 := mem_lt hw (an := an) hm0 k
              have hz6 := hZ m0
              refine n_imul hx hb dX1_coreAnswer_62 ?_
              refine n_iadd hx hb dX1_coreAnswer_63 ?_
              refine lv_iload_n hx hb dX1_coreAnswer_64 rfl (lv_at hl 3 rfl) ?_
              refine n_iadd hx hb dX1_coreAnswer_65 ?_
              refine yl2 S hX dX1_coreAnswer_66 (by omega) ?_
              exact ret _ _ _ _ _ _ dX1_coreAnswer_67 (pY_of (spCoreAnswer_4 hm0 hk (by omega) (by omega))) hX
            · refine lv_bipush (v := -3) hx hb dX1_coreAnswer_44 (by decide) ?_
              exact ret _ _ _ _ _ _ dX1_coreAnswer_46 (pY_of (spCoreAnswer_3 hm0 (kOk_nI hk (by omega)) (by first | exact badM1 c_36 | exact badM3 c_41))) hX
        · omega
  · refine lv_aload_n hx hb dX1_coreAnswer_0 rfl (lv_at hl 0 rfl) ?_
    refine lv_iload_n hx hb dX1_coreAnswer_1 rfl (lv_at hl 1 rfl) ?_
    refine callYi S hA hX (mY_bad l sz nx an ct mb x) (cwV 1 S.2.2.2.2 (lw_V q192 q194 qs9 q19 q195) rfl rfl rfl (by decide +kernel) ⟨Nat.le_of_ble_eq_true rfl, Nat.le_of_ble_eq_true rfl⟩) rfl hl.1 rfl (Nat.le_of_ble_eq_true rfl) dX1_coreAnswer_2 ⟨Nat.zero_le _, Nat.zero_le _⟩ (fun r u1 H locs hq hX => ?_)
    obtain ⟨rfl, rfl⟩ := hq
    refine n_top (congrArg nI (if_pos hm)) ?_
    refine n_if_eq (tgt := 10) hx hb dX1_coreAnswer_5 (by decide) (by decide) (fun q => absurd q (by decide)) (fun _ => ?_)
    refine lv_iconst (v := -1) hx hb dX1_coreAnswer_8 (by decide) ?_
    exact ret _ _ _ _ _ _ dX1_coreAnswer_9 (pY_of (spCoreAnswer_1 hm)) hX
set_option maxHeartbeats 600000 in
set_option maxRecDepth 100000 in
theorem mY_classOf (l : Launch) (sz nx an : Nat → Nat) (ct : Nat) (mb : Nat → Nat) (x : Int32) (hw : wf sz nx an) : MetY l yX1_classOf cX1_classOf 3 (some .int) rmX1_classOf [.int x] (sz, nx, an, ct, mb) (pY (spClassOf x sz nx an)) := by
  refine entYi rfl (by decide) rfl rfl (fun _ => Nat.le_of_ble_eq_true rfl) ?_
  intro G d h a A p e s m below meth c args Q S hA hX ret ls hl
  have hx := S.1
  have hb := S.2.1
  have hl : lv_has ls 3 [(0, .ref h), (1, .int x)] := hl
  have hZ := hw.2.1
  have hN := hw.2.2.2.1
  have hA4 := hw.2.2.2.2
  refine lv_aload_n hx hb dX1_classOf_0 rfl (lv_at hl 0 rfl) ?_
  refine lv_iload_n hx hb dX1_classOf_1 rfl (lv_at hl 1 rfl) ?_
  refine callYi S hA hX (mY_badState l sz nx an ct mb x hZ) (cwV 1 S.2.2.2.2 (lw_V q216 q218 qs10 q19 q219) rfl rfl rfl (by decide +kernel) ⟨Nat.le_of_ble_eq_true rfl, Nat.le_of_ble_eq_true rfl⟩) rfl hl.1 rfl (Nat.le_of_ble_eq_true rfl) dX1_classOf_2 ⟨Nat.zero_le _, Nat.zero_le _⟩ (fun r u1 H locs hq hX => ?_)
  obtain ⟨rfl, rfl⟩ := hq
  by_cases hso : stOk sz x
  · refine n_top (congrArg nI (if_neg (fun z => z hso))) ?_
    obtain ⟨v, hv, hs, rfl⟩ := stOk_of hso
    have hv8 : v / 8 < 2 := by omega
    refine n_if_eq (tgt := 10) hx hb dX1_classOf_5 (by decide) (by decide) (fun _ => ?_) (fun q => absurd q (by decide))
    refine lv_aload_n hx hb dX1_classOf_10 rfl (lv_at hl 0 rfl) ?_
    refine lv_iload_n hx hb dX1_classOf_11 rfl (lv_at hl 1 rfl) ?_
    refine lv_bipush (v := nI 8) hx hb dX1_classOf_12 (by decide) ?_
    refine n_idiv hx hb dX1_classOf_14 (by omega) (by decide) (by decide) ?_
    refine callYv S hA hX (mY_work l sz nx an ct mb (v / 8) hw hv8) (cwV 1 S.2.2.2.2 (lw_V q260 q262 qs15 q19 q263) rfl rfl rfl (by decide +kernel) ⟨Nat.le_of_ble_eq_true rfl, Nat.le_of_ble_eq_true rfl⟩) rfl hl.1 rfl (Nat.le_of_ble_eq_true rfl) dX1_classOf_15 ⟨Nat.zero_le _, Nat.zero_le _⟩ (fun u1 H locs hq hX => ?_)
    obtain ⟨mb1, rfl, hmb⟩ := hq
    have hn6 := ncl_le hw (m := v / 8) hv8
    refine lv_aload_n hx hb dX1_classOf_18 rfl (lv_at hl 0 rfl) ?_
    refine lv_iload_n hx hb dX1_classOf_19 rfl (lv_at hl 1 rfl) ?_
    refine n_top (y := (nI (8 * (v / 8) + v % 8))) (congrArg nI (show v = 8 * (v / 8) + v % 8 by omega)) ?_
    refine callYi S hA hX (mY_place l sz nx an ((ncl nx an (v / 8))) mb1 (v / 8) (v % 8) hw hv8 (hs) hn6 (fun j hj => by rw [hmb j hj]; exact mem_lt hw hv8 j)) (cwV 1 S.2.2.2.2 (lw_V q264 q266 qs16 q19 q267) rfl rfl rfl (by decide +kernel) ⟨Nat.le_of_ble_eq_true rfl, Nat.le_of_ble_eq_true rfl⟩) rfl hl.1 rfl (Nat.le_of_ble_eq_true rfl) dX1_classOf_20 ⟨Nat.zero_le _, Nat.zero_le _⟩ (fun r u1 H locs hq hX => ?_)
    obtain ⟨hq, rfl⟩ := hq
    rcases hq with ⟨j1, hj1, he, rfl⟩ | ⟨hno, rfl⟩
    · refine lv_istore_n (lv' := [(2, .int (nI j1)), (0, .ref h), (1, .int (nI v))]) hx hb dX1_classOf_23 rfl hl (by decide) rfl (fun ls hl => ?_)
      refine lv_iload_n hx hb dX1_classOf_24 rfl (lv_at hl 0 rfl) ?_
      refine n_if_ge (tgt := 33) hx hb dX1_classOf_25 (by decide) (by omega) ?_
      refine lv_iload_n hx hb dX1_classOf_33 rfl (lv_at hl 0 rfl) ?_
      exact ret _ _ _ _ _ _ dX1_classOf_34 (pY_of ((spClassOf_3 hv hs (by rw [cls_yes hw hv8 hj1 (by rw [hmb j1 hj1] at he; exact he)]; exact nI_ne_m1 (by omega))).trans (by rw [cls_yes hw hv8 hj1 (by rw [hmb j1 hj1] at he; exact he)]))) hX
    · refine lv_istore_n (lv' := [(2, .int (-1)), (0, .ref h), (1, .int (nI v))]) hx hb dX1_classOf_23 rfl hl (by decide) rfl (fun ls hl => ?_)
      refine lv_iload_n hx hb dX1_classOf_24 rfl (lv_at hl 0 rfl) ?_
      refine lv_if_ge (tgt := 33) hx hb dX1_classOf_25 (by decide) (fun q => absurd q (by decide)) (fun _ => ?_)
      refine lv_bipush (v := -2) hx hb dX1_classOf_28 (by decide) ?_
      refine lv_goto (tgt := 34) hx hb dX1_classOf_30 (by decide) ?_
      exact ret _ _ _ _ _ _ dX1_classOf_34 (pY_of (spClassOf_2 hv hs (cls_no hw hv8 (fun j hj z => hno j hj (by rw [hmb j hj]; exact z))))) hX
  · refine n_top (congrArg nI (if_pos hso)) ?_
    refine n_if_eq (tgt := 10) hx hb dX1_classOf_5 (by decide) (by decide) (fun q => absurd q (by decide)) (fun _ => ?_)
    refine lv_iconst (v := -1) hx hb dX1_classOf_8 (by decide) ?_
    exact ret _ _ _ _ _ _ dX1_classOf_9 (pY_of (spClassOf_1 hso)) hX
set_option maxHeartbeats 600000 in
set_option maxRecDepth 100000 in
theorem mX_core (l : Launch) (sz nx an ap : Nat → Nat) (cn : Nat → Int32) (ld qu wo : Nat → Nat) (co cu : Nat) (x : Int32) (hI : inX sz nx an ap cu) : MetX l yX0_core cX0_core 2 (some .int) rmX0_core [.int x] (sz, nx, an, ap, cn, ld, qu, wo, co, cu) (pX (spCore x sz nx an)) := by
  refine entXi rfl (by decide) rfl rfl (fun _ => Nat.le_of_ble_eq_true rfl) ?_
  intro G d h a A p e s m below meth c args Q S hA hX ret ls hl
  have hx := S.1
  have hb := S.2.1
  have hl : lv_has ls 2 [(0, .ref h), (1, .int x)] := hl
  have hw := hI.1
  have hZ := hw.2.1
  have hN := hw.2.2.2.1
  have hA4 := hw.2.2.2.2
  by_cases hm : mOk x
  · obtain ⟨m0, hm0, rfl⟩ := mOk_of hm
    refine lv_iload_n hx hb dX0_core_0 rfl (lv_at hl 1 rfl) ?_
    refine callXs S hA hX (mX_isMachine_y l m0 hm0) (va_cwS 1 S.2.2.2.2 (lw_S q64 q65 q18 q66) rfl rfl rfl (by decide +kernel) ⟨Nat.le_of_ble_eq_true rfl, Nat.le_of_ble_eq_true rfl⟩) rfl hl.1 rfl (Nat.le_of_ble_eq_true rfl) dX0_core_1 ⟨Nat.zero_le _, Nat.zero_le _⟩ (fun r H locs hq hX => ?_)
    subst hq
    refine n_if_ne (tgt := 9) hx hb dX0_core_4 (by decide) (by decide) (fun _ => ?_) (fun q => absurd q (by decide))
    refine lv_aload_n hx hb dX0_core_9 rfl (lv_at hl 0 rfl) ?_
    refine lv_iload_n hx hb dX0_core_10 rfl (lv_at hl 1 rfl) ?_
    refine callXv S hA hX (mX_number l sz nx an ap cn ld qu wo co cu m0 hI hm0) (cwV 1 S.2.2.2.2 (lw_V q138 q140 qs6 q18 q141) rfl rfl rfl (by decide +kernel) ⟨Nat.le_of_ble_eq_true rfl, Nat.le_of_ble_eq_true rfl⟩) rfl hl.1 rfl (Nat.le_of_ble_eq_true rfl) dX0_core_11 ⟨Nat.zero_le _, Nat.zero_le _⟩ (fun u1 H locs hq hX => ?_)
    obtain ⟨ap1, cn1, ld1, rfl, hap, hF⟩ := hq
    have hn6 := ncl_le hw (m := m0) hm0
    refine lv_aload_n hx hb dX0_core_14 rfl (lv_at hl 0 rfl) ?_
    refine xg8 S hX dX0_core_15 ?_
    exact ret _ _ _ _ _ _ dX0_core_18 (pX_of (spCore_2 hm0) (⟨hw, Or.inr ⟨rfl, hap⟩⟩)) hX
  · refine lv_iload_n hx hb dX0_core_0 rfl (lv_at hl 1 rfl) ?_
    refine callXs S hA hX (mX_isMachine_n l x hm) (va_cwS 1 S.2.2.2.2 (lw_S q64 q65 q18 q66) rfl rfl rfl (by decide +kernel) ⟨Nat.le_of_ble_eq_true rfl, Nat.le_of_ble_eq_true rfl⟩) rfl hl.1 rfl (Nat.le_of_ble_eq_true rfl) dX0_core_1 ⟨Nat.zero_le _, Nat.zero_le _⟩ (fun r H locs hq hX => ?_)
    subst hq
    refine n_if_ne (tgt := 9) hx hb dX0_core_4 (by decide) (by decide) (fun q => absurd q (by decide)) (fun _ => ?_)
    refine lv_iconst (v := -1) hx hb dX0_core_7 (by decide) ?_
    exact ret _ _ _ _ _ _ dX0_core_8 (pX_of (spCore_1 hm) (hI)) hX
set_option maxHeartbeats 600000 in
set_option maxRecDepth 100000 in
theorem mX_coreNext (l : Launch) (sz nx an ap : Nat → Nat) (cn : Nat → Int32) (ld qu wo : Nat → Nat) (co cu : Nat) (x : Int32) (y : Int32) (z : Int32) (hI : inX sz nx an ap cu) : MetX l yX0_coreNext cX0_coreNext 4 (some .int) rmX0_coreNext [.int x, .int y, .int z] (sz, nx, an, ap, cn, ld, qu, wo, co, cu) (pX (spCoreNext x y z sz nx an)) := by
  refine entXi rfl (by decide) rfl rfl (fun _ => Nat.le_of_ble_eq_true rfl) ?_
  intro G d h a A p e s m below meth c args Q S hA hX ret ls hl
  have hx := S.1
  have hb := S.2.1
  have hl : lv_has ls 4 [(0, .ref h), (1, .int x), (2, .int y), (3, .int z)] := hl
  have hw := hI.1
  have hZ := hw.2.1
  have hN := hw.2.2.2.1
  have hA4 := hw.2.2.2.2
  by_cases hm : mOk x
  · obtain ⟨m0, hm0, rfl⟩ := mOk_of hm
    refine lv_iload_n hx hb dX0_coreNext_0 rfl (lv_at hl 1 rfl) ?_
    refine callXs S hA hX (mX_isMachine_y l m0 hm0) (va_cwS 1 S.2.2.2.2 (lw_S q64 q65 q18 q66) rfl rfl rfl (by decide +kernel) ⟨Nat.le_of_ble_eq_true rfl, Nat.le_of_ble_eq_true rfl⟩) rfl hl.1 rfl (Nat.le_of_ble_eq_true rfl) dX0_coreNext_1 ⟨Nat.zero_le _, Nat.zero_le _⟩ (fun r H locs hq hX => ?_)
    subst hq
    refine n_if_ne (tgt := 9) hx hb dX0_coreNext_4 (by decide) (by decide) (fun _ => ?_) (fun q => absurd q (by decide))
    refine lv_aload_n hx hb dX0_coreNext_9 rfl (lv_at hl 0 rfl) ?_
    refine lv_iload_n hx hb dX0_coreNext_10 rfl (lv_at hl 1 rfl) ?_
    refine callXv S hA hX (mX_number l sz nx an ap cn ld qu wo co cu m0 hI hm0) (cwV 1 S.2.2.2.2 (lw_V q138 q140 qs6 q18 q141) rfl rfl rfl (by decide +kernel) ⟨Nat.le_of_ble_eq_true rfl, Nat.le_of_ble_eq_true rfl⟩) rfl hl.1 rfl (Nat.le_of_ble_eq_true rfl) dX0_coreNext_11 ⟨Nat.zero_le _, Nat.zero_le _⟩ (fun u1 H locs hq hX => ?_)
    obtain ⟨ap1, cn1, ld1, rfl, hap, hF⟩ := hq
    have hn6 := ncl_le hw (m := m0) hm0
    refine lv_iload_n hx hb dX0_coreNext_14 rfl (lv_at hl 2 rfl) ?_
    refine lv_if_lt (tgt := 26) hx hb dX0_coreNext_15 (by decide) (fun c_15 => ?_) (fun c_15 => ?_)
    · refine lv_bipush (v := -2) hx hb dX0_coreNext_26 (by decide) ?_
      exact ret _ _ _ _ _ _ dX0_coreNext_28 (pX_of (spCoreNext_2 hm0 (by first | exact kOk_lo c_15 | exact kOk_hi hk (by omega))) (⟨hw, Or.inr ⟨rfl, hap⟩⟩)) hX
    · obtain ⟨k, hk, rfl⟩ := nI_of' c_15
      refine lv_iload_n hx hb dX0_coreNext_18 rfl (lv_at hl 2 rfl) ?_
      refine lv_aload_n hx hb dX0_coreNext_19 rfl (lv_at hl 0 rfl) ?_
      refine xg8 S hX dX0_coreNext_20 ?_
      refine n_icmp_lt (tgt := 29) hx hb dX0_coreNext_23 (by decide) (by omega) (by omega) (fun c_23 => ?_) (fun c_23 => ?_)
      · refine lv_iload_n hx hb dX0_coreNext_29 rfl (lv_at hl 3 rfl) ?_
        refine lv_if_eq (tgt := 41) hx hb dX0_coreNext_30 (by decide) (fun c_30 => ?_) (fun c_30 => ?_)
        · obtain ⟨a0, ha0, rfl⟩ : ∃ a0 : Nat, a0 < 2 ∧ z = nI a0 := ⟨0, by decide, c_30⟩
          refine lv_aload_n hx hb dX0_coreNext_41 rfl (lv_at hl 0 rfl) ?_
          refine xg4 S hX dX0_coreNext_42 ?_
          refine lv_aload_n hx hb dX0_coreNext_45 rfl (lv_at hl 0 rfl) ?_
          refine lv_aload_n hx hb dX0_coreNext_46 rfl (lv_at hl 0 rfl) ?_
          refine xg5 S hX dX0_coreNext_47 ?_
          refine lv_iload_n hx hb dX0_coreNext_50 rfl (lv_at hl 2 rfl) ?_
          refine xl5 S hX dX0_coreNext_51 (by omega) ?_
          refine n_top (y := (nI (6 * m0 + mem nx an m0 k))) (congrArg nI (hF.1 k (by omega))) ?_
          have hm6 := mem_lt hw (an := an) hm0 k
          have hz6 := hZ m0
          refine lv_iload_n hx hb dX0_coreNext_52 rfl (lv_at hl 3 rfl) ?_
          refine callXi S hA hX (mX_after l sz nx an ap1 cn1 ld1 qu wo ((ncl nx an m0)) 1 (6 * m0 + mem nx an m0 k) a0 (by omega) (by omega) hN) (cwV 2 S.2.2.2.2 (lw_V q94 q96 qs1 q18 q97) rfl rfl rfl (by decide +kernel) ⟨Nat.le_of_ble_eq_true rfl, Nat.le_of_ble_eq_true rfl⟩) rfl hl.1 rfl (Nat.le_of_ble_eq_true rfl) dX0_coreNext_53 ⟨Nat.zero_le _, Nat.zero_le _⟩ (fun r u1 H locs hq hX => ?_)
          obtain ⟨rfl, rfl⟩ := hq
          refine n_top (y := nI (6 * m0 + nx (12 * m0 + 2 * mem nx an m0 k + a0))) (congrArg nI (af_at (by omega))) ?_
          have hnn := hw.2.2.1 m0 (mem nx an m0 k) a0 hm0 hm6 (by omega)
          refine xl4 S hX dX0_coreNext_56 (by omega) ?_
          refine n_top (y := (clsI nx an m0 (nx (12 * m0 + 2 * mem nx an m0 k + a0)))) (hF.2 (nx (12 * m0 + 2 * mem nx an m0 k + a0)) hnn) ?_
          exact ret _ _ _ _ _ _ dX0_coreNext_57 (pX_of (spCoreNext_4 hm0 hk (by omega) (by omega)) (⟨hw, Or.inr ⟨rfl, hap⟩⟩)) hX
        · refine lv_iload_n hx hb dX0_coreNext_33 rfl (lv_at hl 3 rfl) ?_
          refine lv_iconst (v := nI 1) hx hb dX0_coreNext_34 (by decide) ?_
          refine lv_icmp_eq (tgt := 41) hx hb dX0_coreNext_35 (by decide) (fun c_35 => ?_) (fun c_35 => ?_)
          · obtain ⟨a0, ha0, rfl⟩ : ∃ a0 : Nat, a0 < 2 ∧ z = nI a0 := ⟨1, by decide, c_35⟩
            refine lv_aload_n hx hb dX0_coreNext_41 rfl (lv_at hl 0 rfl) ?_
            refine xg4 S hX dX0_coreNext_42 ?_
            refine lv_aload_n hx hb dX0_coreNext_45 rfl (lv_at hl 0 rfl) ?_
            refine lv_aload_n hx hb dX0_coreNext_46 rfl (lv_at hl 0 rfl) ?_
            refine xg5 S hX dX0_coreNext_47 ?_
            refine lv_iload_n hx hb dX0_coreNext_50 rfl (lv_at hl 2 rfl) ?_
            refine xl5 S hX dX0_coreNext_51 (by omega) ?_
            refine n_top (y := (nI (6 * m0 + mem nx an m0 k))) (congrArg nI (hF.1 k (by omega))) ?_
            have hm6 := mem_lt hw (an := an) hm0 k
            have hz6 := hZ m0
            refine lv_iload_n hx hb dX0_coreNext_52 rfl (lv_at hl 3 rfl) ?_
            refine callXi S hA hX (mX_after l sz nx an ap1 cn1 ld1 qu wo ((ncl nx an m0)) 1 (6 * m0 + mem nx an m0 k) a0 (by omega) (by omega) hN) (cwV 2 S.2.2.2.2 (lw_V q94 q96 qs1 q18 q97) rfl rfl rfl (by decide +kernel) ⟨Nat.le_of_ble_eq_true rfl, Nat.le_of_ble_eq_true rfl⟩) rfl hl.1 rfl (Nat.le_of_ble_eq_true rfl) dX0_coreNext_53 ⟨Nat.zero_le _, Nat.zero_le _⟩ (fun r u1 H locs hq hX => ?_)
            obtain ⟨rfl, rfl⟩ := hq
            refine n_top (y := nI (6 * m0 + nx (12 * m0 + 2 * mem nx an m0 k + a0))) (congrArg nI (af_at (by omega))) ?_
            have hnn := hw.2.2.1 m0 (mem nx an m0 k) a0 hm0 hm6 (by omega)
            refine xl4 S hX dX0_coreNext_56 (by omega) ?_
            refine n_top (y := (clsI nx an m0 (nx (12 * m0 + 2 * mem nx an m0 k + a0)))) (hF.2 (nx (12 * m0 + 2 * mem nx an m0 k + a0)) hnn) ?_
            exact ret _ _ _ _ _ _ dX0_coreNext_57 (pX_of (spCoreNext_4 hm0 hk (by omega) (by omega)) (⟨hw, Or.inr ⟨rfl, hap⟩⟩)) hX
          · refine lv_bipush (v := -3) hx hb dX0_coreNext_38 (by decide) ?_
            exact ret _ _ _ _ _ _ dX0_coreNext_40 (pX_of (spCoreNext_3 hm0 (kOk_nI hk (by omega)) (fun q => q.elim c_30 c_35)) (⟨hw, Or.inr ⟨rfl, hap⟩⟩)) hX
      · refine lv_bipush (v := -2) hx hb dX0_coreNext_26 (by decide) ?_
        exact ret _ _ _ _ _ _ dX0_coreNext_28 (pX_of (spCoreNext_2 hm0 (by first | exact kOk_lo c_15 | exact kOk_hi hk (by omega))) (⟨hw, Or.inr ⟨rfl, hap⟩⟩)) hX
  · refine lv_iload_n hx hb dX0_coreNext_0 rfl (lv_at hl 1 rfl) ?_
    refine callXs S hA hX (mX_isMachine_n l x hm) (va_cwS 1 S.2.2.2.2 (lw_S q64 q65 q18 q66) rfl rfl rfl (by decide +kernel) ⟨Nat.le_of_ble_eq_true rfl, Nat.le_of_ble_eq_true rfl⟩) rfl hl.1 rfl (Nat.le_of_ble_eq_true rfl) dX0_coreNext_1 ⟨Nat.zero_le _, Nat.zero_le _⟩ (fun r H locs hq hX => ?_)
    subst hq
    refine n_if_ne (tgt := 9) hx hb dX0_coreNext_4 (by decide) (by decide) (fun q => absurd q (by decide)) (fun _ => ?_)
    refine lv_iconst (v := -1) hx hb dX0_coreNext_7 (by decide) ?_
    exact ret _ _ _ _ _ _ dX0_coreNext_8 (pX_of (spCoreNext_1 hm) (hI)) hX
set_option maxHeartbeats 600000 in
set_option maxRecDepth 100000 in
theorem mX_coreAnswer (l : Launch) (sz nx an ap : Nat → Nat) (cn : Nat → Int32) (ld qu wo : Nat → Nat) (co cu : Nat) (x : Int32) (y : Int32) (z : Int32) (hI : inX sz nx an ap cu) : MetX l yX0_coreAnswer cX0_coreAnswer 4 (some .int) rmX0_coreAnswer [.int x, .int y, .int z] (sz, nx, an, ap, cn, ld, qu, wo, co, cu) (pX (spCoreAnswer x y z sz nx an)) := by
  refine entXi rfl (by decide) rfl rfl (fun _ => Nat.le_of_ble_eq_true rfl) ?_
  intro G d h a A p e s m below meth c args Q S hA hX ret ls hl
  have hx := S.1
  have hb := S.2.1
  have hl : lv_has ls 4 [(0, .ref h), (1, .int x), (2, .int y), (3, .int z)] := hl
  have hw := hI.1
  have hZ := hw.2.1
  have hN := hw.2.2.2.1
  have hA4 := hw.2.2.2.2
  by_cases hm : mOk x
  · obtain ⟨m0, hm0, rfl⟩ := mOk_of hm
    refine lv_iload_n hx hb dX0_coreAnswer_0 rfl (lv_at hl 1 rfl) ?_
    refine callXs S hA hX (mX_isMachine_y l m0 hm0) (va_cwS 1 S.2.2.2.2 (lw_S q64 q65 q18 q66) rfl rfl rfl (by decide +kernel) ⟨Nat.le_of_ble_eq_true rfl, Nat.le_of_ble_eq_true rfl⟩) rfl hl.1 rfl (Nat.le_of_ble_eq_true rfl) dX0_coreAnswer_1 ⟨Nat.zero_le _, Nat.zero_le _⟩ (fun r H locs hq hX => ?_)
    subst hq
    refine n_if_ne (tgt := 9) hx hb dX0_coreAnswer_4 (by decide) (by decide) (fun _ => ?_) (fun q => absurd q (by decide))
    refine lv_aload_n hx hb dX0_coreAnswer_9 rfl (lv_at hl 0 rfl) ?_
    refine lv_iload_n hx hb dX0_coreAnswer_10 rfl (lv_at hl 1 rfl) ?_
    refine callXv S hA hX (mX_number l sz nx an ap cn ld qu wo co cu m0 hI hm0) (cwV 1 S.2.2.2.2 (lw_V q138 q140 qs6 q18 q141) rfl rfl rfl (by decide +kernel) ⟨Nat.le_of_ble_eq_true rfl, Nat.le_of_ble_eq_true rfl⟩) rfl hl.1 rfl (Nat.le_of_ble_eq_true rfl) dX0_coreAnswer_11 ⟨Nat.zero_le _, Nat.zero_le _⟩ (fun u1 H locs hq hX => ?_)
    obtain ⟨ap1, cn1, ld1, rfl, hap, hF⟩ := hq
    have hn6 := ncl_le hw (m := m0) hm0
    refine lv_iload_n hx hb dX0_coreAnswer_14 rfl (lv_at hl 2 rfl) ?_
    refine lv_if_lt (tgt := 26) hx hb dX0_coreAnswer_15 (by decide) (fun c_15 => ?_) (fun c_15 => ?_)
    · refine lv_bipush (v := -2) hx hb dX0_coreAnswer_26 (by decide) ?_
      exact ret _ _ _ _ _ _ dX0_coreAnswer_28 (pX_of (spCoreAnswer_2 hm0 (by first | exact kOk_lo c_15 | exact kOk_hi hk (by omega))) (⟨hw, Or.inr ⟨rfl, hap⟩⟩)) hX
    · obtain ⟨k, hk, rfl⟩ := nI_of' c_15
      refine lv_iload_n hx hb dX0_coreAnswer_18 rfl (lv_at hl 2 rfl) ?_
      refine lv_aload_n hx hb dX0_coreAnswer_19 rfl (lv_at hl 0 rfl) ?_
      refine xg8 S hX dX0_coreAnswer_20 ?_
      refine n_icmp_lt (tgt := 29) hx hb dX0_coreAnswer_23 (by decide) (by omega) (by omega) (fun c_23 => ?_) (fun c_23 => ?_)
      · refine lv_iload_n hx hb dX0_coreAnswer_29 rfl (lv_at hl 3 rfl) ?_
        refine lv_if_eq (tgt := 41) hx hb dX0_coreAnswer_30 (by decide) (fun c_30 => ?_) (fun c_30 => ?_)
        · obtain ⟨a0, ha0, rfl⟩ : ∃ a0 : Nat, a0 < 2 ∧ z = nI a0 := ⟨0, by decide, c_30⟩
          refine lv_aload_n hx hb dX0_coreAnswer_41 rfl (lv_at hl 0 rfl) ?_
          refine xg2 S hX dX0_coreAnswer_42 ?_
          refine lv_iconst (v := nI 2) hx hb dX0_coreAnswer_45 (by decide) ?_
          refine lv_aload_n hx hb dX0_coreAnswer_46 rfl (lv_at hl 0 rfl) ?_
          refine xg5 S hX dX0_coreAnswer_47 ?_
          refine lv_iload_n hx hb dX0_coreAnswer_50 rfl (lv_at hl 2 rfl) ?_
          refine xl5 S hX dX0_coreAnswer_51 (by omega) ?_
          refine n_top (y := (nI (6 * m0 + mem nx an m0 k))) (congrArg nI (hF.1 k (by omega))) ?_
          have hm6 := mem_lt hw (an := an) hm0 k
          have hz6 := hZ m0
          refine n_imul hx hb dX0_coreAnswer_52 ?_
          refine lv_iload_n hx hb dX0_coreAnswer_53 rfl (lv_at hl 3 rfl) ?_
          refine n_iadd hx hb dX0_coreAnswer_54 ?_
          refine xl2 S hX dX0_coreAnswer_55 (by omega) ?_
          refine n_top (y := (nI (an (12 * m0 + 2 * mem nx an m0 k + a0)))) (congrArg nI (an_at (an := an))) ?_
          exact ret _ _ _ _ _ _ dX0_coreAnswer_56 (pX_of (spCoreAnswer_4 hm0 hk (by omega) (by omega)) (⟨hw, Or.inr ⟨rfl, hap⟩⟩)) hX
        · refine lv_iload_n hx hb dX0_coreAnswer_33 rfl (lv_at hl 3 rfl) ?_
          refine lv_iconst (v := nI 1) hx hb dX0_coreAnswer_34 (by decide) ?_
          refine lv_icmp_eq (tgt := 41) hx hb dX0_coreAnswer_35 (by decide) (fun c_35 => ?_) (fun c_35 => ?_)
          · obtain ⟨a0, ha0, rfl⟩ : ∃ a0 : Nat, a0 < 2 ∧ z = nI a0 := ⟨1, by decide, c_35⟩
            refine lv_aload_n hx hb dX0_coreAnswer_41 rfl (lv_at hl 0 rfl) ?_
            refine xg2 S hX dX0_coreAnswer_42 ?_
            refine lv_iconst (v := nI 2) hx hb dX0_coreAnswer_45 (by decide) ?_
            refine lv_aload_n hx hb dX0_coreAnswer_46 rfl (lv_at hl 0 rfl) ?_
            refine xg5 S hX dX0_coreAnswer_47 ?_
            refine lv_iload_n hx hb dX0_coreAnswer_50 rfl (lv_at hl 2 rfl) ?_
            refine xl5 S hX dX0_coreAnswer_51 (by omega) ?_
            refine n_top (y := (nI (6 * m0 + mem nx an m0 k))) (congrArg nI (hF.1 k (by omega))) ?_
            have hm6 := mem_lt hw (an := an) hm0 k
            have hz6 := hZ m0
            refine n_imul hx hb dX0_coreAnswer_52 ?_
            refine lv_iload_n hx hb dX0_coreAnswer_53 rfl (lv_at hl 3 rfl) ?_
            refine n_iadd hx hb dX0_coreAnswer_54 ?_
            refine xl2 S hX dX0_coreAnswer_55 (by omega) ?_
            refine n_top (y := (nI (an (12 * m0 + 2 * mem nx an m0 k + a0)))) (congrArg nI (an_at (an := an))) ?_
            exact ret _ _ _ _ _ _ dX0_coreAnswer_56 (pX_of (spCoreAnswer_4 hm0 hk (by omega) (by omega)) (⟨hw, Or.inr ⟨rfl, hap⟩⟩)) hX
          · refine lv_bipush (v := -3) hx hb dX0_coreAnswer_38 (by decide) ?_
            exact ret _ _ _ _ _ _ dX0_coreAnswer_40 (pX_of (spCoreAnswer_3 hm0 (kOk_nI hk (by omega)) (fun q => q.elim c_30 c_35)) (⟨hw, Or.inr ⟨rfl, hap⟩⟩)) hX
      · refine lv_bipush (v := -2) hx hb dX0_coreAnswer_26 (by decide) ?_
        exact ret _ _ _ _ _ _ dX0_coreAnswer_28 (pX_of (spCoreAnswer_2 hm0 (by first | exact kOk_lo c_15 | exact kOk_hi hk (by omega))) (⟨hw, Or.inr ⟨rfl, hap⟩⟩)) hX
  · refine lv_iload_n hx hb dX0_coreAnswer_0 rfl (lv_at hl 1 rfl) ?_
    refine callXs S hA hX (mX_isMachine_n l x hm) (va_cwS 1 S.2.2.2.2 (lw_S q64 q65 q18 q66) rfl rfl rfl (by decide +kernel) ⟨Nat.le_of_ble_eq_true rfl, Nat.le_of_ble_eq_true rfl⟩) rfl hl.1 rfl (Nat.le_of_ble_eq_true rfl) dX0_coreAnswer_1 ⟨Nat.zero_le _, Nat.zero_le _⟩ (fun r H locs hq hX => ?_)
    subst hq
    refine n_if_ne (tgt := 9) hx hb dX0_coreAnswer_4 (by decide) (by decide) (fun q => absurd q (by decide)) (fun _ => ?_)
    refine lv_iconst (v := -1) hx hb dX0_coreAnswer_7 (by decide) ?_
    exact ret _ _ _ _ _ _ dX0_coreAnswer_8 (pX_of (spCoreAnswer_1 hm) (hI)) hX
set_option maxHeartbeats 600000 in
set_option maxRecDepth 100000 in
theorem mX_classOf (l : Launch) (sz nx an ap : Nat → Nat) (cn : Nat → Int32) (ld qu wo : Nat → Nat) (co cu : Nat) (x : Int32) (hI : inX sz nx an ap cu) : MetX l yX0_classOf cX0_classOf 3 (some .int) rmX0_classOf [.int x] (sz, nx, an, ap, cn, ld, qu, wo, co, cu) (pX (spClassOf x sz nx an)) := by
  refine entXi rfl (by decide) rfl rfl (fun _ => Nat.le_of_ble_eq_true rfl) ?_
  intro G d h a A p e s m below meth c args Q S hA hX ret ls hl
  have hx := S.1
  have hb := S.2.1
  have hl : lv_has ls 3 [(0, .ref h), (1, .int x)] := hl
  have hw := hI.1
  have hZ := hw.2.1
  have hN := hw.2.2.2.1
  have hA4 := hw.2.2.2.2
  refine lv_aload_n hx hb dX0_classOf_0 rfl (lv_at hl 0 rfl) ?_
  refine lv_iload_n hx hb dX0_classOf_1 rfl (lv_at hl 1 rfl) ?_
  refine callXi S hA hX (mX_placeOf l sz nx an ap cn ld qu wo co cu x hZ) (cwV 1 S.2.2.2.2 (lw_V q87 q89 qs0 q18 q90) rfl rfl rfl (by decide +kernel) ⟨Nat.le_of_ble_eq_true rfl, Nat.le_of_ble_eq_true rfl⟩) rfl hl.1 rfl (Nat.le_of_ble_eq_true rfl) dX0_classOf_2 ⟨Nat.zero_le _, Nat.zero_le _⟩ (fun r u1 H locs hq hX => ?_)
  obtain ⟨rfl, rfl⟩ := hq
  by_cases hso : stOk sz x
  · obtain ⟨v, hv, hs, rfl⟩ := stOk_of hso
    refine n_top (y := nI (pl v)) (plc_yes hv hs) ?_
    have fv := pl_facts hZ hv hs
    have hv8 : v / 8 < 2 := by omega
    have fp := fv.1
    refine lv_istore_n (lv' := [(2, .int (nI (pl v))), (0, .ref h), (1, .int (nI v))]) hx hb dX0_classOf_5 rfl hl (by decide) rfl (fun ls hl => ?_)
    refine lv_iload_n hx hb dX0_classOf_6 rfl (lv_at hl 0 rfl) ?_
    refine n_if_ge (tgt := 12) hx hb dX0_classOf_7 (by decide) (by omega) ?_
    refine lv_aload_n hx hb dX0_classOf_12 rfl (lv_at hl 1 rfl) ?_
    refine lv_iload_n hx hb dX0_classOf_13 rfl (lv_at hl 0 rfl) ?_
    refine lv_bipush (v := nI 6) hx hb dX0_classOf_14 (by decide) ?_
    refine n_idiv hx hb dX0_classOf_16 (by omega) (by decide) (by decide) ?_
    refine n_top (y := (nI (v / 8))) (congrArg nI fv.2.2.1) ?_
    refine callXv S hA hX (mX_number l sz nx an ap cn ld qu wo co cu (v / 8) hI hv8) (cwV 1 S.2.2.2.2 (lw_V q138 q140 qs6 q18 q141) rfl rfl rfl (by decide +kernel) ⟨Nat.le_of_ble_eq_true rfl, Nat.le_of_ble_eq_true rfl⟩) rfl hl.1 rfl (Nat.le_of_ble_eq_true rfl) dX0_classOf_17 ⟨Nat.zero_le _, Nat.zero_le _⟩ (fun u1 H locs hq hX => ?_)
    obtain ⟨ap1, cn1, ld1, rfl, hap, hF⟩ := hq
    have hn6 := ncl_le hw (m := v / 8) hv8
    refine lv_aload_n hx hb dX0_classOf_20 rfl (lv_at hl 1 rfl) ?_
    refine xg4 S hX dX0_classOf_21 ?_
    refine lv_iload_n hx hb dX0_classOf_24 rfl (lv_at hl 0 rfl) ?_
    refine xl4 S hX dX0_classOf_25 (by omega) ?_
    refine n_top (y := (clsI nx an (v / 8) (v % 8))) (hF.2 (v % 8) hs) ?_
    refine lv_iconst (v := -1) hx hb dX0_classOf_26 (by decide) ?_
    refine lv_icmp_ne (tgt := 35) hx hb dX0_classOf_27 (by decide) (fun c_27 => ?_) (fun c_27 => ?_)
    · refine lv_aload_n hx hb dX0_classOf_35 rfl (lv_at hl 1 rfl) ?_
      refine xg4 S hX dX0_classOf_36 ?_
      refine lv_iload_n hx hb dX0_classOf_39 rfl (lv_at hl 0 rfl) ?_
      refine xl4 S hX dX0_classOf_40 (by omega) ?_
      refine n_top (y := (clsI nx an (v / 8) (v % 8))) (hF.2 (v % 8) hs) ?_
      exact ret _ _ _ _ _ _ dX0_classOf_41 (pX_of (spClassOf_3 hv hs c_27) (⟨hw, Or.inr ⟨rfl, hap⟩⟩)) hX
    · refine lv_bipush (v := -2) hx hb dX0_classOf_30 (by decide) ?_
      refine lv_goto (tgt := 41) hx hb dX0_classOf_32 (by decide) ?_
      exact ret _ _ _ _ _ _ dX0_classOf_41 (pX_of (spClassOf_2 hv hs c_27) (⟨hw, Or.inr ⟨rfl, hap⟩⟩)) hX
  · refine n_top (plc_no hso) ?_
    refine lv_istore_n (lv' := [(2, .int (-1)), (0, .ref h), (1, .int x)]) hx hb dX0_classOf_5 rfl hl (by decide) rfl (fun ls hl => ?_)
    refine lv_iload_n hx hb dX0_classOf_6 rfl (lv_at hl 0 rfl) ?_
    refine lv_if_ge (tgt := 12) hx hb dX0_classOf_7 (by decide) (fun q => absurd q (by decide)) (fun _ => ?_)
    refine lv_iconst (v := -1) hx hb dX0_classOf_10 (by decide) ?_
    exact ret _ _ _ _ _ _ dX0_classOf_11 (pX_of (spClassOf_1 hso) (hI)) hX
end
section
set_option maxRecDepth 100000
/-! plain theory for reset: sets of states, by words -/
def tog (nx : Nat → Nat) (m x a : Nat) : Nat → Nat
  | 0 => 0
  | s + 1 => if x / 2 ^ s % 2 = 1 then tog nx m x a s ||| (1 * 2 ^ nx (12 * m + 2 * s + a)) else tog nx m x a s
theorem tog_t {nx : Nat → Nat} {m x a s : Nat} (h : x / 2 ^ s % 2 = 1) : tog nx m x a (s + 1) = tog nx m x a s ||| (1 * 2 ^ nx (12 * m + 2 * s + a)) := by
  show (if x / 2 ^ s % 2 = 1 then _ else _) = _
  rw [if_pos h]
theorem tog_f {nx : Nat → Nat} {m x a s : Nat} (h : ¬ x / 2 ^ s % 2 = 1) : tog nx m x a (s + 1) = tog nx m x a s := by
  show (if x / 2 ^ s % 2 = 1 then _ else _) = _
  rw [if_neg h]
theorem bit_iff (x i : Nat) : x.testBit i = true ↔ x / 2 ^ i % 2 = 1 := by
  rw [Nat.testBit_eq_decide_div_mod_eq, decide_eq_true_iff]
theorem tog_bit (nx : Nat → Nat) (m x a : Nat) : ∀ n t, (tog nx m x a n).testBit t = true ↔ ∃ s, s < n ∧ x.testBit s = true ∧ nx (12 * m + 2 * s + a) = t := by
  intro n
  induction n with
  | zero =>
    intro t
    show (0 : Nat).testBit t = true ↔ _
    rw [Nat.zero_testBit]
    exact ⟨fun h => absurd h (by decide), fun ⟨s, h, _⟩ => absurd h (Nat.not_lt_zero s)⟩
  | succ n ih =>
    intro t
    by_cases h : x / 2 ^ n % 2 = 1
    · rw [tog_t h, Nat.testBit_or, Nat.one_mul, Nat.testBit_two_pow, Bool.or_eq_true, ih t, decide_eq_true_iff]
      constructor
      · rintro (⟨s, h1, h2, h3⟩ | h1)
        · exact ⟨s, by omega, h2, h3⟩
        · exact ⟨n, by omega, (bit_iff x n).mpr h, h1⟩
      · rintro ⟨s, h1, h2, h3⟩
        rcases Nat.lt_or_ge s n with y | y
        · exact Or.inl ⟨s, y, h2, h3⟩
        · have e : s = n := by omega
          subst e
          exact Or.inr h3
    · rw [tog_f h, ih t]
      constructor
      · rintro ⟨s, h1, h2, h3⟩
        exact ⟨s, by omega, h2, h3⟩
      · rintro ⟨s, h1, h2, h3⟩
        rcases Nat.lt_or_ge s n with y | y
        · exact ⟨s, y, h2, h3⟩
        · have e : s = n := by omega
          subst e
          exact absurd ((bit_iff x s).mp h2) h
/-- the set of the states that a word leads to, from all n states -/
def sset (nx : Nat → Nat) (m n c : Nat) : Nat := if c < 2 then 2 ^ n - 1 else tog nx m (sset nx m n (c / 2)) (c % 2) n
termination_by c
decreasing_by omega
theorem sset_lo {nx : Nat → Nat} {m n c : Nat} (h : c < 2) : sset nx m n c = 2 ^ n - 1 := by
  rw [sset, if_pos h]
theorem sset_hi {nx : Nat → Nat} {m n c : Nat} (h : 2 ≤ c) : sset nx m n c = tog nx m (sset nx m n (c / 2)) (c % 2) n := by
  rw [sset, if_neg (by omega)]
theorem sset_step {nx : Nat → Nat} {m n g a : Nat} (hg : 1 ≤ g) (ha : a < 2) : tog nx m (sset nx m n g) a n = sset nx m n (2 * g + a) := by
  rw [sset_hi (c := 2 * g + a) (by omega), show (2 * g + a) / 2 = g by omega, show (2 * g + a) % 2 = a by omega]
theorem sset_bit {sz nx an : Nat → Nat} (hw : wf sz nx an) {m : Nat} (hm : m < 2) : ∀ c t, (sset nx m (sz m) c).testBit t = true ↔ ∃ s, s < sz m ∧ gl nx m s c = t := by
  intro c
  induction c using Nat.strongRecOn with
  | ind c ih =>
    intro t
    by_cases h : c < 2
    · rw [sset_lo h, Nat.testBit_two_pow_sub_one, decide_eq_true_iff]
      constructor
      · intro h1; exact ⟨t, h1, gl_lo h⟩
      · rintro ⟨s, h1, h2⟩
        rw [gl_lo h] at h2
        omega
    · rw [sset_hi (by omega), tog_bit]
      constructor
      · rintro ⟨s, h1, h2, h3⟩
        obtain ⟨s0, h4, h5⟩ := (ih (c / 2) (by omega) s).mp h2
        refine ⟨s0, h4, ?_⟩
        rw [gl_hi (by omega), h5]
        exact h3
      · rintro ⟨s0, h4, h5⟩
        refine ⟨gl nx m s0 (c / 2), gl_lt hw hm h4 _, (ih (c / 2) (by omega) _).mpr ⟨s0, h4, rfl⟩, ?_⟩
        rw [gl_hi (by omega)] at h5
        exact h5
theorem sset_lt {sz nx an : Nat → Nat} (hw : wf sz nx an) {m : Nat} (hm : m < 2) (c : Nat) : sset nx m (sz m) c < 64 := by
  refine Nat.lt_pow_two_of_testBit (n := 6) _ (fun i hi => ?_)
  cases hb : (sset nx m (sz m) c).testBit i with
  | false => rfl
  | true =>
    obtain ⟨s, h1, h2⟩ := (sset_bit hw hm c i).mp hb
    have h3 := gl_lt hw hm h1 c
    have h4 := hw.2.1 m
    omega
theorem sset_ne {sz nx an : Nat → Nat} (hw : wf sz nx an) {m : Nat} (hm : m < 2) (c : Nat) : sset nx m (sz m) c ≠ 0 := by
  intro h
  have h1 := (sset_bit hw hm c (gl nx m 0 c)).mpr ⟨0, hw.1 m hm, rfl⟩
  rw [h, Nat.zero_testBit] at h1
  exact absurd h1 (by decide)
theorem sing_dec : ∀ x, x < 64 → x ≠ 0 → (x &&& (x - 1) = 0 ↔ ∃ t, t < 6 ∧ x = 2 ^ t) := by decide +kernel
/-- all states are led to one -/
def alls (sz nx : Nat → Nat) (m c : Nat) : Prop := ∀ s, s < sz m → gl nx m s c = gl nx m 0 c
theorem sset_same {sz nx an : Nat → Nat} (hw : wf sz nx an) {m : Nat} (hm : m < 2) (c : Nat) : sset nx m (sz m) c &&& (sset nx m (sz m) c - 1) = 0 ↔ alls sz nx m c := by
  rw [sing_dec _ (sset_lt hw hm c) (sset_ne hw hm c)]
  have h0 := hw.1 m hm
  constructor
  · rintro ⟨t, h1, h2⟩
    have key : ∀ s, s < sz m → gl nx m s c = t := by
      intro s hs
      have h3 := (sset_bit hw hm c (gl nx m s c)).mpr ⟨s, hs, rfl⟩
      rw [h2, Nat.testBit_two_pow, decide_eq_true_iff] at h3
      exact h3.symm
    intro s hs
    rw [key s hs, key 0 h0]
  · intro h
    refine ⟨gl nx m 0 c, Nat.lt_of_lt_of_le (gl_lt hw hm h0 c) (hw.2.1 m), ?_⟩
    apply Nat.eq_of_testBit_eq
    intro i
    rw [Nat.testBit_two_pow]
    cases hb : (sset nx m (sz m) c).testBit i with
    | true =>
      obtain ⟨s, h1, h2⟩ := (sset_bit hw hm c i).mp hb
      rw [← h2, h s h1]
      exact (decide_eq_true rfl).symm
    | false =>
      symm
      refine decide_eq_false (fun e => ?_)
      rw [(sset_bit hw hm c i).mpr ⟨0, h0, e⟩] at hb
      exact absurd hb (by decide)
def Rs (nx : Nat → Nat) (m n a b : Nat) : Prop := sset nx m n a = sset nx m n b
def newS (nx : Nat → Nat) (m n : Nat) : Nat → Prop := Nw_ (Rs nx m n)
theorem newS_pfx (nx : Nat → Nat) (m n : Nat) : pfx (newS nx m n) := by
  refine Nw_pfx (fun a b x ha hb hx h => ?_)
  unfold Rs
  rw [← sset_step ha hx, ← sset_step hb hx, show sset nx m n a = sset nx m n b from h]
theorem newS_one {nx : Nat → Nat} {m n a b : Nat} (ha : newS nx m n a) (hb : newS nx m n b) (h : sset nx m n a = sset nx m n b) : a = b :=
  Nw_one (R := Rs nx m n) (fun _ _ h => Eq.symm h) ha hb h
theorem newS_cnt {sz nx an : Nat → Nat} (hw : wf sz nx an) {m : Nat} (hm : m < 2) (k : Nat) : cnt (newS nx m (sz m)) k ≤ 64 :=
  cnt_holes 64 k _ (fun c => sset nx m (sz m) c) (fun c _ _ => sset_lt hw hm c) (fun a b _ _ ha hb e => newS_one ha hb e)
theorem newS_of (nx : Nat → Nat) (m n : Nat) {c : Nat} (h : 1 ≤ c) : ∃ g, g ≤ c ∧ newS nx m n g ∧ sset nx m n g = sset nx m n c :=
  Nw_of (R := Rs nx m n) (fun _ => rfl) (fun _ _ _ _ _ _ h1 h2 => Eq.trans h1 h2) c h
/-- the search, codes below B having been met -/
def ResI (nx : Nat → Nat) (m n B : Nat) (wo qu : Nat → Nat) (qd : Nat) : Prop := qd = cnt (newS nx m n) B ∧ (∀ c, newS nx m n c → c < B → qu (cnt (newS nx m n) c) = sset nx m n c ∧ wo (sset nx m n c) = c) ∧ ∀ x, x < 64 → (∀ c, newS nx m n c → c < B → ¬ sset nx m n c = x) → wo x = 0
theorem ResI_skip {nx : Nat → Nat} {m n B B' : Nat} {wo qu : Nat → Nat} {qd : Nat} (h : ResI nx m n B wo qu qd) (hB : B ≤ B') (hn : ∀ c, B ≤ c → c < B' → ¬ newS nx m n c) : ResI nx m n B' wo qu qd := by
  have low : ∀ c, newS nx m n c → c < B' → c < B := fun c h1 h2 => by
    rcases Nat.lt_or_ge c B with y | y
    · exact y
    · exact absurd h1 (hn c y h2)
  exact ⟨h.1.trans (cnt_same hB hn).symm, fun c h1 h2 => h.2.1 c h1 (low c h1 h2), fun x hx h1 => h.2.2 x hx (fun c h2 h3 => h1 c h2 (by omega))⟩
theorem ResI_old {nx : Nat → Nat} {m n B : Nat} {wo qu : Nat → Nat} {qd : Nat} (h : ResI nx m n B wo qu qd) (hn : ¬ newS nx m n B) : ResI nx m n (B + 1) wo qu qd :=
  ResI_skip h (Nat.le_succ B) (fun c h1 h2 => by
    have e : c = B := by omega
    subst e; exact hn)
theorem ResI_new {nx : Nat → Nat} {m n B : Nat} {wo qu : Nat → Nat} {qd : Nat} (h : ResI nx m n B wo qu qd) (hn : newS nx m n B) : ResI nx m n (B + 1) (updN wo (sset nx m n B) B) (updN qu qd (sset nx m n B)) (qd + 1) := by
  refine ⟨by rw [cnt_t hn, h.1], fun c h1 h2 => ?_, fun x hx h1 => ?_⟩
  · rcases Nat.lt_or_ge c B with y | y
    · have := cnt_lt_of (P := newS nx m n) y h1
      rw [updN_ne _ _ (by rw [h.1]; omega), updN_ne _ _ (fun e => by have := newS_one h1 hn e; omega)]
      exact h.2.1 c h1 y
    · have e : c = B := by omega
      subst e
      rw [← h.1, updN_same, updN_same]
      exact ⟨rfl, rfl⟩
  · rw [updN_ne _ _ (fun e => h1 B hn (by omega) e.symm)]
    exact h.2.2 x hx (fun c h2 h3 => h1 c h2 (by omega))
theorem ResI_test {sz nx an : Nat → Nat} (hw : wf sz nx an) {m B : Nat} (hm : m < 2) {wo qu : Nat → Nat} {qd : Nat} (h : ResI nx m (sz m) B wo qu qd) (hB : 1 ≤ B) : wo (sset nx m (sz m) B) = 0 ↔ newS nx m (sz m) B := by
  constructor
  · intro e
    refine ⟨hB, fun j h1 h2 h3 => ?_⟩
    obtain ⟨g, g1, g2, g3⟩ := newS_of nx m (sz m) h1
    have h4 := (h.2.1 g g2 (by omega)).2
    rw [g3, show sset nx m (sz m) j = sset nx m (sz m) B from h3, e] at h4
    have h5 := g2.1
    omega
  · intro hn
    exact h.2.2 _ (sset_lt hw hm B) (fun c h1 h2 h3 => hn.2 c h1.1 h2 h3)
theorem ResI_lt {nx : Nat → Nat} {m n B : Nat} {wo qu : Nat → Nat} {qd : Nat} (h : ResI nx m n B wo qu qd) {x : Nat} (hx : x < 64) : wo x ≤ B := by
  by_cases q : ∃ c, newS nx m n c ∧ c < B ∧ sset nx m n c = x
  · obtain ⟨c, h1, h2, h3⟩ := q
    have h4 := (h.2.1 c h1 h2).2
    rw [h3] at h4
    omega
  · rw [h.2.2 x hx (fun c h1 h2 h3 => q ⟨c, h1, h2, h3⟩)]
    exact Nat.zero_le _
def zs (f : Nat → Nat) (k : Nat) : Nat → Nat := fun j => if j < k then 0 else f j
theorem zs_0 (f : Nat → Nat) : zs f 0 = f := funext fun j => if_neg (Nat.not_lt_zero j)
theorem zs_put (f : Nat → Nat) (k : Nat) : updN (zs f k) k 0 = zs f (k + 1) := by
  funext j
  unfold updN zs
  by_cases e : j = k
  · subst e; rw [if_pos rfl, if_pos (by omega)]
  · rw [if_neg e]
    by_cases q : j < k
    · rw [if_pos q, if_pos (by omega)]
    · rw [if_neg q, if_neg (by omega)]
theorem ResI_start (nx : Nat → Nat) (m n : Nat) (wo qu : Nat → Nat) : ResI nx m n 2 (updN (zs wo 64) (sset nx m n 1) 1) (updN qu 0 (sset nx m n 1)) 1 := by
  have hp := newS_pfx nx m n
  have one : ∀ c, newS nx m n c → c < 2 → c = 1 := fun c h1 h2 => by have := h1.1; omega
  refine ⟨(cnt_two hp).symm, fun c h1 h2 => ?_, fun x hx h1 => ?_⟩
  · have e := one c h1 h2
    subst e
    rw [cnt_one hp, updN_same, updN_same]
    exact ⟨rfl, rfl⟩
  · rw [updN_ne _ _ (fun e => h1 1 hp.1 (by omega) e.symm)]
    exact if_pos hx
theorem res_next {sz nx : Nat → Nat} {m k g : Nat} (hg : newS nx m (sz m) g) (hgk : cnt (newS nx m (sz m)) g = k) (hno : ∀ c, newS nx m (sz m) c → cnt (newS nx m (sz m)) c < k → ¬ alls sz nx m c) (h : ¬ alls sz nx m g) : ∀ c, newS nx m (sz m) c → cnt (newS nx m (sz m)) c < k + 1 → ¬ alls sz nx m c := by
  intro c h1 h2
  rcases Nat.lt_or_ge (cnt (newS nx m (sz m)) c) k with z | z
  · exact hno c h1 z
  · have e : c = g := cnt_inj h1 hg (by omega)
    subst e
    exact h
theorem alls_of {sz nx an : Nat → Nat} (hw : wf sz nx an) {m a b : Nat} (hm : m < 2) (h : sset nx m (sz m) a = sset nx m (sz m) b) (h2 : alls sz nx m b) : alls sz nx m a := by
  rw [← sset_same hw hm] at h2 ⊢
  rw [h]
  exact h2
theorem res_found {sz nx an : Nat → Nat} (hw : wf sz nx an) {m k g : Nat} (hm : m < 2) (hg : newS nx m (sz m) g) (hgk : cnt (newS nx m (sz m)) g = k) (hno : ∀ c, newS nx m (sz m) c → cnt (newS nx m (sz m)) c < k → ¬ alls sz nx m c) (h : alls sz nx m g) (hl : g < 4096) : lst (alls sz nx m) 4096 = g := by
  refine lst_is hg.1 h (fun j h1 h2 h3 => ?_) hl
  obtain ⟨g', g1, g2, g3⟩ := newS_of nx m (sz m) h1
  exact hno g' g2 (by rw [← hgk]; exact cnt_lt_of (by omega) g2) (alls_of hw hm g3 h3)
theorem res_none {sz nx an : Nat → Nat} (hw : wf sz nx an) {m k B : Nat} (hm : m < 2) (hJ : J2 (newS nx m (sz m)) 4096 k B) (hk : cnt (newS nx m (sz m)) B ≤ k) (hno : ∀ c, newS nx m (sz m) c → cnt (newS nx m (sz m)) c < k → ¬ alls sz nx m c) : lst (alls sz nx m) 4096 = 0 := by
  refine lst_zero (fun c h1 h2 h3 => ?_)
  obtain ⟨g, g1, g2, g3⟩ := newS_of nx m (sz m) h1
  rcases Nat.lt_or_ge g B with y | y
  · exact hno g g2 (Nat.lt_of_lt_of_le (cnt_lt_of y g2) hk) (alls_of hw hm g3 h3)
  · exact J2_end (newS_pfx nx m (sz m)) hJ hk g y (by omega) g2
noncomputable def spReset (x : Int32) (sz nx an : Nat → Nat) : TT := if mOk x then (nI (lst (alls sz nx x.toNatClampNeg) 4096), sz, nx, an) else (-1, sz, nx, an)
theorem spReset_1 {x : Int32} {sz nx an : Nat → Nat} (h : ¬ mOk x) : spReset x sz nx an = (-1, sz, nx, an) := if_neg h
theorem spReset_2 {m v : Nat} {sz nx an : Nat → Nat} (h : m < 2) (hv : lst (alls sz nx m) 4096 = v) : spReset (nI m) sz nx an = (nI v, sz, nx, an) := by
  unfold spReset
  rw [if_pos (mOk_nI h), nI_clamp (by omega), hv]
end
section
set_option maxRecDepth 100000
/-! together; reset on both sides -/
set_option maxHeartbeats 600000 in
set_option maxRecDepth 100000 in
/-- the image of a set of states -/
theorem mX_together (l : Launch) (sz nx an ap : Nat → Nat) (cn : Nat → Int32) (ld qu wo : Nat → Nat) (co cu : Nat) (m0 x a0 : Nat) (hZ : ∀ k, sz k ≤ 6) (hN : ∀ k, nx k < 6) (hm0 : m0 < 2) (hx64 : x < 64) (ha0 : a0 < 2) : MetX l yX0_together cX0_together 6 (some .int) rmX0_together [.int (nI m0), .int (nI x), .int (nI a0)] (sz, nx, an, ap, cn, ld, qu, wo, co, cu) (fun r u1 => r = nI (tog nx m0 x a0 (sz m0)) ∧ u1 = (sz, nx, an, ap, cn, ld, qu, wo, co, cu)) := by
  refine entXi rfl (by decide) rfl rfl (fun _ => Nat.le_of_ble_eq_true rfl) ?_
  intro G d h a A p e s m below meth c args Q S hA hX ret ls hl
  have hx := S.1
  have hb := S.2.1
  have hl : lv_has ls 6 [(0, .ref h), (1, .int (nI m0)), (2, .int (nI x)), (3, .int (nI a0))] := hl
  have z1 := hZ m0
  refine lv_iconst (v := nI 0) hx hb dX0_together_0 (by decide) ?_
  refine lv_istore (lv' := [(4, .int (nI 0)), (0, .ref h), (1, .int (nI m0)), (2, .int (nI x)), (3, .int (nI a0))]) hx hb dX0_together_1 hl (by decide) rfl (fun ls hl => ?_)
  refine lv_iconst (v := nI 0) hx hb dX0_together_3 (by decide) ?_
  refine lv_istore (lv' := [(5, .int (nI 0)), (4, .int (nI 0)), (0, .ref h), (1, .int (nI m0)), (2, .int (nI x)), (3, .int (nI a0))]) hx hb dX0_together_4 hl (by decide) rfl (fun ls hl => ?_)
  have lp : ∀ (N : Nat) (s0 : Nat), (s0 ≤ sz m0) → sz m0 - s0 < N → ∀ (H : Heap) (locs : List Loc) (ls : Array Slot), HX G d h a A s (sz, nx, an, ap, cn, ld, qu, wo, co, cu) H locs → lv_has ls 6 [(0, .ref h), (1, .int (nI m0)), (2, .int (nI x)), (3, .int (nI a0)), (4, .int (nI (tog nx m0 x a0 s0))), (5, .int (nI s0))] → W p l e rmX0_together s m args below meth c H locs 0 0 Q (F0 m 6 ls []) := by
    intro N
    induction N with
    | zero =>
      intro s0 hs0 hms
      exact absurd hms (Nat.not_lt_zero _)
    | succ N ih =>
      intro s0 hs0 hms H locs ls hX hl
      refine lv_iload hx hb dX0_together_6 (lv_at hl 5 rfl) ?_
      refine lv_aload_n hx hb dX0_together_8 rfl (lv_at hl 0 rfl) ?_
      refine xg0 S hX dX0_together_9 ?_
      refine lv_iload_n hx hb dX0_together_12 rfl (lv_at hl 1 rfl) ?_
      refine xl0 S hX dX0_together_13 (by omega) ?_
      have b_13 := hZ m0
      refine n_icmp_ge (tgt := 56) hx hb dX0_together_14 (by decide) (by omega) (by omega) (fun c_14 => ?_) (fun c_14 => ?_)
      · refine lv_iload hx hb dX0_together_56 (lv_at hl 4 rfl) ?_
        exact ret _ _ _ _ _ _ dX0_together_58 (⟨congrArg nI (by rw [show s0 = sz m0 by omega]), rfl⟩) hX
      · refine lv_iload_n hx hb dX0_together_17 rfl (lv_at hl 2 rfl) ?_
        refine lv_iload hx hb dX0_together_18 (lv_at hl 5 rfl) ?_
        refine n_ishr hx hb dX0_together_20 (by omega) (by omega) ?_
        refine lv_iconst (v := nI 1) hx hb dX0_together_21 (by decide) ?_
        refine n_iand1 hx hb dX0_together_22 (divlt (by omega)) ?_
        refine lv_iconst (v := nI 1) hx hb dX0_together_23 (by decide) ?_
        refine n_icmp_ne (tgt := 50) hx hb dX0_together_24 (by decide) (by omega) (by omega) (fun c_24 => ?_) (fun c_24 => ?_)
        · refine lv_iinc (v := (nI (s0 + 1))) (lv' := [(5, .int (nI (s0 + 1))), (0, .ref h), (1, .int (nI m0)), (2, .int (nI x)), (3, .int (nI a0)), (4, .int (nI (tog nx m0 x a0 s0)))]) hx hb dX0_together_50 hl (k := 5) rfl (nI_1 _) (by decide) rfl (fun ls hl => ?_)
          refine lv_goto (tgt := 6) hx hb dX0_together_53 (by decide) ?_
          have hl := lv_sub hl [1, 2, 3, 4, 5, 0] rfl
          exact ih (s0 + 1) (by omega) (by omega) _ _ _ hX (by rw [tog_f c_24]; exact hl)
        · refine lv_iload hx hb dX0_together_27 (lv_at hl 4 rfl) ?_
          refine lv_iconst (v := nI 1) hx hb dX0_together_29 (by decide) ?_
          refine lv_aload_n hx hb dX0_together_30 rfl (lv_at hl 0 rfl) ?_
          refine xg1 S hX dX0_together_31 ?_
          refine lv_bipush (v := nI 12) hx hb dX0_together_34 (by decide) ?_
          refine lv_iload_n hx hb dX0_together_36 rfl (lv_at hl 1 rfl) ?_
          refine n_imul hx hb dX0_together_37 ?_
          refine lv_iconst (v := nI 2) hx hb dX0_together_38 (by decide) ?_
          refine lv_iload hx hb dX0_together_39 (lv_at hl 5 rfl) ?_
          refine n_imul hx hb dX0_together_41 ?_
          refine n_iadd hx hb dX0_together_42 ?_
          refine lv_iload_n hx hb dX0_together_43 rfl (lv_at hl 3 rfl) ?_
          refine n_iadd hx hb dX0_together_44 ?_
          refine xl1 S hX dX0_together_45 (by omega) ?_
          have b_45 := hN (12 * m0 + (2 * s0) + a0)
          refine n_ishl hx hb dX0_together_46 (by omega) (Nat.lt_of_le_of_lt (Nat.le_of_eq (Nat.one_mul _)) (Nat.lt_of_le_of_lt (pow_le12 (by omega)) (by decide))) ?_
          refine n_ior hx hb dX0_together_47 ?_
          refine n_top (y := (nI (tog nx m0 x a0 (s0 + 1)))) (congrArg nI (tog_t c_24).symm) ?_
          refine lv_istore (lv' := [(4, .int (nI (tog nx m0 x a0 (s0 + 1)))), (0, .ref h), (1, .int (nI m0)), (2, .int (nI x)), (3, .int (nI a0)), (5, .int (nI s0))]) hx hb dX0_together_48 hl (by decide) rfl (fun ls hl => ?_)
          refine lv_iinc (v := (nI (s0 + 1))) (lv' := [(5, .int (nI (s0 + 1))), (4, .int (nI (tog nx m0 x a0 (s0 + 1)))), (0, .ref h), (1, .int (nI m0)), (2, .int (nI x)), (3, .int (nI a0))]) hx hb dX0_together_50 hl (k := 5) rfl (nI_1 _) (by decide) rfl (fun ls hl => ?_)
          refine lv_goto (tgt := 6) hx hb dX0_together_53 (by decide) ?_
          exact ih (s0 + 1) (by omega) (by omega) _ _ _ hX (lv_sub hl [2, 3, 4, 5, 1, 0] rfl)
  exact lp _ 0 (by omega) (Nat.lt_succ_self _) _ _ _ hX (lv_sub hl [2, 3, 4, 5, 1, 0] rfl)
set_option maxHeartbeats 600000 in
set_option maxRecDepth 100000 in
theorem mX_reset (l : Launch) (sz nx an ap : Nat → Nat) (cn : Nat → Int32) (ld qu wo : Nat → Nat) (co cu : Nat) (x : Int32) (hI : inX sz nx an ap cu) : MetX l yX0_reset cX0_reset 8 (some .int) rmX0_reset [.int x] (sz, nx, an, ap, cn, ld, qu, wo, co, cu) (pX (spReset x sz nx an)) := by
  refine entXi rfl (by decide) rfl rfl (fun _ => Nat.le_of_ble_eq_true rfl) ?_
  intro G d h a A p e s m below meth c args Q S hA hX ret ls hl
  have hx := S.1
  have hb := S.2.1
  have hl : lv_has ls 8 [(0, .ref h), (1, .int x)] := hl
  have hw := hI.1
  have hZ := hw.2.1
  have hN := hw.2.2.2.1
  have hA4 := hw.2.2.2.2
  by_cases hm : mOk x
  · obtain ⟨m0, hm0, rfl⟩ := mOk_of hm
    refine lv_iload_n hx hb dX0_reset_0 rfl (lv_at hl 1 rfl) ?_
    refine callXs S hA hX (mX_isMachine_y l m0 hm0) (va_cwS 1 S.2.2.2.2 (lw_S q64 q65 q18 q66) rfl rfl rfl (by decide +kernel) ⟨Nat.le_of_ble_eq_true rfl, Nat.le_of_ble_eq_true rfl⟩) rfl hl.1 rfl (Nat.le_of_ble_eq_true rfl) dX0_reset_1 ⟨Nat.zero_le _, Nat.zero_le _⟩ (fun r H locs hq hX => ?_)
    subst hq
    refine n_if_ne (tgt := 9) hx hb dX0_reset_4 (by decide) (by decide) (fun _ => ?_) (fun q => absurd q (by decide))
    refine lv_iconst (v := nI 0) hx hb dX0_reset_9 (by decide) ?_
    refine lv_istore_n (lv' := [(2, .int (nI 0)), (0, .ref h), (1, .int (nI m0))]) hx hb dX0_reset_10 rfl hl (by decide) rfl (fun ls hl => ?_)
    have lp : ∀ (N : Nat) (k : Nat), (k ≤ 64) → 64 - k < N → ∀ (H : Heap) (locs : List Loc) (ls : Array Slot), HX G d h a A s (sz, nx, an, ap, cn, ld, qu, (zs wo k), co, cu) H locs → lv_has ls 8 [(0, .ref h), (1, .int (nI m0)), (2, .int (nI k))] → W p l e rmX0_reset s m args below meth c H locs 0 0 Q (F0 m 11 ls []) := by
      intro N
      induction N with
      | zero =>
        intro k hk hms
        exact absurd hms (Nat.not_lt_zero _)
      | succ N ih =>
        intro k hk hms H locs ls hX hl
        refine lv_iload_n hx hb dX0_reset_11 rfl (lv_at hl 2 rfl) ?_
        refine lv_bipush (v := nI 64) hx hb dX0_reset_12 (by decide) ?_
        refine n_icmp_ge (tgt := 30) hx hb dX0_reset_14 (by decide) (by omega) (by omega) (fun c_14 => ?_) (fun c_14 => ?_)
        · rw [show k = 64 by omega] at hX
          have hz6 := hZ m0
          have hp := Nat.two_pow_pos (sz m0)
          have hp2 : 2 ^ sz m0 ≤ 2 ^ 6 := Nat.pow_le_pow_right (by decide) hz6
          have hpf := newS_pfx nx m0 (sz m0)
          refine lv_iconst (v := nI 1) hx hb dX0_reset_30 (by decide) ?_
          refine lv_aload_n hx hb dX0_reset_31 rfl (lv_at hl 0 rfl) ?_
          refine xg0 S hX dX0_reset_32 ?_
          refine lv_iload_n hx hb dX0_reset_35 rfl (lv_at hl 1 rfl) ?_
          refine xl0 S hX dX0_reset_36 (by omega) ?_
          have b_36 := hZ m0
          refine n_ishl hx hb dX0_reset_37 (by omega) (by omega) ?_
          refine n_top (y := (nI (2 ^ sz m0))) (congrArg nI (Nat.one_mul _)) ?_
          refine lv_iconst (v := nI 1) hx hb dX0_reset_38 (by decide) ?_
          refine n_isub hx hb dX0_reset_39 (by omega) ?_
          refine n_top (y := (nI (sset nx m0 (sz m0) 1))) (congrArg nI (sset_lo (by decide)).symm) ?_
          have hs1 := sset_lt hw hm0 1
          refine lv_istore_n (lv' := [(2, .int (nI (sset nx m0 (sz m0) 1))), (0, .ref h), (1, .int (nI m0))]) hx hb dX0_reset_40 rfl hl (by decide) rfl (fun ls hl => ?_)
          refine lv_aload_n hx hb dX0_reset_41 rfl (lv_at hl 1 rfl) ?_
          refine xg7 S hX dX0_reset_42 ?_
          refine lv_iload_n hx hb dX0_reset_45 rfl (lv_at hl 0 rfl) ?_
          refine lv_iconst (v := nI 1) hx hb dX0_reset_46 (by decide) ?_
          refine xs7 S hX dX0_reset_47 (by omega) (fun H locs hX => ?_)
          refine lv_aload_n hx hb dX0_reset_48 rfl (lv_at hl 1 rfl) ?_
          refine xg6 S hX dX0_reset_49 ?_
          refine lv_iconst (v := nI 0) hx hb dX0_reset_52 (by decide) ?_
          refine lv_iload_n hx hb dX0_reset_53 rfl (lv_at hl 0 rfl) ?_
          refine xs6 S hX dX0_reset_54 (by omega) (fun H locs hX => ?_)
          refine lv_iconst (v := nI 1) hx hb dX0_reset_55 (by decide) ?_
          refine lv_istore_n (lv' := [(3, .int (nI 1)), (2, .int (nI (sset nx m0 (sz m0) 1))), (0, .ref h), (1, .int (nI m0))]) hx hb dX0_reset_56 rfl hl (by decide) rfl (fun ls hl => ?_)
          refine lv_iconst (v := nI 0) hx hb dX0_reset_57 (by decide) ?_
          refine lv_istore (lv' := [(4, .int (nI 0)), (3, .int (nI 1)), (2, .int (nI (sset nx m0 (sz m0) 1))), (0, .ref h), (1, .int (nI m0))]) hx hb dX0_reset_58 hl (by decide) rfl (fun ls hl => ?_)
          have lp2 : ∀ (N : Nat) (k : Nat) (Bd : Nat) (wo1 : Nat → Nat) (qu1 : Nat → Nat) (qd1 : Nat), (k ≤ 64) → (Bd ≤ 4096) → (J2 (newS nx m0 (sz m0)) 4096 k Bd) → (ResI nx m0 (sz m0) Bd wo1 qu1 qd1) → (∀ c, newS nx m0 (sz m0) c → cnt (newS nx m0 (sz m0)) c < k → ¬ alls sz nx m0 c) → 64 - k < N → ∀ (H : Heap) (locs : List Loc) (ls : Array Slot), HX G d h a A s (sz, nx, an, ap, cn, ld, qu1, wo1, co, cu) H locs → lv_has ls 8 [(0, .ref h), (1, .int (nI m0)), (2, .int (nI (sset nx m0 (sz m0) 1))), (3, .int (nI qd1)), (4, .int (nI k))] → W p l e rmX0_reset s m args below meth c H locs 0 0 Q (F0 m 60 ls []) := by
            intro N
            induction N with
            | zero =>
              intro k Bd wo1 qu1 qd1 hk hBd hJ hR hno hms
              exact absurd hms (Nat.not_lt_zero _)
            | succ N ih =>
              intro k Bd wo1 qu1 qd1 hk hBd hJ hR hno hms H locs ls hX hl
              have hq64 : qd1 ≤ 64 := by rw [hR.1]; exact newS_cnt hw hm0 Bd
              refine lv_iload hx hb dX0_reset_60 (lv_at hl 4 rfl) ?_
              refine lv_bipush (v := nI 64) hx hb dX0_reset_62 (by decide) ?_
              refine n_icmp_ge (tgt := 185) hx hb dX0_reset_64 (by decide) (by omega) (by omega) (fun c_64 => ?_) (fun c_64 => ?_)
              · refine lv_iconst (v := nI 0) hx hb dX0_reset_185 (by decide) ?_
                exact ret _ _ _ _ _ _ dX0_reset_186 (pX_of (spReset_2 hm0 (res_none hw hm0 hJ (by rw [← hR.1]; omega) hno)) (hI)) hX
              · refine lv_iload hx hb dX0_reset_67 (lv_at hl 4 rfl) ?_
                refine lv_iload_n hx hb dX0_reset_69 rfl (lv_at hl 3 rfl) ?_
                refine n_icmp_ge (tgt := 185) hx hb dX0_reset_70 (by decide) (by omega) (by omega) (fun c_70 => ?_) (fun c_70 => ?_)
                · refine lv_iconst (v := nI 0) hx hb dX0_reset_185 (by decide) ?_
                  exact ret _ _ _ _ _ _ dX0_reset_186 (pX_of (spReset_2 hm0 (res_none hw hm0 hJ (by rw [← hR.1]; omega) hno)) (hI)) hX
                · obtain ⟨g, hgB, hg, hgk⟩ := cnt_kth (P := newS nx m0 (sz m0)) (n := Bd) (k := k) (by rw [← hR.1]; omega)
                  have hg1 : 1 ≤ g := hg.1
                  obtain ⟨hs1, hs2⟩ := J2_skip hpf hJ hg hgk
                  have hqk : qu1 k = sset nx m0 (sz m0) g := by have := (hR.2.1 g hg hgB).1; rw [hgk] at this; exact this
                  have hwg := (hR.2.1 g hg hgB).2
                  have hsl := sset_lt hw hm0 g
                  have hsn0 := sset_ne hw hm0 g
                  refine lv_aload_n hx hb dX0_reset_73 rfl (lv_at hl 0 rfl) ?_
                  refine xg6 S hX dX0_reset_74 ?_
                  refine lv_iload hx hb dX0_reset_77 (lv_at hl 4 rfl) ?_
                  refine xl6 S hX dX0_reset_79 (by omega) ?_
                  refine n_top (y := (nI (sset nx m0 (sz m0) g))) (congrArg nI hqk) ?_
                  refine lv_istore (lv' := [(5, .int (nI (sset nx m0 (sz m0) g))), (0, .ref h), (1, .int (nI m0)), (2, .int (nI (sset nx m0 (sz m0) 1))), (3, .int (nI qd1)), (4, .int (nI k))]) hx hb dX0_reset_80 hl (by decide) rfl (fun ls hl => ?_)
                  refine lv_iload hx hb dX0_reset_82 (lv_at hl 0 rfl) ?_
                  refine lv_iload hx hb dX0_reset_84 (lv_at hl 0 rfl) ?_
                  refine lv_iconst (v := nI 1) hx hb dX0_reset_86 (by decide) ?_
                  refine n_isub hx hb dX0_reset_87 (by omega) ?_
                  refine n_iand hx hb dX0_reset_88 ?_
                  refine n_if_ne (tgt := 100) hx hb dX0_reset_89 (by decide) (Nat.lt_of_le_of_lt Nat.and_le_left (by omega)) (fun c_89 => ?_) (fun c_89 => ?_)
                  · refine lv_iconst (v := nI 0) hx hb dX0_reset_100 (by decide) ?_
                    refine lv_istore (lv' := [(6, .int (nI 0)), (5, .int (nI (sset nx m0 (sz m0) g))), (0, .ref h), (1, .int (nI m0)), (2, .int (nI (sset nx m0 (sz m0) 1))), (3, .int (nI qd1)), (4, .int (nI k))]) hx hb dX0_reset_101 hl (by decide) rfl (fun ls hl => ?_)
                    rcases Nat.lt_or_ge g 2048 with hg2 | hg2
                    · have lp3 : ∀ (N2 : Nat) (b : Nat) (wo2 : Nat → Nat) (qu2 : Nat → Nat) (qd2 : Nat), (b ≤ 2) → (ResI nx m0 (sz m0) (2 * g + b) wo2 qu2 qd2) → 2 - b < N2 → ∀ (H : Heap) (locs : List Loc) (ls : Array Slot), HX G d h a A s (sz, nx, an, ap, cn, ld, qu2, wo2, co, cu) H locs → lv_has ls 8 [(0, .ref h), (1, .int (nI m0)), (2, .int (nI (sset nx m0 (sz m0) 1))), (3, .int (nI qd2)), (4, .int (nI k)), (5, .int (nI (sset nx m0 (sz m0) g))), (6, .int (nI b))] → W p l e rmX0_reset s m args below meth c H locs 0 0 Q (F0 m 103 ls []) := by
                        intro N2
                        induction N2 with
                        | zero =>
                          intro b wo2 qu2 qd2 hb2 hR2 hms
                          exact absurd hms (Nat.not_lt_zero _)
                        | succ N2 ih2 =>
                          intro b wo2 qu2 qd2 hb2 hR2 hms H locs ls hX hl
                          have hwg2 := (hR2.2.1 g hg (by omega)).2
                          refine lv_iload hx hb dX0_reset_103 (lv_at hl 6 rfl) ?_
                          refine lv_iconst (v := nI 2) hx hb dX0_reset_105 (by decide) ?_
                          refine n_icmp_ge (tgt := 179) hx hb dX0_reset_106 (by decide) (by omega) (by omega) (fun c_106 => ?_) (fun c_106 => ?_)
                          · refine lv_iinc (v := (nI (k + 1))) (lv' := [(4, .int (nI (k + 1))), (0, .ref h), (1, .int (nI m0)), (2, .int (nI (sset nx m0 (sz m0) 1))), (3, .int (nI qd2)), (5, .int (nI (sset nx m0 (sz m0) g))), (6, .int (nI b))]) hx hb dX0_reset_179 hl (k := 4) rfl (nI_1 _) (by decide) rfl (fun ls hl => ?_)
                            refine lv_goto (tgt := 60) hx hb dX0_reset_182 (by decide) ?_
                            rw [show b = 2 by omega] at hR2
                            exact ih (k + 1) (2 * g + 2) wo2 qu2 qd2 (by omega) (by omega) (J2_step hpf hJ hg hgk) (hR2) (res_next hg hgk hno (fun q => c_89 ((sset_same hw hm0 g).mpr q))) (by omega) _ _ _ hX (lv_sub hl [1, 2, 3, 4, 0] rfl)
                          · refine lv_aload_n hx hb dX0_reset_109 rfl (lv_at hl 0 rfl) ?_
                            refine xg7 S hX dX0_reset_110 ?_
                            refine lv_iload hx hb dX0_reset_113 (lv_at hl 5 rfl) ?_
                            refine xl7 S hX dX0_reset_115 (by omega) ?_
                            refine n_top (y := (nI g)) (congrArg nI hwg2) ?_
                            refine lv_sipush (v := nI 2048) hx hb dX0_reset_116 (by decide) ?_
                            refine n_icmp_ge (tgt := 179) hx hb dX0_reset_119 (by decide) (by omega) (by omega) (fun c_119 => ?_) (fun c_119 => ?_)
                            · omega
                            · refine lv_aload_n hx hb dX0_reset_122 rfl (lv_at hl 0 rfl) ?_
                              refine lv_iload_n hx hb dX0_reset_123 rfl (lv_at hl 1 rfl) ?_
                              refine lv_iload hx hb dX0_reset_124 (lv_at hl 5 rfl) ?_
                              refine lv_iload hx hb dX0_reset_126 (lv_at hl 6 rfl) ?_
                              refine callXi S hA hX (mX_together l sz nx an ap cn ld qu2 wo2 co cu m0 (sset nx m0 (sz m0) g) b hZ hN hm0 hsl (by omega)) (cwV 3 S.2.2.2.2 (lw_V q162 q164 qs8 q18 q165) rfl rfl rfl (by decide +kernel) ⟨Nat.le_of_ble_eq_true rfl, Nat.le_of_ble_eq_true rfl⟩) rfl hl.1 rfl (Nat.le_of_ble_eq_true rfl) dX0_reset_128 ⟨Nat.zero_le _, Nat.zero_le _⟩ (fun r u1 H locs hq hX => ?_)
                              obtain ⟨rfl, rfl⟩ := hq
                              refine n_top (y := nI (sset nx m0 (sz m0) (2 * g + b))) (congrArg nI (sset_step hg1 (by omega))) ?_
                              have hsn := sset_lt hw hm0 (2 * g + b)
                              have hwl := ResI_lt hR2 hsn
                              refine lv_istore (lv' := [(7, .int (nI (sset nx m0 (sz m0) (2 * g + b)))), (0, .ref h), (1, .int (nI m0)), (2, .int (nI (sset nx m0 (sz m0) 1))), (3, .int (nI qd2)), (4, .int (nI k)), (5, .int (nI (sset nx m0 (sz m0) g))), (6, .int (nI b))]) hx hb dX0_reset_131 hl (by decide) rfl (fun ls hl => ?_)
                              refine lv_aload_n hx hb dX0_reset_133 rfl (lv_at hl 1 rfl) ?_
                              refine xg7 S hX dX0_reset_134 ?_
                              refine lv_iload hx hb dX0_reset_137 (lv_at hl 0 rfl) ?_
                              refine xl7 S hX dX0_reset_139 (by omega) ?_
                              refine n_if_ne (tgt := 173) hx hb dX0_reset_140 (by decide) (by omega) (fun c_140 => ?_) (fun c_140 => ?_)
                              · refine lv_iinc (v := (nI (b + 1))) (lv' := [(6, .int (nI (b + 1))), (7, .int (nI (sset nx m0 (sz m0) (2 * g + b)))), (0, .ref h), (1, .int (nI m0)), (2, .int (nI (sset nx m0 (sz m0) 1))), (3, .int (nI qd2)), (4, .int (nI k)), (5, .int (nI (sset nx m0 (sz m0) g)))]) hx hb dX0_reset_173 hl (k := 7) rfl (nI_1 _) (by decide) rfl (fun ls hl => ?_)
                                refine lv_goto (tgt := 103) hx hb dX0_reset_176 (by decide) ?_
                                exact ih2 (b + 1) wo2 qu2 qd2 (by omega) (ResI_old hR2 (fun z => c_140 ((ResI_test hw hm0 hR2 (by omega)).mpr z))) (by omega) _ _ _ hX (lv_sub hl [2, 3, 4, 5, 6, 7, 0] rfl)
                              · have hnew := (ResI_test hw hm0 hR2 (by omega)).mp c_140
                                have hq2 := newS_cnt hw hm0 (2 * g + b + 1)
                                rw [cnt_t hnew, ← hR2.1] at hq2
                                refine lv_aload_n hx hb dX0_reset_143 rfl (lv_at hl 1 rfl) ?_
                                refine xg7 S hX dX0_reset_144 ?_
                                refine lv_iload hx hb dX0_reset_147 (lv_at hl 0 rfl) ?_
                                refine lv_iconst (v := nI 2) hx hb dX0_reset_149 (by decide) ?_
                                refine lv_aload_n hx hb dX0_reset_150 rfl (lv_at hl 1 rfl) ?_
                                refine xg7 S hX dX0_reset_151 ?_
                                refine lv_iload hx hb dX0_reset_154 (lv_at hl 6 rfl) ?_
                                refine xl7 S hX dX0_reset_156 (by omega) ?_
                                refine n_top (y := (nI g)) (congrArg nI hwg2) ?_
                                refine n_imul hx hb dX0_reset_157 ?_
                                refine lv_iload hx hb dX0_reset_158 (lv_at hl 7 rfl) ?_
                                refine n_iadd hx hb dX0_reset_160 ?_
                                refine xs7 S hX dX0_reset_161 (by omega) (fun H locs hX => ?_)
                                refine lv_aload_n hx hb dX0_reset_162 rfl (lv_at hl 1 rfl) ?_
                                refine xg6 S hX dX0_reset_163 ?_
                                refine lv_iload_n hx hb dX0_reset_166 rfl (lv_at hl 4 rfl) ?_
                                refine lv_iload hx hb dX0_reset_167 (lv_at hl 0 rfl) ?_
                                refine xs6 S hX dX0_reset_169 (by omega) (fun H locs hX => ?_)
                                refine lv_iinc (v := (nI (qd2 + 1))) (lv' := [(3, .int (nI (qd2 + 1))), (7, .int (nI (sset nx m0 (sz m0) (2 * g + b)))), (0, .ref h), (1, .int (nI m0)), (2, .int (nI (sset nx m0 (sz m0) 1))), (4, .int (nI k)), (5, .int (nI (sset nx m0 (sz m0) g))), (6, .int (nI b))]) hx hb dX0_reset_170 hl (k := 4) rfl (nI_1 _) (by decide) rfl (fun ls hl => ?_)
                                refine lv_iinc (v := (nI (b + 1))) (lv' := [(6, .int (nI (b + 1))), (3, .int (nI (qd2 + 1))), (7, .int (nI (sset nx m0 (sz m0) (2 * g + b)))), (0, .ref h), (1, .int (nI m0)), (2, .int (nI (sset nx m0 (sz m0) 1))), (4, .int (nI k)), (5, .int (nI (sset nx m0 (sz m0) g)))]) hx hb dX0_reset_173 hl (k := 7) rfl (nI_1 _) (by decide) rfl (fun ls hl => ?_)
                                refine lv_goto (tgt := 103) hx hb dX0_reset_176 (by decide) ?_
                                exact ih2 (b + 1) ((updN wo2 (sset nx m0 (sz m0) (2 * g + b)) (2 * g + b))) ((updN qu2 qd2 (sset nx m0 (sz m0) (2 * g + b)))) (qd2 + 1) (by omega) (ResI_new hR2 hnew) (by omega) _ _ _ hX (lv_sub hl [3, 4, 5, 1, 6, 7, 0] rfl)
                      exact lp3 _ 0 wo1 qu1 qd1 (by omega) (ResI_skip hR hs1 (fun c e1 e2 => hs2 c e1 e2 (by omega))) (Nat.lt_succ_self _) _ _ _ hX (lv_sub hl [2, 3, 4, 5, 6, 1, 0] rfl)
                    · refine lv_iload hx hb dX0_reset_103 (lv_at hl 0 rfl) ?_
                      refine lv_iconst (v := nI 2) hx hb dX0_reset_105 (by decide) ?_
                      refine n_icmp_ge (tgt := 179) hx hb dX0_reset_106 (by decide) (by omega) (by omega) (fun c_106 => ?_) (fun c_106 => ?_)
                      · exact absurd c_106 (by decide)
                      · refine lv_aload_n hx hb dX0_reset_109 rfl (lv_at hl 2 rfl) ?_
                        refine xg7 S hX dX0_reset_110 ?_
                        refine lv_iload hx hb dX0_reset_113 (lv_at hl 1 rfl) ?_
                        refine xl7 S hX dX0_reset_115 (by omega) ?_
                        refine n_top (y := (nI g)) (congrArg nI hwg) ?_
                        refine lv_sipush (v := nI 2048) hx hb dX0_reset_116 (by decide) ?_
                        refine n_icmp_ge (tgt := 179) hx hb dX0_reset_119 (by decide) (by omega) (by omega) (fun c_119 => ?_) (fun c_119 => ?_)
                        · refine lv_iinc (v := (nI (k + 1))) (lv' := [(4, .int (nI (k + 1))), (6, .int (nI 0)), (5, .int (nI (sset nx m0 (sz m0) g))), (0, .ref h), (1, .int (nI m0)), (2, .int (nI (sset nx m0 (sz m0) 1))), (3, .int (nI qd1))]) hx hb dX0_reset_179 hl (k := 6) rfl (nI_1 _) (by decide) rfl (fun ls hl => ?_)
                          refine lv_goto (tgt := 60) hx hb dX0_reset_182 (by decide) ?_
                          exact ih (k + 1) 4096 wo1 qu1 qd1 (by omega) (Nat.le_refl _) (J2_cap hJ (by decide) hg hgk (by omega)) (ResI_skip hR hBd (fun c e1 e2 => hs2 c e1 (by omega) e2)) (res_next hg hgk hno (fun q => c_89 ((sset_same hw hm0 g).mpr q))) (by omega) _ _ _ hX (lv_sub hl [3, 4, 5, 6, 0] rfl)
                        · omega
                  · refine lv_aload_n hx hb dX0_reset_92 rfl (lv_at hl 1 rfl) ?_
                    refine xg7 S hX dX0_reset_93 ?_
                    refine lv_iload hx hb dX0_reset_96 (lv_at hl 0 rfl) ?_
                    refine xl7 S hX dX0_reset_98 (by omega) ?_
                    refine n_top (y := (nI g)) (congrArg nI hwg) ?_
                    exact ret _ _ _ _ _ _ dX0_reset_99 (pX_of (spReset_2 hm0 (res_found hw hm0 hg hgk hno ((sset_same hw hm0 g).mp c_89) (by omega))) (hI)) hX
          exact lp2 _ 0 2 ((updN ((zs wo 64)) (sset nx m0 (sz m0) 1) 1)) ((updN qu 0 (sset nx m0 (sz m0) 1))) 1 (by omega) (by decide) (J2_start hpf 4096) (ResI_start nx m0 (sz m0) wo qu) (fun c _ h2 => absurd h2 (Nat.not_lt_zero _)) (Nat.lt_succ_self _) _ _ _ hX (lv_sub hl [3, 4, 2, 1, 0] rfl)
        · refine lv_aload_n hx hb dX0_reset_17 rfl (lv_at hl 0 rfl) ?_
          refine xg7 S hX dX0_reset_18 ?_
          refine lv_iload_n hx hb dX0_reset_21 rfl (lv_at hl 2 rfl) ?_
          refine lv_iconst (v := nI 0) hx hb dX0_reset_22 (by decide) ?_
          refine xs7 S hX dX0_reset_23 (by omega) (fun H locs hX => ?_)
          refine lv_iinc (v := (nI (k + 1))) (lv' := [(2, .int (nI (k + 1))), (0, .ref h), (1, .int (nI m0))]) hx hb dX0_reset_24 hl (k := 2) rfl (nI_1 _) (by decide) rfl (fun ls hl => ?_)
          refine lv_goto (tgt := 11) hx hb dX0_reset_27 (by decide) ?_
          rw [zs_put] at hX
          exact ih (k + 1) (by omega) (by omega) _ _ _ hX (lv_sub hl [1, 2, 0] rfl)
    rw [← zs_0 wo] at hX
    exact lp _ 0 (by omega) (Nat.lt_succ_self _) _ _ _ hX (lv_sub hl [1, 2, 0] rfl)
  · refine lv_iload_n hx hb dX0_reset_0 rfl (lv_at hl 1 rfl) ?_
    refine callXs S hA hX (mX_isMachine_n l x hm) (va_cwS 1 S.2.2.2.2 (lw_S q64 q65 q18 q66) rfl rfl rfl (by decide +kernel) ⟨Nat.le_of_ble_eq_true rfl, Nat.le_of_ble_eq_true rfl⟩) rfl hl.1 rfl (Nat.le_of_ble_eq_true rfl) dX0_reset_1 ⟨Nat.zero_le _, Nat.zero_le _⟩ (fun r H locs hq hX => ?_)
    subst hq
    refine n_if_ne (tgt := 9) hx hb dX0_reset_4 (by decide) (by decide) (fun q => absurd q (by decide)) (fun _ => ?_)
    refine lv_iconst (v := -1) hx hb dX0_reset_7 (by decide) ?_
    exact ret _ _ _ _ _ _ dX0_reset_8 (pX_of (spReset_1 hm) (hI)) hX
set_option maxHeartbeats 600000 in
set_option maxRecDepth 100000 in
theorem mY_reset (l : Launch) (sz nx an : Nat → Nat) (ct : Nat) (mb : Nat → Nat) (x : Int32) (hw : wf sz nx an) : MetY l yX1_reset cX1_reset 6 (some .int) rmX1_reset [.int x] (sz, nx, an, ct, mb) (pY (spReset x sz nx an)) := by
  refine entYi rfl (by decide) rfl rfl (fun _ => Nat.le_of_ble_eq_true rfl) ?_
  intro G d h a A p e s m below meth c args Q S hA hX ret ls hl
  have hx := S.1
  have hb := S.2.1
  have hl : lv_has ls 6 [(0, .ref h), (1, .int x)] := hl
  have hZ := hw.2.1
  have hN := hw.2.2.2.1
  have hA4 := hw.2.2.2.2
  by_cases hm : mOk x
  · obtain ⟨m0, hm0, rfl⟩ := mOk_of hm
    refine lv_aload_n hx hb dX1_reset_0 rfl (lv_at hl 0 rfl) ?_
    refine lv_iload_n hx hb dX1_reset_1 rfl (lv_at hl 1 rfl) ?_
    refine callYi S hA hX (mY_bad l sz nx an ct mb (nI m0)) (cwV 1 S.2.2.2.2 (lw_V q192 q194 qs9 q19 q195) rfl rfl rfl (by decide +kernel) ⟨Nat.le_of_ble_eq_true rfl, Nat.le_of_ble_eq_true rfl⟩) rfl hl.1 rfl (Nat.le_of_ble_eq_true rfl) dX1_reset_2 ⟨Nat.zero_le _, Nat.zero_le _⟩ (fun r u1 H locs hq hX => ?_)
    obtain ⟨rfl, rfl⟩ := hq
    refine n_top (congrArg nI (if_neg (fun z => z (mOk_nI hm0)))) ?_
    refine n_if_eq (tgt := 10) hx hb dX1_reset_5 (by decide) (by decide) (fun _ => ?_) (fun q => absurd q (by decide))
    refine lv_iconst (v := nI 1) hx hb dX1_reset_10 (by decide) ?_
    refine lv_istore_n (lv' := [(2, .int (nI 1)), (0, .ref h), (1, .int (nI m0))]) hx hb dX1_reset_11 rfl hl (by decide) rfl (fun ls hl => ?_)
    have h00 := hw.1 m0 hm0
    have hz6 := hZ m0
    have lp : ∀ (N : Nat) (c1 : Nat), (1 ≤ c1) → (c1 ≤ 4096) → (∀ j, 1 ≤ j → j < c1 → ¬ alls sz nx m0 j) → 4096 - c1 < N → ∀ (H : Heap) (locs : List Loc) (ls : Array Slot), HY G d h a A s (sz, nx, an, ct, mb) H locs → lv_has ls 6 [(0, .ref h), (1, .int (nI m0)), (2, .int (nI c1))] → W p l e rmX1_reset s m args below meth c H locs 0 0 Q (F0 m 12 ls []) := by
      intro N
      induction N with
      | zero =>
        intro c1 hc1 hc hno hms
        exact absurd hms (Nat.not_lt_zero _)
      | succ N ih =>
        intro c1 hc1 hc hno hms H locs ls hX hl
        refine lv_iload_n hx hb dX1_reset_12 rfl (lv_at hl 2 rfl) ?_
        refine lv_sipush (v := nI 4096) hx hb dX1_reset_13 (by decide) ?_
        refine n_icmp_ge (tgt := 93) hx hb dX1_reset_16 (by decide) (by omega) (by omega) (fun c_16 => ?_) (fun c_16 => ?_)
        · refine lv_iconst (v := nI 0) hx hb dX1_reset_93 (by decide) ?_
          exact ret _ _ _ _ _ _ dX1_reset_94 (pY_of (spReset_2 hm0 (lst_zero (fun j h1 h2 => hno j h1 (by omega))))) hX
        · refine lv_aload_n hx hb dX1_reset_19 rfl (lv_at hl 0 rfl) ?_
          refine lv_bipush (v := nI 8) hx hb dX1_reset_20 (by decide) ?_
          refine lv_iload_n hx hb dX1_reset_22 rfl (lv_at hl 1 rfl) ?_
          refine n_imul hx hb dX1_reset_23 ?_
          refine lv_iload_n hx hb dX1_reset_24 rfl (lv_at hl 2 rfl) ?_
          refine callYi S hA hX (mY_goal l sz nx an ct mb (8 * m0) c1 hw (by omega) (by rw [show 8 * m0 / 8 = m0 by omega, show 8 * m0 % 8 = 0 by omega]; exact h00) hc1 (by omega)) (cwV 2 S.2.2.2.2 (lw_V q220 q222 qs11 q19 q223) rfl rfl rfl (by decide +kernel) ⟨Nat.le_of_ble_eq_true rfl, Nat.le_of_ble_eq_true rfl⟩) rfl hl.1 rfl (Nat.le_of_ble_eq_true rfl) dX1_reset_25 ⟨Nat.zero_le _, Nat.zero_le _⟩ (fun r u1 H locs hq hX => ?_)
          obtain ⟨rfl, rfl⟩ := hq
          refine n_top (y := nI (gl nx m0 0 c1)) (congrArg nI (by rw [show 8 * m0 / 8 = m0 by omega, show 8 * m0 % 8 = 0 by omega])) ?_
          have g0 := gl_lt hw hm0 h00 c1
          refine lv_istore_n (lv' := [(3, .int (nI (gl nx m0 0 c1))), (0, .ref h), (1, .int (nI m0)), (2, .int (nI c1))]) hx hb dX1_reset_28 rfl hl (by decide) rfl (fun ls hl => ?_)
          refine lv_iconst (v := nI 1) hx hb dX1_reset_29 (by decide) ?_
          refine lv_istore (lv' := [(4, .int (nI 1)), (3, .int (nI (gl nx m0 0 c1))), (0, .ref h), (1, .int (nI m0)), (2, .int (nI c1))]) hx hb dX1_reset_30 hl (by decide) rfl (fun ls hl => ?_)
          refine lv_iconst (v := nI 1) hx hb dX1_reset_32 (by decide) ?_
          refine lv_istore (lv' := [(5, .int (nI 1)), (4, .int (nI 1)), (3, .int (nI (gl nx m0 0 c1))), (0, .ref h), (1, .int (nI m0)), (2, .int (nI c1))]) hx hb dX1_reset_33 hl (by decide) rfl (fun ls hl => ?_)
          have lp2 : ∀ (N2 : Nat) (t1 : Nat), (1 ≤ t1) → (t1 ≤ sz m0) → sz m0 - t1 < N2 → ∀ (H : Heap) (locs : List Loc) (ls : Array Slot), HY G d h a A s (sz, nx, an, ct, mb) H locs → lv_has ls 6 [(0, .ref h), (1, .int (nI m0)), (2, .int (nI c1)), (3, .int (nI (gl nx m0 0 c1))), (4, .int (nI (pick (∀ t0, t0 < t1 → gl nx m0 t0 c1 = gl nx m0 0 c1) 1 0))), (5, .int (nI t1))] → W p l e rmX1_reset s m args below meth c H locs 0 0 Q (F0 m 35 ls []) := by
            intro N2
            induction N2 with
            | zero =>
              intro t1 ht1 ht hms
              exact absurd hms (Nat.not_lt_zero _)
            | succ N2 ih2 =>
              intro t1 ht1 ht hms H locs ls hX hl
              refine lv_iload hx hb dX1_reset_35 (lv_at hl 5 rfl) ?_
              refine lv_aload_n hx hb dX1_reset_37 rfl (lv_at hl 0 rfl) ?_
              refine yg0 S hX dX1_reset_38 ?_
              refine lv_iload_n hx hb dX1_reset_41 rfl (lv_at hl 1 rfl) ?_
              refine yl0 S hX dX1_reset_42 (by omega) ?_
              have b_42 := hZ m0
              refine n_icmp_ge (tgt := 80) hx hb dX1_reset_43 (by decide) (by omega) (by omega) (fun c_43 => ?_) (fun c_43 => ?_)
              · refine lv_iload hx hb dX1_reset_80 (lv_at hl 4 rfl) ?_
                refine n_if_eq (tgt := 87) hx hb dX1_reset_82 (by decide) (pick_lt (by decide) (by decide)) (fun c_82 => ?_) (fun c_82 => ?_)
                · refine lv_iinc (v := (nI (c1 + 1))) (lv' := [(2, .int (nI (c1 + 1))), (0, .ref h), (1, .int (nI m0)), (3, .int (nI (gl nx m0 0 c1))), (4, .int (nI (pick (∀ t0, t0 < t1 → gl nx m0 t0 c1 = gl nx m0 0 c1) 1 0))), (5, .int (nI t1))]) hx hb dX1_reset_87 hl (k := 2) rfl (nI_1 _) (by decide) rfl (fun ls hl => ?_)
                  refine lv_goto (tgt := 12) hx hb dX1_reset_90 (by decide) ?_
                  exact ih (c1 + 1) (by omega) (by omega) (fun j h1 h2 => by rcases Nat.lt_or_ge j c1 with z | z; exact hno j h1 z; (have e : j = c1 := (by omega)); subst e; exact fun z => pick_0 c_82 (fun t0 h0 => z t0 (by omega))) (by omega) _ _ _ hX (lv_sub hl [1, 2, 0] rfl)
                · refine lv_iload_n hx hb dX1_reset_85 rfl (lv_at hl 2 rfl) ?_
                  exact ret _ _ _ _ _ _ dX1_reset_86 (by first | exact absurd c_48 c_82 | exact pY_of (spReset_2 hm0 (lst_is hc1 (fun s hs => pick_1 c_82 s (by omega)) hno (by omega)))) hX
              · refine lv_iload hx hb dX1_reset_46 (lv_at hl 4 rfl) ?_
                refine n_if_eq (tgt := 80) hx hb dX1_reset_48 (by decide) (pick_lt (by decide) (by decide)) (fun c_48 => ?_) (fun c_48 => ?_)
                · refine lv_iload hx hb dX1_reset_80 (lv_at hl 4 rfl) ?_
                  refine n_if_eq (tgt := 87) hx hb dX1_reset_82 (by decide) (pick_lt (by decide) (by decide)) (fun c_82 => ?_) (fun c_82 => ?_)
                  · refine lv_iinc (v := (nI (c1 + 1))) (lv' := [(2, .int (nI (c1 + 1))), (0, .ref h), (1, .int (nI m0)), (3, .int (nI (gl nx m0 0 c1))), (4, .int (nI (pick (∀ t0, t0 < t1 → gl nx m0 t0 c1 = gl nx m0 0 c1) 1 0))), (5, .int (nI t1))]) hx hb dX1_reset_87 hl (k := 2) rfl (nI_1 _) (by decide) rfl (fun ls hl => ?_)
                    refine lv_goto (tgt := 12) hx hb dX1_reset_90 (by decide) ?_
                    exact ih (c1 + 1) (by omega) (by omega) (fun j h1 h2 => by rcases Nat.lt_or_ge j c1 with z | z; exact hno j h1 z; (have e : j = c1 := (by omega)); subst e; exact fun z => pick_0 c_82 (fun t0 h0 => z t0 (by omega))) (by omega) _ _ _ hX (lv_sub hl [1, 2, 0] rfl)
                  · refine lv_iload_n hx hb dX1_reset_85 rfl (lv_at hl 2 rfl) ?_
                    exact ret _ _ _ _ _ _ dX1_reset_86 (by first | exact absurd c_48 c_82 | exact pY_of (spReset_2 hm0 (lst_is hc1 (fun s hs => pick_1 c_82 s (by omega)) hno (by omega)))) hX
                · refine lv_aload_n hx hb dX1_reset_51 rfl (lv_at hl 0 rfl) ?_
                  refine lv_bipush (v := nI 8) hx hb dX1_reset_52 (by decide) ?_
                  refine lv_iload_n hx hb dX1_reset_54 rfl (lv_at hl 1 rfl) ?_
                  refine n_imul hx hb dX1_reset_55 ?_
                  refine lv_iload hx hb dX1_reset_56 (lv_at hl 5 rfl) ?_
                  refine n_iadd hx hb dX1_reset_58 ?_
                  refine lv_iload_n hx hb dX1_reset_59 rfl (lv_at hl 2 rfl) ?_
                  refine callYi S hA hX (mY_goal l sz nx an ct mb (8 * m0 + t1) c1 hw (by omega) (by rw [show (8 * m0 + t1) / 8 = m0 by omega, show (8 * m0 + t1) % 8 = t1 by omega]; omega) hc1 (by omega)) (cwV 2 S.2.2.2.2 (lw_V q220 q222 qs11 q19 q223) rfl rfl rfl (by decide +kernel) ⟨Nat.le_of_ble_eq_true rfl, Nat.le_of_ble_eq_true rfl⟩) rfl hl.1 rfl (Nat.le_of_ble_eq_true rfl) dX1_reset_60 ⟨Nat.zero_le _, Nat.zero_le _⟩ (fun r u1 H locs hq hX => ?_)
                  obtain ⟨rfl, rfl⟩ := hq
                  refine n_top (y := nI (gl nx m0 t1 c1)) (congrArg nI (by rw [show (8 * m0 + t1) / 8 = m0 by omega, show (8 * m0 + t1) % 8 = t1 by omega])) ?_
                  have g1 := gl_lt hw hm0 (s := t1) (by omega) c1
                  refine lv_iload_n hx hb dX1_reset_63 rfl (lv_at hl 3 rfl) ?_
                  refine n_icmp_ne (tgt := 71) hx hb dX1_reset_64 (by decide) (by omega) (by omega) (fun c_64 => ?_) (fun c_64 => ?_)
                  · refine lv_iconst (v := nI 0) hx hb dX1_reset_71 (by decide) ?_
                    refine n_top (y := (nI (pick (∀ t0, t0 < t1 + 1 → gl nx m0 t0 c1 = gl nx m0 0 c1) 1 0))) (congrArg nI ((pick_f (fun z => c_64 (z t1 (by omega)))).symm)) ?_
                    refine lv_istore (lv' := [(4, .int (nI (pick (∀ t0, t0 < t1 + 1 → gl nx m0 t0 c1 = gl nx m0 0 c1) 1 0))), (0, .ref h), (1, .int (nI m0)), (2, .int (nI c1)), (3, .int (nI (gl nx m0 0 c1))), (5, .int (nI t1))]) hx hb dX1_reset_72 hl (by decide) rfl (fun ls hl => ?_)
                    refine lv_iinc (v := (nI (t1 + 1))) (lv' := [(5, .int (nI (t1 + 1))), (4, .int (nI (pick (∀ t0, t0 < t1 + 1 → gl nx m0 t0 c1 = gl nx m0 0 c1) 1 0))), (0, .ref h), (1, .int (nI m0)), (2, .int (nI c1)), (3, .int (nI (gl nx m0 0 c1)))]) hx hb dX1_reset_74 hl (k := 5) rfl (nI_1 _) (by decide) rfl (fun ls hl => ?_)
                    refine lv_goto (tgt := 35) hx hb dX1_reset_77 (by decide) ?_
                    exact ih2 (t1 + 1) (by omega) (by omega) (by omega) _ _ _ hX (lv_sub hl [2, 3, 4, 5, 1, 0] rfl)
                  · refine lv_iconst (v := nI 1) hx hb dX1_reset_67 (by decide) ?_
                    refine lv_goto (tgt := 72) hx hb dX1_reset_68 (by decide) ?_
                    refine n_top (y := (nI (pick (∀ t0, t0 < t1 + 1 → gl nx m0 t0 c1 = gl nx m0 0 c1) 1 0))) (congrArg nI ((pick_t (fun t0 h0 => by rcases Nat.lt_or_ge t0 t1 with z | z; exact pick_1 c_48 t0 z; (have e : t0 = t1 := (by omega)); subst e; exact c_64)).symm)) ?_
                    refine lv_istore (lv' := [(4, .int (nI (pick (∀ t0, t0 < t1 + 1 → gl nx m0 t0 c1 = gl nx m0 0 c1) 1 0))), (0, .ref h), (1, .int (nI m0)), (2, .int (nI c1)), (3, .int (nI (gl nx m0 0 c1))), (5, .int (nI t1))]) hx hb dX1_reset_72 hl (by decide) rfl (fun ls hl => ?_)
                    refine lv_iinc (v := (nI (t1 + 1))) (lv' := [(5, .int (nI (t1 + 1))), (4, .int (nI (pick (∀ t0, t0 < t1 + 1 → gl nx m0 t0 c1 = gl nx m0 0 c1) 1 0))), (0, .ref h), (1, .int (nI m0)), (2, .int (nI c1)), (3, .int (nI (gl nx m0 0 c1)))]) hx hb dX1_reset_74 hl (k := 5) rfl (nI_1 _) (by decide) rfl (fun ls hl => ?_)
                    refine lv_goto (tgt := 35) hx hb dX1_reset_77 (by decide) ?_
                    exact ih2 (t1 + 1) (by omega) (by omega) (by omega) _ _ _ hX (lv_sub hl [2, 3, 4, 5, 1, 0] rfl)
          have hl := lv_sub hl [3, 4, 5, 2, 1, 0] rfl
          exact lp2 _ 1 (by omega) (by omega) (Nat.lt_succ_self _) _ _ _ hX (by rw [pick_t (c := ∀ t0, t0 < 1 → gl nx m0 t0 c1 = gl nx m0 0 c1) (fun t0 h0 => by rw [show t0 = 0 by omega])]; exact hl)
    exact lp _ 1 (by omega) (by omega) (fun j h1 h2 => by omega) (Nat.lt_succ_self _) _ _ _ hX (lv_sub hl [1, 2, 0] rfl)
  · refine lv_aload_n hx hb dX1_reset_0 rfl (lv_at hl 0 rfl) ?_
    refine lv_iload_n hx hb dX1_reset_1 rfl (lv_at hl 1 rfl) ?_
    refine callYi S hA hX (mY_bad l sz nx an ct mb x) (cwV 1 S.2.2.2.2 (lw_V q192 q194 qs9 q19 q195) rfl rfl rfl (by decide +kernel) ⟨Nat.le_of_ble_eq_true rfl, Nat.le_of_ble_eq_true rfl⟩) rfl hl.1 rfl (Nat.le_of_ble_eq_true rfl) dX1_reset_2 ⟨Nat.zero_le _, Nat.zero_le _⟩ (fun r u1 H locs hq hX => ?_)
    obtain ⟨rfl, rfl⟩ := hq
    refine n_top (congrArg nI (if_pos hm)) ?_
    refine n_if_eq (tgt := 10) hx hb dX1_reset_5 (by decide) (by decide) (fun q => absurd q (by decide)) (fun _ => ?_)
    refine lv_iconst (v := -1) hx hb dX1_reset_8 (by decide) ?_
    exact ret _ _ _ _ _ _ dX1_reset_9 (pY_of (spReset_1 hm)) hX
end
section
set_option maxRecDepth 100000
/-! the constructors -/
theorem int_class {G : va_G} {cl : List vw_C} {s : State} {d d1 : ClassId} (h : va_K G cl [(d, .int), (d1, .int)] s) : d1 = d := by
  have h0 : s.vm.findClass ("[" ++ FieldType.int.toString) = some d := (h.2 0 (d, .int) rfl).2
  have h1 : s.vm.findClass ("[" ++ FieldType.int.toString) = some d1 := (h.2 1 (d1, .int) rfl).2
  exact Option.some.inj (h1.symm.trans h0)
abbrev nuX : List Value := [.null, .null, .null, .null, .null, .null, .null, .null, .int 0, .int 0]
abbrev nuY : List Value := [.null, .null, .null, .int 0, .null]
abbrev sz00 : Nat → Nat := updN (updN (fun _ => 0) 0 1) 1 1
abbrev uX0 : UX := (sz00, fun _ => 0, fun _ => 0, fun _ => 0, fun _ => 0, fun _ => 0, fun _ => 0, fun _ => 0, 0, 0)
abbrev uY0 : UY := (sz00, fun _ => 0, fun _ => 0, 0, fun _ => 0)
def BXi (G : va_G) (h : Nat) (A : Nat → Prop) (u : UX) (t : State) : Prop := ∃ (d : ClassId) (a : Nat → Nat), va_P G vwCl (wX d h a u) t.heap ∧ va_K G vwCl [(d, .int)] t ∧ va_D A (wX d h a u)
def BYi (G : va_G) (h : Nat) (A : Nat → Prop) (u : UY) (t : State) : Prop := ∃ (d : ClassId) (a : Nat → Nat), va_P G vwCl (wY d h a u) t.heap ∧ va_K G vwCl [(d, .int)] t ∧ va_D A (wY d h a u)
set_option maxHeartbeats 4000000 in
set_option maxRecDepth 100000 in
theorem mX_init (l : Launch) (G : va_G) (h sz0 : Nat) : Met l yX0_init (ws_ yX0_init cX0_init 1 none) { frames := 1, cells := 8, slots := 346, locals := 12 } (va_Pc [.ref h] (fun U => U.heap.size = sz0 ∧ va_P G vwCl [(h, .inr (0, nuX))] U.heap ∧ va_K G vwCl [] U ∧ va_D (fun _ => True) [(h, .inr (0, nuX))])) (va_Qv (fun u => u = uX0) (BXi G h (va_A [(h, .inr (0, nuX))] sz0)) (va_A [(h, .inr (0, nuX))] sz0)) 8 346 (va_A [(h, .inr (0, nuX))] sz0) := by
  refine Met.ofW (cc := cX0_init) (maxL := 1) (ret := none) (by decide) rfl ?_
  intro p e s m args below meth c s₁ B hml hv
  obtain ⟨rfl, hsz, hP, hK, hD0⟩ := hv
  have hx := B.exec
  have hb := B.bytes
  have hr := B.returns
  have hts := atoms_spec (ws := ws_ yX0_init cX0_init 1 none) B.pre
  have hts : ∀ w ∈ lw_all, w.before _ s = true := fun w h => hts w (List.mem_cons_of_mem _ h)
  have hown : s.vm.findClass RX0 = some m.cls := findClass_of_methodNamed B.named
  have hlocks := B.notSynchronized
  have hin : meth.name = "<init>" := (name_of_methodNamed B.named B.method).1
  subst hsz
  have hD := hD0.self (sz := s.heap.size)
  generalize hAe : va_A [(h, .inr (0, nuX))] s.heap.size = A at hD ⊢
  have hA : ∀ q : Nat, s.heap.size ≤ q → A q := fun q h => by rw [← hAe]; exact Or.inr h
  have hS : va_S A s.heap s.heap [] := va_S.rf
  have hP : va_P G vwCl [(h, .inr (0, nuX))] s.heap := hP
  have hl := lv_entry ([.ref h]) (n := 1) (Nat.le_of_ble_eq_true rfl)
  rw [lg_entry_eq]
  generalize (lg_sl ([.ref h]) ++ List.replicate (1 - (lg_sl ([.ref h])).length) Slot.unset).toArray = ls at hl ⊢
  have hl : lv_has ls 1 [(0, .ref h)] := hl
  have S : CallFix p m c cX0_init 1 s _ lw_all RX0 := ⟨hx, hb, hml, hown, hts⟩
  refine lv_aload_n hx hb dX0_init_0 rfl (lv_at hl 0 rfl) ?_
  refine W.objInit hx hb hown (hts _ q25) (hts _ q26) (hts _ q27) rfl (by rw [hml]; exact hl.1) rfl dX0_init_1 (Nat.le_of_ble_eq_true rfl) (Nat.le_of_ble_eq_true rfl) ?_
  refine W.eq (g2 := F0 m 4 ls []) rfl ?_
  refine lv_aload_n hx hb dX0_init_4 rfl (lv_at hl 0 rfl) ?_
  refine lv_iconst (v := nI 2) hx hb dX0_init_5 (by decide) ?_
  refine va_newa (atype := .int) (ty := .int) (N' := 2) (a0 := (2, .inl (fun _ => nI 0))) hx hb (hts _ q59) rfl hK hP hD hS hA (fun _ => rfl) (by decide) (by decide) (by decide) (Nat.le_of_ble_eq_true rfl) (Nat.le_of_ble_eq_true rfl) dX0_init_6 (fun a0 d H hK hP hD hS => ?_)
  have hK : va_K G vwCl [(d, .int)] s := hK
  refine W.widen (k := 1) (n := 2) (by omega) (by first | omega | (dsimp only; omega)) ?_
  have hP : va_P G vwCl [(h, .inr (0, [.null, .null, .null, .null, .null, .null, .null, .null, .int 0, .int 0])), (a0, .inl (d, 2, .inl (fun _ => nI 0)))] H := hP
  have hD : va_D A [(h, .inr (0, [.null, .null, .null, .null, .null, .null, .null, .null, .int 0, .int 0])), (a0, .inl (d, 2, .inl (fun _ => nI 0)))] := hD
  refine va_putF (D := G) (ci := 0) (v := .ref a0) (ty := .array .int) (C := RX0) (T := TX0) (N := 10) hx hb hts in_X0 tyX0 tyX0_ok nmX0 hown hK hP hD hS 0 rfl rfl 0 (by decide) (hts _ q28) (fun _ h9 => h9) rfl hin rfl (by decide +kernel) rfl rfl (Nat.le_of_ble_eq_true rfl) dX0_init_8 (fun H locs hP hD hS => ?_)
  have hP : va_P G vwCl [(h, .inr (0, [.ref a0, .null, .null, .null, .null, .null, .null, .null, .int 0, .int 0])), (a0, .inl (d, 2, .inl (fun _ => nI 0)))] H := hP
  have hD : va_D A [(h, .inr (0, [.ref a0, .null, .null, .null, .null, .null, .null, .null, .int 0, .int 0])), (a0, .inl (d, 2, .inl (fun _ => nI 0)))] := hD
  refine lv_aload_n hx hb dX0_init_11 rfl (lv_at hl 0 rfl) ?_
  refine lv_bipush (v := nI 24) hx hb dX0_init_12 (by decide) ?_
  refine va_newa (atype := .int) (ty := .int) (N' := 24) (a0 := (24, .inl (fun _ => nI 0))) hx hb (hts _ q59) rfl hK hP hD hS hA (fun _ => rfl) (by decide) (by decide) (by decide) (Nat.le_of_ble_eq_true rfl) (Nat.le_of_ble_eq_true rfl) dX0_init_14 (fun a1 d1 H hK hP hD hS => ?_)
  have hK : va_K G vwCl [(d, .int), (d1, .int)] s := hK
  have e1 := int_class hK
  have hP : va_P G vwCl [(h, .inr (0, [.ref a0, .null, .null, .null, .null, .null, .null, .null, .int 0, .int 0])), (a0, .inl (d, 2, .inl (fun _ => nI 0))), (a1, .inl (d1, 24, .inl (fun _ => nI 0)))] H := hP
  have hD : va_D A [(h, .inr (0, [.ref a0, .null, .null, .null, .null, .null, .null, .null, .int 0, .int 0])), (a0, .inl (d, 2, .inl (fun _ => nI 0))), (a1, .inl (d1, 24, .inl (fun _ => nI 0)))] := hD
  rw [e1] at hP hD
  have hK : va_K G vwCl [(d, .int)] s := hK.sub [0] rfl
  refine W.widen (k := 2) (n := 26) (by omega) (by first | omega | (dsimp only; omega)) ?_
  have hP : va_P G vwCl [(h, .inr (0, [.ref a0, .null, .null, .null, .null, .null, .null, .null, .int 0, .int 0])), (a0, .inl (d, 2, .inl (fun _ => nI 0))), (a1, .inl (d, 24, .inl (fun _ => nI 0)))] H := hP
  have hD : va_D A [(h, .inr (0, [.ref a0, .null, .null, .null, .null, .null, .null, .null, .int 0, .int 0])), (a0, .inl (d, 2, .inl (fun _ => nI 0))), (a1, .inl (d, 24, .inl (fun _ => nI 0)))] := hD
  refine va_putF (D := G) (ci := 0) (v := .ref a1) (ty := .array .int) (C := RX0) (T := TX0) (N := 10) hx hb hts in_X0 tyX0 tyX0_ok nmX0 hown hK hP hD hS 0 rfl rfl 1 (by decide) (hts _ q29) (fun _ h9 => h9) rfl hin rfl (by decide +kernel) rfl rfl (Nat.le_of_ble_eq_true rfl) dX0_init_16 (fun H locs hP hD hS => ?_)
  have hP : va_P G vwCl [(h, .inr (0, [.ref a0, .ref a1, .null, .null, .null, .null, .null, .null, .int 0, .int 0])), (a0, .inl (d, 2, .inl (fun _ => nI 0))), (a1, .inl (d, 24, .inl (fun _ => nI 0)))] H := hP
  have hD : va_D A [(h, .inr (0, [.ref a0, .ref a1, .null, .null, .null, .null, .null, .null, .int 0, .int 0])), (a0, .inl (d, 2, .inl (fun _ => nI 0))), (a1, .inl (d, 24, .inl (fun _ => nI 0)))] := hD
  refine lv_aload_n hx hb dX0_init_19 rfl (lv_at hl 0 rfl) ?_
  refine lv_bipush (v := nI 24) hx hb dX0_init_20 (by decide) ?_
  refine va_newa (atype := .int) (ty := .int) (N' := 24) (a0 := (24, .inl (fun _ => nI 0))) hx hb (hts _ q59) rfl hK hP hD hS hA (fun _ => rfl) (by decide) (by decide) (by decide) (Nat.le_of_ble_eq_true rfl) (Nat.le_of_ble_eq_true rfl) dX0_init_22 (fun a2 d1 H hK hP hD hS => ?_)
  have hK : va_K G vwCl [(d, .int), (d1, .int)] s := hK
  have e1 := int_class hK
  have hP : va_P G vwCl [(h, .inr (0, [.ref a0, .ref a1, .null, .null, .null, .null, .null, .null, .int 0, .int 0])), (a0, .inl (d, 2, .inl (fun _ => nI 0))), (a1, .inl (d, 24, .inl (fun _ => nI 0))), (a2, .inl (d1, 24, .inl (fun _ => nI 0)))] H := hP
  have hD : va_D A [(h, .inr (0, [.ref a0, .ref a1, .null, .null, .null, .null, .null, .null, .int 0, .int 0])), (a0, .inl (d, 2, .inl (fun _ => nI 0))), (a1, .inl (d, 24, .inl (fun _ => nI 0))), (a2, .inl (d1, 24, .inl (fun _ => nI 0)))] := hD
  rw [e1] at hP hD
  have hK : va_K G vwCl [(d, .int)] s := hK.sub [0] rfl
  refine W.widen (k := 3) (n := 50) (by omega) (by first | omega | (dsimp only; omega)) ?_
  have hP : va_P G vwCl [(h, .inr (0, [.ref a0, .ref a1, .null, .null, .null, .null, .null, .null, .int 0, .int 0])), (a0, .inl (d, 2, .inl (fun _ => nI 0))), (a1, .inl (d, 24, .inl (fun _ => nI 0))), (a2, .inl (d, 24, .inl (fun _ => nI 0)))] H := hP
  have hD : va_D A [(h, .inr (0, [.ref a0, .ref a1, .null, .null, .null, .null, .null, .null, .int 0, .int 0])), (a0, .inl (d, 2, .inl (fun _ => nI 0))), (a1, .inl (d, 24, .inl (fun _ => nI 0))), (a2, .inl (d, 24, .inl (fun _ => nI 0)))] := hD
  refine va_putF (D := G) (ci := 0) (v := .ref a2) (ty := .array .int) (C := RX0) (T := TX0) (N := 10) hx hb hts in_X0 tyX0 tyX0_ok nmX0 hown hK hP hD hS 0 rfl rfl 2 (by decide) (hts _ q30) (fun _ h9 => h9) rfl hin rfl (by decide +kernel) rfl rfl (Nat.le_of_ble_eq_true rfl) dX0_init_24 (fun H locs hP hD hS => ?_)
  have hP : va_P G vwCl [(h, .inr (0, [.ref a0, .ref a1, .ref a2, .null, .null, .null, .null, .null, .int 0, .int 0])), (a0, .inl (d, 2, .inl (fun _ => nI 0))), (a1, .inl (d, 24, .inl (fun _ => nI 0))), (a2, .inl (d, 24, .inl (fun _ => nI 0)))] H := hP
  have hD : va_D A [(h, .inr (0, [.ref a0, .ref a1, .ref a2, .null, .null, .null, .null, .null, .int 0, .int 0])), (a0, .inl (d, 2, .inl (fun _ => nI 0))), (a1, .inl (d, 24, .inl (fun _ => nI 0))), (a2, .inl (d, 24, .inl (fun _ => nI 0)))] := hD
  refine lv_aload_n hx hb dX0_init_27 rfl (lv_at hl 0 rfl) ?_
  refine lv_sipush (v := nI 144) hx hb dX0_init_28 (by decide) ?_
  refine va_newa (atype := .int) (ty := .int) (N' := 144) (a0 := (144, .inl (fun _ => nI 0))) hx hb (hts _ q59) rfl hK hP hD hS hA (fun _ => rfl) (by decide) (by decide) (by decide) (Nat.le_of_ble_eq_true rfl) (Nat.le_of_ble_eq_true rfl) dX0_init_31 (fun a3 d1 H hK hP hD hS => ?_)
  have hK : va_K G vwCl [(d, .int), (d1, .int)] s := hK
  have e1 := int_class hK
  have hP : va_P G vwCl [(h, .inr (0, [.ref a0, .ref a1, .ref a2, .null, .null, .null, .null, .null, .int 0, .int 0])), (a0, .inl (d, 2, .inl (fun _ => nI 0))), (a1, .inl (d, 24, .inl (fun _ => nI 0))), (a2, .inl (d, 24, .inl (fun _ => nI 0))), (a3, .inl (d1, 144, .inl (fun _ => nI 0)))] H := hP
  have hD : va_D A [(h, .inr (0, [.ref a0, .ref a1, .ref a2, .null, .null, .null, .null, .null, .int 0, .int 0])), (a0, .inl (d, 2, .inl (fun _ => nI 0))), (a1, .inl (d, 24, .inl (fun _ => nI 0))), (a2, .inl (d, 24, .inl (fun _ => nI 0))), (a3, .inl (d1, 144, .inl (fun _ => nI 0)))] := hD
  rw [e1] at hP hD
  have hK : va_K G vwCl [(d, .int)] s := hK.sub [0] rfl
  refine W.widen (k := 4) (n := 194) (by omega) (by first | omega | (dsimp only; omega)) ?_
  have hP : va_P G vwCl [(h, .inr (0, [.ref a0, .ref a1, .ref a2, .null, .null, .null, .null, .null, .int 0, .int 0])), (a0, .inl (d, 2, .inl (fun _ => nI 0))), (a1, .inl (d, 24, .inl (fun _ => nI 0))), (a2, .inl (d, 24, .inl (fun _ => nI 0))), (a3, .inl (d, 144, .inl (fun _ => nI 0)))] H := hP
  have hD : va_D A [(h, .inr (0, [.ref a0, .ref a1, .ref a2, .null, .null, .null, .null, .null, .int 0, .int 0])), (a0, .inl (d, 2, .inl (fun _ => nI 0))), (a1, .inl (d, 24, .inl (fun _ => nI 0))), (a2, .inl (d, 24, .inl (fun _ => nI 0))), (a3, .inl (d, 144, .inl (fun _ => nI 0)))] := hD
  refine va_putF (D := G) (ci := 0) (v := .ref a3) (ty := .array .int) (C := RX0) (T := TX0) (N := 10) hx hb hts in_X0 tyX0 tyX0_ok nmX0 hown hK hP hD hS 0 rfl rfl 3 (by decide) (hts _ q31) (fun _ h9 => h9) rfl hin rfl (by decide +kernel) rfl rfl (Nat.le_of_ble_eq_true rfl) dX0_init_33 (fun H locs hP hD hS => ?_)
  have hP : va_P G vwCl [(h, .inr (0, [.ref a0, .ref a1, .ref a2, .ref a3, .null, .null, .null, .null, .int 0, .int 0])), (a0, .inl (d, 2, .inl (fun _ => nI 0))), (a1, .inl (d, 24, .inl (fun _ => nI 0))), (a2, .inl (d, 24, .inl (fun _ => nI 0))), (a3, .inl (d, 144, .inl (fun _ => nI 0)))] H := hP
  have hD : va_D A [(h, .inr (0, [.ref a0, .ref a1, .ref a2, .ref a3, .null, .null, .null, .null, .int 0, .int 0])), (a0, .inl (d, 2, .inl (fun _ => nI 0))), (a1, .inl (d, 24, .inl (fun _ => nI 0))), (a2, .inl (d, 24, .inl (fun _ => nI 0))), (a3, .inl (d, 144, .inl (fun _ => nI 0)))] := hD
  refine lv_aload_n hx hb dX0_init_36 rfl (lv_at hl 0 rfl) ?_
  refine lv_bipush (v := nI 12) hx hb dX0_init_37 (by decide) ?_
  refine va_newa (atype := .int) (ty := .int) (N' := 12) (a0 := (12, .inl (fun _ => nI 0))) hx hb (hts _ q59) rfl hK hP hD hS hA (fun _ => rfl) (by decide) (by decide) (by decide) (Nat.le_of_ble_eq_true rfl) (Nat.le_of_ble_eq_true rfl) dX0_init_39 (fun a4 d1 H hK hP hD hS => ?_)
  have hK : va_K G vwCl [(d, .int), (d1, .int)] s := hK
  have e1 := int_class hK
  have hP : va_P G vwCl [(h, .inr (0, [.ref a0, .ref a1, .ref a2, .ref a3, .null, .null, .null, .null, .int 0, .int 0])), (a0, .inl (d, 2, .inl (fun _ => nI 0))), (a1, .inl (d, 24, .inl (fun _ => nI 0))), (a2, .inl (d, 24, .inl (fun _ => nI 0))), (a3, .inl (d, 144, .inl (fun _ => nI 0))), (a4, .inl (d1, 12, .inl (fun _ => nI 0)))] H := hP
  have hD : va_D A [(h, .inr (0, [.ref a0, .ref a1, .ref a2, .ref a3, .null, .null, .null, .null, .int 0, .int 0])), (a0, .inl (d, 2, .inl (fun _ => nI 0))), (a1, .inl (d, 24, .inl (fun _ => nI 0))), (a2, .inl (d, 24, .inl (fun _ => nI 0))), (a3, .inl (d, 144, .inl (fun _ => nI 0))), (a4, .inl (d1, 12, .inl (fun _ => nI 0)))] := hD
  rw [e1] at hP hD
  have hK : va_K G vwCl [(d, .int)] s := hK.sub [0] rfl
  refine W.widen (k := 5) (n := 206) (by omega) (by first | omega | (dsimp only; omega)) ?_
  have hP : va_P G vwCl [(h, .inr (0, [.ref a0, .ref a1, .ref a2, .ref a3, .null, .null, .null, .null, .int 0, .int 0])), (a0, .inl (d, 2, .inl (fun _ => nI 0))), (a1, .inl (d, 24, .inl (fun _ => nI 0))), (a2, .inl (d, 24, .inl (fun _ => nI 0))), (a3, .inl (d, 144, .inl (fun _ => nI 0))), (a4, .inl (d, 12, .inl (fun _ => nI 0)))] H := hP
  have hD : va_D A [(h, .inr (0, [.ref a0, .ref a1, .ref a2, .ref a3, .null, .null, .null, .null, .int 0, .int 0])), (a0, .inl (d, 2, .inl (fun _ => nI 0))), (a1, .inl (d, 24, .inl (fun _ => nI 0))), (a2, .inl (d, 24, .inl (fun _ => nI 0))), (a3, .inl (d, 144, .inl (fun _ => nI 0))), (a4, .inl (d, 12, .inl (fun _ => nI 0)))] := hD
  refine va_putF (D := G) (ci := 0) (v := .ref a4) (ty := .array .int) (C := RX0) (T := TX0) (N := 10) hx hb hts in_X0 tyX0 tyX0_ok nmX0 hown hK hP hD hS 0 rfl rfl 4 (by decide) (hts _ q32) (fun _ h9 => h9) rfl hin rfl (by decide +kernel) rfl rfl (Nat.le_of_ble_eq_true rfl) dX0_init_41 (fun H locs hP hD hS => ?_)
  have hP : va_P G vwCl [(h, .inr (0, [.ref a0, .ref a1, .ref a2, .ref a3, .ref a4, .null, .null, .null, .int 0, .int 0])), (a0, .inl (d, 2, .inl (fun _ => nI 0))), (a1, .inl (d, 24, .inl (fun _ => nI 0))), (a2, .inl (d, 24, .inl (fun _ => nI 0))), (a3, .inl (d, 144, .inl (fun _ => nI 0))), (a4, .inl (d, 12, .inl (fun _ => nI 0)))] H := hP
  have hD : va_D A [(h, .inr (0, [.ref a0, .ref a1, .ref a2, .ref a3, .ref a4, .null, .null, .null, .int 0, .int 0])), (a0, .inl (d, 2, .inl (fun _ => nI 0))), (a1, .inl (d, 24, .inl (fun _ => nI 0))), (a2, .inl (d, 24, .inl (fun _ => nI 0))), (a3, .inl (d, 144, .inl (fun _ => nI 0))), (a4, .inl (d, 12, .inl (fun _ => nI 0)))] := hD
  refine lv_aload_n hx hb dX0_init_44 rfl (lv_at hl 0 rfl) ?_
  refine lv_bipush (v := nI 12) hx hb dX0_init_45 (by decide) ?_
  refine va_newa (atype := .int) (ty := .int) (N' := 12) (a0 := (12, .inl (fun _ => nI 0))) hx hb (hts _ q59) rfl hK hP hD hS hA (fun _ => rfl) (by decide) (by decide) (by decide) (Nat.le_of_ble_eq_true rfl) (Nat.le_of_ble_eq_true rfl) dX0_init_47 (fun a5 d1 H hK hP hD hS => ?_)
  have hK : va_K G vwCl [(d, .int), (d1, .int)] s := hK
  have e1 := int_class hK
  have hP : va_P G vwCl [(h, .inr (0, [.ref a0, .ref a1, .ref a2, .ref a3, .ref a4, .null, .null, .null, .int 0, .int 0])), (a0, .inl (d, 2, .inl (fun _ => nI 0))), (a1, .inl (d, 24, .inl (fun _ => nI 0))), (a2, .inl (d, 24, .inl (fun _ => nI 0))), (a3, .inl (d, 144, .inl (fun _ => nI 0))), (a4, .inl (d, 12, .inl (fun _ => nI 0))), (a5, .inl (d1, 12, .inl (fun _ => nI 0)))] H := hP
  have hD : va_D A [(h, .inr (0, [.ref a0, .ref a1, .ref a2, .ref a3, .ref a4, .null, .null, .null, .int 0, .int 0])), (a0, .inl (d, 2, .inl (fun _ => nI 0))), (a1, .inl (d, 24, .inl (fun _ => nI 0))), (a2, .inl (d, 24, .inl (fun _ => nI 0))), (a3, .inl (d, 144, .inl (fun _ => nI 0))), (a4, .inl (d, 12, .inl (fun _ => nI 0))), (a5, .inl (d1, 12, .inl (fun _ => nI 0)))] := hD
  rw [e1] at hP hD
  have hK : va_K G vwCl [(d, .int)] s := hK.sub [0] rfl
  refine W.widen (k := 6) (n := 218) (by omega) (by first | omega | (dsimp only; omega)) ?_
  have hP : va_P G vwCl [(h, .inr (0, [.ref a0, .ref a1, .ref a2, .ref a3, .ref a4, .null, .null, .null, .int 0, .int 0])), (a0, .inl (d, 2, .inl (fun _ => nI 0))), (a1, .inl (d, 24, .inl (fun _ => nI 0))), (a2, .inl (d, 24, .inl (fun _ => nI 0))), (a3, .inl (d, 144, .inl (fun _ => nI 0))), (a4, .inl (d, 12, .inl (fun _ => nI 0))), (a5, .inl (d, 12, .inl (fun _ => nI 0)))] H := hP
  have hD : va_D A [(h, .inr (0, [.ref a0, .ref a1, .ref a2, .ref a3, .ref a4, .null, .null, .null, .int 0, .int 0])), (a0, .inl (d, 2, .inl (fun _ => nI 0))), (a1, .inl (d, 24, .inl (fun _ => nI 0))), (a2, .inl (d, 24, .inl (fun _ => nI 0))), (a3, .inl (d, 144, .inl (fun _ => nI 0))), (a4, .inl (d, 12, .inl (fun _ => nI 0))), (a5, .inl (d, 12, .inl (fun _ => nI 0)))] := hD
  refine va_putF (D := G) (ci := 0) (v := .ref a5) (ty := .array .int) (C := RX0) (T := TX0) (N := 10) hx hb hts in_X0 tyX0 tyX0_ok nmX0 hown hK hP hD hS 0 rfl rfl 5 (by decide) (hts _ q33) (fun _ h9 => h9) rfl hin rfl (by decide +kernel) rfl rfl (Nat.le_of_ble_eq_true rfl) dX0_init_49 (fun H locs hP hD hS => ?_)
  have hP : va_P G vwCl [(h, .inr (0, [.ref a0, .ref a1, .ref a2, .ref a3, .ref a4, .ref a5, .null, .null, .int 0, .int 0])), (a0, .inl (d, 2, .inl (fun _ => nI 0))), (a1, .inl (d, 24, .inl (fun _ => nI 0))), (a2, .inl (d, 24, .inl (fun _ => nI 0))), (a3, .inl (d, 144, .inl (fun _ => nI 0))), (a4, .inl (d, 12, .inl (fun _ => nI 0))), (a5, .inl (d, 12, .inl (fun _ => nI 0)))] H := hP
  have hD : va_D A [(h, .inr (0, [.ref a0, .ref a1, .ref a2, .ref a3, .ref a4, .ref a5, .null, .null, .int 0, .int 0])), (a0, .inl (d, 2, .inl (fun _ => nI 0))), (a1, .inl (d, 24, .inl (fun _ => nI 0))), (a2, .inl (d, 24, .inl (fun _ => nI 0))), (a3, .inl (d, 144, .inl (fun _ => nI 0))), (a4, .inl (d, 12, .inl (fun _ => nI 0))), (a5, .inl (d, 12, .inl (fun _ => nI 0)))] := hD
  refine lv_aload_n hx hb dX0_init_52 rfl (lv_at hl 0 rfl) ?_
  refine lv_bipush (v := nI 64) hx hb dX0_init_53 (by decide) ?_
  refine va_newa (atype := .int) (ty := .int) (N' := 64) (a0 := (64, .inl (fun _ => nI 0))) hx hb (hts _ q59) rfl hK hP hD hS hA (fun _ => rfl) (by decide) (by decide) (by decide) (Nat.le_of_ble_eq_true rfl) (Nat.le_of_ble_eq_true rfl) dX0_init_55 (fun a6 d1 H hK hP hD hS => ?_)
  have hK : va_K G vwCl [(d, .int), (d1, .int)] s := hK
  have e1 := int_class hK
  have hP : va_P G vwCl [(h, .inr (0, [.ref a0, .ref a1, .ref a2, .ref a3, .ref a4, .ref a5, .null, .null, .int 0, .int 0])), (a0, .inl (d, 2, .inl (fun _ => nI 0))), (a1, .inl (d, 24, .inl (fun _ => nI 0))), (a2, .inl (d, 24, .inl (fun _ => nI 0))), (a3, .inl (d, 144, .inl (fun _ => nI 0))), (a4, .inl (d, 12, .inl (fun _ => nI 0))), (a5, .inl (d, 12, .inl (fun _ => nI 0))), (a6, .inl (d1, 64, .inl (fun _ => nI 0)))] H := hP
  have hD : va_D A [(h, .inr (0, [.ref a0, .ref a1, .ref a2, .ref a3, .ref a4, .ref a5, .null, .null, .int 0, .int 0])), (a0, .inl (d, 2, .inl (fun _ => nI 0))), (a1, .inl (d, 24, .inl (fun _ => nI 0))), (a2, .inl (d, 24, .inl (fun _ => nI 0))), (a3, .inl (d, 144, .inl (fun _ => nI 0))), (a4, .inl (d, 12, .inl (fun _ => nI 0))), (a5, .inl (d, 12, .inl (fun _ => nI 0))), (a6, .inl (d1, 64, .inl (fun _ => nI 0)))] := hD
  rw [e1] at hP hD
  have hK : va_K G vwCl [(d, .int)] s := hK.sub [0] rfl
  refine W.widen (k := 7) (n := 282) (by omega) (by first | omega | (dsimp only; omega)) ?_
  have hP : va_P G vwCl [(h, .inr (0, [.ref a0, .ref a1, .ref a2, .ref a3, .ref a4, .ref a5, .null, .null, .int 0, .int 0])), (a0, .inl (d, 2, .inl (fun _ => nI 0))), (a1, .inl (d, 24, .inl (fun _ => nI 0))), (a2, .inl (d, 24, .inl (fun _ => nI 0))), (a3, .inl (d, 144, .inl (fun _ => nI 0))), (a4, .inl (d, 12, .inl (fun _ => nI 0))), (a5, .inl (d, 12, .inl (fun _ => nI 0))), (a6, .inl (d, 64, .inl (fun _ => nI 0)))] H := hP
  have hD : va_D A [(h, .inr (0, [.ref a0, .ref a1, .ref a2, .ref a3, .ref a4, .ref a5, .null, .null, .int 0, .int 0])), (a0, .inl (d, 2, .inl (fun _ => nI 0))), (a1, .inl (d, 24, .inl (fun _ => nI 0))), (a2, .inl (d, 24, .inl (fun _ => nI 0))), (a3, .inl (d, 144, .inl (fun _ => nI 0))), (a4, .inl (d, 12, .inl (fun _ => nI 0))), (a5, .inl (d, 12, .inl (fun _ => nI 0))), (a6, .inl (d, 64, .inl (fun _ => nI 0)))] := hD
  refine va_putF (D := G) (ci := 0) (v := .ref a6) (ty := .array .int) (C := RX0) (T := TX0) (N := 10) hx hb hts in_X0 tyX0 tyX0_ok nmX0 hown hK hP hD hS 0 rfl rfl 6 (by decide) (hts _ q34) (fun _ h9 => h9) rfl hin rfl (by decide +kernel) rfl rfl (Nat.le_of_ble_eq_true rfl) dX0_init_57 (fun H locs hP hD hS => ?_)
  have hP : va_P G vwCl [(h, .inr (0, [.ref a0, .ref a1, .ref a2, .ref a3, .ref a4, .ref a5, .ref a6, .null, .int 0, .int 0])), (a0, .inl (d, 2, .inl (fun _ => nI 0))), (a1, .inl (d, 24, .inl (fun _ => nI 0))), (a2, .inl (d, 24, .inl (fun _ => nI 0))), (a3, .inl (d, 144, .inl (fun _ => nI 0))), (a4, .inl (d, 12, .inl (fun _ => nI 0))), (a5, .inl (d, 12, .inl (fun _ => nI 0))), (a6, .inl (d, 64, .inl (fun _ => nI 0)))] H := hP
  have hD : va_D A [(h, .inr (0, [.ref a0, .ref a1, .ref a2, .ref a3, .ref a4, .ref a5, .ref a6, .null, .int 0, .int 0])), (a0, .inl (d, 2, .inl (fun _ => nI 0))), (a1, .inl (d, 24, .inl (fun _ => nI 0))), (a2, .inl (d, 24, .inl (fun _ => nI 0))), (a3, .inl (d, 144, .inl (fun _ => nI 0))), (a4, .inl (d, 12, .inl (fun _ => nI 0))), (a5, .inl (d, 12, .inl (fun _ => nI 0))), (a6, .inl (d, 64, .inl (fun _ => nI 0)))] := hD
  refine lv_aload_n hx hb dX0_init_60 rfl (lv_at hl 0 rfl) ?_
  refine lv_bipush (v := nI 64) hx hb dX0_init_61 (by decide) ?_
  refine va_newa (atype := .int) (ty := .int) (N' := 64) (a0 := (64, .inl (fun _ => nI 0))) hx hb (hts _ q59) rfl hK hP hD hS hA (fun _ => rfl) (by decide) (by decide) (by decide) (Nat.le_of_ble_eq_true rfl) (Nat.le_of_ble_eq_true rfl) dX0_init_63 (fun a7 d1 H hK hP hD hS => ?_)
  have hK : va_K G vwCl [(d, .int), (d1, .int)] s := hK
  have e1 := int_class hK
  have hP : va_P G vwCl [(h, .inr (0, [.ref a0, .ref a1, .ref a2, .ref a3, .ref a4, .ref a5, .ref a6, .null, .int 0, .int 0])), (a0, .inl (d, 2, .inl (fun _ => nI 0))), (a1, .inl (d, 24, .inl (fun _ => nI 0))), (a2, .inl (d, 24, .inl (fun _ => nI 0))), (a3, .inl (d, 144, .inl (fun _ => nI 0))), (a4, .inl (d, 12, .inl (fun _ => nI 0))), (a5, .inl (d, 12, .inl (fun _ => nI 0))), (a6, .inl (d, 64, .inl (fun _ => nI 0))), (a7, .inl (d1, 64, .inl (fun _ => nI 0)))] H := hP
  have hD : va_D A [(h, .inr (0, [.ref a0, .ref a1, .ref a2, .ref a3, .ref a4, .ref a5, .ref a6, .null, .int 0, .int 0])), (a0, .inl (d, 2, .inl (fun _ => nI 0))), (a1, .inl (d, 24, .inl (fun _ => nI 0))), (a2, .inl (d, 24, .inl (fun _ => nI 0))), (a3, .inl (d, 144, .inl (fun _ => nI 0))), (a4, .inl (d, 12, .inl (fun _ => nI 0))), (a5, .inl (d, 12, .inl (fun _ => nI 0))), (a6, .inl (d, 64, .inl (fun _ => nI 0))), (a7, .inl (d1, 64, .inl (fun _ => nI 0)))] := hD
  rw [e1] at hP hD
  have hK : va_K G vwCl [(d, .int)] s := hK.sub [0] rfl
  refine W.widen (k := 8) (n := 346) (by omega) (by first | omega | (dsimp only; omega)) ?_
  have hP : va_P G vwCl [(h, .inr (0, [.ref a0, .ref a1, .ref a2, .ref a3, .ref a4, .ref a5, .ref a6, .null, .int 0, .int 0])), (a0, .inl (d, 2, .inl (fun _ => nI 0))), (a1, .inl (d, 24, .inl (fun _ => nI 0))), (a2, .inl (d, 24, .inl (fun _ => nI 0))), (a3, .inl (d, 144, .inl (fun _ => nI 0))), (a4, .inl (d, 12, .inl (fun _ => nI 0))), (a5, .inl (d, 12, .inl (fun _ => nI 0))), (a6, .inl (d, 64, .inl (fun _ => nI 0))), (a7, .inl (d, 64, .inl (fun _ => nI 0)))] H := hP
  have hD : va_D A [(h, .inr (0, [.ref a0, .ref a1, .ref a2, .ref a3, .ref a4, .ref a5, .ref a6, .null, .int 0, .int 0])), (a0, .inl (d, 2, .inl (fun _ => nI 0))), (a1, .inl (d, 24, .inl (fun _ => nI 0))), (a2, .inl (d, 24, .inl (fun _ => nI 0))), (a3, .inl (d, 144, .inl (fun _ => nI 0))), (a4, .inl (d, 12, .inl (fun _ => nI 0))), (a5, .inl (d, 12, .inl (fun _ => nI 0))), (a6, .inl (d, 64, .inl (fun _ => nI 0))), (a7, .inl (d, 64, .inl (fun _ => nI 0)))] := hD
  refine va_putF (D := G) (ci := 0) (v := .ref a7) (ty := .array .int) (C := RX0) (T := TX0) (N := 10) hx hb hts in_X0 tyX0 tyX0_ok nmX0 hown hK hP hD hS 0 rfl rfl 7 (by decide) (hts _ q35) (fun _ h9 => h9) rfl hin rfl (by decide +kernel) rfl rfl (Nat.le_of_ble_eq_true rfl) dX0_init_65 (fun H locs hP hD hS => ?_)
  have hP : va_P G vwCl [(h, .inr (0, [.ref a0, .ref a1, .ref a2, .ref a3, .ref a4, .ref a5, .ref a6, .ref a7, .int 0, .int 0])), (a0, .inl (d, 2, .inl (fun _ => nI 0))), (a1, .inl (d, 24, .inl (fun _ => nI 0))), (a2, .inl (d, 24, .inl (fun _ => nI 0))), (a3, .inl (d, 144, .inl (fun _ => nI 0))), (a4, .inl (d, 12, .inl (fun _ => nI 0))), (a5, .inl (d, 12, .inl (fun _ => nI 0))), (a6, .inl (d, 64, .inl (fun _ => nI 0))), (a7, .inl (d, 64, .inl (fun _ => nI 0)))] H := hP
  have hD : va_D A [(h, .inr (0, [.ref a0, .ref a1, .ref a2, .ref a3, .ref a4, .ref a5, .ref a6, .ref a7, .int 0, .int 0])), (a0, .inl (d, 2, .inl (fun _ => nI 0))), (a1, .inl (d, 24, .inl (fun _ => nI 0))), (a2, .inl (d, 24, .inl (fun _ => nI 0))), (a3, .inl (d, 144, .inl (fun _ => nI 0))), (a4, .inl (d, 12, .inl (fun _ => nI 0))), (a5, .inl (d, 12, .inl (fun _ => nI 0))), (a6, .inl (d, 64, .inl (fun _ => nI 0))), (a7, .inl (d, 64, .inl (fun _ => nI 0)))] := hD
  obtain ⟨a, ha⟩ : ∃ a : Nat → Nat, a = (fun k => match k with | 0 => a0 | 1 => a1 | 2 => a2 | 3 => a3 | 4 => a4 | 5 => a5 | 6 => a6 | _ => a7) := ⟨_, rfl⟩
  have hX : HX G d h a A s ((fun _ => 0), (fun _ => 0), (fun _ => 0), (fun _ => 0), (fun _ => 0), (fun _ => 0), (fun _ => 0), (fun _ => 0), 0, 0) H locs := by rw [ha]; exact ⟨hK, hP, hD, hS⟩
  refine lv_aload_n hx hb dX0_init_68 rfl (lv_at hl 0 rfl) ?_
  refine xg0 S hX dX0_init_69 ?_
  refine lv_iconst (v := nI 0) hx hb dX0_init_72 (by decide) ?_
  refine lv_iconst (v := nI 1) hx hb dX0_init_73 (by decide) ?_
  refine xs0 S hX dX0_init_74 (by decide) (fun H locs hX => ?_)
  refine lv_aload_n hx hb dX0_init_75 rfl (lv_at hl 0 rfl) ?_
  refine xg0 S hX dX0_init_76 ?_
  refine lv_iconst (v := nI 1) hx hb dX0_init_79 (by decide) ?_
  refine lv_iconst (v := nI 1) hx hb dX0_init_80 (by decide) ?_
  refine xs0 S hX dX0_init_81 (by decide) (fun H locs hX => ?_)
  exact W.vret hx hb hr (fun t ht hW => ⟨⟨uX0, rfl, rfl, d, a, by rw [ht]; exact hX.2.1, va_K.moved hW.alike hX.1, hX.2.2.1⟩, hX.2.2.2.F ht⟩) hX.2.2.2.2.2 dX0_init_82
set_option maxHeartbeats 4000000 in
set_option maxRecDepth 100000 in
theorem mY_init (l : Launch) (G : va_G) (h sz0 : Nat) : Met l yX1_init (ws_ yX1_init cX1_init 1 none) { frames := 1, cells := 4, slots := 56, locals := 12 } (va_Pc [.ref h] (fun U => U.heap.size = sz0 ∧ va_P G vwCl [(h, .inr (1, nuY))] U.heap ∧ va_K G vwCl [] U ∧ va_D (fun _ => True) [(h, .inr (1, nuY))])) (va_Qv (fun u => u = uY0) (BYi G h (va_A [(h, .inr (1, nuY))] sz0)) (va_A [(h, .inr (1, nuY))] sz0)) 4 56 (va_A [(h, .inr (1, nuY))] sz0) := by
  refine Met.ofW (cc := cX1_init) (maxL := 1) (ret := none) (by decide) rfl ?_
  intro p e s m args below meth c s₁ B hml hv
  obtain ⟨rfl, hsz, hP, hK, hD0⟩ := hv
  have hx := B.exec
  have hb := B.bytes
  have hr := B.returns
  have hts := atoms_spec (ws := ws_ yX1_init cX1_init 1 none) B.pre
  have hts : ∀ w ∈ lw_all, w.before _ s = true := fun w h => hts w (List.mem_cons_of_mem _ h)
  have hown : s.vm.findClass RX1 = some m.cls := findClass_of_methodNamed B.named
  have hlocks := B.notSynchronized
  have hin : meth.name = "<init>" := (name_of_methodNamed B.named B.method).1
  subst hsz
  have hD := hD0.self (sz := s.heap.size)
  generalize hAe : va_A [(h, .inr (1, nuY))] s.heap.size = A at hD ⊢
  have hA : ∀ q : Nat, s.heap.size ≤ q → A q := fun q h => by rw [← hAe]; exact Or.inr h
  have hS : va_S A s.heap s.heap [] := va_S.rf
  have hP : va_P G vwCl [(h, .inr (1, nuY))] s.heap := hP
  have hl := lv_entry ([.ref h]) (n := 1) (Nat.le_of_ble_eq_true rfl)
  rw [lg_entry_eq]
  generalize (lg_sl ([.ref h]) ++ List.replicate (1 - (lg_sl ([.ref h])).length) Slot.unset).toArray = ls at hl ⊢
  have hl : lv_has ls 1 [(0, .ref h)] := hl
  have S : CallFix p m c cX1_init 1 s _ lw_all RX1 := ⟨hx, hb, hml, hown, hts⟩
  refine lv_aload_n hx hb dX1_init_0 rfl (lv_at hl 0 rfl) ?_
  refine W.objInit hx hb hown (hts _ q171) (hts _ q26) (hts _ q27) rfl (by rw [hml]; exact hl.1) rfl dX1_init_1 (Nat.le_of_ble_eq_true rfl) (Nat.le_of_ble_eq_true rfl) ?_
  refine W.eq (g2 := F0 m 4 ls []) rfl ?_
  refine lv_aload_n hx hb dX1_init_4 rfl (lv_at hl 0 rfl) ?_
  refine lv_iconst (v := nI 2) hx hb dX1_init_5 (by decide) ?_
  refine va_newa (atype := .int) (ty := .int) (N' := 2) (a0 := (2, .inl (fun _ => nI 0))) hx hb (hts _ q59) rfl hK hP hD hS hA (fun _ => rfl) (by decide) (by decide) (by decide) (Nat.le_of_ble_eq_true rfl) (Nat.le_of_ble_eq_true rfl) dX1_init_6 (fun a0 d H hK hP hD hS => ?_)
  have hK : va_K G vwCl [(d, .int)] s := hK
  refine W.widen (k := 1) (n := 2) (by omega) (by first | omega | (dsimp only; omega)) ?_
  have hP : va_P G vwCl [(h, .inr (1, [.null, .null, .null, .int 0, .null])), (a0, .inl (d, 2, .inl (fun _ => nI 0)))] H := hP
  have hD : va_D A [(h, .inr (1, [.null, .null, .null, .int 0, .null])), (a0, .inl (d, 2, .inl (fun _ => nI 0)))] := hD
  refine va_put (D := G) (ci := 1) (v := .ref a0) (ty := .array .int) (C := RX1) (T := TX1) (N := 5) hx hb hts in_X1 tyX1 tyX1_ok nmX1 hown hK hP hD hS 0 rfl rfl 0 (by decide) (hts _ q172) (fun _ h9 => h9) rfl (by decide +kernel) rfl rfl (Nat.le_of_ble_eq_true rfl) dX1_init_8 (fun H locs hP hD hS => ?_)
  have hP : va_P G vwCl [(h, .inr (1, [.ref a0, .null, .null, .int 0, .null])), (a0, .inl (d, 2, .inl (fun _ => nI 0)))] H := hP
  have hD : va_D A [(h, .inr (1, [.ref a0, .null, .null, .int 0, .null])), (a0, .inl (d, 2, .inl (fun _ => nI 0)))] := hD
  refine lv_aload_n hx hb dX1_init_11 rfl (lv_at hl 0 rfl) ?_
  refine lv_bipush (v := nI 24) hx hb dX1_init_12 (by decide) ?_
  refine va_newa (atype := .int) (ty := .int) (N' := 24) (a0 := (24, .inl (fun _ => nI 0))) hx hb (hts _ q59) rfl hK hP hD hS hA (fun _ => rfl) (by decide) (by decide) (by decide) (Nat.le_of_ble_eq_true rfl) (Nat.le_of_ble_eq_true rfl) dX1_init_14 (fun a1 d1 H hK hP hD hS => ?_)
  have hK : va_K G vwCl [(d, .int), (d1, .int)] s := hK
  have e1 := int_class hK
  have hP : va_P G vwCl [(h, .inr (1, [.ref a0, .null, .null, .int 0, .null])), (a0, .inl (d, 2, .inl (fun _ => nI 0))), (a1, .inl (d1, 24, .inl (fun _ => nI 0)))] H := hP
  have hD : va_D A [(h, .inr (1, [.ref a0, .null, .null, .int 0, .null])), (a0, .inl (d, 2, .inl (fun _ => nI 0))), (a1, .inl (d1, 24, .inl (fun _ => nI 0)))] := hD
  rw [e1] at hP hD
  have hK : va_K G vwCl [(d, .int)] s := hK.sub [0] rfl
  refine W.widen (k := 2) (n := 26) (by omega) (by first | omega | (dsimp only; omega)) ?_
  have hP : va_P G vwCl [(h, .inr (1, [.ref a0, .null, .null, .int 0, .null])), (a0, .inl (d, 2, .inl (fun _ => nI 0))), (a1, .inl (d, 24, .inl (fun _ => nI 0)))] H := hP
  have hD : va_D A [(h, .inr (1, [.ref a0, .null, .null, .int 0, .null])), (a0, .inl (d, 2, .inl (fun _ => nI 0))), (a1, .inl (d, 24, .inl (fun _ => nI 0)))] := hD
  refine va_put (D := G) (ci := 1) (v := .ref a1) (ty := .array .int) (C := RX1) (T := TX1) (N := 5) hx hb hts in_X1 tyX1 tyX1_ok nmX1 hown hK hP hD hS 0 rfl rfl 1 (by decide) (hts _ q173) (fun _ h9 => h9) rfl (by decide +kernel) rfl rfl (Nat.le_of_ble_eq_true rfl) dX1_init_16 (fun H locs hP hD hS => ?_)
  have hP : va_P G vwCl [(h, .inr (1, [.ref a0, .ref a1, .null, .int 0, .null])), (a0, .inl (d, 2, .inl (fun _ => nI 0))), (a1, .inl (d, 24, .inl (fun _ => nI 0)))] H := hP
  have hD : va_D A [(h, .inr (1, [.ref a0, .ref a1, .null, .int 0, .null])), (a0, .inl (d, 2, .inl (fun _ => nI 0))), (a1, .inl (d, 24, .inl (fun _ => nI 0)))] := hD
  refine lv_aload_n hx hb dX1_init_19 rfl (lv_at hl 0 rfl) ?_
  refine lv_bipush (v := nI 24) hx hb dX1_init_20 (by decide) ?_
  refine va_newa (atype := .int) (ty := .int) (N' := 24) (a0 := (24, .inl (fun _ => nI 0))) hx hb (hts _ q59) rfl hK hP hD hS hA (fun _ => rfl) (by decide) (by decide) (by decide) (Nat.le_of_ble_eq_true rfl) (Nat.le_of_ble_eq_true rfl) dX1_init_22 (fun a2 d1 H hK hP hD hS => ?_)
  have hK : va_K G vwCl [(d, .int), (d1, .int)] s := hK
  have e1 := int_class hK
  have hP : va_P G vwCl [(h, .inr (1, [.ref a0, .ref a1, .null, .int 0, .null])), (a0, .inl (d, 2, .inl (fun _ => nI 0))), (a1, .inl (d, 24, .inl (fun _ => nI 0))), (a2, .inl (d1, 24, .inl (fun _ => nI 0)))] H := hP
  have hD : va_D A [(h, .inr (1, [.ref a0, .ref a1, .null, .int 0, .null])), (a0, .inl (d, 2, .inl (fun _ => nI 0))), (a1, .inl (d, 24, .inl (fun _ => nI 0))), (a2, .inl (d1, 24, .inl (fun _ => nI 0)))] := hD
  rw [e1] at hP hD
  have hK : va_K G vwCl [(d, .int)] s := hK.sub [0] rfl
  refine W.widen (k := 3) (n := 50) (by omega) (by first | omega | (dsimp only; omega)) ?_
  have hP : va_P G vwCl [(h, .inr (1, [.ref a0, .ref a1, .null, .int 0, .null])), (a0, .inl (d, 2, .inl (fun _ => nI 0))), (a1, .inl (d, 24, .inl (fun _ => nI 0))), (a2, .inl (d, 24, .inl (fun _ => nI 0)))] H := hP
  have hD : va_D A [(h, .inr (1, [.ref a0, .ref a1, .null, .int 0, .null])), (a0, .inl (d, 2, .inl (fun _ => nI 0))), (a1, .inl (d, 24, .inl (fun _ => nI 0))), (a2, .inl (d, 24, .inl (fun _ => nI 0)))] := hD
  refine va_put (D := G) (ci := 1) (v := .ref a2) (ty := .array .int) (C := RX1) (T := TX1) (N := 5) hx hb hts in_X1 tyX1 tyX1_ok nmX1 hown hK hP hD hS 0 rfl rfl 2 (by decide) (hts _ q174) (fun _ h9 => h9) rfl (by decide +kernel) rfl rfl (Nat.le_of_ble_eq_true rfl) dX1_init_24 (fun H locs hP hD hS => ?_)
  have hP : va_P G vwCl [(h, .inr (1, [.ref a0, .ref a1, .ref a2, .int 0, .null])), (a0, .inl (d, 2, .inl (fun _ => nI 0))), (a1, .inl (d, 24, .inl (fun _ => nI 0))), (a2, .inl (d, 24, .inl (fun _ => nI 0)))] H := hP
  have hD : va_D A [(h, .inr (1, [.ref a0, .ref a1, .ref a2, .int 0, .null])), (a0, .inl (d, 2, .inl (fun _ => nI 0))), (a1, .inl (d, 24, .inl (fun _ => nI 0))), (a2, .inl (d, 24, .inl (fun _ => nI 0)))] := hD
  refine lv_aload_n hx hb dX1_init_27 rfl (lv_at hl 0 rfl) ?_
  refine lv_bipush (v := nI 6) hx hb dX1_init_28 (by decide) ?_
  refine va_newa (atype := .int) (ty := .int) (N' := 6) (a0 := (6, .inl (fun _ => nI 0))) hx hb (hts _ q59) rfl hK hP hD hS hA (fun _ => rfl) (by decide) (by decide) (by decide) (Nat.le_of_ble_eq_true rfl) (Nat.le_of_ble_eq_true rfl) dX1_init_30 (fun a4 d1 H hK hP hD hS => ?_)
  have hK : va_K G vwCl [(d, .int), (d1, .int)] s := hK
  have e1 := int_class hK
  have hP : va_P G vwCl [(h, .inr (1, [.ref a0, .ref a1, .ref a2, .int 0, .null])), (a0, .inl (d, 2, .inl (fun _ => nI 0))), (a1, .inl (d, 24, .inl (fun _ => nI 0))), (a2, .inl (d, 24, .inl (fun _ => nI 0))), (a4, .inl (d1, 6, .inl (fun _ => nI 0)))] H := hP
  have hD : va_D A [(h, .inr (1, [.ref a0, .ref a1, .ref a2, .int 0, .null])), (a0, .inl (d, 2, .inl (fun _ => nI 0))), (a1, .inl (d, 24, .inl (fun _ => nI 0))), (a2, .inl (d, 24, .inl (fun _ => nI 0))), (a4, .inl (d1, 6, .inl (fun _ => nI 0)))] := hD
  rw [e1] at hP hD
  have hK : va_K G vwCl [(d, .int)] s := hK.sub [0] rfl
  refine W.widen (k := 4) (n := 56) (by omega) (by first | omega | (dsimp only; omega)) ?_
  have hP : va_P G vwCl [(h, .inr (1, [.ref a0, .ref a1, .ref a2, .int 0, .null])), (a0, .inl (d, 2, .inl (fun _ => nI 0))), (a1, .inl (d, 24, .inl (fun _ => nI 0))), (a2, .inl (d, 24, .inl (fun _ => nI 0))), (a4, .inl (d, 6, .inl (fun _ => nI 0)))] H := hP
  have hD : va_D A [(h, .inr (1, [.ref a0, .ref a1, .ref a2, .int 0, .null])), (a0, .inl (d, 2, .inl (fun _ => nI 0))), (a1, .inl (d, 24, .inl (fun _ => nI 0))), (a2, .inl (d, 24, .inl (fun _ => nI 0))), (a4, .inl (d, 6, .inl (fun _ => nI 0)))] := hD
  refine va_put (D := G) (ci := 1) (v := .ref a4) (ty := .array .int) (C := RX1) (T := TX1) (N := 5) hx hb hts in_X1 tyX1 tyX1_ok nmX1 hown hK hP hD hS 0 rfl rfl 4 (by decide) (hts _ q176) (fun _ h9 => h9) rfl (by decide +kernel) rfl rfl (Nat.le_of_ble_eq_true rfl) dX1_init_32 (fun H locs hP hD hS => ?_)
  have hP : va_P G vwCl [(h, .inr (1, [.ref a0, .ref a1, .ref a2, .int 0, .ref a4])), (a0, .inl (d, 2, .inl (fun _ => nI 0))), (a1, .inl (d, 24, .inl (fun _ => nI 0))), (a2, .inl (d, 24, .inl (fun _ => nI 0))), (a4, .inl (d, 6, .inl (fun _ => nI 0)))] H := hP
  have hD : va_D A [(h, .inr (1, [.ref a0, .ref a1, .ref a2, .int 0, .ref a4])), (a0, .inl (d, 2, .inl (fun _ => nI 0))), (a1, .inl (d, 24, .inl (fun _ => nI 0))), (a2, .inl (d, 24, .inl (fun _ => nI 0))), (a4, .inl (d, 6, .inl (fun _ => nI 0)))] := hD
  obtain ⟨a, ha⟩ : ∃ a : Nat → Nat, a = (fun k => match k with | 0 => a0 | 1 => a1 | 2 => a2 | _ => a4) := ⟨_, rfl⟩
  have hX : HY G d h a A s ((fun _ => 0), (fun _ => 0), (fun _ => 0), 0, (fun _ => 0)) H locs := by rw [ha]; exact ⟨hK, hP, hD, hS⟩
  refine lv_aload_n hx hb dX1_init_35 rfl (lv_at hl 0 rfl) ?_
  refine yg0 S hX dX1_init_36 ?_
  refine lv_iconst (v := nI 0) hx hb dX1_init_39 (by decide) ?_
  refine lv_iconst (v := nI 1) hx hb dX1_init_40 (by decide) ?_
  refine ys0 S hX dX1_init_41 (by decide) (fun H locs hX => ?_)
  refine lv_aload_n hx hb dX1_init_42 rfl (lv_at hl 0 rfl) ?_
  refine yg0 S hX dX1_init_43 ?_
  refine lv_iconst (v := nI 1) hx hb dX1_init_46 (by decide) ?_
  refine lv_iconst (v := nI 1) hx hb dX1_init_47 (by decide) ?_
  refine ys0 S hX dX1_init_48 (by decide) (fun H locs hX => ?_)
  exact W.vret hx hb hr (fun t ht hW => ⟨⟨uY0, rfl, rfl, d, a, by rw [ht]; exact hX.2.1, va_K.moved hW.alike hX.1, hX.2.2.1⟩, hX.2.2.2.F ht⟩) hX.2.2.2.2.2 dX1_init_49
end
section
set_option maxRecDepth 100000
/-! THE CLAIM OUT OF ONE WALK OF THE LAW'S BODY. Your part is whole_start (and what it stands on); all else here is the same for every law, but numbers. -/
def R_law : String := "MealyMachinesLaw"
def lw_P (b : Addr) (xs : List Int32) (args : Array Value) (s : State) : Prop := args = #[.ref b] ∧ s.IntsAt b xs ∧ xs.length ≤ 256 ∧ (Jvm.Cond.and given_1 narrow_1).before args s = true
def lw_Q (_ : Array Value) (s : State) (o : Outcome) (t : State) : Prop := o = .returned (some (.int 1)) ∧ Framed s o t [] 600000 7290000
def lw_Z (below : List Frame) (a : Array Value) (s : State) : State → Prop := fun t => ∃ o, t.status = .running ∧ Ended t below o ∧ lw_Q a s o t
/-- the law's own end, with 1 on the stack, nothing written that was there before, its room as the claim has it -/
theorem lw_ret {p : Program} {l : Launch} {e : Env} {s : State} {m : MethodId} {below : List Frame} {meth : Method} {c : Code} {b : Nat} (hx : p.tables.exec = Jvm.exec) (hb : c.code = code) (hr : meth.sig.returnType = ret) (hlocks : meth.locks = false) {pc : Nat} {H : Heap} {ls : Array Slot} (hdg : decode code pc = .ok (.ireturn, 1)) : W p l e room_1 s m #[Value.ref b] below meth c H [] 600000 7290000 (lw_Z below #[Value.ref b] s) (F0 m pc ls [.int 1]) := by
  intro T hT X
  obtain ⟨fs, hret, hrun, hended, hW, hframe⟩ := X.leave (v := some (.int 1)) (hlocks := hlocks) (fun h => by rw [hr] at h; cases h)
  have hmeth' : T.vm.method? m = some meth := X.method'
  refine ⟨T.setFrames fs, ?_, .returned (some (.int 1)), hrun, hended, rfl, ⟨_, rfl⟩, hW, hframe⟩
  jvm_step X.here [X.here.top, hx, hb, hdg, hmeth', hr, ret, narrow_b1]
  (try refine ⟨rfl, ?_⟩); (try refine ⟨rfl, ?_⟩)
  first | (intro acts; rw [hret _ acts rfl rfl rfl]) | rw [hret _ _ rfl rfl rfl]
  exact Steps.refl _
/-- what holds at the law's entry: the machine, the code, the tables' words (any of lw_tbl by 'hts w (by decide +kernel)'), the script of L ints xs at the cell b, what the Statement gives of the start (any of its parts by flat_of_before) -/
def lw_At (p : Program) (s : State) (m : MethodId) (meth : Method) (c : Code) (b L : Nat) (xs : Nat → Int32) : Prop :=
  p.tables.exec = Jvm.exec ∧ c.code = code ∧ meth.sig.returnType = ret ∧ c.maxLocals = 4 ∧ s.vm.findClass R_law = some m.cls ∧ (∀ w ∈ lw_tbl, w.before #[Value.ref b] s = true) ∧ va_X b L xs s s.heap ∧ b < s.heap.size ∧ meth.locks = false ∧ (Jvm.Cond.and given_1 narrow_1).before #[Value.ref b] s = true
end
section
set_option maxRecDepth 100000
/-! the law: both objects' world, calls out of it, a case each -/
def HL (G : va_G) (d : ClassId) (h1 : Nat) (a1 : Nat → Nat) (h2 : Nat) (a2 : Nat → Nat) (A : Nat → Prop) (s : State) (u : UX) (v : UY) (H : Heap) (locs : List Loc) : Prop := va_K G vwCl [(d, .int)] s ∧ va_P G vwCl (wX d h1 a1 u ++ wY d h2 a2 v) H ∧ va_D A (wX d h1 a1 u ++ wY d h2 a2 v) ∧ va_S A s.heap H locs
section LC
variable {p : Program} {l : Launch} {e : Env} {R : Room} {s : State} {m : MethodId} {args : Array Value} {below : List Frame} {meth : Method} {c : Code} {H : Heap} {locs : List Loc} {cells slots : Nat} {Q : State → Prop}
variable {cc cb : ByteArray} {pc nL : Nat} {ls : Array Slot} {rest st : List Value} {G : va_G} {d : ClassId} {h1 h2 : Nat} {a1 a2 : Nat → Nat} {A : Nat → Prop} {own : String} {u : UX} {v : UY} {y : MethodName} {nB index n : Nat} {ty : FieldType} {rm : Room} {As : List Value}
set_option maxHeartbeats 1000000 in
theorem callLX {post : Int32 → UX → Prop} (S : CallFix p m c cc nL s args lw_all own) (hA : ∀ q : Nat, s.heap.size ≤ q → A q) (X : HL G d h1 a1 h2 a2 A s u v H locs) (M : MetX l y cb nB (some ty) rm As u post) (cw : CallW R s args own RX0 index y cb nB (some ty) (ws_ y cb nB (some ty)) rm 0 0 n) (hn : As.length = n) (hls : ls.size = nL) (hst : st = As.reverse ++ .ref h1 :: rest) (hW : (rest.map fun v => v.category).sum ≤ 8) (hdg : decode cc pc = .ok (.invokevirtual index, 3)) (hcs : cells ≤ R.cells ∧ slots ≤ R.slots)
    (kk : ∀ (r : Int32) (u1 : UX) (H1 : Heap) (locs1 : List Loc), post r u1 → HL G d h1 a1 h2 a2 A s u1 v H1 locs1 → W p l e R s m args below meth c H1 locs1 cells slots Q (F0 m (pc + 3) ls (.int r :: rest))) : W p l e R s m args below meth c H locs cells slots Q (F0 m pc ls st) := by
  have hPc := X.2.1.sub (ws' := wX d h1 a1 u) [0, 1, 2, 3, 4, 5, 6, 7, 8] rfl
  have hDc := X.2.2.1.sub (ws' := wX d h1 a1 u) [0, 1, 2, 3, 4, 5, 6, 7, 8] (by decide) rfl
  have hFc := va_free (wc := wX d h1 a1 u) X.2.2.1 X.2.2.2 hA [0, 1, 2, 3, 4, 5, 6, 7, 8] rfl
  refine va_calli (va_runV (As := As) (rest := rest) S (M G d h1 a1 H.size) cw ⟨fun a U g mk q => by obtain ⟨q0, q1, qP, qK, qD⟩ := q; exact ⟨q0, q1, qP, va_K.moved (u := U) (U := U.calling g mk a) (Vm.Alike.refl U.vm) qK, qD⟩, va_recv X.1 hPc (ci := 0) (q0 := 0) rfl rfl, fun U hU hW => ⟨rfl, by rw [hU], by rw [hU]; exact hPc, va_K.moved hW.alike X.1, hDc.weaken (fun _ _ _ _ => trivial)⟩⟩ rfl hn hls hst (lv_room hW) hdg hcs) X.2.2.2 (fun q _ h => hFc q h) hFc (fun r u1 t H1 locs1 ht hvm hw hB hz1 hk1 hS => ?_)
  obtain ⟨hP1, hK1, hD1⟩ := hB
  rw [ht] at hP1
  obtain ⟨hP, hD⟩ := va_join (wr := wY d h2 a2 v) (w1 := wX d h1 a1 u1) X.2.1 X.2.2.1 [0, 1, 2, 3, 4, 5, 6, 7, 8] [9, 10, 11, 12, 13] rfl rfl (by decide) (by decide) hk1 hFc hP1 hD1
  exact kk r u1 H1 locs1 hw ⟨X.1, hP.sub [5, 6, 7, 8, 9, 10, 11, 12, 13, 0, 1, 2, 3, 4] rfl, hD.sub [5, 6, 7, 8, 9, 10, 11, 12, 13, 0, 1, 2, 3, 4] (by decide) rfl, hS⟩
set_option maxHeartbeats 1000000 in
theorem callLY {post : Int32 → UY → Prop} (S : CallFix p m c cc nL s args lw_all own) (hA : ∀ q : Nat, s.heap.size ≤ q → A q) (X : HL G d h1 a1 h2 a2 A s u v H locs) (M : MetY l y cb nB (some ty) rm As v post) (cw : CallW R s args own RX1 index y cb nB (some ty) (ws_ y cb nB (some ty)) rm 0 0 n) (hn : As.length = n) (hls : ls.size = nL) (hst : st = As.reverse ++ .ref h2 :: rest) (hW : (rest.map fun v => v.category).sum ≤ 8) (hdg : decode cc pc = .ok (.invokevirtual index, 3)) (hcs : cells ≤ R.cells ∧ slots ≤ R.slots)
    (kk : ∀ (r : Int32) (u1 : UY) (H1 : Heap) (locs1 : List Loc), post r u1 → HL G d h1 a1 h2 a2 A s u u1 H1 locs1 → W p l e R s m args below meth c H1 locs1 cells slots Q (F0 m (pc + 3) ls (.int r :: rest))) : W p l e R s m args below meth c H locs cells slots Q (F0 m pc ls st) := by
  have hPc := X.2.1.sub (ws' := wY d h2 a2 v) [9, 10, 11, 12, 13] rfl
  have hDc := X.2.2.1.sub (ws' := wY d h2 a2 v) [9, 10, 11, 12, 13] (by decide) rfl
  have hFc := va_free (wc := wY d h2 a2 v) X.2.2.1 X.2.2.2 hA [9, 10, 11, 12, 13] rfl
  refine va_calli (va_runV (As := As) (rest := rest) S (M G d h2 a2 H.size) cw ⟨fun a U g mk q => by obtain ⟨q0, q1, qP, qK, qD⟩ := q; exact ⟨q0, q1, qP, va_K.moved (u := U) (U := U.calling g mk a) (Vm.Alike.refl U.vm) qK, qD⟩, va_recv X.1 hPc (ci := 1) (q0 := 0) rfl rfl, fun U hU hW => ⟨rfl, by rw [hU], by rw [hU]; exact hPc, va_K.moved hW.alike X.1, hDc.weaken (fun _ _ _ _ => trivial)⟩⟩ rfl hn hls hst (lv_room hW) hdg hcs) X.2.2.2 (fun q _ h => hFc q h) hFc (fun r u1 t H1 locs1 ht hvm hw hB hz1 hk1 hS => ?_)
  obtain ⟨hP1, hK1, hD1⟩ := hB
  rw [ht] at hP1
  obtain ⟨hP, hD⟩ := va_join (wr := wX d h1 a1 u) (w1 := wY d h2 a2 u1) X.2.1 X.2.2.1 [9, 10, 11, 12, 13] [0, 1, 2, 3, 4, 5, 6, 7, 8] rfl rfl (by decide) (by decide) hk1 hFc hP1 hD1
  exact kk r u1 H1 locs1 hw ⟨X.1, hP, hD, hS⟩
theorem law_ld {b L : Nat} {xs : Nat → Int32} (S : CallFix p m c cc nL s args lw_all own) (hv : va_X b L xs s s.heap) (hbl : b < s.heap.size) (hL : L ≤ 256) (X : HL G d h1 a1 h2 a2 (fun q : Nat => s.heap.size ≤ q) s u v H locs) {j : Nat} (hj : j < L) (hdg : decode cc pc = .ok (.iaload, 1))
    (kk : W p l e R s m args below meth c H locs cells slots Q (F0 m (pc + 1) ls (.int (xs j) :: rest))) : W p l e R s m args below meth c H locs cells slots Q (F0 m pc ls (.int (nI j) :: .ref b :: rest)) :=
  va_sld S.1 S.2.1 hv hbl (show ¬ (fun q : Nat => s.heap.size ≤ q) b from Nat.not_le.mpr hbl) X.2.2.2 (vp_in_nI hj (by omega)) hdg (n_top (by rw [nI_clamp (by omega)]) kk)
end LC
theorem law_gt {L i : Nat} (hL : L ≤ 256) (hi : i ≤ L) (h : ¬ Int32.ofNat L - nI 4 < nI i) : i + 4 ≤ L := by
  rcases Nat.lt_or_ge L 4 with z | z
  · have key : ∀ L, L < 4 → ∀ i, i < 4 → Int32.ofNat L - nI 4 < nI i := by decide +kernel
    exact absurd (key L z i (by omega)) h
  · have e : Int32.ofNat L - nI 4 = nI (L - 4) := pk_sub z
    rw [e] at h
    have q9 : ¬ L - 4 < i := fun q => h ((nI_ltI (a := L - 4) (b := i) (by omega) (by omega)).mpr q)
    omega
theorem nI_any (x : Int32) : x = nI x.toBitVec.toNat := by
  apply Int32.toBitVec_inj.mp
  show x.toBitVec = BitVec.ofNat 32 x.toBitVec.toNat
  rw [BitVec.ofNat_toNat, BitVec.setWidth_eq]
theorem and15 (x : Int32) : ∃ k, k < 16 ∧ x &&& nI 15 = nI k := by
  refine ⟨x.toBitVec.toNat &&& 15, Nat.lt_succ_of_le Nat.and_le_right, ?_⟩
  rw [← nI_andN, ← nI_any]
/-- between two calls of the law: both objects stand for the same pair of machines -/
def LawSt (G : va_G) (d : ClassId) (h1 : Nat) (a1 : Nat → Nat) (h2 : Nat) (a2 : Nat → Nat) (s : State) (H : Heap) (locs : List Loc) : Prop := ∃ (sz nx an ap : Nat → Nat) (cn : Nat → Int32) (ld qu wo : Nat → Nat) (co cu ct : Nat) (mb : Nat → Nat), inX sz nx an ap cu ∧ HL G d h1 a1 h2 a2 (fun q : Nat => s.heap.size ≤ q) s (sz, nx, an, ap, cn, ld, qu, wo, co, cu) (sz, nx, an, ct, mb) H locs
set_option maxHeartbeats 1000000 in
theorem law_c0 {p : Program} {l : Launch} {e : Env} {s : State} {m : MethodId} {below : List Frame} {meth : Method} {c : Code} {G : va_G} {d : ClassId} {h1 h2 : Nat} {a1 a2 : Nat → Nat} {b L i : Nat} {xs : Nat → Int32} {H : Heap} {locs : List Loc} {ls : Array Slot} {Q : State → Prop} (S : CallFix p m c cL_law 4 s #[Value.ref b] lw_all R_law) (hv : va_X b L xs s s.heap) (hbl : b < s.heap.size) (hL : L ≤ 256) (hi : i + 4 ≤ L) (X0 : LawSt G d h1 a1 h2 a2 s H locs) (hl : lv_has ls 4 [(0, .ref b), (1, .ref h1), (2, .ref h2), (3, .int (nI i))]) (kk : ∀ (H : Heap) (locs : List Loc), LawSt G d h1 a1 h2 a2 s H locs → W p l e room_1 s m #[Value.ref b] below meth c H locs 14 417 Q (F0 m 610 ls [])) : W p l e room_1 s m #[Value.ref b] below meth c H locs 14 417 Q (F0 m 112 ls []) := by
  obtain ⟨sz, nx, an, ap, cn, ld, qu, wo, co, cu, ct, mb, hI, X⟩ := X0
  have hx := S.1
  have hb := S.2.1
  have hA : ∀ q : Nat, s.heap.size ≤ q → (fun q : Nat => s.heap.size ≤ q) q := fun _ h => h
  refine lv_aload_n hx hb dL_law_112 rfl (lv_at hl 1 rfl) ?_
  refine lv_aload_n hx hb dL_law_113 rfl (lv_at hl 0 rfl) ?_
  refine lv_iload_n hx hb dL_law_114 rfl (lv_at hl 3 rfl) ?_
  refine lv_iconst (v := nI 1) hx hb dL_law_115 (by decide) ?_
  refine n_iadd hx hb dL_law_116 ?_
  refine law_ld S hv hbl hL X (j := i + 1) (by omega) dL_law_117 ?_
  refine lv_aload_n hx hb dL_law_118 rfl (lv_at hl 0 rfl) ?_
  refine lv_iload_n hx hb dL_law_119 rfl (lv_at hl 3 rfl) ?_
  refine lv_iconst (v := nI 2) hx hb dL_law_120 (by decide) ?_
  refine n_iadd hx hb dL_law_121 ?_
  refine law_ld S hv hbl hL X (j := i + 2) (by omega) dL_law_122 ?_
  refine callLX S hA X (mX_size l sz nx an ap cn ld qu wo co cu (xs (i + 1)) (xs (i + 2)) hI) (cwV 2 S.2.2.2.2 (lw_V q60 q61 q62 q18 q63) rfl rfl rfl (by decide +kernel) ⟨Nat.le_of_ble_eq_true rfl, Nat.le_of_ble_eq_true rfl⟩) rfl hl.1 rfl (Nat.le_of_ble_eq_true rfl) dL_law_123 ⟨Nat.le_of_ble_eq_true rfl, Nat.le_of_ble_eq_true rfl⟩ (fun r u1 H locs hq X => ?_)
  refine lv_aload_n hx hb dL_law_126 rfl (lv_at hl 2 rfl) ?_
  refine lv_aload_n hx hb dL_law_127 rfl (lv_at hl 0 rfl) ?_
  refine lv_iload_n hx hb dL_law_128 rfl (lv_at hl 3 rfl) ?_
  refine lv_iconst (v := nI 1) hx hb dL_law_129 (by decide) ?_
  refine n_iadd hx hb dL_law_130 ?_
  refine law_ld S hv hbl hL X (j := i + 1) (by omega) dL_law_131 ?_
  refine lv_aload_n hx hb dL_law_132 rfl (lv_at hl 0 rfl) ?_
  refine lv_iload_n hx hb dL_law_133 rfl (lv_at hl 3 rfl) ?_
  refine lv_iconst (v := nI 2) hx hb dL_law_134 (by decide) ?_
  refine n_iadd hx hb dL_law_135 ?_
  refine law_ld S hv hbl hL X (j := i + 2) (by omega) dL_law_136 ?_
  refine callLY S hA X (mY_size l sz nx an ct mb (xs (i + 1)) (xs (i + 2)) hI.1) (cwV 2 S.2.2.2.2 (lw_V q188 q189 q190 q19 q191) rfl rfl rfl (by decide +kernel) ⟨Nat.le_of_ble_eq_true rfl, Nat.le_of_ble_eq_true rfl⟩) rfl hl.1 rfl (Nat.le_of_ble_eq_true rfl) dL_law_137 ⟨Nat.le_of_ble_eq_true rfl, Nat.le_of_ble_eq_true rfl⟩ (fun r2 v1 H locs hq2 X => ?_)
  generalize spSize (xs (i + 1)) (xs (i + 2)) sz nx an = t at hq hq2
  obtain ⟨rfl, ap1, cn1, ld1, qu1, wo1, co1, cu1, rfl, hI1⟩ := hq
  obtain ⟨rfl, ct1, mb1, rfl⟩ := hq2
  refine lv_icmp_eq (tgt := 610) hx hb dL_law_140 (by decide) (fun _ => ?_) (fun z => absurd rfl z)
  exact kk _ _ ⟨_, _, _, ap1, cn1, ld1, qu1, wo1, co1, cu1, ct1, mb1, hI1, X⟩
set_option maxHeartbeats 1000000 in
theorem law_c1 {p : Program} {l : Launch} {e : Env} {s : State} {m : MethodId} {below : List Frame} {meth : Method} {c : Code} {G : va_G} {d : ClassId} {h1 h2 : Nat} {a1 a2 : Nat → Nat} {b L i : Nat} {xs : Nat → Int32} {H : Heap} {locs : List Loc} {ls : Array Slot} {Q : State → Prop} (S : CallFix p m c cL_law 4 s #[Value.ref b] lw_all R_law) (hv : va_X b L xs s s.heap) (hbl : b < s.heap.size) (hL : L ≤ 256) (hi : i + 4 ≤ L) (X0 : LawSt G d h1 a1 h2 a2 s H locs) (hl : lv_has ls 4 [(0, .ref b), (1, .ref h1), (2, .ref h2), (3, .int (nI i))]) (kk : ∀ (H : Heap) (locs : List Loc), LawSt G d h1 a1 h2 a2 s H locs → W p l e room_1 s m #[Value.ref b] below meth c H locs 14 417 Q (F0 m 610 ls [])) : W p l e room_1 s m #[Value.ref b] below meth c H locs 14 417 Q (F0 m 145 ls []) := by
  obtain ⟨sz, nx, an, ap, cn, ld, qu, wo, co, cu, ct, mb, hI, X⟩ := X0
  have hx := S.1
  have hb := S.2.1
  have hA : ∀ q : Nat, s.heap.size ≤ q → (fun q : Nat => s.heap.size ≤ q) q := fun _ h => h
  refine lv_aload_n hx hb dL_law_145 rfl (lv_at hl 1 rfl) ?_
  refine lv_aload_n hx hb dL_law_146 rfl (lv_at hl 0 rfl) ?_
  refine lv_iload_n hx hb dL_law_147 rfl (lv_at hl 3 rfl) ?_
  refine lv_iconst (v := nI 1) hx hb dL_law_148 (by decide) ?_
  refine n_iadd hx hb dL_law_149 ?_
  refine law_ld S hv hbl hL X (j := i + 1) (by omega) dL_law_150 ?_
  refine lv_aload_n hx hb dL_law_151 rfl (lv_at hl 0 rfl) ?_
  refine lv_iload_n hx hb dL_law_152 rfl (lv_at hl 3 rfl) ?_
  refine lv_iconst (v := nI 2) hx hb dL_law_153 (by decide) ?_
  refine n_iadd hx hb dL_law_154 ?_
  refine law_ld S hv hbl hL X (j := i + 2) (by omega) dL_law_155 ?_
  refine lv_aload_n hx hb dL_law_156 rfl (lv_at hl 0 rfl) ?_
  refine lv_iload_n hx hb dL_law_157 rfl (lv_at hl 3 rfl) ?_
  refine lv_iconst (v := nI 3) hx hb dL_law_158 (by decide) ?_
  refine n_iadd hx hb dL_law_159 ?_
  refine law_ld S hv hbl hL X (j := i + 3) (by omega) dL_law_160 ?_
  refine callLX S hA X (mX_set l sz nx an ap cn ld qu wo co cu (xs (i + 1)) (xs (i + 2)) (xs (i + 3)) hI) (cwV 3 S.2.2.2.2 (lw_V q67 q68 q69 q18 q70) rfl rfl rfl (by decide +kernel) ⟨Nat.le_of_ble_eq_true rfl, Nat.le_of_ble_eq_true rfl⟩) rfl hl.1 rfl (Nat.le_of_ble_eq_true rfl) dL_law_161 ⟨Nat.le_of_ble_eq_true rfl, Nat.le_of_ble_eq_true rfl⟩ (fun r u1 H locs hq X => ?_)
  refine lv_aload_n hx hb dL_law_164 rfl (lv_at hl 2 rfl) ?_
  refine lv_aload_n hx hb dL_law_165 rfl (lv_at hl 0 rfl) ?_
  refine lv_iload_n hx hb dL_law_166 rfl (lv_at hl 3 rfl) ?_
  refine lv_iconst (v := nI 1) hx hb dL_law_167 (by decide) ?_
  refine n_iadd hx hb dL_law_168 ?_
  refine law_ld S hv hbl hL X (j := i + 1) (by omega) dL_law_169 ?_
  refine lv_aload_n hx hb dL_law_170 rfl (lv_at hl 0 rfl) ?_
  refine lv_iload_n hx hb dL_law_171 rfl (lv_at hl 3 rfl) ?_
  refine lv_iconst (v := nI 2) hx hb dL_law_172 (by decide) ?_
  refine n_iadd hx hb dL_law_173 ?_
  refine law_ld S hv hbl hL X (j := i + 2) (by omega) dL_law_174 ?_
  refine lv_aload_n hx hb dL_law_175 rfl (lv_at hl 0 rfl) ?_
  refine lv_iload_n hx hb dL_law_176 rfl (lv_at hl 3 rfl) ?_
  refine lv_iconst (v := nI 3) hx hb dL_law_177 (by decide) ?_
  refine n_iadd hx hb dL_law_178 ?_
  refine law_ld S hv hbl hL X (j := i + 3) (by omega) dL_law_179 ?_
  refine callLY S hA X (mY_set l sz nx an ct mb (xs (i + 1)) (xs (i + 2)) (xs (i + 3)) hI.1) (cwV 3 S.2.2.2.2 (lw_V q196 q197 q198 q19 q199) rfl rfl rfl (by decide +kernel) ⟨Nat.le_of_ble_eq_true rfl, Nat.le_of_ble_eq_true rfl⟩) rfl hl.1 rfl (Nat.le_of_ble_eq_true rfl) dL_law_180 ⟨Nat.le_of_ble_eq_true rfl, Nat.le_of_ble_eq_true rfl⟩ (fun r2 v1 H locs hq2 X => ?_)
  generalize spSet (xs (i + 1)) (xs (i + 2)) (xs (i + 3)) sz nx an = t at hq hq2
  obtain ⟨rfl, ap1, cn1, ld1, qu1, wo1, co1, cu1, rfl, hI1⟩ := hq
  obtain ⟨rfl, ct1, mb1, rfl⟩ := hq2
  refine lv_icmp_eq (tgt := 610) hx hb dL_law_183 (by decide) (fun _ => ?_) (fun z => absurd rfl z)
  exact kk _ _ ⟨_, _, _, ap1, cn1, ld1, qu1, wo1, co1, cu1, ct1, mb1, hI1, X⟩
set_option maxHeartbeats 1000000 in
theorem law_c2 {p : Program} {l : Launch} {e : Env} {s : State} {m : MethodId} {below : List Frame} {meth : Method} {c : Code} {G : va_G} {d : ClassId} {h1 h2 : Nat} {a1 a2 : Nat → Nat} {b L i : Nat} {xs : Nat → Int32} {H : Heap} {locs : List Loc} {ls : Array Slot} {Q : State → Prop} (S : CallFix p m c cL_law 4 s #[Value.ref b] lw_all R_law) (hv : va_X b L xs s s.heap) (hbl : b < s.heap.size) (hL : L ≤ 256) (hi : i + 4 ≤ L) (X0 : LawSt G d h1 a1 h2 a2 s H locs) (hl : lv_has ls 4 [(0, .ref b), (1, .ref h1), (2, .ref h2), (3, .int (nI i))]) (kk : ∀ (H : Heap) (locs : List Loc), LawSt G d h1 a1 h2 a2 s H locs → W p l e room_1 s m #[Value.ref b] below meth c H locs 14 417 Q (F0 m 610 ls [])) : W p l e room_1 s m #[Value.ref b] below meth c H locs 14 417 Q (F0 m 188 ls []) := by
  obtain ⟨sz, nx, an, ap, cn, ld, qu, wo, co, cu, ct, mb, hI, X⟩ := X0
  have hx := S.1
  have hb := S.2.1
  have hA : ∀ q : Nat, s.heap.size ≤ q → (fun q : Nat => s.heap.size ≤ q) q := fun _ h => h
  refine lv_aload_n hx hb dL_law_188 rfl (lv_at hl 1 rfl) ?_
  refine lv_aload_n hx hb dL_law_189 rfl (lv_at hl 0 rfl) ?_
  refine lv_iload_n hx hb dL_law_190 rfl (lv_at hl 3 rfl) ?_
  refine lv_iconst (v := nI 1) hx hb dL_law_191 (by decide) ?_
  refine n_iadd hx hb dL_law_192 ?_
  refine law_ld S hv hbl hL X (j := i + 1) (by omega) dL_law_193 ?_
  refine lv_aload_n hx hb dL_law_194 rfl (lv_at hl 0 rfl) ?_
  refine lv_iload_n hx hb dL_law_195 rfl (lv_at hl 3 rfl) ?_
  refine lv_iconst (v := nI 2) hx hb dL_law_196 (by decide) ?_
  refine n_iadd hx hb dL_law_197 ?_
  refine law_ld S hv hbl hL X (j := i + 2) (by omega) dL_law_198 ?_
  refine lv_aload_n hx hb dL_law_199 rfl (lv_at hl 0 rfl) ?_
  refine lv_iload_n hx hb dL_law_200 rfl (lv_at hl 3 rfl) ?_
  refine lv_iconst (v := nI 3) hx hb dL_law_201 (by decide) ?_
  refine n_iadd hx hb dL_law_202 ?_
  refine law_ld S hv hbl hL X (j := i + 3) (by omega) dL_law_203 ?_
  refine callLX S hA X (mX_weave l sz nx an ap cn ld qu wo co cu (xs (i + 1)) (xs (i + 2)) (xs (i + 3)) hI) (cwV 3 S.2.2.2.2 (lw_V q71 q72 q73 q18 q74) rfl rfl rfl (by decide +kernel) ⟨Nat.le_of_ble_eq_true rfl, Nat.le_of_ble_eq_true rfl⟩) rfl hl.1 rfl (Nat.le_of_ble_eq_true rfl) dL_law_204 ⟨Nat.le_of_ble_eq_true rfl, Nat.le_of_ble_eq_true rfl⟩ (fun r u1 H locs hq X => ?_)
  refine lv_aload_n hx hb dL_law_207 rfl (lv_at hl 2 rfl) ?_
  refine lv_aload_n hx hb dL_law_208 rfl (lv_at hl 0 rfl) ?_
  refine lv_iload_n hx hb dL_law_209 rfl (lv_at hl 3 rfl) ?_
  refine lv_iconst (v := nI 1) hx hb dL_law_210 (by decide) ?_
  refine n_iadd hx hb dL_law_211 ?_
  refine law_ld S hv hbl hL X (j := i + 1) (by omega) dL_law_212 ?_
  refine lv_aload_n hx hb dL_law_213 rfl (lv_at hl 0 rfl) ?_
  refine lv_iload_n hx hb dL_law_214 rfl (lv_at hl 3 rfl) ?_
  refine lv_iconst (v := nI 2) hx hb dL_law_215 (by decide) ?_
  refine n_iadd hx hb dL_law_216 ?_
  refine law_ld S hv hbl hL X (j := i + 2) (by omega) dL_law_217 ?_
  refine lv_aload_n hx hb dL_law_218 rfl (lv_at hl 0 rfl) ?_
  refine lv_iload_n hx hb dL_law_219 rfl (lv_at hl 3 rfl) ?_
  refine lv_iconst (v := nI 3) hx hb dL_law_220 (by decide) ?_
  refine n_iadd hx hb dL_law_221 ?_
  refine law_ld S hv hbl hL X (j := i + 3) (by omega) dL_law_222 ?_
  refine callLY S hA X (mY_weave l sz nx an ct mb (xs (i + 1)) (xs (i + 2)) (xs (i + 3)) hI.1) (cwV 3 S.2.2.2.2 (lw_V q200 q201 q202 q19 q203) rfl rfl rfl (by decide +kernel) ⟨Nat.le_of_ble_eq_true rfl, Nat.le_of_ble_eq_true rfl⟩) rfl hl.1 rfl (Nat.le_of_ble_eq_true rfl) dL_law_223 ⟨Nat.le_of_ble_eq_true rfl, Nat.le_of_ble_eq_true rfl⟩ (fun r2 v1 H locs hq2 X => ?_)
  generalize spWeave (xs (i + 1)) (xs (i + 2)) (xs (i + 3)) sz nx an = t at hq hq2
  obtain ⟨rfl, ap1, cn1, ld1, qu1, wo1, co1, cu1, rfl, hI1⟩ := hq
  obtain ⟨rfl, ct1, mb1, rfl⟩ := hq2
  refine lv_icmp_eq (tgt := 610) hx hb dL_law_226 (by decide) (fun _ => ?_) (fun z => absurd rfl z)
  exact kk _ _ ⟨_, _, _, ap1, cn1, ld1, qu1, wo1, co1, cu1, ct1, mb1, hI1, X⟩
set_option maxHeartbeats 1000000 in
theorem law_c3 {p : Program} {l : Launch} {e : Env} {s : State} {m : MethodId} {below : List Frame} {meth : Method} {c : Code} {G : va_G} {d : ClassId} {h1 h2 : Nat} {a1 a2 : Nat → Nat} {b L i : Nat} {xs : Nat → Int32} {H : Heap} {locs : List Loc} {ls : Array Slot} {Q : State → Prop} (S : CallFix p m c cL_law 4 s #[Value.ref b] lw_all R_law) (hv : va_X b L xs s s.heap) (hbl : b < s.heap.size) (hL : L ≤ 256) (hi : i + 4 ≤ L) (X0 : LawSt G d h1 a1 h2 a2 s H locs) (hl : lv_has ls 4 [(0, .ref b), (1, .ref h1), (2, .ref h2), (3, .int (nI i))]) (kk : ∀ (H : Heap) (locs : List Loc), LawSt G d h1 a1 h2 a2 s H locs → W p l e room_1 s m #[Value.ref b] below meth c H locs 14 417 Q (F0 m 610 ls [])) : W p l e room_1 s m #[Value.ref b] below meth c H locs 14 417 Q (F0 m 231 ls []) := by
  obtain ⟨sz, nx, an, ap, cn, ld, qu, wo, co, cu, ct, mb, hI, X⟩ := X0
  have hx := S.1
  have hb := S.2.1
  have hA : ∀ q : Nat, s.heap.size ≤ q → (fun q : Nat => s.heap.size ≤ q) q := fun _ h => h
  refine lv_aload_n hx hb dL_law_231 rfl (lv_at hl 1 rfl) ?_
  refine lv_aload_n hx hb dL_law_232 rfl (lv_at hl 0 rfl) ?_
  refine lv_iload_n hx hb dL_law_233 rfl (lv_at hl 3 rfl) ?_
  refine lv_iconst (v := nI 1) hx hb dL_law_234 (by decide) ?_
  refine n_iadd hx hb dL_law_235 ?_
  refine law_ld S hv hbl hL X (j := i + 1) (by omega) dL_law_236 ?_
  refine lv_aload_n hx hb dL_law_237 rfl (lv_at hl 0 rfl) ?_
  refine lv_iload_n hx hb dL_law_238 rfl (lv_at hl 3 rfl) ?_
  refine lv_iconst (v := nI 2) hx hb dL_law_239 (by decide) ?_
  refine n_iadd hx hb dL_law_240 ?_
  refine law_ld S hv hbl hL X (j := i + 2) (by omega) dL_law_241 ?_
  refine callLX S hA X (mX_copy l sz nx an ap cn ld qu wo co cu (xs (i + 1)) (xs (i + 2)) hI) (cwV 2 S.2.2.2.2 (lw_V q75 q76 q77 q18 q78) rfl rfl rfl (by decide +kernel) ⟨Nat.le_of_ble_eq_true rfl, Nat.le_of_ble_eq_true rfl⟩) rfl hl.1 rfl (Nat.le_of_ble_eq_true rfl) dL_law_242 ⟨Nat.le_of_ble_eq_true rfl, Nat.le_of_ble_eq_true rfl⟩ (fun r u1 H locs hq X => ?_)
  refine lv_aload_n hx hb dL_law_245 rfl (lv_at hl 2 rfl) ?_
  refine lv_aload_n hx hb dL_law_246 rfl (lv_at hl 0 rfl) ?_
  refine lv_iload_n hx hb dL_law_247 rfl (lv_at hl 3 rfl) ?_
  refine lv_iconst (v := nI 1) hx hb dL_law_248 (by decide) ?_
  refine n_iadd hx hb dL_law_249 ?_
  refine law_ld S hv hbl hL X (j := i + 1) (by omega) dL_law_250 ?_
  refine lv_aload_n hx hb dL_law_251 rfl (lv_at hl 0 rfl) ?_
  refine lv_iload_n hx hb dL_law_252 rfl (lv_at hl 3 rfl) ?_
  refine lv_iconst (v := nI 2) hx hb dL_law_253 (by decide) ?_
  refine n_iadd hx hb dL_law_254 ?_
  refine law_ld S hv hbl hL X (j := i + 2) (by omega) dL_law_255 ?_
  refine callLY S hA X (mY_copy l sz nx an ct mb (xs (i + 1)) (xs (i + 2)) hI.1) (cwV 2 S.2.2.2.2 (lw_V q204 q205 q206 q19 q207) rfl rfl rfl (by decide +kernel) ⟨Nat.le_of_ble_eq_true rfl, Nat.le_of_ble_eq_true rfl⟩) rfl hl.1 rfl (Nat.le_of_ble_eq_true rfl) dL_law_256 ⟨Nat.le_of_ble_eq_true rfl, Nat.le_of_ble_eq_true rfl⟩ (fun r2 v1 H locs hq2 X => ?_)
  generalize spCopy (xs (i + 1)) (xs (i + 2)) sz nx an = t at hq hq2
  obtain ⟨rfl, ap1, cn1, ld1, qu1, wo1, co1, cu1, rfl, hI1⟩ := hq
  obtain ⟨rfl, ct1, mb1, rfl⟩ := hq2
  refine lv_icmp_eq (tgt := 610) hx hb dL_law_259 (by decide) (fun _ => ?_) (fun z => absurd rfl z)
  exact kk _ _ ⟨_, _, _, ap1, cn1, ld1, qu1, wo1, co1, cu1, ct1, mb1, hI1, X⟩
set_option maxHeartbeats 1000000 in
theorem law_c4 {p : Program} {l : Launch} {e : Env} {s : State} {m : MethodId} {below : List Frame} {meth : Method} {c : Code} {G : va_G} {d : ClassId} {h1 h2 : Nat} {a1 a2 : Nat → Nat} {b L i : Nat} {xs : Nat → Int32} {H : Heap} {locs : List Loc} {ls : Array Slot} {Q : State → Prop} (S : CallFix p m c cL_law 4 s #[Value.ref b] lw_all R_law) (hv : va_X b L xs s s.heap) (hbl : b < s.heap.size) (hL : L ≤ 256) (hi : i + 4 ≤ L) (X0 : LawSt G d h1 a1 h2 a2 s H locs) (hl : lv_has ls 4 [(0, .ref b), (1, .ref h1), (2, .ref h2), (3, .int (nI i))]) (kk : ∀ (H : Heap) (locs : List Loc), LawSt G d h1 a1 h2 a2 s H locs → W p l e room_1 s m #[Value.ref b] below meth c H locs 14 417 Q (F0 m 610 ls [])) : W p l e room_1 s m #[Value.ref b] below meth c H locs 14 417 Q (F0 m 264 ls []) := by
  obtain ⟨sz, nx, an, ap, cn, ld, qu, wo, co, cu, ct, mb, hI, X⟩ := X0
  have hx := S.1
  have hb := S.2.1
  have hA : ∀ q : Nat, s.heap.size ≤ q → (fun q : Nat => s.heap.size ≤ q) q := fun _ h => h
  refine lv_aload_n hx hb dL_law_264 rfl (lv_at hl 1 rfl) ?_
  refine lv_aload_n hx hb dL_law_265 rfl (lv_at hl 0 rfl) ?_
  refine lv_iload_n hx hb dL_law_266 rfl (lv_at hl 3 rfl) ?_
  refine lv_iconst (v := nI 1) hx hb dL_law_267 (by decide) ?_
  refine n_iadd hx hb dL_law_268 ?_
  refine law_ld S hv hbl hL X (j := i + 1) (by omega) dL_law_269 ?_
  refine callLX S hA X (mX_states l sz nx an ap cn ld qu wo co cu (xs (i + 1)) hI) (cwV 1 S.2.2.2.2 (lw_V q79 q80 q81 q18 q82) rfl rfl rfl (by decide +kernel) ⟨Nat.le_of_ble_eq_true rfl, Nat.le_of_ble_eq_true rfl⟩) rfl hl.1 rfl (Nat.le_of_ble_eq_true rfl) dL_law_270 ⟨Nat.le_of_ble_eq_true rfl, Nat.le_of_ble_eq_true rfl⟩ (fun r u1 H locs hq X => ?_)
  refine lv_aload_n hx hb dL_law_273 rfl (lv_at hl 2 rfl) ?_
  refine lv_aload_n hx hb dL_law_274 rfl (lv_at hl 0 rfl) ?_
  refine lv_iload_n hx hb dL_law_275 rfl (lv_at hl 3 rfl) ?_
  refine lv_iconst (v := nI 1) hx hb dL_law_276 (by decide) ?_
  refine n_iadd hx hb dL_law_277 ?_
  refine law_ld S hv hbl hL X (j := i + 1) (by omega) dL_law_278 ?_
  refine callLY S hA X (mY_states l sz nx an ct mb (xs (i + 1)) hI.1) (cwV 1 S.2.2.2.2 (lw_V q208 q209 q210 q19 q211) rfl rfl rfl (by decide +kernel) ⟨Nat.le_of_ble_eq_true rfl, Nat.le_of_ble_eq_true rfl⟩) rfl hl.1 rfl (Nat.le_of_ble_eq_true rfl) dL_law_279 ⟨Nat.le_of_ble_eq_true rfl, Nat.le_of_ble_eq_true rfl⟩ (fun r2 v1 H locs hq2 X => ?_)
  generalize spStates (xs (i + 1)) sz nx an = t at hq hq2
  obtain ⟨rfl, ap1, cn1, ld1, qu1, wo1, co1, cu1, rfl, hI1⟩ := hq
  obtain ⟨rfl, ct1, mb1, rfl⟩ := hq2
  refine lv_icmp_eq (tgt := 610) hx hb dL_law_282 (by decide) (fun _ => ?_) (fun z => absurd rfl z)
  exact kk _ _ ⟨_, _, _, ap1, cn1, ld1, qu1, wo1, co1, cu1, ct1, mb1, hI1, X⟩
set_option maxHeartbeats 1000000 in
theorem law_c5 {p : Program} {l : Launch} {e : Env} {s : State} {m : MethodId} {below : List Frame} {meth : Method} {c : Code} {G : va_G} {d : ClassId} {h1 h2 : Nat} {a1 a2 : Nat → Nat} {b L i : Nat} {xs : Nat → Int32} {H : Heap} {locs : List Loc} {ls : Array Slot} {Q : State → Prop} (S : CallFix p m c cL_law 4 s #[Value.ref b] lw_all R_law) (hv : va_X b L xs s s.heap) (hbl : b < s.heap.size) (hL : L ≤ 256) (hi : i + 4 ≤ L) (X0 : LawSt G d h1 a1 h2 a2 s H locs) (hl : lv_has ls 4 [(0, .ref b), (1, .ref h1), (2, .ref h2), (3, .int (nI i))]) (kk : ∀ (H : Heap) (locs : List Loc), LawSt G d h1 a1 h2 a2 s H locs → W p l e room_1 s m #[Value.ref b] below meth c H locs 14 417 Q (F0 m 610 ls [])) : W p l e room_1 s m #[Value.ref b] below meth c H locs 14 417 Q (F0 m 287 ls []) := by
  obtain ⟨sz, nx, an, ap, cn, ld, qu, wo, co, cu, ct, mb, hI, X⟩ := X0
  have hx := S.1
  have hb := S.2.1
  have hA : ∀ q : Nat, s.heap.size ≤ q → (fun q : Nat => s.heap.size ≤ q) q := fun _ h => h
  refine lv_aload_n hx hb dL_law_287 rfl (lv_at hl 1 rfl) ?_
  refine lv_aload_n hx hb dL_law_288 rfl (lv_at hl 0 rfl) ?_
  refine lv_iload_n hx hb dL_law_289 rfl (lv_at hl 3 rfl) ?_
  refine lv_iconst (v := nI 1) hx hb dL_law_290 (by decide) ?_
  refine n_iadd hx hb dL_law_291 ?_
  refine law_ld S hv hbl hL X (j := i + 1) (by omega) dL_law_292 ?_
  refine lv_aload_n hx hb dL_law_293 rfl (lv_at hl 0 rfl) ?_
  refine lv_iload_n hx hb dL_law_294 rfl (lv_at hl 3 rfl) ?_
  refine lv_iconst (v := nI 2) hx hb dL_law_295 (by decide) ?_
  refine n_iadd hx hb dL_law_296 ?_
  refine law_ld S hv hbl hL X (j := i + 2) (by omega) dL_law_297 ?_
  refine callLX S hA X (mX_run l sz nx an ap cn ld qu wo co cu (xs (i + 1)) (xs (i + 2)) hI) (cwV 2 S.2.2.2.2 (lw_V q83 q84 q85 q18 q86) rfl rfl rfl (by decide +kernel) ⟨Nat.le_of_ble_eq_true rfl, Nat.le_of_ble_eq_true rfl⟩) rfl hl.1 rfl (Nat.le_of_ble_eq_true rfl) dL_law_298 ⟨Nat.le_of_ble_eq_true rfl, Nat.le_of_ble_eq_true rfl⟩ (fun r u1 H locs hq X => ?_)
  refine lv_aload_n hx hb dL_law_301 rfl (lv_at hl 2 rfl) ?_
  refine lv_aload_n hx hb dL_law_302 rfl (lv_at hl 0 rfl) ?_
  refine lv_iload_n hx hb dL_law_303 rfl (lv_at hl 3 rfl) ?_
  refine lv_iconst (v := nI 1) hx hb dL_law_304 (by decide) ?_
  refine n_iadd hx hb dL_law_305 ?_
  refine law_ld S hv hbl hL X (j := i + 1) (by omega) dL_law_306 ?_
  refine lv_aload_n hx hb dL_law_307 rfl (lv_at hl 0 rfl) ?_
  refine lv_iload_n hx hb dL_law_308 rfl (lv_at hl 3 rfl) ?_
  refine lv_iconst (v := nI 2) hx hb dL_law_309 (by decide) ?_
  refine n_iadd hx hb dL_law_310 ?_
  refine law_ld S hv hbl hL X (j := i + 2) (by omega) dL_law_311 ?_
  refine callLY S hA X (mY_run l sz nx an ct mb (xs (i + 1)) (xs (i + 2)) hI.1) (cwV 2 S.2.2.2.2 (lw_V q212 q213 q214 q19 q215) rfl rfl rfl (by decide +kernel) ⟨Nat.le_of_ble_eq_true rfl, Nat.le_of_ble_eq_true rfl⟩) rfl hl.1 rfl (Nat.le_of_ble_eq_true rfl) dL_law_312 ⟨Nat.le_of_ble_eq_true rfl, Nat.le_of_ble_eq_true rfl⟩ (fun r2 v1 H locs hq2 X => ?_)
  generalize spRun (xs (i + 1)) (xs (i + 2)) sz nx an = t at hq hq2
  obtain ⟨rfl, ap1, cn1, ld1, qu1, wo1, co1, cu1, rfl, hI1⟩ := hq
  obtain ⟨rfl, ct1, mb1, rfl⟩ := hq2
  refine lv_icmp_eq (tgt := 610) hx hb dL_law_315 (by decide) (fun _ => ?_) (fun z => absurd rfl z)
  exact kk _ _ ⟨_, _, _, ap1, cn1, ld1, qu1, wo1, co1, cu1, ct1, mb1, hI1, X⟩
set_option maxHeartbeats 1000000 in
theorem law_c6 {p : Program} {l : Launch} {e : Env} {s : State} {m : MethodId} {below : List Frame} {meth : Method} {c : Code} {G : va_G} {d : ClassId} {h1 h2 : Nat} {a1 a2 : Nat → Nat} {b L i : Nat} {xs : Nat → Int32} {H : Heap} {locs : List Loc} {ls : Array Slot} {Q : State → Prop} (S : CallFix p m c cL_law 4 s #[Value.ref b] lw_all R_law) (hv : va_X b L xs s s.heap) (hbl : b < s.heap.size) (hL : L ≤ 256) (hi : i + 4 ≤ L) (X0 : LawSt G d h1 a1 h2 a2 s H locs) (hl : lv_has ls 4 [(0, .ref b), (1, .ref h1), (2, .ref h2), (3, .int (nI i))]) (kk : ∀ (H : Heap) (locs : List Loc), LawSt G d h1 a1 h2 a2 s H locs → W p l e room_1 s m #[Value.ref b] below meth c H locs 14 417 Q (F0 m 610 ls [])) : W p l e room_1 s m #[Value.ref b] below meth c H locs 14 417 Q (F0 m 320 ls []) := by
  obtain ⟨sz, nx, an, ap, cn, ld, qu, wo, co, cu, ct, mb, hI, X⟩ := X0
  have hx := S.1
  have hb := S.2.1
  have hA : ∀ q : Nat, s.heap.size ≤ q → (fun q : Nat => s.heap.size ≤ q) q := fun _ h => h
  refine lv_aload_n hx hb dL_law_320 rfl (lv_at hl 1 rfl) ?_
  refine lv_aload_n hx hb dL_law_321 rfl (lv_at hl 0 rfl) ?_
  refine lv_iload_n hx hb dL_law_322 rfl (lv_at hl 3 rfl) ?_
  refine lv_iconst (v := nI 1) hx hb dL_law_323 (by decide) ?_
  refine n_iadd hx hb dL_law_324 ?_
  refine law_ld S hv hbl hL X (j := i + 1) (by omega) dL_law_325 ?_
  refine lv_aload_n hx hb dL_law_326 rfl (lv_at hl 0 rfl) ?_
  refine lv_iload_n hx hb dL_law_327 rfl (lv_at hl 3 rfl) ?_
  refine lv_iconst (v := nI 2) hx hb dL_law_328 (by decide) ?_
  refine n_iadd hx hb dL_law_329 ?_
  refine law_ld S hv hbl hL X (j := i + 2) (by omega) dL_law_330 ?_
  refine callLX S hA X (mX_response l sz nx an ap cn ld qu wo co cu (xs (i + 1)) (xs (i + 2)) hI) (cwV 2 S.2.2.2.2 (lw_V q98 q99 q100 q18 q101) rfl rfl rfl (by decide +kernel) ⟨Nat.le_of_ble_eq_true rfl, Nat.le_of_ble_eq_true rfl⟩) rfl hl.1 rfl (Nat.le_of_ble_eq_true rfl) dL_law_331 ⟨Nat.le_of_ble_eq_true rfl, Nat.le_of_ble_eq_true rfl⟩ (fun r u1 H locs hq X => ?_)
  refine lv_aload_n hx hb dL_law_334 rfl (lv_at hl 2 rfl) ?_
  refine lv_aload_n hx hb dL_law_335 rfl (lv_at hl 0 rfl) ?_
  refine lv_iload_n hx hb dL_law_336 rfl (lv_at hl 3 rfl) ?_
  refine lv_iconst (v := nI 1) hx hb dL_law_337 (by decide) ?_
  refine n_iadd hx hb dL_law_338 ?_
  refine law_ld S hv hbl hL X (j := i + 1) (by omega) dL_law_339 ?_
  refine lv_aload_n hx hb dL_law_340 rfl (lv_at hl 0 rfl) ?_
  refine lv_iload_n hx hb dL_law_341 rfl (lv_at hl 3 rfl) ?_
  refine lv_iconst (v := nI 2) hx hb dL_law_342 (by decide) ?_
  refine n_iadd hx hb dL_law_343 ?_
  refine law_ld S hv hbl hL X (j := i + 2) (by omega) dL_law_344 ?_
  refine callLY S hA X (mY_response l sz nx an ct mb (xs (i + 1)) (xs (i + 2)) hI.1) (cwV 2 S.2.2.2.2 (lw_V q228 q229 q230 q19 q231) rfl rfl rfl (by decide +kernel) ⟨Nat.le_of_ble_eq_true rfl, Nat.le_of_ble_eq_true rfl⟩) rfl hl.1 rfl (Nat.le_of_ble_eq_true rfl) dL_law_345 ⟨Nat.le_of_ble_eq_true rfl, Nat.le_of_ble_eq_true rfl⟩ (fun r2 v1 H locs hq2 X => ?_)
  generalize spResponse (xs (i + 1)) (xs (i + 2)) sz nx an = t at hq hq2
  obtain ⟨rfl, ap1, cn1, ld1, qu1, wo1, co1, cu1, rfl, hI1⟩ := hq
  obtain ⟨rfl, ct1, mb1, rfl⟩ := hq2
  refine lv_icmp_eq (tgt := 610) hx hb dL_law_348 (by decide) (fun _ => ?_) (fun z => absurd rfl z)
  exact kk _ _ ⟨_, _, _, ap1, cn1, ld1, qu1, wo1, co1, cu1, ct1, mb1, hI1, X⟩
set_option maxHeartbeats 1000000 in
theorem law_c7 {p : Program} {l : Launch} {e : Env} {s : State} {m : MethodId} {below : List Frame} {meth : Method} {c : Code} {G : va_G} {d : ClassId} {h1 h2 : Nat} {a1 a2 : Nat → Nat} {b L i : Nat} {xs : Nat → Int32} {H : Heap} {locs : List Loc} {ls : Array Slot} {Q : State → Prop} (S : CallFix p m c cL_law 4 s #[Value.ref b] lw_all R_law) (hv : va_X b L xs s s.heap) (hbl : b < s.heap.size) (hL : L ≤ 256) (hi : i + 4 ≤ L) (X0 : LawSt G d h1 a1 h2 a2 s H locs) (hl : lv_has ls 4 [(0, .ref b), (1, .ref h1), (2, .ref h2), (3, .int (nI i))]) (kk : ∀ (H : Heap) (locs : List Loc), LawSt G d h1 a1 h2 a2 s H locs → W p l e room_1 s m #[Value.ref b] below meth c H locs 14 417 Q (F0 m 610 ls [])) : W p l e room_1 s m #[Value.ref b] below meth c H locs 14 417 Q (F0 m 353 ls []) := by
  obtain ⟨sz, nx, an, ap, cn, ld, qu, wo, co, cu, ct, mb, hI, X⟩ := X0
  have hx := S.1
  have hb := S.2.1
  have hA : ∀ q : Nat, s.heap.size ≤ q → (fun q : Nat => s.heap.size ≤ q) q := fun _ h => h
  refine lv_aload_n hx hb dL_law_353 rfl (lv_at hl 1 rfl) ?_
  refine lv_aload_n hx hb dL_law_354 rfl (lv_at hl 0 rfl) ?_
  refine lv_iload_n hx hb dL_law_355 rfl (lv_at hl 3 rfl) ?_
  refine lv_iconst (v := nI 1) hx hb dL_law_356 (by decide) ?_
  refine n_iadd hx hb dL_law_357 ?_
  refine law_ld S hv hbl hL X (j := i + 1) (by omega) dL_law_358 ?_
  refine lv_aload_n hx hb dL_law_359 rfl (lv_at hl 0 rfl) ?_
  refine lv_iload_n hx hb dL_law_360 rfl (lv_at hl 3 rfl) ?_
  refine lv_iconst (v := nI 2) hx hb dL_law_361 (by decide) ?_
  refine n_iadd hx hb dL_law_362 ?_
  refine law_ld S hv hbl hL X (j := i + 2) (by omega) dL_law_363 ?_
  refine callLX S hA X (mX_alike l sz nx an ap cn ld qu wo co cu (xs (i + 1)) (xs (i + 2)) hI) (cwV 2 S.2.2.2.2 (lw_V q102 q103 q104 q18 q105) rfl rfl rfl (by decide +kernel) ⟨Nat.le_of_ble_eq_true rfl, Nat.le_of_ble_eq_true rfl⟩) rfl hl.1 rfl (Nat.le_of_ble_eq_true rfl) dL_law_364 ⟨Nat.le_of_ble_eq_true rfl, Nat.le_of_ble_eq_true rfl⟩ (fun r u1 H locs hq X => ?_)
  refine lv_aload_n hx hb dL_law_367 rfl (lv_at hl 2 rfl) ?_
  refine lv_aload_n hx hb dL_law_368 rfl (lv_at hl 0 rfl) ?_
  refine lv_iload_n hx hb dL_law_369 rfl (lv_at hl 3 rfl) ?_
  refine lv_iconst (v := nI 1) hx hb dL_law_370 (by decide) ?_
  refine n_iadd hx hb dL_law_371 ?_
  refine law_ld S hv hbl hL X (j := i + 1) (by omega) dL_law_372 ?_
  refine lv_aload_n hx hb dL_law_373 rfl (lv_at hl 0 rfl) ?_
  refine lv_iload_n hx hb dL_law_374 rfl (lv_at hl 3 rfl) ?_
  refine lv_iconst (v := nI 2) hx hb dL_law_375 (by decide) ?_
  refine n_iadd hx hb dL_law_376 ?_
  refine law_ld S hv hbl hL X (j := i + 2) (by omega) dL_law_377 ?_
  refine callLY S hA X (mY_alike l sz nx an ct mb (xs (i + 1)) (xs (i + 2)) hI.1) (cwV 2 S.2.2.2.2 (lw_V q236 q237 q238 q19 q239) rfl rfl rfl (by decide +kernel) ⟨Nat.le_of_ble_eq_true rfl, Nat.le_of_ble_eq_true rfl⟩) rfl hl.1 rfl (Nat.le_of_ble_eq_true rfl) dL_law_378 ⟨Nat.le_of_ble_eq_true rfl, Nat.le_of_ble_eq_true rfl⟩ (fun r2 v1 H locs hq2 X => ?_)
  generalize spAlike (xs (i + 1)) (xs (i + 2)) sz nx an = t at hq hq2
  obtain ⟨rfl, ap1, cn1, ld1, qu1, wo1, co1, cu1, rfl, hI1⟩ := hq
  obtain ⟨rfl, ct1, mb1, rfl⟩ := hq2
  refine lv_icmp_eq (tgt := 610) hx hb dL_law_381 (by decide) (fun _ => ?_) (fun z => absurd rfl z)
  exact kk _ _ ⟨_, _, _, ap1, cn1, ld1, qu1, wo1, co1, cu1, ct1, mb1, hI1, X⟩
set_option maxHeartbeats 1000000 in
theorem law_c8 {p : Program} {l : Launch} {e : Env} {s : State} {m : MethodId} {below : List Frame} {meth : Method} {c : Code} {G : va_G} {d : ClassId} {h1 h2 : Nat} {a1 a2 : Nat → Nat} {b L i : Nat} {xs : Nat → Int32} {H : Heap} {locs : List Loc} {ls : Array Slot} {Q : State → Prop} (S : CallFix p m c cL_law 4 s #[Value.ref b] lw_all R_law) (hv : va_X b L xs s s.heap) (hbl : b < s.heap.size) (hL : L ≤ 256) (hi : i + 4 ≤ L) (X0 : LawSt G d h1 a1 h2 a2 s H locs) (hl : lv_has ls 4 [(0, .ref b), (1, .ref h1), (2, .ref h2), (3, .int (nI i))]) (kk : ∀ (H : Heap) (locs : List Loc), LawSt G d h1 a1 h2 a2 s H locs → W p l e room_1 s m #[Value.ref b] below meth c H locs 14 417 Q (F0 m 610 ls [])) : W p l e room_1 s m #[Value.ref b] below meth c H locs 14 417 Q (F0 m 386 ls []) := by
  obtain ⟨sz, nx, an, ap, cn, ld, qu, wo, co, cu, ct, mb, hI, X⟩ := X0
  have hx := S.1
  have hb := S.2.1
  have hA : ∀ q : Nat, s.heap.size ≤ q → (fun q : Nat => s.heap.size ≤ q) q := fun _ h => h
  refine lv_aload_n hx hb dL_law_386 rfl (lv_at hl 1 rfl) ?_
  refine lv_aload_n hx hb dL_law_387 rfl (lv_at hl 0 rfl) ?_
  refine lv_iload_n hx hb dL_law_388 rfl (lv_at hl 3 rfl) ?_
  refine lv_iconst (v := nI 1) hx hb dL_law_389 (by decide) ?_
  refine n_iadd hx hb dL_law_390 ?_
  refine law_ld S hv hbl hL X (j := i + 1) (by omega) dL_law_391 ?_
  refine lv_aload_n hx hb dL_law_392 rfl (lv_at hl 0 rfl) ?_
  refine lv_iload_n hx hb dL_law_393 rfl (lv_at hl 3 rfl) ?_
  refine lv_iconst (v := nI 2) hx hb dL_law_394 (by decide) ?_
  refine n_iadd hx hb dL_law_395 ?_
  refine law_ld S hv hbl hL X (j := i + 2) (by omega) dL_law_396 ?_
  refine callLX S hA X (mX_difference l sz nx an ap cn ld qu wo co cu (xs (i + 1)) (xs (i + 2)) hI) (cwV 2 S.2.2.2.2 (lw_V q118 q119 q120 q18 q121) rfl rfl rfl (by decide +kernel) ⟨Nat.le_of_ble_eq_true rfl, Nat.le_of_ble_eq_true rfl⟩) rfl hl.1 rfl (Nat.le_of_ble_eq_true rfl) dL_law_397 ⟨Nat.le_of_ble_eq_true rfl, Nat.le_of_ble_eq_true rfl⟩ (fun r u1 H locs hq X => ?_)
  refine lv_aload_n hx hb dL_law_400 rfl (lv_at hl 2 rfl) ?_
  refine lv_aload_n hx hb dL_law_401 rfl (lv_at hl 0 rfl) ?_
  refine lv_iload_n hx hb dL_law_402 rfl (lv_at hl 3 rfl) ?_
  refine lv_iconst (v := nI 1) hx hb dL_law_403 (by decide) ?_
  refine n_iadd hx hb dL_law_404 ?_
  refine law_ld S hv hbl hL X (j := i + 1) (by omega) dL_law_405 ?_
  refine lv_aload_n hx hb dL_law_406 rfl (lv_at hl 0 rfl) ?_
  refine lv_iload_n hx hb dL_law_407 rfl (lv_at hl 3 rfl) ?_
  refine lv_iconst (v := nI 2) hx hb dL_law_408 (by decide) ?_
  refine n_iadd hx hb dL_law_409 ?_
  refine law_ld S hv hbl hL X (j := i + 2) (by omega) dL_law_410 ?_
  refine callLY S hA X (mY_difference l sz nx an ct mb (xs (i + 1)) (xs (i + 2)) hI.1) (cwV 2 S.2.2.2.2 (lw_V q244 q245 q246 q19 q247) rfl rfl rfl (by decide +kernel) ⟨Nat.le_of_ble_eq_true rfl, Nat.le_of_ble_eq_true rfl⟩) rfl hl.1 rfl (Nat.le_of_ble_eq_true rfl) dL_law_411 ⟨Nat.le_of_ble_eq_true rfl, Nat.le_of_ble_eq_true rfl⟩ (fun r2 v1 H locs hq2 X => ?_)
  generalize spDifference (xs (i + 1)) (xs (i + 2)) sz nx an = t at hq hq2
  obtain ⟨rfl, ap1, cn1, ld1, qu1, wo1, co1, cu1, rfl, hI1⟩ := hq
  obtain ⟨rfl, ct1, mb1, rfl⟩ := hq2
  refine lv_icmp_eq (tgt := 610) hx hb dL_law_414 (by decide) (fun _ => ?_) (fun z => absurd rfl z)
  exact kk _ _ ⟨_, _, _, ap1, cn1, ld1, qu1, wo1, co1, cu1, ct1, mb1, hI1, X⟩
set_option maxHeartbeats 1000000 in
theorem law_c9 {p : Program} {l : Launch} {e : Env} {s : State} {m : MethodId} {below : List Frame} {meth : Method} {c : Code} {G : va_G} {d : ClassId} {h1 h2 : Nat} {a1 a2 : Nat → Nat} {b L i : Nat} {xs : Nat → Int32} {H : Heap} {locs : List Loc} {ls : Array Slot} {Q : State → Prop} (S : CallFix p m c cL_law 4 s #[Value.ref b] lw_all R_law) (hv : va_X b L xs s s.heap) (hbl : b < s.heap.size) (hL : L ≤ 256) (hi : i + 4 ≤ L) (X0 : LawSt G d h1 a1 h2 a2 s H locs) (hl : lv_has ls 4 [(0, .ref b), (1, .ref h1), (2, .ref h2), (3, .int (nI i))]) (kk : ∀ (H : Heap) (locs : List Loc), LawSt G d h1 a1 h2 a2 s H locs → W p l e room_1 s m #[Value.ref b] below meth c H locs 14 417 Q (F0 m 610 ls [])) : W p l e room_1 s m #[Value.ref b] below meth c H locs 14 417 Q (F0 m 419 ls []) := by
  obtain ⟨sz, nx, an, ap, cn, ld, qu, wo, co, cu, ct, mb, hI, X⟩ := X0
  have hx := S.1
  have hb := S.2.1
  have hA : ∀ q : Nat, s.heap.size ≤ q → (fun q : Nat => s.heap.size ≤ q) q := fun _ h => h
  refine lv_aload_n hx hb dL_law_419 rfl (lv_at hl 1 rfl) ?_
  refine callLX S hA X (mX_same l sz nx an ap cn ld qu wo co cu  hI) (cwV 0 S.2.2.2.2 (lw_V q126 q127 q128 q18 q129) rfl rfl rfl (by decide +kernel) ⟨Nat.le_of_ble_eq_true rfl, Nat.le_of_ble_eq_true rfl⟩) rfl hl.1 rfl (Nat.le_of_ble_eq_true rfl) dL_law_420 ⟨Nat.le_of_ble_eq_true rfl, Nat.le_of_ble_eq_true rfl⟩ (fun r u1 H locs hq X => ?_)
  refine lv_aload_n hx hb dL_law_423 rfl (lv_at hl 2 rfl) ?_
  refine callLY S hA X (mY_same l sz nx an ct mb  hI.1) (cwV 0 S.2.2.2.2 (lw_V q248 q249 q250 q19 q251) rfl rfl rfl (by decide +kernel) ⟨Nat.le_of_ble_eq_true rfl, Nat.le_of_ble_eq_true rfl⟩) rfl hl.1 rfl (Nat.le_of_ble_eq_true rfl) dL_law_424 ⟨Nat.le_of_ble_eq_true rfl, Nat.le_of_ble_eq_true rfl⟩ (fun r2 v1 H locs hq2 X => ?_)
  generalize spSame  sz nx an = t at hq hq2
  obtain ⟨rfl, ap1, cn1, ld1, qu1, wo1, co1, cu1, rfl, hI1⟩ := hq
  obtain ⟨rfl, ct1, mb1, rfl⟩ := hq2
  refine lv_icmp_eq (tgt := 610) hx hb dL_law_427 (by decide) (fun _ => ?_) (fun z => absurd rfl z)
  exact kk _ _ ⟨_, _, _, ap1, cn1, ld1, qu1, wo1, co1, cu1, ct1, mb1, hI1, X⟩
set_option maxHeartbeats 1000000 in
theorem law_c10 {p : Program} {l : Launch} {e : Env} {s : State} {m : MethodId} {below : List Frame} {meth : Method} {c : Code} {G : va_G} {d : ClassId} {h1 h2 : Nat} {a1 a2 : Nat → Nat} {b L i : Nat} {xs : Nat → Int32} {H : Heap} {locs : List Loc} {ls : Array Slot} {Q : State → Prop} (S : CallFix p m c cL_law 4 s #[Value.ref b] lw_all R_law) (hv : va_X b L xs s s.heap) (hbl : b < s.heap.size) (hL : L ≤ 256) (hi : i + 4 ≤ L) (X0 : LawSt G d h1 a1 h2 a2 s H locs) (hl : lv_has ls 4 [(0, .ref b), (1, .ref h1), (2, .ref h2), (3, .int (nI i))]) (kk : ∀ (H : Heap) (locs : List Loc), LawSt G d h1 a1 h2 a2 s H locs → W p l e room_1 s m #[Value.ref b] below meth c H locs 14 417 Q (F0 m 610 ls [])) : W p l e room_1 s m #[Value.ref b] below meth c H locs 14 417 Q (F0 m 432 ls []) := by
  obtain ⟨sz, nx, an, ap, cn, ld, qu, wo, co, cu, ct, mb, hI, X⟩ := X0
  have hx := S.1
  have hb := S.2.1
  have hA : ∀ q : Nat, s.heap.size ≤ q → (fun q : Nat => s.heap.size ≤ q) q := fun _ h => h
  refine lv_aload_n hx hb dL_law_432 rfl (lv_at hl 1 rfl) ?_
  refine lv_aload_n hx hb dL_law_433 rfl (lv_at hl 0 rfl) ?_
  refine lv_iload_n hx hb dL_law_434 rfl (lv_at hl 3 rfl) ?_
  refine lv_iconst (v := nI 1) hx hb dL_law_435 (by decide) ?_
  refine n_iadd hx hb dL_law_436 ?_
  refine law_ld S hv hbl hL X (j := i + 1) (by omega) dL_law_437 ?_
  refine callLX S hA X (mX_classes l sz nx an ap cn ld qu wo co cu (xs (i + 1)) hI) (cwV 1 S.2.2.2.2 (lw_V q130 q131 q132 q18 q133) rfl rfl rfl (by decide +kernel) ⟨Nat.le_of_ble_eq_true rfl, Nat.le_of_ble_eq_true rfl⟩) rfl hl.1 rfl (Nat.le_of_ble_eq_true rfl) dL_law_438 ⟨Nat.le_of_ble_eq_true rfl, Nat.le_of_ble_eq_true rfl⟩ (fun r u1 H locs hq X => ?_)
  refine lv_aload_n hx hb dL_law_441 rfl (lv_at hl 2 rfl) ?_
  refine lv_aload_n hx hb dL_law_442 rfl (lv_at hl 0 rfl) ?_
  refine lv_iload_n hx hb dL_law_443 rfl (lv_at hl 3 rfl) ?_
  refine lv_iconst (v := nI 1) hx hb dL_law_444 (by decide) ?_
  refine n_iadd hx hb dL_law_445 ?_
  refine law_ld S hv hbl hL X (j := i + 1) (by omega) dL_law_446 ?_
  refine callLY S hA X (mY_classes l sz nx an ct mb (xs (i + 1)) hI.1) (cwV 1 S.2.2.2.2 (lw_V q252 q253 q254 q19 q255) rfl rfl rfl (by decide +kernel) ⟨Nat.le_of_ble_eq_true rfl, Nat.le_of_ble_eq_true rfl⟩) rfl hl.1 rfl (Nat.le_of_ble_eq_true rfl) dL_law_447 ⟨Nat.le_of_ble_eq_true rfl, Nat.le_of_ble_eq_true rfl⟩ (fun r2 v1 H locs hq2 X => ?_)
  generalize spClasses (xs (i + 1)) sz nx an = t at hq hq2
  obtain ⟨rfl, ap1, cn1, ld1, qu1, wo1, co1, cu1, rfl, hI1⟩ := hq
  obtain ⟨rfl, ct1, mb1, rfl⟩ := hq2
  refine lv_icmp_eq (tgt := 610) hx hb dL_law_450 (by decide) (fun _ => ?_) (fun z => absurd rfl z)
  exact kk _ _ ⟨_, _, _, ap1, cn1, ld1, qu1, wo1, co1, cu1, ct1, mb1, hI1, X⟩
set_option maxHeartbeats 1000000 in
theorem law_c11 {p : Program} {l : Launch} {e : Env} {s : State} {m : MethodId} {below : List Frame} {meth : Method} {c : Code} {G : va_G} {d : ClassId} {h1 h2 : Nat} {a1 a2 : Nat → Nat} {b L i : Nat} {xs : Nat → Int32} {H : Heap} {locs : List Loc} {ls : Array Slot} {Q : State → Prop} (S : CallFix p m c cL_law 4 s #[Value.ref b] lw_all R_law) (hv : va_X b L xs s s.heap) (hbl : b < s.heap.size) (hL : L ≤ 256) (hi : i + 4 ≤ L) (X0 : LawSt G d h1 a1 h2 a2 s H locs) (hl : lv_has ls 4 [(0, .ref b), (1, .ref h1), (2, .ref h2), (3, .int (nI i))]) (kk : ∀ (H : Heap) (locs : List Loc), LawSt G d h1 a1 h2 a2 s H locs → W p l e room_1 s m #[Value.ref b] below meth c H locs 14 417 Q (F0 m 610 ls [])) : W p l e room_1 s m #[Value.ref b] below meth c H locs 14 417 Q (F0 m 455 ls []) := by
  obtain ⟨sz, nx, an, ap, cn, ld, qu, wo, co, cu, ct, mb, hI, X⟩ := X0
  have hx := S.1
  have hb := S.2.1
  have hA : ∀ q : Nat, s.heap.size ≤ q → (fun q : Nat => s.heap.size ≤ q) q := fun _ h => h
  refine lv_aload_n hx hb dL_law_455 rfl (lv_at hl 1 rfl) ?_
  refine lv_aload_n hx hb dL_law_456 rfl (lv_at hl 0 rfl) ?_
  refine lv_iload_n hx hb dL_law_457 rfl (lv_at hl 3 rfl) ?_
  refine lv_iconst (v := nI 1) hx hb dL_law_458 (by decide) ?_
  refine n_iadd hx hb dL_law_459 ?_
  refine law_ld S hv hbl hL X (j := i + 1) (by omega) dL_law_460 ?_
  refine callLX S hA X (mX_core l sz nx an ap cn ld qu wo co cu (xs (i + 1)) hI) (cwV 1 S.2.2.2.2 (lw_V q134 q135 q136 q18 q137) rfl rfl rfl (by decide +kernel) ⟨Nat.le_of_ble_eq_true rfl, Nat.le_of_ble_eq_true rfl⟩) rfl hl.1 rfl (Nat.le_of_ble_eq_true rfl) dL_law_461 ⟨Nat.le_of_ble_eq_true rfl, Nat.le_of_ble_eq_true rfl⟩ (fun r u1 H locs hq X => ?_)
  refine lv_aload_n hx hb dL_law_464 rfl (lv_at hl 2 rfl) ?_
  refine lv_aload_n hx hb dL_law_465 rfl (lv_at hl 0 rfl) ?_
  refine lv_iload_n hx hb dL_law_466 rfl (lv_at hl 3 rfl) ?_
  refine lv_iconst (v := nI 1) hx hb dL_law_467 (by decide) ?_
  refine n_iadd hx hb dL_law_468 ?_
  refine law_ld S hv hbl hL X (j := i + 1) (by omega) dL_law_469 ?_
  refine callLY S hA X (mY_core l sz nx an ct mb (xs (i + 1)) hI.1) (cwV 1 S.2.2.2.2 (lw_V q256 q257 q258 q19 q259) rfl rfl rfl (by decide +kernel) ⟨Nat.le_of_ble_eq_true rfl, Nat.le_of_ble_eq_true rfl⟩) rfl hl.1 rfl (Nat.le_of_ble_eq_true rfl) dL_law_470 ⟨Nat.le_of_ble_eq_true rfl, Nat.le_of_ble_eq_true rfl⟩ (fun r2 v1 H locs hq2 X => ?_)
  generalize spCore (xs (i + 1)) sz nx an = t at hq hq2
  obtain ⟨rfl, ap1, cn1, ld1, qu1, wo1, co1, cu1, rfl, hI1⟩ := hq
  obtain ⟨rfl, ct1, mb1, rfl⟩ := hq2
  refine lv_icmp_eq (tgt := 610) hx hb dL_law_473 (by decide) (fun _ => ?_) (fun z => absurd rfl z)
  exact kk _ _ ⟨_, _, _, ap1, cn1, ld1, qu1, wo1, co1, cu1, ct1, mb1, hI1, X⟩
set_option maxHeartbeats 1000000 in
theorem law_c12 {p : Program} {l : Launch} {e : Env} {s : State} {m : MethodId} {below : List Frame} {meth : Method} {c : Code} {G : va_G} {d : ClassId} {h1 h2 : Nat} {a1 a2 : Nat → Nat} {b L i : Nat} {xs : Nat → Int32} {H : Heap} {locs : List Loc} {ls : Array Slot} {Q : State → Prop} (S : CallFix p m c cL_law 4 s #[Value.ref b] lw_all R_law) (hv : va_X b L xs s s.heap) (hbl : b < s.heap.size) (hL : L ≤ 256) (hi : i + 4 ≤ L) (X0 : LawSt G d h1 a1 h2 a2 s H locs) (hl : lv_has ls 4 [(0, .ref b), (1, .ref h1), (2, .ref h2), (3, .int (nI i))]) (kk : ∀ (H : Heap) (locs : List Loc), LawSt G d h1 a1 h2 a2 s H locs → W p l e room_1 s m #[Value.ref b] below meth c H locs 14 417 Q (F0 m 610 ls [])) : W p l e room_1 s m #[Value.ref b] below meth c H locs 14 417 Q (F0 m 478 ls []) := by
  obtain ⟨sz, nx, an, ap, cn, ld, qu, wo, co, cu, ct, mb, hI, X⟩ := X0
  have hx := S.1
  have hb := S.2.1
  have hA : ∀ q : Nat, s.heap.size ≤ q → (fun q : Nat => s.heap.size ≤ q) q := fun _ h => h
  refine lv_aload_n hx hb dL_law_478 rfl (lv_at hl 1 rfl) ?_
  refine lv_aload_n hx hb dL_law_479 rfl (lv_at hl 0 rfl) ?_
  refine lv_iload_n hx hb dL_law_480 rfl (lv_at hl 3 rfl) ?_
  refine lv_iconst (v := nI 1) hx hb dL_law_481 (by decide) ?_
  refine n_iadd hx hb dL_law_482 ?_
  refine law_ld S hv hbl hL X (j := i + 1) (by omega) dL_law_483 ?_
  refine lv_aload_n hx hb dL_law_484 rfl (lv_at hl 0 rfl) ?_
  refine lv_iload_n hx hb dL_law_485 rfl (lv_at hl 3 rfl) ?_
  refine lv_iconst (v := nI 2) hx hb dL_law_486 (by decide) ?_
  refine n_iadd hx hb dL_law_487 ?_
  refine law_ld S hv hbl hL X (j := i + 2) (by omega) dL_law_488 ?_
  refine lv_aload_n hx hb dL_law_489 rfl (lv_at hl 0 rfl) ?_
  refine lv_iload_n hx hb dL_law_490 rfl (lv_at hl 3 rfl) ?_
  refine lv_iconst (v := nI 3) hx hb dL_law_491 (by decide) ?_
  refine n_iadd hx hb dL_law_492 ?_
  refine law_ld S hv hbl hL X (j := i + 3) (by omega) dL_law_493 ?_
  refine callLX S hA X (mX_coreNext l sz nx an ap cn ld qu wo co cu (xs (i + 1)) (xs (i + 2)) (xs (i + 3)) hI) (cwV 3 S.2.2.2.2 (lw_V q146 q147 q148 q18 q149) rfl rfl rfl (by decide +kernel) ⟨Nat.le_of_ble_eq_true rfl, Nat.le_of_ble_eq_true rfl⟩) rfl hl.1 rfl (Nat.le_of_ble_eq_true rfl) dL_law_494 ⟨Nat.le_of_ble_eq_true rfl, Nat.le_of_ble_eq_true rfl⟩ (fun r u1 H locs hq X => ?_)
  refine lv_aload_n hx hb dL_law_497 rfl (lv_at hl 2 rfl) ?_
  refine lv_aload_n hx hb dL_law_498 rfl (lv_at hl 0 rfl) ?_
  refine lv_iload_n hx hb dL_law_499 rfl (lv_at hl 3 rfl) ?_
  refine lv_iconst (v := nI 1) hx hb dL_law_500 (by decide) ?_
  refine n_iadd hx hb dL_law_501 ?_
  refine law_ld S hv hbl hL X (j := i + 1) (by omega) dL_law_502 ?_
  refine lv_aload_n hx hb dL_law_503 rfl (lv_at hl 0 rfl) ?_
  refine lv_iload_n hx hb dL_law_504 rfl (lv_at hl 3 rfl) ?_
  refine lv_iconst (v := nI 2) hx hb dL_law_505 (by decide) ?_
  refine n_iadd hx hb dL_law_506 ?_
  refine law_ld S hv hbl hL X (j := i + 2) (by omega) dL_law_507 ?_
  refine lv_aload_n hx hb dL_law_508 rfl (lv_at hl 0 rfl) ?_
  refine lv_iload_n hx hb dL_law_509 rfl (lv_at hl 3 rfl) ?_
  refine lv_iconst (v := nI 3) hx hb dL_law_510 (by decide) ?_
  refine n_iadd hx hb dL_law_511 ?_
  refine law_ld S hv hbl hL X (j := i + 3) (by omega) dL_law_512 ?_
  refine callLY S hA X (mY_coreNext l sz nx an ct mb (xs (i + 1)) (xs (i + 2)) (xs (i + 3)) hI.1) (cwV 3 S.2.2.2.2 (lw_V q268 q269 q270 q19 q271) rfl rfl rfl (by decide +kernel) ⟨Nat.le_of_ble_eq_true rfl, Nat.le_of_ble_eq_true rfl⟩) rfl hl.1 rfl (Nat.le_of_ble_eq_true rfl) dL_law_513 ⟨Nat.le_of_ble_eq_true rfl, Nat.le_of_ble_eq_true rfl⟩ (fun r2 v1 H locs hq2 X => ?_)
  generalize spCoreNext (xs (i + 1)) (xs (i + 2)) (xs (i + 3)) sz nx an = t at hq hq2
  obtain ⟨rfl, ap1, cn1, ld1, qu1, wo1, co1, cu1, rfl, hI1⟩ := hq
  obtain ⟨rfl, ct1, mb1, rfl⟩ := hq2
  refine lv_icmp_eq (tgt := 610) hx hb dL_law_516 (by decide) (fun _ => ?_) (fun z => absurd rfl z)
  exact kk _ _ ⟨_, _, _, ap1, cn1, ld1, qu1, wo1, co1, cu1, ct1, mb1, hI1, X⟩
set_option maxHeartbeats 1000000 in
theorem law_c13 {p : Program} {l : Launch} {e : Env} {s : State} {m : MethodId} {below : List Frame} {meth : Method} {c : Code} {G : va_G} {d : ClassId} {h1 h2 : Nat} {a1 a2 : Nat → Nat} {b L i : Nat} {xs : Nat → Int32} {H : Heap} {locs : List Loc} {ls : Array Slot} {Q : State → Prop} (S : CallFix p m c cL_law 4 s #[Value.ref b] lw_all R_law) (hv : va_X b L xs s s.heap) (hbl : b < s.heap.size) (hL : L ≤ 256) (hi : i + 4 ≤ L) (X0 : LawSt G d h1 a1 h2 a2 s H locs) (hl : lv_has ls 4 [(0, .ref b), (1, .ref h1), (2, .ref h2), (3, .int (nI i))]) (kk : ∀ (H : Heap) (locs : List Loc), LawSt G d h1 a1 h2 a2 s H locs → W p l e room_1 s m #[Value.ref b] below meth c H locs 14 417 Q (F0 m 610 ls [])) : W p l e room_1 s m #[Value.ref b] below meth c H locs 14 417 Q (F0 m 521 ls []) := by
  obtain ⟨sz, nx, an, ap, cn, ld, qu, wo, co, cu, ct, mb, hI, X⟩ := X0
  have hx := S.1
  have hb := S.2.1
  have hA : ∀ q : Nat, s.heap.size ≤ q → (fun q : Nat => s.heap.size ≤ q) q := fun _ h => h
  refine lv_aload_n hx hb dL_law_521 rfl (lv_at hl 1 rfl) ?_
  refine lv_aload_n hx hb dL_law_522 rfl (lv_at hl 0 rfl) ?_
  refine lv_iload_n hx hb dL_law_523 rfl (lv_at hl 3 rfl) ?_
  refine lv_iconst (v := nI 1) hx hb dL_law_524 (by decide) ?_
  refine n_iadd hx hb dL_law_525 ?_
  refine law_ld S hv hbl hL X (j := i + 1) (by omega) dL_law_526 ?_
  refine lv_aload_n hx hb dL_law_527 rfl (lv_at hl 0 rfl) ?_
  refine lv_iload_n hx hb dL_law_528 rfl (lv_at hl 3 rfl) ?_
  refine lv_iconst (v := nI 2) hx hb dL_law_529 (by decide) ?_
  refine n_iadd hx hb dL_law_530 ?_
  refine law_ld S hv hbl hL X (j := i + 2) (by omega) dL_law_531 ?_
  refine lv_aload_n hx hb dL_law_532 rfl (lv_at hl 0 rfl) ?_
  refine lv_iload_n hx hb dL_law_533 rfl (lv_at hl 3 rfl) ?_
  refine lv_iconst (v := nI 3) hx hb dL_law_534 (by decide) ?_
  refine n_iadd hx hb dL_law_535 ?_
  refine law_ld S hv hbl hL X (j := i + 3) (by omega) dL_law_536 ?_
  refine callLX S hA X (mX_coreAnswer l sz nx an ap cn ld qu wo co cu (xs (i + 1)) (xs (i + 2)) (xs (i + 3)) hI) (cwV 3 S.2.2.2.2 (lw_V q150 q151 q152 q18 q153) rfl rfl rfl (by decide +kernel) ⟨Nat.le_of_ble_eq_true rfl, Nat.le_of_ble_eq_true rfl⟩) rfl hl.1 rfl (Nat.le_of_ble_eq_true rfl) dL_law_537 ⟨Nat.le_of_ble_eq_true rfl, Nat.le_of_ble_eq_true rfl⟩ (fun r u1 H locs hq X => ?_)
  refine lv_aload_n hx hb dL_law_540 rfl (lv_at hl 2 rfl) ?_
  refine lv_aload_n hx hb dL_law_541 rfl (lv_at hl 0 rfl) ?_
  refine lv_iload_n hx hb dL_law_542 rfl (lv_at hl 3 rfl) ?_
  refine lv_iconst (v := nI 1) hx hb dL_law_543 (by decide) ?_
  refine n_iadd hx hb dL_law_544 ?_
  refine law_ld S hv hbl hL X (j := i + 1) (by omega) dL_law_545 ?_
  refine lv_aload_n hx hb dL_law_546 rfl (lv_at hl 0 rfl) ?_
  refine lv_iload_n hx hb dL_law_547 rfl (lv_at hl 3 rfl) ?_
  refine lv_iconst (v := nI 2) hx hb dL_law_548 (by decide) ?_
  refine n_iadd hx hb dL_law_549 ?_
  refine law_ld S hv hbl hL X (j := i + 2) (by omega) dL_law_550 ?_
  refine lv_aload_n hx hb dL_law_551 rfl (lv_at hl 0 rfl) ?_
  refine lv_iload_n hx hb dL_law_552 rfl (lv_at hl 3 rfl) ?_
  refine lv_iconst (v := nI 3) hx hb dL_law_553 (by decide) ?_
  refine n_iadd hx hb dL_law_554 ?_
  refine law_ld S hv hbl hL X (j := i + 3) (by omega) dL_law_555 ?_
  refine callLY S hA X (mY_coreAnswer l sz nx an ct mb (xs (i + 1)) (xs (i + 2)) (xs (i + 3)) hI.1) (cwV 3 S.2.2.2.2 (lw_V q272 q273 q274 q19 q275) rfl rfl rfl (by decide +kernel) ⟨Nat.le_of_ble_eq_true rfl, Nat.le_of_ble_eq_true rfl⟩) rfl hl.1 rfl (Nat.le_of_ble_eq_true rfl) dL_law_556 ⟨Nat.le_of_ble_eq_true rfl, Nat.le_of_ble_eq_true rfl⟩ (fun r2 v1 H locs hq2 X => ?_)
  generalize spCoreAnswer (xs (i + 1)) (xs (i + 2)) (xs (i + 3)) sz nx an = t at hq hq2
  obtain ⟨rfl, ap1, cn1, ld1, qu1, wo1, co1, cu1, rfl, hI1⟩ := hq
  obtain ⟨rfl, ct1, mb1, rfl⟩ := hq2
  refine lv_icmp_eq (tgt := 610) hx hb dL_law_559 (by decide) (fun _ => ?_) (fun z => absurd rfl z)
  exact kk _ _ ⟨_, _, _, ap1, cn1, ld1, qu1, wo1, co1, cu1, ct1, mb1, hI1, X⟩
set_option maxHeartbeats 1000000 in
theorem law_c14 {p : Program} {l : Launch} {e : Env} {s : State} {m : MethodId} {below : List Frame} {meth : Method} {c : Code} {G : va_G} {d : ClassId} {h1 h2 : Nat} {a1 a2 : Nat → Nat} {b L i : Nat} {xs : Nat → Int32} {H : Heap} {locs : List Loc} {ls : Array Slot} {Q : State → Prop} (S : CallFix p m c cL_law 4 s #[Value.ref b] lw_all R_law) (hv : va_X b L xs s s.heap) (hbl : b < s.heap.size) (hL : L ≤ 256) (hi : i + 4 ≤ L) (X0 : LawSt G d h1 a1 h2 a2 s H locs) (hl : lv_has ls 4 [(0, .ref b), (1, .ref h1), (2, .ref h2), (3, .int (nI i))]) (kk : ∀ (H : Heap) (locs : List Loc), LawSt G d h1 a1 h2 a2 s H locs → W p l e room_1 s m #[Value.ref b] below meth c H locs 14 417 Q (F0 m 610 ls [])) : W p l e room_1 s m #[Value.ref b] below meth c H locs 14 417 Q (F0 m 564 ls []) := by
  obtain ⟨sz, nx, an, ap, cn, ld, qu, wo, co, cu, ct, mb, hI, X⟩ := X0
  have hx := S.1
  have hb := S.2.1
  have hA : ∀ q : Nat, s.heap.size ≤ q → (fun q : Nat => s.heap.size ≤ q) q := fun _ h => h
  refine lv_aload_n hx hb dL_law_564 rfl (lv_at hl 1 rfl) ?_
  refine lv_aload_n hx hb dL_law_565 rfl (lv_at hl 0 rfl) ?_
  refine lv_iload_n hx hb dL_law_566 rfl (lv_at hl 3 rfl) ?_
  refine lv_iconst (v := nI 1) hx hb dL_law_567 (by decide) ?_
  refine n_iadd hx hb dL_law_568 ?_
  refine law_ld S hv hbl hL X (j := i + 1) (by omega) dL_law_569 ?_
  refine callLX S hA X (mX_classOf l sz nx an ap cn ld qu wo co cu (xs (i + 1)) hI) (cwV 1 S.2.2.2.2 (lw_V q154 q155 q156 q18 q157) rfl rfl rfl (by decide +kernel) ⟨Nat.le_of_ble_eq_true rfl, Nat.le_of_ble_eq_true rfl⟩) rfl hl.1 rfl (Nat.le_of_ble_eq_true rfl) dL_law_570 ⟨Nat.le_of_ble_eq_true rfl, Nat.le_of_ble_eq_true rfl⟩ (fun r u1 H locs hq X => ?_)
  refine lv_aload_n hx hb dL_law_573 rfl (lv_at hl 2 rfl) ?_
  refine lv_aload_n hx hb dL_law_574 rfl (lv_at hl 0 rfl) ?_
  refine lv_iload_n hx hb dL_law_575 rfl (lv_at hl 3 rfl) ?_
  refine lv_iconst (v := nI 1) hx hb dL_law_576 (by decide) ?_
  refine n_iadd hx hb dL_law_577 ?_
  refine law_ld S hv hbl hL X (j := i + 1) (by omega) dL_law_578 ?_
  refine callLY S hA X (mY_classOf l sz nx an ct mb (xs (i + 1)) hI.1) (cwV 1 S.2.2.2.2 (lw_V q276 q277 q278 q19 q279) rfl rfl rfl (by decide +kernel) ⟨Nat.le_of_ble_eq_true rfl, Nat.le_of_ble_eq_true rfl⟩) rfl hl.1 rfl (Nat.le_of_ble_eq_true rfl) dL_law_579 ⟨Nat.le_of_ble_eq_true rfl, Nat.le_of_ble_eq_true rfl⟩ (fun r2 v1 H locs hq2 X => ?_)
  generalize spClassOf (xs (i + 1)) sz nx an = t at hq hq2
  obtain ⟨rfl, ap1, cn1, ld1, qu1, wo1, co1, cu1, rfl, hI1⟩ := hq
  obtain ⟨rfl, ct1, mb1, rfl⟩ := hq2
  refine lv_icmp_eq (tgt := 610) hx hb dL_law_582 (by decide) (fun _ => ?_) (fun z => absurd rfl z)
  exact kk _ _ ⟨_, _, _, ap1, cn1, ld1, qu1, wo1, co1, cu1, ct1, mb1, hI1, X⟩
set_option maxHeartbeats 1000000 in
theorem law_c15 {p : Program} {l : Launch} {e : Env} {s : State} {m : MethodId} {below : List Frame} {meth : Method} {c : Code} {G : va_G} {d : ClassId} {h1 h2 : Nat} {a1 a2 : Nat → Nat} {b L i : Nat} {xs : Nat → Int32} {H : Heap} {locs : List Loc} {ls : Array Slot} {Q : State → Prop} (S : CallFix p m c cL_law 4 s #[Value.ref b] lw_all R_law) (hv : va_X b L xs s s.heap) (hbl : b < s.heap.size) (hL : L ≤ 256) (hi : i + 4 ≤ L) (X0 : LawSt G d h1 a1 h2 a2 s H locs) (hl : lv_has ls 4 [(0, .ref b), (1, .ref h1), (2, .ref h2), (3, .int (nI i))]) (kk : ∀ (H : Heap) (locs : List Loc), LawSt G d h1 a1 h2 a2 s H locs → W p l e room_1 s m #[Value.ref b] below meth c H locs 14 417 Q (F0 m 610 ls [])) : W p l e room_1 s m #[Value.ref b] below meth c H locs 14 417 Q (F0 m 587 ls []) := by
  obtain ⟨sz, nx, an, ap, cn, ld, qu, wo, co, cu, ct, mb, hI, X⟩ := X0
  have hx := S.1
  have hb := S.2.1
  have hA : ∀ q : Nat, s.heap.size ≤ q → (fun q : Nat => s.heap.size ≤ q) q := fun _ h => h
  refine lv_aload_n hx hb dL_law_587 rfl (lv_at hl 1 rfl) ?_
  refine lv_aload_n hx hb dL_law_588 rfl (lv_at hl 0 rfl) ?_
  refine lv_iload_n hx hb dL_law_589 rfl (lv_at hl 3 rfl) ?_
  refine lv_iconst (v := nI 1) hx hb dL_law_590 (by decide) ?_
  refine n_iadd hx hb dL_law_591 ?_
  refine law_ld S hv hbl hL X (j := i + 1) (by omega) dL_law_592 ?_
  refine callLX S hA X (mX_reset l sz nx an ap cn ld qu wo co cu (xs (i + 1)) hI) (cwV 1 S.2.2.2.2 (lw_V q158 q159 q160 q18 q161) rfl rfl rfl (by decide +kernel) ⟨Nat.le_of_ble_eq_true rfl, Nat.le_of_ble_eq_true rfl⟩) rfl hl.1 rfl (Nat.le_of_ble_eq_true rfl) dL_law_593 ⟨Nat.le_of_ble_eq_true rfl, Nat.le_of_ble_eq_true rfl⟩ (fun r u1 H locs hq X => ?_)
  refine lv_aload_n hx hb dL_law_596 rfl (lv_at hl 2 rfl) ?_
  refine lv_aload_n hx hb dL_law_597 rfl (lv_at hl 0 rfl) ?_
  refine lv_iload_n hx hb dL_law_598 rfl (lv_at hl 3 rfl) ?_
  refine lv_iconst (v := nI 1) hx hb dL_law_599 (by decide) ?_
  refine n_iadd hx hb dL_law_600 ?_
  refine law_ld S hv hbl hL X (j := i + 1) (by omega) dL_law_601 ?_
  refine callLY S hA X (mY_reset l sz nx an ct mb (xs (i + 1)) hI.1) (cwV 1 S.2.2.2.2 (lw_V q280 q281 q282 q19 q283) rfl rfl rfl (by decide +kernel) ⟨Nat.le_of_ble_eq_true rfl, Nat.le_of_ble_eq_true rfl⟩) rfl hl.1 rfl (Nat.le_of_ble_eq_true rfl) dL_law_602 ⟨Nat.le_of_ble_eq_true rfl, Nat.le_of_ble_eq_true rfl⟩ (fun r2 v1 H locs hq2 X => ?_)
  generalize spReset (xs (i + 1)) sz nx an = t at hq hq2
  obtain ⟨rfl, ap1, cn1, ld1, qu1, wo1, co1, cu1, rfl, hI1⟩ := hq
  obtain ⟨rfl, ct1, mb1, rfl⟩ := hq2
  refine lv_icmp_eq (tgt := 610) hx hb dL_law_605 (by decide) (fun _ => ?_) (fun z => absurd rfl z)
  exact kk _ _ ⟨_, _, _, ap1, cn1, ld1, qu1, wo1, co1, cu1, ct1, mb1, hI1, X⟩
end
section
set_option maxRecDepth 100000
/-! the loop of the law, and the whole -/
set_option maxHeartbeats 4000000 in
/-- the law's loop, at its head -/
theorem law_loop {p : Program} {l : Launch} {e : Env} {s : State} {m : MethodId} {below : List Frame} {meth : Method} {c : Code} {G : va_G} {d : ClassId} {h1 h2 : Nat} {a1 a2 : Nat → Nat} {b L : Nat} {xs : Nat → Int32} (hL : L ≤ 256) (C0 : lw_At p s m meth c b L xs) :
    ∀ (n i : Nat), i ≤ L → L + 1 ≤ i + n → ∀ (H : Heap) (locs : List Loc) (ls : Array Slot), LawSt G d h1 a1 h2 a2 s H locs → lv_has ls 4 [(0, .ref b), (1, .ref h1), (2, .ref h2), (3, .int (nI i))] → W p l e room_1 s m #[Value.ref b] below meth c H locs 14 417 (lw_Z below #[Value.ref b] s) (F0 m 18 ls []) := by
  obtain ⟨hx, hb, hr, hml, hown, hts0, hv, hbl, hlocks, hgv⟩ := C0
  have hts : ∀ w ∈ lw_all, w.before #[Value.ref b] s = true := fun w h => hts0 w (lw_all_tbl h)
  have S : CallFix p m c cL_law 4 s #[Value.ref b] lw_all R_law := ⟨hx, hb, hml, hown, hts⟩
  have hbA : ¬ (fun q : Nat => s.heap.size ≤ q) b := Nat.not_le.mpr hbl
  intro n
  induction n with
  | zero =>
    intro i h1 h2
    exact absurd h2 (by omega)
  | succ n ih =>
    intro i hi hin H locs ls X0 hl
    have X1 := X0
    obtain ⟨sz, nx, an, ap, cn, ld, qu, wo, co, cu, ct, mb, hI, X⟩ := X1
    refine lv_iload_n hx hb dL_law_18 rfl (lv_at hl 3 rfl) ?_
    refine lv_aload_n hx hb dL_law_19 rfl (lv_at hl 0 rfl) ?_
    refine va_slen hx hb hv hbl hbA X.2.2.2 dL_law_20 ?_
    refine lv_iconst (v := nI 4) hx hb dL_law_21 (by decide) ?_
    refine lv_isub hx hb dL_law_22 ?_
    refine lv_icmp_gt (tgt := 616) hx hb dL_law_23 (by decide) (fun c_23 => ?_) (fun c_23 => ?_)
    · refine lv_iconst (v := 1) hx hb dL_law_616 (by decide) ?_
      refine va_forget (fun q hq => X.2.2.2.2.2 q hq) ?_
      refine W.widen (k := 600000) (n := 7290000) (by decide) (by decide) ?_
      exact lw_ret hx hb hr hlocks dL_law_617
    · have hi4 : i + 4 ≤ L := law_gt hL hi c_23
      have back : ∀ (H : Heap) (locs : List Loc), LawSt G d h1 a1 h2 a2 s H locs → W p l e room_1 s m #[Value.ref b] below meth c H locs 14 417 (lw_Z below #[Value.ref b] s) (F0 m 610 ls []) := by
        intro H locs X2
        refine lv_iinc (v := nI (i + 4)) (lv' := [(3, .int (nI (i + 4))), (0, .ref b), (1, .ref h1), (2, .ref h2)]) hx hb dL_law_610 hl (k := 3) rfl (by rw [show Int32.ofInt 4 = nI 4 by decide]; exact nI_add i 4) (by decide) rfl (fun ls hl => ?_)
        refine lv_goto (tgt := 18) hx hb dL_law_613 (by decide) ?_
        exact ih (i + 4) (by omega) (by omega) _ _ _ X2 (lv_sub hl [1, 2, 3, 0] rfl)
      refine lv_aload_n hx hb dL_law_26 rfl (lv_at hl 0 rfl) ?_
      refine lv_iload_n hx hb dL_law_27 rfl (lv_at hl 3 rfl) ?_
      refine law_ld S hv hbl hL X (j := i) (by omega) dL_law_28 ?_
      refine lv_bipush (v := nI 15) hx hb dL_law_29 (by decide) ?_
      refine lv_iand hx hb dL_law_31 ?_
      obtain ⟨k, hk, ek⟩ := and15 (xs i)
      refine n_top ek ?_
      rcases (show k = 0 ∨ k = 1 ∨ k = 2 ∨ k = 3 ∨ k = 4 ∨ k = 5 ∨ k = 6 ∨ k = 7 ∨ k = 8 ∨ k = 9 ∨ k = 10 ∨ k = 11 ∨ k = 12 ∨ k = 13 ∨ k = 14 ∨ k = 15 by omega) with z | z | z | z | z | z | z | z | z | z | z | z | z | z | z | z
      · subst z
        refine lv_tableIn (off := 80) (tgt := 112) hx hb dL_law_32 (by decide) (by decide) (by decide +kernel) (by decide) ?_
        exact law_c0 S hv hbl hL hi4 X0 hl back
      · subst z
        refine lv_tableIn (off := 113) (tgt := 145) hx hb dL_law_32 (by decide) (by decide) (by decide +kernel) (by decide) ?_
        exact law_c1 S hv hbl hL hi4 X0 hl back
      · subst z
        refine lv_tableIn (off := 156) (tgt := 188) hx hb dL_law_32 (by decide) (by decide) (by decide +kernel) (by decide) ?_
        exact law_c2 S hv hbl hL hi4 X0 hl back
      · subst z
        refine lv_tableIn (off := 199) (tgt := 231) hx hb dL_law_32 (by decide) (by decide) (by decide +kernel) (by decide) ?_
        exact law_c3 S hv hbl hL hi4 X0 hl back
      · subst z
        refine lv_tableIn (off := 232) (tgt := 264) hx hb dL_law_32 (by decide) (by decide) (by decide +kernel) (by decide) ?_
        exact law_c4 S hv hbl hL hi4 X0 hl back
      · subst z
        refine lv_tableIn (off := 255) (tgt := 287) hx hb dL_law_32 (by decide) (by decide) (by decide +kernel) (by decide) ?_
        exact law_c5 S hv hbl hL hi4 X0 hl back
      · subst z
        refine lv_tableIn (off := 288) (tgt := 320) hx hb dL_law_32 (by decide) (by decide) (by decide +kernel) (by decide) ?_
        exact law_c6 S hv hbl hL hi4 X0 hl back
      · subst z
        refine lv_tableIn (off := 321) (tgt := 353) hx hb dL_law_32 (by decide) (by decide) (by decide +kernel) (by decide) ?_
        exact law_c7 S hv hbl hL hi4 X0 hl back
      · subst z
        refine lv_tableIn (off := 354) (tgt := 386) hx hb dL_law_32 (by decide) (by decide) (by decide +kernel) (by decide) ?_
        exact law_c8 S hv hbl hL hi4 X0 hl back
      · subst z
        refine lv_tableIn (off := 387) (tgt := 419) hx hb dL_law_32 (by decide) (by decide) (by decide +kernel) (by decide) ?_
        exact law_c9 S hv hbl hL hi4 X0 hl back
      · subst z
        refine lv_tableIn (off := 400) (tgt := 432) hx hb dL_law_32 (by decide) (by decide) (by decide +kernel) (by decide) ?_
        exact law_c10 S hv hbl hL hi4 X0 hl back
      · subst z
        refine lv_tableIn (off := 423) (tgt := 455) hx hb dL_law_32 (by decide) (by decide) (by decide +kernel) (by decide) ?_
        exact law_c11 S hv hbl hL hi4 X0 hl back
      · subst z
        refine lv_tableIn (off := 446) (tgt := 478) hx hb dL_law_32 (by decide) (by decide) (by decide +kernel) (by decide) ?_
        exact law_c12 S hv hbl hL hi4 X0 hl back
      · subst z
        refine lv_tableIn (off := 489) (tgt := 521) hx hb dL_law_32 (by decide) (by decide) (by decide +kernel) (by decide) ?_
        exact law_c13 S hv hbl hL hi4 X0 hl back
      · subst z
        refine lv_tableIn (off := 532) (tgt := 564) hx hb dL_law_32 (by decide) (by decide) (by decide +kernel) (by decide) ?_
        exact law_c14 S hv hbl hL hi4 X0 hl back
      · subst z
        refine lv_tableIn (off := 555) (tgt := 587) hx hb dL_law_32 (by decide) (by decide) (by decide +kernel) (by decide) ?_
        exact law_c15 S hv hbl hL hi4 X0 hl back
theorem wf00 : wf sz00 (fun _ => 0) (fun _ => 0) := by
  have one : ∀ m, m < 2 → sz00 m = 1 := fun m hm => by
    rcases (show m = 0 ∨ m = 1 by omega) with z | z <;> subst z <;> rfl
  have le : ∀ m, sz00 m ≤ 1 := fun m => by
    unfold sz00 updN
    split
    · exact Nat.le_refl _
    · split
      · exact Nat.le_refl _
      · exact Nat.zero_le _
  refine ⟨fun m hm => Nat.le_of_eq (one m hm).symm, fun m => Nat.le_trans (le m) (by decide), fun m s a hm _ _ => ?_, fun _ => Nat.zero_lt_succ _, fun _ => Nat.zero_lt_succ _⟩
  show 0 < sz00 m
  rw [one m hm]
  decide
set_option maxHeartbeats 4000000 in
/-- THE LAW, from its entry -/
theorem whole_start {p : Program} {e : Env} {s : State} {m : MethodId} {below : List Frame} {meth : Method} {c : Code} (l : Launch) {b L : Nat} {xs : Nat → Int32} (hL : L ≤ 256) (C0 : lw_At p s m meth c b L xs) : W p l e room_1 s m #[Value.ref b] below meth c s.heap [] 0 0 (lw_Z below #[Value.ref b] s) (entryFrame m ([Value.ref b] : List Value).toArray 4) := by
  obtain ⟨hx, hb, hr, hml, hown, hts0, hv, hbl, hlocks, hgv⟩ := id C0
  have hts : ∀ w ∈ lw_all, w.before #[Value.ref b] s = true := fun w h => hts0 w (lw_all_tbl h)
  have hA : ∀ q : Nat, s.heap.size ≤ q → (fun q : Nat => s.heap.size ≤ q) q := fun _ h => h
  obtain ⟨c0, iS0, hKn0⟩ := u_known (C := RX0) (T := TX0) (N := 10) (n := 10) hts0 (fun w h => lw_all_tbl (in_X0 w h)) (hts0 _ (lw_all_tbl q21))
  obtain ⟨c1, iS1, hKn1⟩ := u_known (C := RX1) (T := TX1) (N := 5) (n := 5) hts0 (fun w h => lw_all_tbl (in_X1 w h)) (hts0 _ (lw_all_tbl q167))
  obtain ⟨G, hKc⟩ : ∃ (G : va_G), ∀ (k : Nat) (q : vw_C), vwCl[k]? = some q → u_Kn s q.1 q.2.1 q.2.2 (G.1 k) (G.2 k) := by
    refine ⟨(fun k => if k = 0 then c0 else c1, fun k => if k = 0 then iS0 else iS1), ?_⟩
    intro k q hq
    match k, hq with
    | 0, hq => cases hq; exact hKn0
    | 1, hq => cases hq; exact hKn1
    | k + 2, hq => simp [vwCl] at hq
  have hS : va_S (fun q : Nat => s.heap.size ≤ q) s.heap s.heap [] := va_S.rf
  have hK : va_K G vwCl [] s := ⟨hKc, fun k q h => by simp at h⟩
  have hP : va_P G vwCl [] s.heap := fun k q h => by simp at h
  have hD : va_D (fun q : Nat => s.heap.size ≤ q) [] := ⟨fun i j p q h => by simp at h, fun k q h => by simp at h⟩
  have hl := lv_entry ([.ref b]) (n := 4) (Nat.le_of_ble_eq_true rfl)
  rw [lg_entry_eq]
  generalize (lg_sl ([.ref b]) ++ List.replicate (4 - (lg_sl ([.ref b])).length) Slot.unset).toArray = ls at hl ⊢
  have hl : lv_has ls 4 [(0, .ref b)] := hl
  refine va_new (ci := 0) (fs := nuX) (C := RX0) (T := TX0) (N := 10) hx hb hts in_X0 tyX0 tyX0_ok hown (hts _ q20) (hts _ q21) (hts _ q18) hK hP hD hS hA rfl (fun j hj => by rcases (show j = 0 ∨ j = 1 ∨ j = 2 ∨ j = 3 ∨ j = 4 ∨ j = 5 ∨ j = 6 ∨ j = 7 ∨ j = 8 ∨ j = 9 by omega) with rfl | rfl | rfl | rfl | rfl | rfl | rfl | rfl | rfl | rfl <;> rfl) (Nat.le_of_ble_eq_true rfl) (Nat.le_of_ble_eq_true rfl) dL_law_0 (fun h1 H hP hD hS => ?_)
  have hP : va_P G vwCl [(h1, .inr (0, nuX))] H := hP
  have hD : va_D (fun q : Nat => s.heap.size ≤ q) [(h1, .inr (0, nuX))] := hD
  refine W.widen (k := 1) (n := 10) (by omega) (by omega) ?_
  refine lv_dup hx hb dL_law_3 rfl ?_
  have hPc := hP
  have hDc := hD
  have hKc := hK
  have hFc := va_free (wc := [(h1, .inr (0, nuX))]) hD hS hA [0] rfl
  refine va_callv (va_runI (As := []) (rest := [.ref h1]) ⟨hx, hb, hml, hown, hts⟩ (mX_init l G h1 H.size) (cwI 0 hts (lw_meth q24) rfl rfl rfl (hts _ q18) (hts _ q22) (hts _ q23) rfl (by decide +kernel) ⟨Nat.le_of_ble_eq_true rfl, Nat.le_of_ble_eq_true rfl⟩) ⟨fun a U g mk q => by obtain ⟨q0, q1, qP, qK, qD⟩ := q; exact ⟨q0, q1, qP, va_K.moved (u := U) (U := U.calling g mk a) (Vm.Alike.refl U.vm) qK, qD⟩, fun U hU hW => ⟨rfl, by rw [hU], by rw [hU]; exact hPc, va_K.moved hW.alike hKc, hDc.weaken (fun _ _ _ _ => trivial)⟩⟩ rfl rfl hl.1 rfl (lv_room (Nat.le_of_ble_eq_true rfl)) dL_law_4 ⟨Nat.le_of_ble_eq_true rfl, Nat.le_of_ble_eq_true rfl⟩) hS (fun q _ h => hFc q h) hFc (fun u t H1 locs ht hvm hw hB hz1 hk1 hS => ?_)
  have hw : u = uX0 := hw
  subst hw
  obtain ⟨d, a1, hP1, hK1, hD1⟩ := hB
  rw [ht] at hP1
  have hK1 := va_K.moved hvm.symm hK1
  obtain ⟨hP, hD⟩ := va_join (wr := []) (w1 := wX d h1 a1 uX0) hP hD [0] [] rfl rfl (by decide) (by decide) hk1 hFc hP1 hD1
  have hK := hK1
  generalize H1 = H at hP hS ⊢
  have hP : va_P G vwCl (wX d h1 a1 uX0) H := hP
  have hD : va_D (fun q : Nat => s.heap.size ≤ q) (wX d h1 a1 uX0) := hD
  refine W.widen (k := 9) (n := 356) (by omega) (by omega) ?_
  refine lv_astore_n (lv' := [(1, .ref h1), (0, .ref b)]) hx hb dL_law_7 rfl hl (by decide) rfl (fun ls hl => ?_)
  refine va_new (ci := 1) (fs := nuY) (C := RX1) (T := TX1) (N := 5) hx hb hts in_X1 tyX1 tyX1_ok hown (hts _ q166) (hts _ q167) (hts _ q19) hK hP hD hS hA rfl (fun j hj => by rcases (show j = 0 ∨ j = 1 ∨ j = 2 ∨ j = 3 ∨ j = 4 by omega) with rfl | rfl | rfl | rfl | rfl <;> rfl) (Nat.le_of_ble_eq_true rfl) (Nat.le_of_ble_eq_true rfl) dL_law_8 (fun h2 H hP hD hS => ?_)
  have hP : va_P G vwCl (wX d h1 a1 uX0 ++ [(h2, .inr (1, nuY))]) H := hP
  have hD : va_D (fun q : Nat => s.heap.size ≤ q) (wX d h1 a1 uX0 ++ [(h2, .inr (1, nuY))]) := hD
  refine W.widen (k := 10) (n := 361) (by omega) (by omega) ?_
  refine lv_dup hx hb dL_law_11 rfl ?_
  have hPc := hP.sub (ws' := [(h2, .inr (1, nuY))]) [9] rfl
  have hDc := hD.sub (ws' := [(h2, .inr (1, nuY))]) [9] (by decide) rfl
  have hKc := hK.sub (tys' := []) [] rfl
  have hFc := va_free (wc := [(h2, .inr (1, nuY))]) hD hS hA [9] rfl
  refine va_callv (va_runI (As := []) (rest := [.ref h2]) ⟨hx, hb, hml, hown, hts⟩ (mY_init l G h2 H.size) (cwI 0 hts (lw_meth q170) rfl rfl rfl (hts _ q19) (hts _ q168) (hts _ q169) rfl (by decide +kernel) ⟨Nat.le_of_ble_eq_true rfl, Nat.le_of_ble_eq_true rfl⟩) ⟨fun a U g mk q => by obtain ⟨q0, q1, qP, qK, qD⟩ := q; exact ⟨q0, q1, qP, va_K.moved (u := U) (U := U.calling g mk a) (Vm.Alike.refl U.vm) qK, qD⟩, fun U hU hW => ⟨rfl, by rw [hU], by rw [hU]; exact hPc, va_K.moved hW.alike hKc, hDc.weaken (fun _ _ _ _ => trivial)⟩⟩ rfl rfl hl.1 rfl (lv_room (Nat.le_of_ble_eq_true rfl)) dL_law_12 ⟨Nat.le_of_ble_eq_true rfl, Nat.le_of_ble_eq_true rfl⟩) hS (fun q _ h => hFc q h) hFc (fun u t H1 locs ht hvm hw hB hz1 hk1 hS => ?_)
  have hw : u = uY0 := hw
  subst hw
  obtain ⟨d1, a2, hP1, hK1, hD1⟩ := hB
  rw [ht] at hP1
  have hK1 := va_K.moved hvm.symm hK1
  have e1 : d1 = d := int_class (hK.app hK1)
  rw [e1] at hP1 hD1
  obtain ⟨hP, hD⟩ := va_join (wr := wX d h1 a1 uX0) (w1 := wY d h2 a2 uY0) hP hD [9] [0, 1, 2, 3, 4, 5, 6, 7, 8] rfl rfl (by decide) (by decide) hk1 hFc hP1 hD1
  generalize H1 = H at hP hS ⊢
  refine W.widen (k := 14) (n := 417) (by omega) (by omega) ?_
  refine lv_astore_n (lv' := [(2, .ref h2), (1, .ref h1), (0, .ref b)]) hx hb dL_law_15 rfl hl (by decide) rfl (fun ls hl => ?_)
  refine lv_iconst (v := nI 0) hx hb dL_law_16 (by decide) ?_
  refine lv_istore_n (lv' := [(3, .int (nI 0)), (2, .ref h2), (1, .ref h1), (0, .ref b)]) hx hb dL_law_17 rfl hl (by decide) rfl (fun ls hl => ?_)
  exact law_loop (G := G) (d := d) (h1 := h1) (h2 := h2) (a1 := a1) (a2 := a2) hL C0 (L + 1) 0 (Nat.zero_le L) (by omega) _ _ _ ⟨_, _, _, _, _, _, _, _, _, _, _, _, ⟨wf00, Or.inl rfl⟩, hK, hP, hD, hS⟩ (lv_sub hl [3, 2, 1, 0] rfl)
end
section
set_option maxRecDepth 100000
set_option maxHeartbeats 4000000 in
theorem lw_walk (l : Launch) (b : Addr) (xs : List Int32) : MetFree l x (headSpec (Jvm.Cond.code x code maxLocals ret :: tables_1) room_1) (lw_P b xs) (fun _ _ _ _ _ => True) lw_Q := by
  refine MetFree.of_bodyS (code := code) (maxLocals := maxLocals) (ret := ret) (by decide) ?_ ?_
  · intro args s m h hn
    obtain ⟨meth, c, h1, h2, h3, h4, h5, h6, -, -⟩ := Cond.code_spec hn (atoms_spec (ws := Jvm.Cond.code x code maxLocals ret :: tables_1) h _ List.mem_cons_self)
    exact ⟨meth, c, h1, h2, h3, h4, h5, h6⟩
  · intro p e s m args below meth c s₁ B hml0 hP _
    obtain ⟨rfl, hx, hbd, hgv⟩ := hP
    obtain ⟨scr, harrAt, hlist, hof, hsmall⟩ := hx
    obtain ⟨hcb, hkn, -, -⟩ := State.arrayAt?_spec harrAt
    have hown : s.vm.findClass R_law = some m.cls := findClass_of_methodNamed B.named
    have hts0 : ∀ c ∈ (Jvm.Cond.code x code maxLocals ret :: tables_1), c.before #[Value.ref b] s = true := atoms_spec (ws := Jvm.Cond.code x code maxLocals ret :: tables_1) B.pre
    have hts : ∀ w ∈ lw_tbl, w.before #[Value.ref b] s = true := k2_hts_sels lw_privs (fun w hw => hts0 w (List.mem_cons_of_mem _ hw)) lw_privs_ok
    have hml : c.maxLocals = 4 := B.maxLocals_eq (hts0 _ List.mem_cons_self)
    have X₀ : Stand p l e room_1 s m #[Value.ref b] below meth c s₁ [] 0 0 := Stand.of_body B
    have hh0 : s₁.heap = s.heap := by rw [B.state]; rfl
    have hsz : scr.slots.size = xs.length := by rw [← Array.length_toList, hlist, List.length_map]
    have hval : ∀ j : Nat, j < xs.length → scr.slots[j]? = some (.int (xs.getD j 0)) := fun j hj => by
      rw [← Array.getElem?_toList, hlist]
      simp [hj]
    have hbl : b < s.heap.size := (Array.getElem?_eq_some_iff.mp hcb).1
    have hX : va_X b xs.length (fun j => xs.getD j 0) s s.heap := ⟨scr, hcb, hof, hkn, hsz, hval⟩
    have K : W p l e room_1 s m #[Value.ref b] below meth c s₁.heap [] 0 0 (lw_Z below #[Value.ref b] s) (entryFrame m ([Value.ref b] : List Value).toArray 4) := by
      rw [hh0]
      exact whole_start l hbd ⟨B.exec, B.bytes, B.returns, hml, hown, hts, hX, hbl, B.notSynchronized, hgv⟩
    obtain ⟨t, a1, o, b1, b2, b3⟩ := K s₁ rfl X₀
    exact ⟨t, o, a1, b1, b2, b3⟩
theorem lw_pre_spec {args : Array Value} {s : State} (h : (Jvm.Cond.and given_1 narrow_1).before args s = true) (hr : rest_1_c.before args s = true) : ∃ (b : Addr) (xs : List Int32), lw_P b xs args s := by
  have hs := flat_of_before _ h
  have hq := flat_of_before _ hr
  have hc : (Cond.count 1).before args s = true := hs _ (by decide +kernel)
  have harr : (Cond.arrayOf (.arg 0) .int).before args s = true := hs _ (by decide +kernel)
  have hle : (Cond.le (.length (.arg 0)) (.int 256)).before args s = true := hs _ (by decide +kernel)
  have hlen : (Cond.isInt (.length (.arg 0))).before args s = true := hq _ (by decide +kernel)
  have hall : (Cond.all (.arg 0) (.isInt (.elem (.arg 0) (.index 0)))).before args s = true := hq _ (by decide +kernel)
  obtain ⟨b, xs, hb, hx⟩ := State.ints_of_pre rfl harr hlen hall
  have hsm : xs.length < 2 ^ 31 := hx.choose_spec.2.2.2
  have hev : (Term.length (.arg 0)).eval args s none [] s = some (.int xs.length.toInt32) := hx.length_eval hb
  have hv := Cond.le_ints hev (show (Term.int 256).eval args s none [] s = some (.int 256) from rfl)
  have hd : xs.length.toInt32 ≤ 256 := by
    simpa [Cond.before, Cond.holds, hv] using hle
  have hN : xs.length ≤ 256 := (Int32.ofNat_le_ofNat hsm (by decide)).mp (show Int32.ofNat xs.length ≤ Int32.ofNat 256 from hd)
  exact ⟨b, xs, Cond.one_arg hc (show args[0]? = some (.ref b) from hb), hx, hN, h⟩
theorem lw_comes (l : Launch) : Comes l x (Jvm.Cond.code x code maxLocals ret :: tables_1) room_1 (fun tb e args s => Calls_1 tb e args s ∧ rest_1 tb e args s ∧ Pre_1 tb e args s)
    (fun _ _ args s o t => lw_Q args s o t) := by
  intro p e ha hc hk s m args below hf hfit hheap happ hpre
  obtain ⟨b, xs, hP⟩ := lw_pre_spec hpre.2.2 hpre.2.1
  obtain ⟨k, o, h1, h2, h3, hQ⟩ := lw_walk l b xs p e ha hc hk s m args below hf ((Spec.applies_iff_loose hf).mp happ).1 hP trivial
  exact ⟨k, o, h1, h2, h3, hQ⟩
theorem lw_frame {s t : State} {o : Outcome} {args : Array Value} (h : Framed s o t [] 600000 7290000) :
    Framed s o t (fieldLocs frame_1_writes args s ++ arrayLocs frame_1_arrays args s ++ staticLocs frame_1_statics s) 600000 7290000 := h
theorem lw_limb (L : Cond) (hL : ∀ (args : Array Value) (s t : State), L.after args s (.returned (some (.int 1))) t = true) :
    ArmFor flags0 classFile x code maxLocals ret World_1 tables_1 room_1 Calls_1 rest_1 Pre_1
      (fun tb e a s o t => postC L tb e a s o t ∧ Framed s o t (fieldLocs frame_1_writes a s ++ arrayLocs frame_1_arrays a s ++ staticLocs frame_1_statics s) 600000 7290000) := by
  intro l _ _ _ p e ha hc hk s m args below hf hfit hheap happ hpre
  obtain ⟨k, o, h1, h2, h3, rfl, hF⟩ := lw_comes l p e ha hc hk s m args below hf hfit hheap happ hpre
  exact ⟨k, _, h1, h2, h3, hL args s _, lw_frame hF⟩
theorem i_vc : Claimed_1_1 ∧ Claimed_1_2 := ⟨lw_limb limb_1_1 (fun args s t => by simp [limb_1_1, Cond.after, Cond.holds, Cond.value]), lw_limb limb_1_2 (fun args s t => Cond.after_iff.mpr (by
  first | (rw [show limb_1_2 = Cond.eq .result (.int 1) from rfl, Cond.eq_ints (x := 1) (y := 1) rfl rfl]; simp; done) | (simp [limb_1_2, Cond.value, Term.eval]; done)))⟩
end
