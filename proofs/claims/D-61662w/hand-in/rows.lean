section
-- ===== PART A: goes FIRST, ahead of the names: the tables' words, and 'selects' of the private methods out of them =====
/-- a private method of a class that the tables say can be made, by its rows of tables_1 -/
def lw_okq (q : MethodName × Nat) : Prop := (q.1.cls ≠ "java/lang/invoke/MethodHandle" ∧ q.1.cls ≠ "java/lang/invoke/VarHandle") ∧ Cond.instantiable q.1.cls q.2 ∈ tables_1 ∧ Cond.privateMethod q.1 ∈ tables_1 ∧ Cond.instanceMethod q.1 ∈ tables_1
set_option maxRecDepth 100000
theorem lw_t1 {w : Cond} (h : w ∈ tables_1_1) : w ∈ tables_1 := List.mem_append_left _ h
theorem lw_t2 {w : Cond} (h : w ∈ tables_1_2) : w ∈ tables_1 := List.mem_append_right _ h
theorem lw_p0 : lw_okq (⟨"ArchetypeWorld", "badSet", "(I)Z"⟩, 19) := ⟨⟨by decide +kernel, by decide +kernel⟩, lw_t1 (List.mem_of_getElem? (i := 4) rfl), lw_t1 (List.mem_of_getElem? (i := 76) rfl), lw_t1 (List.mem_of_getElem? (i := 77) rfl)⟩
theorem lw_p1 : lw_okq (⟨"ArchetypeWorld", "tableFor", "(I)I"⟩, 19) := ⟨⟨by decide +kernel, by decide +kernel⟩, lw_t1 (List.mem_of_getElem? (i := 4) rfl), lw_t1 (List.mem_of_getElem? (i := 80) rfl), lw_t1 (List.mem_of_getElem? (i := 81) rfl)⟩
theorem lw_p2 : lw_okq (⟨"ArchetypeWorld", "enter", "(II)V"⟩, 19) := ⟨⟨by decide +kernel, by decide +kernel⟩, lw_t1 (List.mem_of_getElem? (i := 4) rfl), lw_t1 (List.mem_of_getElem? (i := 84) rfl), lw_t1 (List.mem_of_getElem? (i := 85) rfl)⟩
theorem lw_p3 : lw_okq (⟨"ArchetypeWorld", "lives", "(I)Z"⟩, 19) := ⟨⟨by decide +kernel, by decide +kernel⟩, lw_t1 (List.mem_of_getElem? (i := 4) rfl), lw_t1 (List.mem_of_getElem? (i := 92) rfl), lw_t1 (List.mem_of_getElem? (i := 93) rfl)⟩
theorem lw_p4 : lw_okq (⟨"ArchetypeWorld", "setOf", "(I)I"⟩, 19) := ⟨⟨by decide +kernel, by decide +kernel⟩, lw_t1 (List.mem_of_getElem? (i := 4) rfl), lw_t1 (List.mem_of_getElem? (i := 96) rfl), lw_t1 (List.mem_of_getElem? (i := 97) rfl)⟩
theorem lw_p5 : lw_okq (⟨"ArchetypeWorld", "leave", "(I)V"⟩, 19) := ⟨⟨by decide +kernel, by decide +kernel⟩, lw_t1 (List.mem_of_getElem? (i := 4) rfl), lw_t1 (List.mem_of_getElem? (i := 100) rfl), lw_t1 (List.mem_of_getElem? (i := 101) rfl)⟩
theorem lw_p6 : lw_okq (⟨"ArchetypeWorld", "badPart", "(I)Z"⟩, 19) := ⟨⟨by decide +kernel, by decide +kernel⟩, lw_t1 (List.mem_of_getElem? (i := 4) rfl), lw_t1 (List.mem_of_getElem? (i := 108) rfl), lw_t1 (List.mem_of_getElem? (i := 109) rfl)⟩
theorem lw_p7 : lw_okq (⟨"ArchetypeWorld", "change", "(II)V"⟩, 19) := ⟨⟨by decide +kernel, by decide +kernel⟩, lw_t1 (List.mem_of_getElem? (i := 4) rfl), lw_t1 (List.mem_of_getElem? (i := 112) rfl), lw_t1 (List.mem_of_getElem? (i := 113) rfl)⟩
theorem lw_p8 : lw_okq (⟨"ArchetypeWorld", "fits", "(III)Z"⟩, 19) := ⟨⟨by decide +kernel, by decide +kernel⟩, lw_t1 (List.mem_of_getElem? (i := 4) rfl), lw_t1 (List.mem_of_getElem? (i := 136) rfl), lw_t1 (List.mem_of_getElem? (i := 137) rfl)⟩
theorem lw_p9 : lw_okq (⟨"ArchetypeWorld", "leastFrom", "(II)I"⟩, 19) := ⟨⟨by decide +kernel, by decide +kernel⟩, lw_t1 (List.mem_of_getElem? (i := 4) rfl), lw_t1 (List.mem_of_getElem? (i := 144) rfl), lw_t1 (List.mem_of_getElem? (i := 145) rfl)⟩
theorem lw_p10 : lw_okq (⟨"ArchetypeWorld", "layOut", "()V"⟩, 19) := ⟨⟨by decide +kernel, by decide +kernel⟩, lw_t1 (List.mem_of_getElem? (i := 4) rfl), lw_t1 (List.mem_of_getElem? (i := 168) rfl), lw_t1 (List.mem_of_getElem? (i := 169) rfl)⟩
theorem lw_p11 : lw_okq (⟨"ArchetypeWorld", "conflict", "(II)Z"⟩, 19) := ⟨⟨by decide +kernel, by decide +kernel⟩, lw_t1 (List.mem_of_getElem? (i := 4) rfl), lw_t1 (List.mem_of_getElem? (i := 172) rfl), lw_t1 (List.mem_of_getElem? (i := 173) rfl)⟩
theorem lw_p12 : lw_okq (⟨"ArchetypeWorld", "touched", "(I)I"⟩, 19) := ⟨⟨by decide +kernel, by decide +kernel⟩, lw_t1 (List.mem_of_getElem? (i := 4) rfl), lw_t1 (List.mem_of_getElem? (i := 176) rfl), lw_t1 (List.mem_of_getElem? (i := 177) rfl)⟩
theorem lw_p13 : lw_okq (⟨"ArchetypeWorld", "matchTables", "()V"⟩, 19) := ⟨⟨by decide +kernel, by decide +kernel⟩, lw_t1 (List.mem_of_getElem? (i := 4) rfl), lw_t1 (List.mem_of_getElem? (i := 188) rfl), lw_t1 (List.mem_of_getElem? (i := 189) rfl)⟩
theorem lw_p14 : lw_okq (⟨"ArchetypeWorld", "runStage", "(I)I"⟩, 19) := ⟨⟨by decide +kernel, by decide +kernel⟩, lw_t1 (List.mem_of_getElem? (i := 4) rfl), lw_t1 (List.mem_of_getElem? (i := 192) rfl), lw_t1 (List.mem_of_getElem? (i := 193) rfl)⟩
theorem lw_p15 : lw_okq (⟨"ArchetypeWorld", "runSystem", "(I)I"⟩, 19) := ⟨⟨by decide +kernel, by decide +kernel⟩, lw_t1 (List.mem_of_getElem? (i := 4) rfl), lw_t1 (List.mem_of_getElem? (i := 196) rfl), lw_t1 (List.mem_of_getElem? (i := 197) rfl)⟩
def lw_privs_1 : List (MethodName × Nat) := [(⟨"ArchetypeWorld", "badSet", "(I)Z"⟩, 19), (⟨"ArchetypeWorld", "tableFor", "(I)I"⟩, 19), (⟨"ArchetypeWorld", "enter", "(II)V"⟩, 19), (⟨"ArchetypeWorld", "lives", "(I)Z"⟩, 19), (⟨"ArchetypeWorld", "setOf", "(I)I"⟩, 19), (⟨"ArchetypeWorld", "leave", "(I)V"⟩, 19), (⟨"ArchetypeWorld", "badPart", "(I)Z"⟩, 19), (⟨"ArchetypeWorld", "change", "(II)V"⟩, 19), (⟨"ArchetypeWorld", "fits", "(III)Z"⟩, 19), (⟨"ArchetypeWorld", "leastFrom", "(II)I"⟩, 19), (⟨"ArchetypeWorld", "layOut", "()V"⟩, 19), (⟨"ArchetypeWorld", "conflict", "(II)Z"⟩, 19), (⟨"ArchetypeWorld", "touched", "(I)I"⟩, 19), (⟨"ArchetypeWorld", "matchTables", "()V"⟩, 19), (⟨"ArchetypeWorld", "runStage", "(I)I"⟩, 19), (⟨"ArchetypeWorld", "runSystem", "(I)I"⟩, 19)]
theorem lw_r1 : ∀ q ∈ lw_privs_1, lw_okq q := List.forall_mem_cons.mpr ⟨lw_p0, List.forall_mem_cons.mpr ⟨lw_p1, List.forall_mem_cons.mpr ⟨lw_p2, List.forall_mem_cons.mpr ⟨lw_p3, List.forall_mem_cons.mpr ⟨lw_p4, List.forall_mem_cons.mpr ⟨lw_p5, List.forall_mem_cons.mpr ⟨lw_p6, List.forall_mem_cons.mpr ⟨lw_p7, List.forall_mem_cons.mpr ⟨lw_p8, List.forall_mem_cons.mpr ⟨lw_p9, List.forall_mem_cons.mpr ⟨lw_p10, List.forall_mem_cons.mpr ⟨lw_p11, List.forall_mem_cons.mpr ⟨lw_p12, List.forall_mem_cons.mpr ⟨lw_p13, List.forall_mem_cons.mpr ⟨lw_p14, List.forall_mem_cons.mpr ⟨lw_p15, fun _ h => absurd h List.not_mem_nil⟩⟩⟩⟩⟩⟩⟩⟩⟩⟩⟩⟩⟩⟩⟩⟩
theorem lw_p16 : lw_okq (⟨"ArchetypeWorld", "runOver", "(II)I"⟩, 19) := ⟨⟨by decide +kernel, by decide +kernel⟩, lw_t1 (List.mem_of_getElem? (i := 4) rfl), lw_t1 (List.mem_of_getElem? (i := 200) rfl), lw_t1 (List.mem_of_getElem? (i := 201) rfl)⟩
theorem lw_p17 : lw_okq (⟨"ArchetypeWorld", "worked", "(III)I"⟩, 19) := ⟨⟨by decide +kernel, by decide +kernel⟩, lw_t1 (List.mem_of_getElem? (i := 4) rfl), lw_t1 (List.mem_of_getElem? (i := 204) rfl), lw_t1 (List.mem_of_getElem? (i := 205) rfl)⟩
theorem lw_p18 : lw_okq (⟨"ArchetypeWorldModel", "isSet", "(I)Z"⟩, 10) := ⟨⟨by decide +kernel, by decide +kernel⟩, lw_t1 (List.mem_of_getElem? (i := 212) rfl), lw_t2 (List.mem_of_getElem? (i := 14) rfl), lw_t2 (List.mem_of_getElem? (i := 15) rfl)⟩
theorem lw_p19 : lw_okq (⟨"ArchetypeWorldModel", "isAlive", "(I)Z"⟩, 10) := ⟨⟨by decide +kernel, by decide +kernel⟩, lw_t1 (List.mem_of_getElem? (i := 212) rfl), lw_t2 (List.mem_of_getElem? (i := 22) rfl), lw_t2 (List.mem_of_getElem? (i := 23) rfl)⟩
theorem lw_p20 : lw_okq (⟨"ArchetypeWorldModel", "isComponent", "(I)Z"⟩, 10) := ⟨⟨by decide +kernel, by decide +kernel⟩, lw_t1 (List.mem_of_getElem? (i := 212) rfl), lw_t2 (List.mem_of_getElem? (i := 30) rfl), lw_t2 (List.mem_of_getElem? (i := 31) rfl)⟩
theorem lw_p21 : lw_okq (⟨"ArchetypeWorldModel", "has", "(II)Z"⟩, 10) := ⟨⟨by decide +kernel, by decide +kernel⟩, lw_t1 (List.mem_of_getElem? (i := 212) rfl), lw_t2 (List.mem_of_getElem? (i := 42) rfl), lw_t2 (List.mem_of_getElem? (i := 43) rfl)⟩
theorem lw_p22 : lw_okq (⟨"ArchetypeWorldModel", "fits", "(III)Z"⟩, 10) := ⟨⟨by decide +kernel, by decide +kernel⟩, lw_t1 (List.mem_of_getElem? (i := 212) rfl), lw_t2 (List.mem_of_getElem? (i := 58) rfl), lw_t2 (List.mem_of_getElem? (i := 59) rfl)⟩
theorem lw_p23 : lw_okq (⟨"ArchetypeWorldModel", "layStages", "()V"⟩, 10) := ⟨⟨by decide +kernel, by decide +kernel⟩, lw_t1 (List.mem_of_getElem? (i := 212) rfl), lw_t2 (List.mem_of_getElem? (i := 87) rfl), lw_t2 (List.mem_of_getElem? (i := 88) rfl)⟩
theorem lw_p24 : lw_okq (⟨"ArchetypeWorldModel", "disturbs", "(II)Z"⟩, 10) := ⟨⟨by decide +kernel, by decide +kernel⟩, lw_t1 (List.mem_of_getElem? (i := 212) rfl), lw_t2 (List.mem_of_getElem? (i := 91) rfl), lw_t2 (List.mem_of_getElem? (i := 92) rfl)⟩
theorem lw_p25 : lw_okq (⟨"ArchetypeWorldModel", "runFrame", "()I"⟩, 10) := ⟨⟨by decide +kernel, by decide +kernel⟩, lw_t1 (List.mem_of_getElem? (i := 212) rfl), lw_t2 (List.mem_of_getElem? (i := 103) rfl), lw_t2 (List.mem_of_getElem? (i := 104) rfl)⟩
theorem lw_p26 : lw_okq (⟨"ArchetypeWorldModel", "runSystem", "(I)I"⟩, 10) := ⟨⟨by decide +kernel, by decide +kernel⟩, lw_t1 (List.mem_of_getElem? (i := 212) rfl), lw_t2 (List.mem_of_getElem? (i := 107) rfl), lw_t2 (List.mem_of_getElem? (i := 108) rfl)⟩
theorem lw_p27 : lw_okq (⟨"ArchetypeWorldModel", "work", "(II)V"⟩, 10) := ⟨⟨by decide +kernel, by decide +kernel⟩, lw_t1 (List.mem_of_getElem? (i := 212) rfl), lw_t2 (List.mem_of_getElem? (i := 111) rfl), lw_t2 (List.mem_of_getElem? (i := 112) rfl)⟩
def lw_privs_2 : List (MethodName × Nat) := [(⟨"ArchetypeWorld", "runOver", "(II)I"⟩, 19), (⟨"ArchetypeWorld", "worked", "(III)I"⟩, 19), (⟨"ArchetypeWorldModel", "isSet", "(I)Z"⟩, 10), (⟨"ArchetypeWorldModel", "isAlive", "(I)Z"⟩, 10), (⟨"ArchetypeWorldModel", "isComponent", "(I)Z"⟩, 10), (⟨"ArchetypeWorldModel", "has", "(II)Z"⟩, 10), (⟨"ArchetypeWorldModel", "fits", "(III)Z"⟩, 10), (⟨"ArchetypeWorldModel", "layStages", "()V"⟩, 10), (⟨"ArchetypeWorldModel", "disturbs", "(II)Z"⟩, 10), (⟨"ArchetypeWorldModel", "runFrame", "()I"⟩, 10), (⟨"ArchetypeWorldModel", "runSystem", "(I)I"⟩, 10), (⟨"ArchetypeWorldModel", "work", "(II)V"⟩, 10)]
theorem lw_r2 : ∀ q ∈ lw_privs_2, lw_okq q := List.forall_mem_cons.mpr ⟨lw_p16, List.forall_mem_cons.mpr ⟨lw_p17, List.forall_mem_cons.mpr ⟨lw_p18, List.forall_mem_cons.mpr ⟨lw_p19, List.forall_mem_cons.mpr ⟨lw_p20, List.forall_mem_cons.mpr ⟨lw_p21, List.forall_mem_cons.mpr ⟨lw_p22, List.forall_mem_cons.mpr ⟨lw_p23, List.forall_mem_cons.mpr ⟨lw_p24, List.forall_mem_cons.mpr ⟨lw_p25, List.forall_mem_cons.mpr ⟨lw_p26, List.forall_mem_cons.mpr ⟨lw_p27, fun _ h => absurd h List.not_mem_nil⟩⟩⟩⟩⟩⟩⟩⟩⟩⟩⟩⟩
def lw_privs : List (MethodName × Nat) := lw_privs_1 ++ (lw_privs_2)
def lw_tbl : List Cond := k2_sels lw_privs ++ tables_1
theorem lw_privs_ok : ∀ q ∈ lw_privs, lw_okq q := by
  show ∀ q ∈ lw_privs_1 ++ (lw_privs_2), lw_okq q
  exact List.forall_mem_append.mpr ⟨lw_r1, lw_r2⟩
-- ===== ONE list of words for every method: the tables' words that hold all through a run =====
def lw_all : List Cond := lw_tbl.filter goodWord
/-- a word of the tables by its place: claim/WORDS.tsv -/
theorem lw_w {w : Cond} (i : Nat) (h : lw_tbl[i]? = some w) (g : goodWord w = true) : w ∈ lw_all := List.mem_filter.mpr ⟨List.mem_of_getElem? h, g⟩
theorem lw_all_tbl {w : Cond} (h : w ∈ lw_all) : w ∈ lw_tbl := (List.mem_filter.mp h).1
theorem lw_self : GoodIn lw_all lw_all := fun w h => ⟨h, good_of_word (List.mem_filter.mp h).2⟩
/-- a class's field words, by their places -/
theorem lw_in (ws : List Cond) (ps : List Nat) (hp : ws = ps.filterMap (fun i => lw_tbl[i]?)) (hg : ws.all goodWord = true) : ∀ w ∈ ws, w ∈ lw_all := by
  intro w h
  have h1 := List.all_eq_true.mp hg w h
  rw [hp] at h
  obtain ⟨i, -, hi⟩ := List.mem_filterMap.mp h
  exact lw_w i hi h1
/-- the words of a contract for the method y with code b, L locals, answer r -/
abbrev ws_ (y : MethodName) (b : ByteArray) (L : Nat) (r : Option FieldType) : List Cond := Cond.code y b L r :: lw_all
theorem lw_meth {y : MethodName} {b : ByteArray} {L : Nat} {r : Option FieldType} (h : Cond.code y b L r ∈ lw_all) : GoodIn lw_all (ws_ y b L r) := by
  intro w hw
  rcases List.mem_cons.mp hw with e | e
  · rw [e]
    exact lw_self _ h
  · exact lw_self _ e
theorem lw_app {a c : List Cond} (ha : ∀ w ∈ a, w ∈ lw_all) (hc : GoodIn lw_all c) : GoodIn lw_all (a ++ c) := by
  intro w hw
  rcases List.mem_append.mp hw with e | e
  · exact lw_self w (ha w e)
  · exact hc w e
/-- what a call through an object asks: cwV n hts (lw_V ..) -/
theorem lw_V {own : String} {idx : Nat} {C : String} {y : MethodName} {b : ByteArray} {L : Nat} {r : Option FieldType} (h1 : Cond.methodLink own idx y ∈ lw_all) (h2 : Cond.instanceMethod y ∈ lw_all) (h3 : Cond.selects C y y ∈ lw_all) (h4 : Cond.initialized C ∈ lw_all) (h5 : Cond.code y b L r ∈ lw_all) : GoodIn lw_all (wsV own idx C y (ws_ y b L r)) := by
  refine lw_app ?_ (lw_meth h5)
  intro w hw
  simp only [List.mem_cons, List.not_mem_nil, or_false] at hw
  rcases hw with e | e | e | e
  · rw [e]; exact h1
  · rw [e]; exact h2
  · rw [e]; exact h3
  · rw [e]; exact h4
/-- what a static call asks: va_cwS n hts (lw_S ..) -/
theorem lw_S {own : String} {idx : Nat} {y : MethodName} {b : ByteArray} {L : Nat} {r : Option FieldType} (h1 : Cond.methodLink own idx y ∈ lw_all) (h2 : Cond.static y ∈ lw_all) (h3 : Cond.initialized y.cls ∈ lw_all) (h4 : Cond.code y b L r ∈ lw_all) : GoodIn lw_all (va_wsS own idx y (ws_ y b L r)) := by
  refine lw_app ?_ (lw_meth h4)
  intro w hw
  simp only [List.mem_cons, List.not_mem_nil, or_false] at hw
  rcases hw with e | e | e
  · rw [e]; exact h1
  · rw [e]; exact h2
  · rw [e]; exact h3
/-- the words of a contract for a method WITH HANDLERS (hh: its table) -/
abbrev wsW_ (y : MethodName) (b : ByteArray) (L : Nat) (r : Option FieldType) (hh : List (Nat × Nat × Nat × Nat)) : List Cond := Cond.codeWith y b L r hh :: lw_all
theorem lw_methW {y : MethodName} {b : ByteArray} {L : Nat} {r : Option FieldType} {hh : List (Nat × Nat × Nat × Nat)} (h : Cond.codeWith y b L r hh ∈ lw_all) : GoodIn lw_all (wsW_ y b L r hh) := by
  intro w hw
  rcases List.mem_cons.mp hw with e | e
  · rw [e]
    exact lw_self _ h
  · exact lw_self _ e
/-- any list of words by their places (lw_in), good -/
theorem lw_good {ws : List Cond} (h : ∀ w ∈ ws, w ∈ lw_all) : GoodIn lw_all ws := fun w hw => lw_self w (h w hw)
/-- what a call of a method with handlers asks: vx_cwVW n hts (lw_VW ..), vx_cwSW n hts (lw_SW ..) -/
theorem lw_VW {own : String} {idx : Nat} {C : String} {y : MethodName} {b : ByteArray} {L : Nat} {r : Option FieldType} {hh : List (Nat × Nat × Nat × Nat)} (h1 : Cond.methodLink own idx y ∈ lw_all) (h2 : Cond.instanceMethod y ∈ lw_all) (h3 : Cond.selects C y y ∈ lw_all) (h4 : Cond.initialized C ∈ lw_all) (h5 : Cond.codeWith y b L r hh ∈ lw_all) : GoodIn lw_all (wsV own idx C y (wsW_ y b L r hh)) := by
  refine lw_app ?_ (lw_methW h5)
  intro w hw
  simp only [List.mem_cons, List.not_mem_nil, or_false] at hw
  rcases hw with e | e | e | e
  · rw [e]; exact h1
  · rw [e]; exact h2
  · rw [e]; exact h3
  · rw [e]; exact h4
theorem lw_SW {own : String} {idx : Nat} {y : MethodName} {b : ByteArray} {L : Nat} {r : Option FieldType} {hh : List (Nat × Nat × Nat × Nat)} (h1 : Cond.methodLink own idx y ∈ lw_all) (h2 : Cond.static y ∈ lw_all) (h3 : Cond.initialized y.cls ∈ lw_all) (h4 : Cond.codeWith y b L r hh ∈ lw_all) : GoodIn lw_all (va_wsS own idx y (wsW_ y b L r hh)) := by
  refine lw_app ?_ (lw_methW h4)
  intro w hw
  simp only [List.mem_cons, List.not_mem_nil, or_false] at hw
  rcases hw with e | e | e
  · rw [e]; exact h1
  · rw [e]; exact h2
  · rw [e]; exact h3
/-- a word by its place in its run of the tables -/
theorem lw_at {r : List Cond} (hr : ∀ w ∈ r, w ∈ lw_tbl) {w : Cond} (i : Nat) (h : r[i]? = some w) : w ∈ lw_tbl := hr w (List.mem_of_getElem? h)
theorem lw_g {w : Cond} (h : w ∈ lw_tbl) (g : goodWord w = true) : w ∈ lw_all := List.mem_filter.mpr ⟨h, g⟩
theorem lw_ms : ∀ w ∈ k2_sels lw_privs, w ∈ lw_tbl := fun w h => show w ∈ k2_sels lw_privs ++ tables_1 from List.mem_append_left _ h
theorem lw_m1 : ∀ w ∈ tables_1_1, w ∈ lw_tbl := fun w h => show w ∈ k2_sels lw_privs ++ tables_1 from List.mem_append_right (k2_sels lw_privs) (show w ∈ tables_1 from List.mem_append_left _ h)
theorem lw_m2 : ∀ w ∈ tables_1_2, w ∈ lw_tbl := fun w h => show w ∈ k2_sels lw_privs ++ tables_1 from List.mem_append_right (k2_sels lw_privs) (show w ∈ tables_1 from List.mem_append_right _ h)
theorem qs0 : (Cond.selects "ArchetypeWorld" ⟨"ArchetypeWorld", "badSet", "(I)Z"⟩ ⟨"ArchetypeWorld", "badSet", "(I)Z"⟩) ∈ lw_all := lw_g (lw_at lw_ms 0 rfl) rfl
theorem qs1 : (Cond.selects "ArchetypeWorld" ⟨"ArchetypeWorld", "tableFor", "(I)I"⟩ ⟨"ArchetypeWorld", "tableFor", "(I)I"⟩) ∈ lw_all := lw_g (lw_at lw_ms 1 rfl) rfl
theorem qs2 : (Cond.selects "ArchetypeWorld" ⟨"ArchetypeWorld", "enter", "(II)V"⟩ ⟨"ArchetypeWorld", "enter", "(II)V"⟩) ∈ lw_all := lw_g (lw_at lw_ms 2 rfl) rfl
theorem qs3 : (Cond.selects "ArchetypeWorld" ⟨"ArchetypeWorld", "lives", "(I)Z"⟩ ⟨"ArchetypeWorld", "lives", "(I)Z"⟩) ∈ lw_all := lw_g (lw_at lw_ms 3 rfl) rfl
theorem qs4 : (Cond.selects "ArchetypeWorld" ⟨"ArchetypeWorld", "setOf", "(I)I"⟩ ⟨"ArchetypeWorld", "setOf", "(I)I"⟩) ∈ lw_all := lw_g (lw_at lw_ms 4 rfl) rfl
theorem qs5 : (Cond.selects "ArchetypeWorld" ⟨"ArchetypeWorld", "leave", "(I)V"⟩ ⟨"ArchetypeWorld", "leave", "(I)V"⟩) ∈ lw_all := lw_g (lw_at lw_ms 5 rfl) rfl
theorem qs6 : (Cond.selects "ArchetypeWorld" ⟨"ArchetypeWorld", "badPart", "(I)Z"⟩ ⟨"ArchetypeWorld", "badPart", "(I)Z"⟩) ∈ lw_all := lw_g (lw_at lw_ms 6 rfl) rfl
theorem qs7 : (Cond.selects "ArchetypeWorld" ⟨"ArchetypeWorld", "change", "(II)V"⟩ ⟨"ArchetypeWorld", "change", "(II)V"⟩) ∈ lw_all := lw_g (lw_at lw_ms 7 rfl) rfl
theorem qs8 : (Cond.selects "ArchetypeWorld" ⟨"ArchetypeWorld", "fits", "(III)Z"⟩ ⟨"ArchetypeWorld", "fits", "(III)Z"⟩) ∈ lw_all := lw_g (lw_at lw_ms 8 rfl) rfl
theorem qs9 : (Cond.selects "ArchetypeWorld" ⟨"ArchetypeWorld", "leastFrom", "(II)I"⟩ ⟨"ArchetypeWorld", "leastFrom", "(II)I"⟩) ∈ lw_all := lw_g (lw_at lw_ms 9 rfl) rfl
theorem qs10 : (Cond.selects "ArchetypeWorld" ⟨"ArchetypeWorld", "layOut", "()V"⟩ ⟨"ArchetypeWorld", "layOut", "()V"⟩) ∈ lw_all := lw_g (lw_at lw_ms 10 rfl) rfl
theorem qs11 : (Cond.selects "ArchetypeWorld" ⟨"ArchetypeWorld", "conflict", "(II)Z"⟩ ⟨"ArchetypeWorld", "conflict", "(II)Z"⟩) ∈ lw_all := lw_g (lw_at lw_ms 11 rfl) rfl
theorem qs12 : (Cond.selects "ArchetypeWorld" ⟨"ArchetypeWorld", "touched", "(I)I"⟩ ⟨"ArchetypeWorld", "touched", "(I)I"⟩) ∈ lw_all := lw_g (lw_at lw_ms 12 rfl) rfl
theorem qs13 : (Cond.selects "ArchetypeWorld" ⟨"ArchetypeWorld", "matchTables", "()V"⟩ ⟨"ArchetypeWorld", "matchTables", "()V"⟩) ∈ lw_all := lw_g (lw_at lw_ms 13 rfl) rfl
theorem qs14 : (Cond.selects "ArchetypeWorld" ⟨"ArchetypeWorld", "runStage", "(I)I"⟩ ⟨"ArchetypeWorld", "runStage", "(I)I"⟩) ∈ lw_all := lw_g (lw_at lw_ms 14 rfl) rfl
theorem qs15 : (Cond.selects "ArchetypeWorld" ⟨"ArchetypeWorld", "runSystem", "(I)I"⟩ ⟨"ArchetypeWorld", "runSystem", "(I)I"⟩) ∈ lw_all := lw_g (lw_at lw_ms 15 rfl) rfl
theorem qs16 : (Cond.selects "ArchetypeWorld" ⟨"ArchetypeWorld", "runOver", "(II)I"⟩ ⟨"ArchetypeWorld", "runOver", "(II)I"⟩) ∈ lw_all := lw_g (lw_at lw_ms 16 rfl) rfl
theorem qs17 : (Cond.selects "ArchetypeWorld" ⟨"ArchetypeWorld", "worked", "(III)I"⟩ ⟨"ArchetypeWorld", "worked", "(III)I"⟩) ∈ lw_all := lw_g (lw_at lw_ms 17 rfl) rfl
theorem qs18 : (Cond.selects "ArchetypeWorldModel" ⟨"ArchetypeWorldModel", "isSet", "(I)Z"⟩ ⟨"ArchetypeWorldModel", "isSet", "(I)Z"⟩) ∈ lw_all := lw_g (lw_at lw_ms 18 rfl) rfl
theorem qs19 : (Cond.selects "ArchetypeWorldModel" ⟨"ArchetypeWorldModel", "isAlive", "(I)Z"⟩ ⟨"ArchetypeWorldModel", "isAlive", "(I)Z"⟩) ∈ lw_all := lw_g (lw_at lw_ms 19 rfl) rfl
theorem qs20 : (Cond.selects "ArchetypeWorldModel" ⟨"ArchetypeWorldModel", "isComponent", "(I)Z"⟩ ⟨"ArchetypeWorldModel", "isComponent", "(I)Z"⟩) ∈ lw_all := lw_g (lw_at lw_ms 20 rfl) rfl
theorem qs21 : (Cond.selects "ArchetypeWorldModel" ⟨"ArchetypeWorldModel", "has", "(II)Z"⟩ ⟨"ArchetypeWorldModel", "has", "(II)Z"⟩) ∈ lw_all := lw_g (lw_at lw_ms 21 rfl) rfl
theorem qs22 : (Cond.selects "ArchetypeWorldModel" ⟨"ArchetypeWorldModel", "fits", "(III)Z"⟩ ⟨"ArchetypeWorldModel", "fits", "(III)Z"⟩) ∈ lw_all := lw_g (lw_at lw_ms 22 rfl) rfl
theorem qs23 : (Cond.selects "ArchetypeWorldModel" ⟨"ArchetypeWorldModel", "layStages", "()V"⟩ ⟨"ArchetypeWorldModel", "layStages", "()V"⟩) ∈ lw_all := lw_g (lw_at lw_ms 23 rfl) rfl
theorem qs24 : (Cond.selects "ArchetypeWorldModel" ⟨"ArchetypeWorldModel", "disturbs", "(II)Z"⟩ ⟨"ArchetypeWorldModel", "disturbs", "(II)Z"⟩) ∈ lw_all := lw_g (lw_at lw_ms 24 rfl) rfl
theorem qs25 : (Cond.selects "ArchetypeWorldModel" ⟨"ArchetypeWorldModel", "runFrame", "()I"⟩ ⟨"ArchetypeWorldModel", "runFrame", "()I"⟩) ∈ lw_all := lw_g (lw_at lw_ms 25 rfl) rfl
theorem qs26 : (Cond.selects "ArchetypeWorldModel" ⟨"ArchetypeWorldModel", "runSystem", "(I)I"⟩ ⟨"ArchetypeWorldModel", "runSystem", "(I)I"⟩) ∈ lw_all := lw_g (lw_at lw_ms 26 rfl) rfl
theorem qs27 : (Cond.selects "ArchetypeWorldModel" ⟨"ArchetypeWorldModel", "work", "(II)V"⟩ ⟨"ArchetypeWorldModel", "work", "(II)V"⟩) ∈ lw_all := lw_g (lw_at lw_ms 27 rfl) rfl
end
section
/-! ArchetypeWorld -/
set_option maxRecDepth 100000
def RX0 : String := "ArchetypeWorld"
def TX0 : u_T := fun k => match k with
  | 0 => ("ArchetypeWorld", "tables", "I", false)
  | 1 => ("ArchetypeWorld", "tableSet", "[I", true)
  | 2 => ("ArchetypeWorld", "tableOf", "[I", true)
  | 3 => ("ArchetypeWorld", "rows", "[I", true)
  | 4 => ("ArchetypeWorld", "rowAt", "[I", true)
  | 5 => ("ArchetypeWorld", "table", "[I", true)
  | 6 => ("ArchetypeWorld", "place", "[I", true)
  | 7 => ("ArchetypeWorld", "column", "[I", true)
  | 8 => ("ArchetypeWorld", "systems", "I", false)
  | 9 => ("ArchetypeWorld", "with", "[I", true)
  | 10 => ("ArchetypeWorld", "without", "[I", true)
  | 11 => ("ArchetypeWorld", "kind", "[I", true)
  | 12 => ("ArchetypeWorld", "target", "[I", true)
  | 13 => ("ArchetypeWorld", "source", "[I", true)
  | 14 => ("ArchetypeWorld", "laid", "Z", false)
  | 15 => ("ArchetypeWorld", "stageCount", "I", false)
  | 16 => ("ArchetypeWorld", "stage", "[I", true)
  | 17 => ("ArchetypeWorld", "match", "[J", true)
  | _ => ("ArchetypeWorld", "matched", "I", false)
def tyX0 : Nat → FieldType := fun k => match k with
  | 0 => .int
  | 1 => .array .int
  | 2 => .array .int
  | 3 => .array .int
  | 4 => .array .int
  | 5 => .array .int
  | 6 => .array .int
  | 7 => .array .int
  | 8 => .int
  | 9 => .array .int
  | 10 => .array .int
  | 11 => .array .int
  | 12 => .array .int
  | 13 => .array .int
  | 14 => .boolean
  | 15 => .int
  | 16 => .array .int
  | 17 => .array .long
  | _ => .int
abbrev wsX00 : List Cond := u_ws RX0 TX0 19
set_option maxRecDepth 100000 in
theorem nmX0 : ∀ a, a < 19 → ∀ b, b < 19 → a ≠ b → (TX0 a).2.1 ≠ (TX0 b).2.1 := by decide +kernel
set_option maxRecDepth 100000 in
theorem tyX0_ok : ∀ k, k < 19 → parseFieldDescriptor (TX0 k).2.2.1 = some (tyX0 k) := by decide +kernel
abbrev cX0_init : ByteArray := prog_1_method_1_code
def yX0_init : MethodName := ⟨RX0, "<init>", "()V"⟩
theorem dX0_init_0 : decode cX0_init 0 = .ok (.aload_n 0, 1) := by decide +kernel
theorem dX0_init_1 : decode cX0_init 1 = .ok (.invokespecial 1, 3) := by decide +kernel
theorem dX0_init_4 : decode cX0_init 4 = .ok (.aload_n 0, 1) := by decide +kernel
theorem dX0_init_5 : decode cX0_init 5 = .ok (.bipush 64, 2) := by decide +kernel
theorem dX0_init_7 : decode cX0_init 7 = .ok (.newarray .int, 2) := by decide +kernel
theorem dX0_init_9 : decode cX0_init 9 = .ok (.putfield 7, 3) := by decide +kernel
theorem dX0_init_12 : decode cX0_init 12 = .ok (.aload_n 0, 1) := by decide +kernel
theorem dX0_init_13 : decode cX0_init 13 = .ok (.bipush 64, 2) := by decide +kernel
theorem dX0_init_15 : decode cX0_init 15 = .ok (.newarray .int, 2) := by decide +kernel
theorem dX0_init_17 : decode cX0_init 17 = .ok (.putfield 13, 3) := by decide +kernel
theorem dX0_init_20 : decode cX0_init 20 = .ok (.aload_n 0, 1) := by decide +kernel
theorem dX0_init_21 : decode cX0_init 21 = .ok (.bipush 64, 2) := by decide +kernel
theorem dX0_init_23 : decode cX0_init 23 = .ok (.newarray .int, 2) := by decide +kernel
theorem dX0_init_25 : decode cX0_init 25 = .ok (.putfield 16, 3) := by decide +kernel
theorem dX0_init_28 : decode cX0_init 28 = .ok (.aload_n 0, 1) := by decide +kernel
theorem dX0_init_29 : decode cX0_init 29 = .ok (.sipush 1536, 3) := by decide +kernel
theorem dX0_init_32 : decode cX0_init 32 = .ok (.newarray .int, 2) := by decide +kernel
theorem dX0_init_34 : decode cX0_init 34 = .ok (.putfield 19, 3) := by decide +kernel
theorem dX0_init_37 : decode cX0_init 37 = .ok (.aload_n 0, 1) := by decide +kernel
theorem dX0_init_38 : decode cX0_init 38 = .ok (.bipush 24, 2) := by decide +kernel
theorem dX0_init_40 : decode cX0_init 40 = .ok (.newarray .int, 2) := by decide +kernel
theorem dX0_init_42 : decode cX0_init 42 = .ok (.putfield 22, 3) := by decide +kernel
theorem dX0_init_45 : decode cX0_init 45 = .ok (.aload_n 0, 1) := by decide +kernel
theorem dX0_init_46 : decode cX0_init 46 = .ok (.bipush 24, 2) := by decide +kernel
theorem dX0_init_48 : decode cX0_init 48 = .ok (.newarray .int, 2) := by decide +kernel
theorem dX0_init_50 : decode cX0_init 50 = .ok (.putfield 25, 3) := by decide +kernel
theorem dX0_init_53 : decode cX0_init 53 = .ok (.aload_n 0, 1) := by decide +kernel
theorem dX0_init_54 : decode cX0_init 54 = .ok (.sipush 144, 3) := by decide +kernel
theorem dX0_init_57 : decode cX0_init 57 = .ok (.newarray .int, 2) := by decide +kernel
theorem dX0_init_59 : decode cX0_init 59 = .ok (.putfield 28, 3) := by decide +kernel
theorem dX0_init_62 : decode cX0_init 62 = .ok (.aload_n 0, 1) := by decide +kernel
theorem dX0_init_63 : decode cX0_init 63 = .ok (.bipush 8, 2) := by decide +kernel
theorem dX0_init_65 : decode cX0_init 65 = .ok (.newarray .int, 2) := by decide +kernel
theorem dX0_init_67 : decode cX0_init 67 = .ok (.putfield 31, 3) := by decide +kernel
theorem dX0_init_70 : decode cX0_init 70 = .ok (.aload_n 0, 1) := by decide +kernel
theorem dX0_init_71 : decode cX0_init 71 = .ok (.bipush 8, 2) := by decide +kernel
theorem dX0_init_73 : decode cX0_init 73 = .ok (.newarray .int, 2) := by decide +kernel
theorem dX0_init_75 : decode cX0_init 75 = .ok (.putfield 34, 3) := by decide +kernel
theorem dX0_init_78 : decode cX0_init 78 = .ok (.aload_n 0, 1) := by decide +kernel
theorem dX0_init_79 : decode cX0_init 79 = .ok (.bipush 8, 2) := by decide +kernel
theorem dX0_init_81 : decode cX0_init 81 = .ok (.newarray .int, 2) := by decide +kernel
theorem dX0_init_83 : decode cX0_init 83 = .ok (.putfield 37, 3) := by decide +kernel
theorem dX0_init_86 : decode cX0_init 86 = .ok (.aload_n 0, 1) := by decide +kernel
theorem dX0_init_87 : decode cX0_init 87 = .ok (.bipush 8, 2) := by decide +kernel
theorem dX0_init_89 : decode cX0_init 89 = .ok (.newarray .int, 2) := by decide +kernel
theorem dX0_init_91 : decode cX0_init 91 = .ok (.putfield 40, 3) := by decide +kernel
theorem dX0_init_94 : decode cX0_init 94 = .ok (.aload_n 0, 1) := by decide +kernel
theorem dX0_init_95 : decode cX0_init 95 = .ok (.bipush 8, 2) := by decide +kernel
theorem dX0_init_97 : decode cX0_init 97 = .ok (.newarray .int, 2) := by decide +kernel
theorem dX0_init_99 : decode cX0_init 99 = .ok (.putfield 43, 3) := by decide +kernel
theorem dX0_init_102 : decode cX0_init 102 = .ok (.aload_n 0, 1) := by decide +kernel
theorem dX0_init_103 : decode cX0_init 103 = .ok (.bipush 8, 2) := by decide +kernel
theorem dX0_init_105 : decode cX0_init 105 = .ok (.newarray .int, 2) := by decide +kernel
theorem dX0_init_107 : decode cX0_init 107 = .ok (.putfield 46, 3) := by decide +kernel
theorem dX0_init_110 : decode cX0_init 110 = .ok (.aload_n 0, 1) := by decide +kernel
theorem dX0_init_111 : decode cX0_init 111 = .ok (.bipush 8, 2) := by decide +kernel
theorem dX0_init_113 : decode cX0_init 113 = .ok (.newarray .long, 2) := by decide +kernel
theorem dX0_init_115 : decode cX0_init 115 = .ok (.putfield 49, 3) := by decide +kernel
theorem dX0_init_118 : decode cX0_init 118 = .ok (.iconst 0, 1) := by decide +kernel
theorem dX0_init_119 : decode cX0_init 119 = .ok (.istore_n 1, 1) := by decide +kernel
theorem dX0_init_120 : decode cX0_init 120 = .ok (.iload_n 1, 1) := by decide +kernel
theorem dX0_init_121 : decode cX0_init 121 = .ok (.bipush 24, 2) := by decide +kernel
theorem dX0_init_123 : decode cX0_init 123 = .ok (.if_icmp .ge 17, 3) := by decide +kernel
theorem dX0_init_126 : decode cX0_init 126 = .ok (.aload_n 0, 1) := by decide +kernel
theorem dX0_init_127 : decode cX0_init 127 = .ok (.getfield 22, 3) := by decide +kernel
theorem dX0_init_130 : decode cX0_init 130 = .ok (.iload_n 1, 1) := by decide +kernel
theorem dX0_init_131 : decode cX0_init 131 = .ok (.bipush (-4), 2) := by decide +kernel
theorem dX0_init_133 : decode cX0_init 133 = .ok (.iastore, 1) := by decide +kernel
theorem dX0_init_134 : decode cX0_init 134 = .ok (.iinc 1 1, 3) := by decide +kernel
theorem dX0_init_137 : decode cX0_init 137 = .ok (.goto (-17), 3) := by decide +kernel
theorem dX0_init_140 : decode cX0_init 140 = .ok (.iconst 0, 1) := by decide +kernel
theorem dX0_init_141 : decode cX0_init 141 = .ok (.istore_n 1, 1) := by decide +kernel
theorem dX0_init_142 : decode cX0_init 142 = .ok (.iload_n 1, 1) := by decide +kernel
theorem dX0_init_143 : decode cX0_init 143 = .ok (.bipush 64, 2) := by decide +kernel
theorem dX0_init_145 : decode cX0_init 145 = .ok (.if_icmp .ge 17, 3) := by decide +kernel
theorem dX0_init_148 : decode cX0_init 148 = .ok (.aload_n 0, 1) := by decide +kernel
theorem dX0_init_149 : decode cX0_init 149 = .ok (.getfield 13, 3) := by decide +kernel
theorem dX0_init_152 : decode cX0_init 152 = .ok (.iload_n 1, 1) := by decide +kernel
theorem dX0_init_153 : decode cX0_init 153 = .ok (.bipush (-4), 2) := by decide +kernel
theorem dX0_init_155 : decode cX0_init 155 = .ok (.iastore, 1) := by decide +kernel
theorem dX0_init_156 : decode cX0_init 156 = .ok (.iinc 1 1, 3) := by decide +kernel
theorem dX0_init_159 : decode cX0_init 159 = .ok (.goto (-17), 3) := by decide +kernel
theorem dX0_init_162 : decode cX0_init 162 = .ok (.return_, 1) := by decide +kernel
abbrev cX0_spawn : ByteArray := prog_1_method_11_code
def yX0_spawn : MethodName := ⟨RX0, "spawn", "(II)I"⟩
theorem dX0_spawn_0 : decode cX0_spawn 0 = .ok (.aload_n 0, 1) := by decide +kernel
theorem dX0_spawn_1 : decode cX0_spawn 1 = .ok (.iload_n 1, 1) := by decide +kernel
theorem dX0_spawn_2 : decode cX0_spawn 2 = .ok (.invokevirtual 69, 3) := by decide +kernel
theorem dX0_spawn_5 : decode cX0_spawn 5 = .ok (.ifCond .eq 5, 3) := by decide +kernel
theorem dX0_spawn_8 : decode cX0_spawn 8 = .ok (.iconst (-1), 1) := by decide +kernel
theorem dX0_spawn_9 : decode cX0_spawn 9 = .ok (.ireturn, 1) := by decide +kernel
theorem dX0_spawn_10 : decode cX0_spawn 10 = .ok (.iconst 0, 1) := by decide +kernel
theorem dX0_spawn_11 : decode cX0_spawn 11 = .ok (.istore_n 3, 1) := by decide +kernel
theorem dX0_spawn_12 : decode cX0_spawn 12 = .ok (.iload_n 3, 1) := by decide +kernel
theorem dX0_spawn_13 : decode cX0_spawn 13 = .ok (.bipush 24, 2) := by decide +kernel
theorem dX0_spawn_15 : decode cX0_spawn 15 = .ok (.if_icmp .ge 63, 3) := by decide +kernel
theorem dX0_spawn_18 : decode cX0_spawn 18 = .ok (.aload_n 0, 1) := by decide +kernel
theorem dX0_spawn_19 : decode cX0_spawn 19 = .ok (.getfield 22, 3) := by decide +kernel
theorem dX0_spawn_22 : decode cX0_spawn 22 = .ok (.iload_n 3, 1) := by decide +kernel
theorem dX0_spawn_23 : decode cX0_spawn 23 = .ok (.iaload, 1) := by decide +kernel
theorem dX0_spawn_24 : decode cX0_spawn 24 = .ok (.ifCond .ge 48, 3) := by decide +kernel
theorem dX0_spawn_27 : decode cX0_spawn 27 = .ok (.aload_n 0, 1) := by decide +kernel
theorem dX0_spawn_28 : decode cX0_spawn 28 = .ok (.iload_n 1, 1) := by decide +kernel
theorem dX0_spawn_29 : decode cX0_spawn 29 = .ok (.invokevirtual 57, 3) := by decide +kernel
theorem dX0_spawn_32 : decode cX0_spawn 32 = .ok (.istore 4, 2) := by decide +kernel
theorem dX0_spawn_34 : decode cX0_spawn 34 = .ok (.aload_n 0, 1) := by decide +kernel
theorem dX0_spawn_35 : decode cX0_spawn 35 = .ok (.iload_n 3, 1) := by decide +kernel
theorem dX0_spawn_36 : decode cX0_spawn 36 = .ok (.iload 4, 2) := by decide +kernel
theorem dX0_spawn_38 : decode cX0_spawn 38 = .ok (.invokevirtual 65, 3) := by decide +kernel
theorem dX0_spawn_41 : decode cX0_spawn 41 = .ok (.iconst 0, 1) := by decide +kernel
theorem dX0_spawn_42 : decode cX0_spawn 42 = .ok (.istore 5, 2) := by decide +kernel
theorem dX0_spawn_44 : decode cX0_spawn 44 = .ok (.iload 5, 2) := by decide +kernel
theorem dX0_spawn_46 : decode cX0_spawn 46 = .ok (.bipush 6, 2) := by decide +kernel
theorem dX0_spawn_48 : decode cX0_spawn 48 = .ok (.if_icmp .ge 22, 3) := by decide +kernel
theorem dX0_spawn_51 : decode cX0_spawn 51 = .ok (.aload_n 0, 1) := by decide +kernel
theorem dX0_spawn_52 : decode cX0_spawn 52 = .ok (.getfield 28, 3) := by decide +kernel
theorem dX0_spawn_55 : decode cX0_spawn 55 = .ok (.iload 5, 2) := by decide +kernel
theorem dX0_spawn_57 : decode cX0_spawn 57 = .ok (.bipush 24, 2) := by decide +kernel
theorem dX0_spawn_59 : decode cX0_spawn 59 = .ok (.imul, 1) := by decide +kernel
theorem dX0_spawn_60 : decode cX0_spawn 60 = .ok (.iload_n 3, 1) := by decide +kernel
theorem dX0_spawn_61 : decode cX0_spawn 61 = .ok (.iadd, 1) := by decide +kernel
theorem dX0_spawn_62 : decode cX0_spawn 62 = .ok (.iload_n 2, 1) := by decide +kernel
theorem dX0_spawn_63 : decode cX0_spawn 63 = .ok (.iastore, 1) := by decide +kernel
theorem dX0_spawn_64 : decode cX0_spawn 64 = .ok (.iinc 5 1, 3) := by decide +kernel
theorem dX0_spawn_67 : decode cX0_spawn 67 = .ok (.goto (-23), 3) := by decide +kernel
theorem dX0_spawn_70 : decode cX0_spawn 70 = .ok (.iload_n 3, 1) := by decide +kernel
theorem dX0_spawn_71 : decode cX0_spawn 71 = .ok (.ireturn, 1) := by decide +kernel
theorem dX0_spawn_72 : decode cX0_spawn 72 = .ok (.iinc 3 1, 3) := by decide +kernel
theorem dX0_spawn_75 : decode cX0_spawn 75 = .ok (.goto (-63), 3) := by decide +kernel
theorem dX0_spawn_78 : decode cX0_spawn 78 = .ok (.bipush (-2), 2) := by decide +kernel
theorem dX0_spawn_80 : decode cX0_spawn 80 = .ok (.ireturn, 1) := by decide +kernel
abbrev cX0_badSet : ByteArray := prog_1_method_4_code
def yX0_badSet : MethodName := ⟨RX0, "badSet", "(I)Z"⟩
theorem dX0_badSet_0 : decode cX0_badSet 0 = .ok (.iload_n 1, 1) := by decide +kernel
theorem dX0_badSet_1 : decode cX0_badSet 1 = .ok (.ifCond .lt 9, 3) := by decide +kernel
theorem dX0_badSet_4 : decode cX0_badSet 4 = .ok (.iload_n 1, 1) := by decide +kernel
theorem dX0_badSet_5 : decode cX0_badSet 5 = .ok (.bipush 64, 2) := by decide +kernel
theorem dX0_badSet_7 : decode cX0_badSet 7 = .ok (.if_icmp .lt 7, 3) := by decide +kernel
theorem dX0_badSet_10 : decode cX0_badSet 10 = .ok (.iconst 1, 1) := by decide +kernel
theorem dX0_badSet_11 : decode cX0_badSet 11 = .ok (.goto 4, 3) := by decide +kernel
theorem dX0_badSet_14 : decode cX0_badSet 14 = .ok (.iconst 0, 1) := by decide +kernel
theorem dX0_badSet_15 : decode cX0_badSet 15 = .ok (.ireturn, 1) := by decide +kernel
abbrev cX0_tableFor : ByteArray := prog_1_method_6_code
def yX0_tableFor : MethodName := ⟨RX0, "tableFor", "(I)I"⟩
theorem dX0_tableFor_0 : decode cX0_tableFor 0 = .ok (.aload_n 0, 1) := by decide +kernel
theorem dX0_tableFor_1 : decode cX0_tableFor 1 = .ok (.getfield 13, 3) := by decide +kernel
theorem dX0_tableFor_4 : decode cX0_tableFor 4 = .ok (.iload_n 1, 1) := by decide +kernel
theorem dX0_tableFor_5 : decode cX0_tableFor 5 = .ok (.iaload, 1) := by decide +kernel
theorem dX0_tableFor_6 : decode cX0_tableFor 6 = .ok (.ifCond .ge 43, 3) := by decide +kernel
theorem dX0_tableFor_9 : decode cX0_tableFor 9 = .ok (.aload_n 0, 1) := by decide +kernel
theorem dX0_tableFor_10 : decode cX0_tableFor 10 = .ok (.getfield 7, 3) := by decide +kernel
theorem dX0_tableFor_13 : decode cX0_tableFor 13 = .ok (.aload_n 0, 1) := by decide +kernel
theorem dX0_tableFor_14 : decode cX0_tableFor 14 = .ok (.getfield 53, 3) := by decide +kernel
theorem dX0_tableFor_17 : decode cX0_tableFor 17 = .ok (.iload_n 1, 1) := by decide +kernel
theorem dX0_tableFor_18 : decode cX0_tableFor 18 = .ok (.iastore, 1) := by decide +kernel
theorem dX0_tableFor_19 : decode cX0_tableFor 19 = .ok (.aload_n 0, 1) := by decide +kernel
theorem dX0_tableFor_20 : decode cX0_tableFor 20 = .ok (.getfield 13, 3) := by decide +kernel
theorem dX0_tableFor_23 : decode cX0_tableFor 23 = .ok (.iload_n 1, 1) := by decide +kernel
theorem dX0_tableFor_24 : decode cX0_tableFor 24 = .ok (.aload_n 0, 1) := by decide +kernel
theorem dX0_tableFor_25 : decode cX0_tableFor 25 = .ok (.getfield 53, 3) := by decide +kernel
theorem dX0_tableFor_28 : decode cX0_tableFor 28 = .ok (.iastore, 1) := by decide +kernel
theorem dX0_tableFor_29 : decode cX0_tableFor 29 = .ok (.aload_n 0, 1) := by decide +kernel
theorem dX0_tableFor_30 : decode cX0_tableFor 30 = .ok (.getfield 16, 3) := by decide +kernel
theorem dX0_tableFor_33 : decode cX0_tableFor 33 = .ok (.aload_n 0, 1) := by decide +kernel
theorem dX0_tableFor_34 : decode cX0_tableFor 34 = .ok (.getfield 53, 3) := by decide +kernel
theorem dX0_tableFor_37 : decode cX0_tableFor 37 = .ok (.iconst 0, 1) := by decide +kernel
theorem dX0_tableFor_38 : decode cX0_tableFor 38 = .ok (.iastore, 1) := by decide +kernel
theorem dX0_tableFor_39 : decode cX0_tableFor 39 = .ok (.aload_n 0, 1) := by decide +kernel
theorem dX0_tableFor_40 : decode cX0_tableFor 40 = .ok (.dup, 1) := by decide +kernel
theorem dX0_tableFor_41 : decode cX0_tableFor 41 = .ok (.getfield 53, 3) := by decide +kernel
theorem dX0_tableFor_44 : decode cX0_tableFor 44 = .ok (.iconst 1, 1) := by decide +kernel
theorem dX0_tableFor_45 : decode cX0_tableFor 45 = .ok (.iadd, 1) := by decide +kernel
theorem dX0_tableFor_46 : decode cX0_tableFor 46 = .ok (.putfield 53, 3) := by decide +kernel
theorem dX0_tableFor_49 : decode cX0_tableFor 49 = .ok (.aload_n 0, 1) := by decide +kernel
theorem dX0_tableFor_50 : decode cX0_tableFor 50 = .ok (.getfield 13, 3) := by decide +kernel
theorem dX0_tableFor_53 : decode cX0_tableFor 53 = .ok (.iload_n 1, 1) := by decide +kernel
theorem dX0_tableFor_54 : decode cX0_tableFor 54 = .ok (.iaload, 1) := by decide +kernel
theorem dX0_tableFor_55 : decode cX0_tableFor 55 = .ok (.ireturn, 1) := by decide +kernel
abbrev cX0_enter : ByteArray := prog_1_method_7_code
def yX0_enter : MethodName := ⟨RX0, "enter", "(II)V"⟩
theorem dX0_enter_0 : decode cX0_enter 0 = .ok (.aload_n 0, 1) := by decide +kernel
theorem dX0_enter_1 : decode cX0_enter 1 = .ok (.getfield 22, 3) := by decide +kernel
theorem dX0_enter_4 : decode cX0_enter 4 = .ok (.iload_n 1, 1) := by decide +kernel
theorem dX0_enter_5 : decode cX0_enter 5 = .ok (.iload_n 2, 1) := by decide +kernel
theorem dX0_enter_6 : decode cX0_enter 6 = .ok (.iastore, 1) := by decide +kernel
theorem dX0_enter_7 : decode cX0_enter 7 = .ok (.aload_n 0, 1) := by decide +kernel
theorem dX0_enter_8 : decode cX0_enter 8 = .ok (.getfield 25, 3) := by decide +kernel
theorem dX0_enter_11 : decode cX0_enter 11 = .ok (.iload_n 1, 1) := by decide +kernel
theorem dX0_enter_12 : decode cX0_enter 12 = .ok (.aload_n 0, 1) := by decide +kernel
theorem dX0_enter_13 : decode cX0_enter 13 = .ok (.getfield 16, 3) := by decide +kernel
theorem dX0_enter_16 : decode cX0_enter 16 = .ok (.iload_n 2, 1) := by decide +kernel
theorem dX0_enter_17 : decode cX0_enter 17 = .ok (.iaload, 1) := by decide +kernel
theorem dX0_enter_18 : decode cX0_enter 18 = .ok (.iastore, 1) := by decide +kernel
theorem dX0_enter_19 : decode cX0_enter 19 = .ok (.aload_n 0, 1) := by decide +kernel
theorem dX0_enter_20 : decode cX0_enter 20 = .ok (.getfield 19, 3) := by decide +kernel
theorem dX0_enter_23 : decode cX0_enter 23 = .ok (.iload_n 2, 1) := by decide +kernel
theorem dX0_enter_24 : decode cX0_enter 24 = .ok (.bipush 24, 2) := by decide +kernel
theorem dX0_enter_26 : decode cX0_enter 26 = .ok (.imul, 1) := by decide +kernel
theorem dX0_enter_27 : decode cX0_enter 27 = .ok (.aload_n 0, 1) := by decide +kernel
theorem dX0_enter_28 : decode cX0_enter 28 = .ok (.getfield 16, 3) := by decide +kernel
theorem dX0_enter_31 : decode cX0_enter 31 = .ok (.iload_n 2, 1) := by decide +kernel
theorem dX0_enter_32 : decode cX0_enter 32 = .ok (.iaload, 1) := by decide +kernel
theorem dX0_enter_33 : decode cX0_enter 33 = .ok (.iadd, 1) := by decide +kernel
theorem dX0_enter_34 : decode cX0_enter 34 = .ok (.iload_n 1, 1) := by decide +kernel
theorem dX0_enter_35 : decode cX0_enter 35 = .ok (.iastore, 1) := by decide +kernel
theorem dX0_enter_36 : decode cX0_enter 36 = .ok (.aload_n 0, 1) := by decide +kernel
theorem dX0_enter_37 : decode cX0_enter 37 = .ok (.getfield 16, 3) := by decide +kernel
theorem dX0_enter_40 : decode cX0_enter 40 = .ok (.iload_n 2, 1) := by decide +kernel
theorem dX0_enter_41 : decode cX0_enter 41 = .ok (.aload_n 0, 1) := by decide +kernel
theorem dX0_enter_42 : decode cX0_enter 42 = .ok (.getfield 16, 3) := by decide +kernel
theorem dX0_enter_45 : decode cX0_enter 45 = .ok (.iload_n 2, 1) := by decide +kernel
theorem dX0_enter_46 : decode cX0_enter 46 = .ok (.iaload, 1) := by decide +kernel
theorem dX0_enter_47 : decode cX0_enter 47 = .ok (.iconst 1, 1) := by decide +kernel
theorem dX0_enter_48 : decode cX0_enter 48 = .ok (.iadd, 1) := by decide +kernel
theorem dX0_enter_49 : decode cX0_enter 49 = .ok (.iastore, 1) := by decide +kernel
theorem dX0_enter_50 : decode cX0_enter 50 = .ok (.return_, 1) := by decide +kernel
abbrev cX0_kill : ByteArray := prog_1_method_12_code
def yX0_kill : MethodName := ⟨RX0, "kill", "(I)I"⟩
theorem dX0_kill_0 : decode cX0_kill 0 = .ok (.aload_n 0, 1) := by decide +kernel
theorem dX0_kill_1 : decode cX0_kill 1 = .ok (.iload_n 1, 1) := by decide +kernel
theorem dX0_kill_2 : decode cX0_kill 2 = .ok (.invokevirtual 73, 3) := by decide +kernel
theorem dX0_kill_5 : decode cX0_kill 5 = .ok (.ifCond .ne 6, 3) := by decide +kernel
theorem dX0_kill_8 : decode cX0_kill 8 = .ok (.bipush (-4), 2) := by decide +kernel
theorem dX0_kill_10 : decode cX0_kill 10 = .ok (.ireturn, 1) := by decide +kernel
theorem dX0_kill_11 : decode cX0_kill 11 = .ok (.aload_n 0, 1) := by decide +kernel
theorem dX0_kill_12 : decode cX0_kill 12 = .ok (.iload_n 1, 1) := by decide +kernel
theorem dX0_kill_13 : decode cX0_kill 13 = .ok (.invokevirtual 76, 3) := by decide +kernel
theorem dX0_kill_16 : decode cX0_kill 16 = .ok (.istore_n 2, 1) := by decide +kernel
theorem dX0_kill_17 : decode cX0_kill 17 = .ok (.aload_n 0, 1) := by decide +kernel
theorem dX0_kill_18 : decode cX0_kill 18 = .ok (.iload_n 1, 1) := by decide +kernel
theorem dX0_kill_19 : decode cX0_kill 19 = .ok (.invokevirtual 61, 3) := by decide +kernel
theorem dX0_kill_22 : decode cX0_kill 22 = .ok (.iload_n 2, 1) := by decide +kernel
theorem dX0_kill_23 : decode cX0_kill 23 = .ok (.ireturn, 1) := by decide +kernel
abbrev cX0_lives : ByteArray := prog_1_method_2_code
def yX0_lives : MethodName := ⟨RX0, "lives", "(I)Z"⟩
theorem dX0_lives_0 : decode cX0_lives 0 = .ok (.iload_n 1, 1) := by decide +kernel
theorem dX0_lives_1 : decode cX0_lives 1 = .ok (.ifCond .lt 22, 3) := by decide +kernel
theorem dX0_lives_4 : decode cX0_lives 4 = .ok (.iload_n 1, 1) := by decide +kernel
theorem dX0_lives_5 : decode cX0_lives 5 = .ok (.bipush 24, 2) := by decide +kernel
theorem dX0_lives_7 : decode cX0_lives 7 = .ok (.if_icmp .ge 16, 3) := by decide +kernel
theorem dX0_lives_10 : decode cX0_lives 10 = .ok (.aload_n 0, 1) := by decide +kernel
theorem dX0_lives_11 : decode cX0_lives 11 = .ok (.getfield 22, 3) := by decide +kernel
theorem dX0_lives_14 : decode cX0_lives 14 = .ok (.iload_n 1, 1) := by decide +kernel
theorem dX0_lives_15 : decode cX0_lives 15 = .ok (.iaload, 1) := by decide +kernel
theorem dX0_lives_16 : decode cX0_lives 16 = .ok (.ifCond .lt 7, 3) := by decide +kernel
theorem dX0_lives_19 : decode cX0_lives 19 = .ok (.iconst 1, 1) := by decide +kernel
theorem dX0_lives_20 : decode cX0_lives 20 = .ok (.goto 4, 3) := by decide +kernel
theorem dX0_lives_23 : decode cX0_lives 23 = .ok (.iconst 0, 1) := by decide +kernel
theorem dX0_lives_24 : decode cX0_lives 24 = .ok (.ireturn, 1) := by decide +kernel
abbrev cX0_setOf : ByteArray := prog_1_method_9_code
def yX0_setOf : MethodName := ⟨RX0, "setOf", "(I)I"⟩
theorem dX0_setOf_0 : decode cX0_setOf 0 = .ok (.aload_n 0, 1) := by decide +kernel
theorem dX0_setOf_1 : decode cX0_setOf 1 = .ok (.getfield 7, 3) := by decide +kernel
theorem dX0_setOf_4 : decode cX0_setOf 4 = .ok (.aload_n 0, 1) := by decide +kernel
theorem dX0_setOf_5 : decode cX0_setOf 5 = .ok (.getfield 22, 3) := by decide +kernel
theorem dX0_setOf_8 : decode cX0_setOf 8 = .ok (.iload_n 1, 1) := by decide +kernel
theorem dX0_setOf_9 : decode cX0_setOf 9 = .ok (.iaload, 1) := by decide +kernel
theorem dX0_setOf_10 : decode cX0_setOf 10 = .ok (.iaload, 1) := by decide +kernel
theorem dX0_setOf_11 : decode cX0_setOf 11 = .ok (.ireturn, 1) := by decide +kernel
abbrev cX0_leave : ByteArray := prog_1_method_8_code
def yX0_leave : MethodName := ⟨RX0, "leave", "(I)V"⟩
theorem dX0_leave_0 : decode cX0_leave 0 = .ok (.aload_n 0, 1) := by decide +kernel
theorem dX0_leave_1 : decode cX0_leave 1 = .ok (.getfield 22, 3) := by decide +kernel
theorem dX0_leave_4 : decode cX0_leave 4 = .ok (.iload_n 1, 1) := by decide +kernel
theorem dX0_leave_5 : decode cX0_leave 5 = .ok (.iaload, 1) := by decide +kernel
theorem dX0_leave_6 : decode cX0_leave 6 = .ok (.istore_n 2, 1) := by decide +kernel
theorem dX0_leave_7 : decode cX0_leave 7 = .ok (.aload_n 0, 1) := by decide +kernel
theorem dX0_leave_8 : decode cX0_leave 8 = .ok (.getfield 16, 3) := by decide +kernel
theorem dX0_leave_11 : decode cX0_leave 11 = .ok (.iload_n 2, 1) := by decide +kernel
theorem dX0_leave_12 : decode cX0_leave 12 = .ok (.aload_n 0, 1) := by decide +kernel
theorem dX0_leave_13 : decode cX0_leave 13 = .ok (.getfield 16, 3) := by decide +kernel
theorem dX0_leave_16 : decode cX0_leave 16 = .ok (.iload_n 2, 1) := by decide +kernel
theorem dX0_leave_17 : decode cX0_leave 17 = .ok (.iaload, 1) := by decide +kernel
theorem dX0_leave_18 : decode cX0_leave 18 = .ok (.iconst 1, 1) := by decide +kernel
theorem dX0_leave_19 : decode cX0_leave 19 = .ok (.isub, 1) := by decide +kernel
theorem dX0_leave_20 : decode cX0_leave 20 = .ok (.iastore, 1) := by decide +kernel
theorem dX0_leave_21 : decode cX0_leave 21 = .ok (.aload_n 0, 1) := by decide +kernel
theorem dX0_leave_22 : decode cX0_leave 22 = .ok (.getfield 19, 3) := by decide +kernel
theorem dX0_leave_25 : decode cX0_leave 25 = .ok (.iload_n 2, 1) := by decide +kernel
theorem dX0_leave_26 : decode cX0_leave 26 = .ok (.bipush 24, 2) := by decide +kernel
theorem dX0_leave_28 : decode cX0_leave 28 = .ok (.imul, 1) := by decide +kernel
theorem dX0_leave_29 : decode cX0_leave 29 = .ok (.aload_n 0, 1) := by decide +kernel
theorem dX0_leave_30 : decode cX0_leave 30 = .ok (.getfield 16, 3) := by decide +kernel
theorem dX0_leave_33 : decode cX0_leave 33 = .ok (.iload_n 2, 1) := by decide +kernel
theorem dX0_leave_34 : decode cX0_leave 34 = .ok (.iaload, 1) := by decide +kernel
theorem dX0_leave_35 : decode cX0_leave 35 = .ok (.iadd, 1) := by decide +kernel
theorem dX0_leave_36 : decode cX0_leave 36 = .ok (.iaload, 1) := by decide +kernel
theorem dX0_leave_37 : decode cX0_leave 37 = .ok (.istore_n 3, 1) := by decide +kernel
theorem dX0_leave_38 : decode cX0_leave 38 = .ok (.aload_n 0, 1) := by decide +kernel
theorem dX0_leave_39 : decode cX0_leave 39 = .ok (.getfield 19, 3) := by decide +kernel
theorem dX0_leave_42 : decode cX0_leave 42 = .ok (.iload_n 2, 1) := by decide +kernel
theorem dX0_leave_43 : decode cX0_leave 43 = .ok (.bipush 24, 2) := by decide +kernel
theorem dX0_leave_45 : decode cX0_leave 45 = .ok (.imul, 1) := by decide +kernel
theorem dX0_leave_46 : decode cX0_leave 46 = .ok (.aload_n 0, 1) := by decide +kernel
theorem dX0_leave_47 : decode cX0_leave 47 = .ok (.getfield 25, 3) := by decide +kernel
theorem dX0_leave_50 : decode cX0_leave 50 = .ok (.iload_n 1, 1) := by decide +kernel
theorem dX0_leave_51 : decode cX0_leave 51 = .ok (.iaload, 1) := by decide +kernel
theorem dX0_leave_52 : decode cX0_leave 52 = .ok (.iadd, 1) := by decide +kernel
theorem dX0_leave_53 : decode cX0_leave 53 = .ok (.iload_n 3, 1) := by decide +kernel
theorem dX0_leave_54 : decode cX0_leave 54 = .ok (.iastore, 1) := by decide +kernel
theorem dX0_leave_55 : decode cX0_leave 55 = .ok (.aload_n 0, 1) := by decide +kernel
theorem dX0_leave_56 : decode cX0_leave 56 = .ok (.getfield 25, 3) := by decide +kernel
theorem dX0_leave_59 : decode cX0_leave 59 = .ok (.iload_n 3, 1) := by decide +kernel
theorem dX0_leave_60 : decode cX0_leave 60 = .ok (.aload_n 0, 1) := by decide +kernel
theorem dX0_leave_61 : decode cX0_leave 61 = .ok (.getfield 25, 3) := by decide +kernel
theorem dX0_leave_64 : decode cX0_leave 64 = .ok (.iload_n 1, 1) := by decide +kernel
theorem dX0_leave_65 : decode cX0_leave 65 = .ok (.iaload, 1) := by decide +kernel
theorem dX0_leave_66 : decode cX0_leave 66 = .ok (.iastore, 1) := by decide +kernel
theorem dX0_leave_67 : decode cX0_leave 67 = .ok (.aload_n 0, 1) := by decide +kernel
theorem dX0_leave_68 : decode cX0_leave 68 = .ok (.getfield 22, 3) := by decide +kernel
theorem dX0_leave_71 : decode cX0_leave 71 = .ok (.iload_n 1, 1) := by decide +kernel
theorem dX0_leave_72 : decode cX0_leave 72 = .ok (.bipush (-4), 2) := by decide +kernel
theorem dX0_leave_74 : decode cX0_leave 74 = .ok (.iastore, 1) := by decide +kernel
theorem dX0_leave_75 : decode cX0_leave 75 = .ok (.return_, 1) := by decide +kernel
abbrev cX0_put : ByteArray := prog_1_method_13_code
def yX0_put : MethodName := ⟨RX0, "put", "(III)I"⟩
theorem dX0_put_0 : decode cX0_put 0 = .ok (.aload_n 0, 1) := by decide +kernel
theorem dX0_put_1 : decode cX0_put 1 = .ok (.iload_n 1, 1) := by decide +kernel
theorem dX0_put_2 : decode cX0_put 2 = .ok (.invokevirtual 73, 3) := by decide +kernel
theorem dX0_put_5 : decode cX0_put 5 = .ok (.ifCond .ne 6, 3) := by decide +kernel
theorem dX0_put_8 : decode cX0_put 8 = .ok (.bipush (-4), 2) := by decide +kernel
theorem dX0_put_10 : decode cX0_put 10 = .ok (.ireturn, 1) := by decide +kernel
theorem dX0_put_11 : decode cX0_put 11 = .ok (.aload_n 0, 1) := by decide +kernel
theorem dX0_put_12 : decode cX0_put 12 = .ok (.iload_n 2, 1) := by decide +kernel
theorem dX0_put_13 : decode cX0_put 13 = .ok (.invokevirtual 79, 3) := by decide +kernel
theorem dX0_put_16 : decode cX0_put 16 = .ok (.ifCond .eq 5, 3) := by decide +kernel
theorem dX0_put_19 : decode cX0_put 19 = .ok (.iconst (-1), 1) := by decide +kernel
theorem dX0_put_20 : decode cX0_put 20 = .ok (.ireturn, 1) := by decide +kernel
theorem dX0_put_21 : decode cX0_put 21 = .ok (.aload_n 0, 1) := by decide +kernel
theorem dX0_put_22 : decode cX0_put 22 = .ok (.iload_n 1, 1) := by decide +kernel
theorem dX0_put_23 : decode cX0_put 23 = .ok (.invokevirtual 76, 3) := by decide +kernel
theorem dX0_put_26 : decode cX0_put 26 = .ok (.istore 4, 2) := by decide +kernel
theorem dX0_put_28 : decode cX0_put 28 = .ok (.aload_n 0, 1) := by decide +kernel
theorem dX0_put_29 : decode cX0_put 29 = .ok (.iload_n 1, 1) := by decide +kernel
theorem dX0_put_30 : decode cX0_put 30 = .ok (.iload 4, 2) := by decide +kernel
theorem dX0_put_32 : decode cX0_put 32 = .ok (.iconst 1, 1) := by decide +kernel
theorem dX0_put_33 : decode cX0_put 33 = .ok (.iload_n 2, 1) := by decide +kernel
theorem dX0_put_34 : decode cX0_put 34 = .ok (.ishl, 1) := by decide +kernel
theorem dX0_put_35 : decode cX0_put 35 = .ok (.ior, 1) := by decide +kernel
theorem dX0_put_36 : decode cX0_put 36 = .ok (.invokevirtual 82, 3) := by decide +kernel
theorem dX0_put_39 : decode cX0_put 39 = .ok (.aload_n 0, 1) := by decide +kernel
theorem dX0_put_40 : decode cX0_put 40 = .ok (.getfield 28, 3) := by decide +kernel
theorem dX0_put_43 : decode cX0_put 43 = .ok (.iload_n 2, 1) := by decide +kernel
theorem dX0_put_44 : decode cX0_put 44 = .ok (.bipush 24, 2) := by decide +kernel
theorem dX0_put_46 : decode cX0_put 46 = .ok (.imul, 1) := by decide +kernel
theorem dX0_put_47 : decode cX0_put 47 = .ok (.iload_n 1, 1) := by decide +kernel
theorem dX0_put_48 : decode cX0_put 48 = .ok (.iadd, 1) := by decide +kernel
theorem dX0_put_49 : decode cX0_put 49 = .ok (.iload_n 3, 1) := by decide +kernel
theorem dX0_put_50 : decode cX0_put 50 = .ok (.iastore, 1) := by decide +kernel
theorem dX0_put_51 : decode cX0_put 51 = .ok (.iload 4, 2) := by decide +kernel
theorem dX0_put_53 : decode cX0_put 53 = .ok (.iload_n 2, 1) := by decide +kernel
theorem dX0_put_54 : decode cX0_put 54 = .ok (.ishr, 1) := by decide +kernel
theorem dX0_put_55 : decode cX0_put 55 = .ok (.iconst 1, 1) := by decide +kernel
theorem dX0_put_56 : decode cX0_put 56 = .ok (.iand, 1) := by decide +kernel
theorem dX0_put_57 : decode cX0_put 57 = .ok (.ireturn, 1) := by decide +kernel
abbrev cX0_badPart : ByteArray := prog_1_method_3_code
def yX0_badPart : MethodName := ⟨RX0, "badPart", "(I)Z"⟩
theorem dX0_badPart_0 : decode cX0_badPart 0 = .ok (.iload_n 1, 1) := by decide +kernel
theorem dX0_badPart_1 : decode cX0_badPart 1 = .ok (.ifCond .lt 9, 3) := by decide +kernel
theorem dX0_badPart_4 : decode cX0_badPart 4 = .ok (.iload_n 1, 1) := by decide +kernel
theorem dX0_badPart_5 : decode cX0_badPart 5 = .ok (.bipush 6, 2) := by decide +kernel
theorem dX0_badPart_7 : decode cX0_badPart 7 = .ok (.if_icmp .lt 7, 3) := by decide +kernel
theorem dX0_badPart_10 : decode cX0_badPart 10 = .ok (.iconst 1, 1) := by decide +kernel
theorem dX0_badPart_11 : decode cX0_badPart 11 = .ok (.goto 4, 3) := by decide +kernel
theorem dX0_badPart_14 : decode cX0_badPart 14 = .ok (.iconst 0, 1) := by decide +kernel
theorem dX0_badPart_15 : decode cX0_badPart 15 = .ok (.ireturn, 1) := by decide +kernel
abbrev cX0_change : ByteArray := prog_1_method_10_code
def yX0_change : MethodName := ⟨RX0, "change", "(II)V"⟩
theorem dX0_change_0 : decode cX0_change 0 = .ok (.aload_n 0, 1) := by decide +kernel
theorem dX0_change_1 : decode cX0_change 1 = .ok (.iload_n 2, 1) := by decide +kernel
theorem dX0_change_2 : decode cX0_change 2 = .ok (.invokevirtual 57, 3) := by decide +kernel
theorem dX0_change_5 : decode cX0_change 5 = .ok (.istore_n 3, 1) := by decide +kernel
theorem dX0_change_6 : decode cX0_change 6 = .ok (.iload_n 3, 1) := by decide +kernel
theorem dX0_change_7 : decode cX0_change 7 = .ok (.aload_n 0, 1) := by decide +kernel
theorem dX0_change_8 : decode cX0_change 8 = .ok (.getfield 22, 3) := by decide +kernel
theorem dX0_change_11 : decode cX0_change 11 = .ok (.iload_n 1, 1) := by decide +kernel
theorem dX0_change_12 : decode cX0_change 12 = .ok (.iaload, 1) := by decide +kernel
theorem dX0_change_13 : decode cX0_change 13 = .ok (.if_icmp .eq 14, 3) := by decide +kernel
theorem dX0_change_16 : decode cX0_change 16 = .ok (.aload_n 0, 1) := by decide +kernel
theorem dX0_change_17 : decode cX0_change 17 = .ok (.iload_n 1, 1) := by decide +kernel
theorem dX0_change_18 : decode cX0_change 18 = .ok (.invokevirtual 61, 3) := by decide +kernel
theorem dX0_change_21 : decode cX0_change 21 = .ok (.aload_n 0, 1) := by decide +kernel
theorem dX0_change_22 : decode cX0_change 22 = .ok (.iload_n 1, 1) := by decide +kernel
theorem dX0_change_23 : decode cX0_change 23 = .ok (.iload_n 3, 1) := by decide +kernel
theorem dX0_change_24 : decode cX0_change 24 = .ok (.invokevirtual 65, 3) := by decide +kernel
theorem dX0_change_27 : decode cX0_change 27 = .ok (.return_, 1) := by decide +kernel
end
section
set_option maxRecDepth 100000
abbrev cX0_drop : ByteArray := prog_1_method_14_code
def yX0_drop : MethodName := ⟨RX0, "drop", "(II)I"⟩
theorem dX0_drop_0 : decode cX0_drop 0 = .ok (.aload_n 0, 1) := by decide +kernel
theorem dX0_drop_1 : decode cX0_drop 1 = .ok (.iload_n 1, 1) := by decide +kernel
theorem dX0_drop_2 : decode cX0_drop 2 = .ok (.invokevirtual 73, 3) := by decide +kernel
theorem dX0_drop_5 : decode cX0_drop 5 = .ok (.ifCond .ne 6, 3) := by decide +kernel
theorem dX0_drop_8 : decode cX0_drop 8 = .ok (.bipush (-4), 2) := by decide +kernel
theorem dX0_drop_10 : decode cX0_drop 10 = .ok (.ireturn, 1) := by decide +kernel
theorem dX0_drop_11 : decode cX0_drop 11 = .ok (.aload_n 0, 1) := by decide +kernel
theorem dX0_drop_12 : decode cX0_drop 12 = .ok (.iload_n 2, 1) := by decide +kernel
theorem dX0_drop_13 : decode cX0_drop 13 = .ok (.invokevirtual 79, 3) := by decide +kernel
theorem dX0_drop_16 : decode cX0_drop 16 = .ok (.ifCond .eq 5, 3) := by decide +kernel
theorem dX0_drop_19 : decode cX0_drop 19 = .ok (.iconst (-1), 1) := by decide +kernel
theorem dX0_drop_20 : decode cX0_drop 20 = .ok (.ireturn, 1) := by decide +kernel
theorem dX0_drop_21 : decode cX0_drop 21 = .ok (.aload_n 0, 1) := by decide +kernel
theorem dX0_drop_22 : decode cX0_drop 22 = .ok (.iload_n 1, 1) := by decide +kernel
theorem dX0_drop_23 : decode cX0_drop 23 = .ok (.invokevirtual 76, 3) := by decide +kernel
theorem dX0_drop_26 : decode cX0_drop 26 = .ok (.istore_n 3, 1) := by decide +kernel
theorem dX0_drop_27 : decode cX0_drop 27 = .ok (.aload_n 0, 1) := by decide +kernel
theorem dX0_drop_28 : decode cX0_drop 28 = .ok (.iload_n 1, 1) := by decide +kernel
theorem dX0_drop_29 : decode cX0_drop 29 = .ok (.iload_n 3, 1) := by decide +kernel
theorem dX0_drop_30 : decode cX0_drop 30 = .ok (.iconst 1, 1) := by decide +kernel
theorem dX0_drop_31 : decode cX0_drop 31 = .ok (.iload_n 2, 1) := by decide +kernel
theorem dX0_drop_32 : decode cX0_drop 32 = .ok (.ishl, 1) := by decide +kernel
theorem dX0_drop_33 : decode cX0_drop 33 = .ok (.iconst (-1), 1) := by decide +kernel
theorem dX0_drop_34 : decode cX0_drop 34 = .ok (.ixor, 1) := by decide +kernel
theorem dX0_drop_35 : decode cX0_drop 35 = .ok (.iand, 1) := by decide +kernel
theorem dX0_drop_36 : decode cX0_drop 36 = .ok (.invokevirtual 82, 3) := by decide +kernel
theorem dX0_drop_39 : decode cX0_drop 39 = .ok (.iload_n 3, 1) := by decide +kernel
theorem dX0_drop_40 : decode cX0_drop 40 = .ok (.iload_n 2, 1) := by decide +kernel
theorem dX0_drop_41 : decode cX0_drop 41 = .ok (.ishr, 1) := by decide +kernel
theorem dX0_drop_42 : decode cX0_drop 42 = .ok (.iconst 1, 1) := by decide +kernel
theorem dX0_drop_43 : decode cX0_drop 43 = .ok (.iand, 1) := by decide +kernel
theorem dX0_drop_44 : decode cX0_drop 44 = .ok (.ireturn, 1) := by decide +kernel
abbrev cX0_get : ByteArray := prog_1_method_15_code
def yX0_get : MethodName := ⟨RX0, "get", "(II)I"⟩
theorem dX0_get_0 : decode cX0_get 0 = .ok (.aload_n 0, 1) := by decide +kernel
theorem dX0_get_1 : decode cX0_get 1 = .ok (.iload_n 1, 1) := by decide +kernel
theorem dX0_get_2 : decode cX0_get 2 = .ok (.invokevirtual 73, 3) := by decide +kernel
theorem dX0_get_5 : decode cX0_get 5 = .ok (.ifCond .eq 23, 3) := by decide +kernel
theorem dX0_get_8 : decode cX0_get 8 = .ok (.aload_n 0, 1) := by decide +kernel
theorem dX0_get_9 : decode cX0_get 9 = .ok (.iload_n 2, 1) := by decide +kernel
theorem dX0_get_10 : decode cX0_get 10 = .ok (.invokevirtual 79, 3) := by decide +kernel
theorem dX0_get_13 : decode cX0_get 13 = .ok (.ifCond .ne 15, 3) := by decide +kernel
theorem dX0_get_16 : decode cX0_get 16 = .ok (.aload_n 0, 1) := by decide +kernel
theorem dX0_get_17 : decode cX0_get 17 = .ok (.iload_n 1, 1) := by decide +kernel
theorem dX0_get_18 : decode cX0_get 18 = .ok (.invokevirtual 76, 3) := by decide +kernel
theorem dX0_get_21 : decode cX0_get 21 = .ok (.iload_n 2, 1) := by decide +kernel
theorem dX0_get_22 : decode cX0_get 22 = .ok (.ishr, 1) := by decide +kernel
theorem dX0_get_23 : decode cX0_get 23 = .ok (.iconst 1, 1) := by decide +kernel
theorem dX0_get_24 : decode cX0_get 24 = .ok (.iand, 1) := by decide +kernel
theorem dX0_get_25 : decode cX0_get 25 = .ok (.ifCond .ne 5, 3) := by decide +kernel
theorem dX0_get_28 : decode cX0_get 28 = .ok (.iconst 0, 1) := by decide +kernel
theorem dX0_get_29 : decode cX0_get 29 = .ok (.ireturn, 1) := by decide +kernel
theorem dX0_get_30 : decode cX0_get 30 = .ok (.aload_n 0, 1) := by decide +kernel
theorem dX0_get_31 : decode cX0_get 31 = .ok (.getfield 28, 3) := by decide +kernel
theorem dX0_get_34 : decode cX0_get 34 = .ok (.iload_n 2, 1) := by decide +kernel
theorem dX0_get_35 : decode cX0_get 35 = .ok (.bipush 24, 2) := by decide +kernel
theorem dX0_get_37 : decode cX0_get 37 = .ok (.imul, 1) := by decide +kernel
theorem dX0_get_38 : decode cX0_get 38 = .ok (.iload_n 1, 1) := by decide +kernel
theorem dX0_get_39 : decode cX0_get 39 = .ok (.iadd, 1) := by decide +kernel
theorem dX0_get_40 : decode cX0_get 40 = .ok (.iaload, 1) := by decide +kernel
theorem dX0_get_41 : decode cX0_get 41 = .ok (.ireturn, 1) := by decide +kernel
abbrev cX0_parts : ByteArray := prog_1_method_16_code
def yX0_parts : MethodName := ⟨RX0, "parts", "(I)I"⟩
theorem dX0_parts_0 : decode cX0_parts 0 = .ok (.aload_n 0, 1) := by decide +kernel
theorem dX0_parts_1 : decode cX0_parts 1 = .ok (.iload_n 1, 1) := by decide +kernel
theorem dX0_parts_2 : decode cX0_parts 2 = .ok (.invokevirtual 73, 3) := by decide +kernel
theorem dX0_parts_5 : decode cX0_parts 5 = .ok (.ifCond .eq 11, 3) := by decide +kernel
theorem dX0_parts_8 : decode cX0_parts 8 = .ok (.aload_n 0, 1) := by decide +kernel
theorem dX0_parts_9 : decode cX0_parts 9 = .ok (.iload_n 1, 1) := by decide +kernel
theorem dX0_parts_10 : decode cX0_parts 10 = .ok (.invokevirtual 76, 3) := by decide +kernel
theorem dX0_parts_13 : decode cX0_parts 13 = .ok (.goto 5, 3) := by decide +kernel
theorem dX0_parts_16 : decode cX0_parts 16 = .ok (.bipush (-4), 2) := by decide +kernel
theorem dX0_parts_18 : decode cX0_parts 18 = .ok (.ireturn, 1) := by decide +kernel
abbrev cX0_living : ByteArray := prog_1_method_17_code
def yX0_living : MethodName := ⟨RX0, "living", "()I"⟩
theorem dX0_living_0 : decode cX0_living 0 = .ok (.iconst 0, 1) := by decide +kernel
theorem dX0_living_1 : decode cX0_living 1 = .ok (.istore_n 1, 1) := by decide +kernel
theorem dX0_living_2 : decode cX0_living 2 = .ok (.iconst 0, 1) := by decide +kernel
theorem dX0_living_3 : decode cX0_living 3 = .ok (.istore_n 2, 1) := by decide +kernel
theorem dX0_living_4 : decode cX0_living 4 = .ok (.iload_n 2, 1) := by decide +kernel
theorem dX0_living_5 : decode cX0_living 5 = .ok (.aload_n 0, 1) := by decide +kernel
theorem dX0_living_6 : decode cX0_living 6 = .ok (.getfield 53, 3) := by decide +kernel
theorem dX0_living_9 : decode cX0_living 9 = .ok (.if_icmp .ge 18, 3) := by decide +kernel
theorem dX0_living_12 : decode cX0_living 12 = .ok (.iload_n 1, 1) := by decide +kernel
theorem dX0_living_13 : decode cX0_living 13 = .ok (.aload_n 0, 1) := by decide +kernel
theorem dX0_living_14 : decode cX0_living 14 = .ok (.getfield 16, 3) := by decide +kernel
theorem dX0_living_17 : decode cX0_living 17 = .ok (.iload_n 2, 1) := by decide +kernel
theorem dX0_living_18 : decode cX0_living 18 = .ok (.iaload, 1) := by decide +kernel
theorem dX0_living_19 : decode cX0_living 19 = .ok (.iadd, 1) := by decide +kernel
theorem dX0_living_20 : decode cX0_living 20 = .ok (.istore_n 1, 1) := by decide +kernel
theorem dX0_living_21 : decode cX0_living 21 = .ok (.iinc 2 1, 3) := by decide +kernel
theorem dX0_living_24 : decode cX0_living 24 = .ok (.goto (-20), 3) := by decide +kernel
theorem dX0_living_27 : decode cX0_living 27 = .ok (.iload_n 1, 1) := by decide +kernel
theorem dX0_living_28 : decode cX0_living 28 = .ok (.ireturn, 1) := by decide +kernel
abbrev cX0_count : ByteArray := prog_1_method_18_code
def yX0_count : MethodName := ⟨RX0, "count", "(II)I"⟩
theorem dX0_count_0 : decode cX0_count 0 = .ok (.aload_n 0, 1) := by decide +kernel
theorem dX0_count_1 : decode cX0_count 1 = .ok (.iload_n 1, 1) := by decide +kernel
theorem dX0_count_2 : decode cX0_count 2 = .ok (.invokevirtual 69, 3) := by decide +kernel
theorem dX0_count_5 : decode cX0_count 5 = .ok (.ifCond .ne 11, 3) := by decide +kernel
theorem dX0_count_8 : decode cX0_count 8 = .ok (.aload_n 0, 1) := by decide +kernel
theorem dX0_count_9 : decode cX0_count 9 = .ok (.iload_n 2, 1) := by decide +kernel
theorem dX0_count_10 : decode cX0_count 10 = .ok (.invokevirtual 69, 3) := by decide +kernel
theorem dX0_count_13 : decode cX0_count 13 = .ok (.ifCond .eq 5, 3) := by decide +kernel
theorem dX0_count_16 : decode cX0_count 16 = .ok (.iconst (-1), 1) := by decide +kernel
theorem dX0_count_17 : decode cX0_count 17 = .ok (.ireturn, 1) := by decide +kernel
theorem dX0_count_18 : decode cX0_count 18 = .ok (.iconst 0, 1) := by decide +kernel
theorem dX0_count_19 : decode cX0_count 19 = .ok (.istore_n 3, 1) := by decide +kernel
theorem dX0_count_20 : decode cX0_count 20 = .ok (.iconst 0, 1) := by decide +kernel
theorem dX0_count_21 : decode cX0_count 21 = .ok (.istore 4, 2) := by decide +kernel
theorem dX0_count_23 : decode cX0_count 23 = .ok (.iload 4, 2) := by decide +kernel
theorem dX0_count_25 : decode cX0_count 25 = .ok (.aload_n 0, 1) := by decide +kernel
theorem dX0_count_26 : decode cX0_count 26 = .ok (.getfield 53, 3) := by decide +kernel
theorem dX0_count_29 : decode cX0_count 29 = .ok (.if_icmp .ge 35, 3) := by decide +kernel
theorem dX0_count_32 : decode cX0_count 32 = .ok (.aload_n 0, 1) := by decide +kernel
theorem dX0_count_33 : decode cX0_count 33 = .ok (.aload_n 0, 1) := by decide +kernel
theorem dX0_count_34 : decode cX0_count 34 = .ok (.getfield 7, 3) := by decide +kernel
theorem dX0_count_37 : decode cX0_count 37 = .ok (.iload 4, 2) := by decide +kernel
theorem dX0_count_39 : decode cX0_count 39 = .ok (.iaload, 1) := by decide +kernel
theorem dX0_count_40 : decode cX0_count 40 = .ok (.iload_n 1, 1) := by decide +kernel
theorem dX0_count_41 : decode cX0_count 41 = .ok (.iload_n 2, 1) := by decide +kernel
theorem dX0_count_42 : decode cX0_count 42 = .ok (.invokevirtual 85, 3) := by decide +kernel
theorem dX0_count_45 : decode cX0_count 45 = .ok (.ifCond .eq 13, 3) := by decide +kernel
theorem dX0_count_48 : decode cX0_count 48 = .ok (.iload_n 3, 1) := by decide +kernel
theorem dX0_count_49 : decode cX0_count 49 = .ok (.aload_n 0, 1) := by decide +kernel
theorem dX0_count_50 : decode cX0_count 50 = .ok (.getfield 16, 3) := by decide +kernel
theorem dX0_count_53 : decode cX0_count 53 = .ok (.iload 4, 2) := by decide +kernel
theorem dX0_count_55 : decode cX0_count 55 = .ok (.iaload, 1) := by decide +kernel
theorem dX0_count_56 : decode cX0_count 56 = .ok (.iadd, 1) := by decide +kernel
theorem dX0_count_57 : decode cX0_count 57 = .ok (.istore_n 3, 1) := by decide +kernel
theorem dX0_count_58 : decode cX0_count 58 = .ok (.iinc 4 1, 3) := by decide +kernel
theorem dX0_count_61 : decode cX0_count 61 = .ok (.goto (-38), 3) := by decide +kernel
theorem dX0_count_64 : decode cX0_count 64 = .ok (.iload_n 3, 1) := by decide +kernel
theorem dX0_count_65 : decode cX0_count 65 = .ok (.ireturn, 1) := by decide +kernel
abbrev cX0_fits : ByteArray := prog_1_method_5_code
def yX0_fits : MethodName := ⟨RX0, "fits", "(III)Z"⟩
theorem dX0_fits_0 : decode cX0_fits 0 = .ok (.iload_n 1, 1) := by decide +kernel
theorem dX0_fits_1 : decode cX0_fits 1 = .ok (.iload_n 2, 1) := by decide +kernel
theorem dX0_fits_2 : decode cX0_fits 2 = .ok (.iand, 1) := by decide +kernel
theorem dX0_fits_3 : decode cX0_fits 3 = .ok (.iload_n 2, 1) := by decide +kernel
theorem dX0_fits_4 : decode cX0_fits 4 = .ok (.if_icmp .ne 13, 3) := by decide +kernel
theorem dX0_fits_7 : decode cX0_fits 7 = .ok (.iload_n 1, 1) := by decide +kernel
theorem dX0_fits_8 : decode cX0_fits 8 = .ok (.iload_n 3, 1) := by decide +kernel
theorem dX0_fits_9 : decode cX0_fits 9 = .ok (.iand, 1) := by decide +kernel
theorem dX0_fits_10 : decode cX0_fits 10 = .ok (.ifCond .ne 7, 3) := by decide +kernel
theorem dX0_fits_13 : decode cX0_fits 13 = .ok (.iconst 1, 1) := by decide +kernel
theorem dX0_fits_14 : decode cX0_fits 14 = .ok (.goto 4, 3) := by decide +kernel
theorem dX0_fits_17 : decode cX0_fits 17 = .ok (.iconst 0, 1) := by decide +kernel
theorem dX0_fits_18 : decode cX0_fits 18 = .ok (.ireturn, 1) := by decide +kernel
abbrev cX0_next : ByteArray := prog_1_method_19_code
def yX0_next : MethodName := ⟨RX0, "next", "(III)I"⟩
theorem dX0_next_0 : decode cX0_next 0 = .ok (.aload_n 0, 1) := by decide +kernel
theorem dX0_next_1 : decode cX0_next 1 = .ok (.iload_n 1, 1) := by decide +kernel
theorem dX0_next_2 : decode cX0_next 2 = .ok (.invokevirtual 69, 3) := by decide +kernel
theorem dX0_next_5 : decode cX0_next 5 = .ok (.ifCond .ne 11, 3) := by decide +kernel
theorem dX0_next_8 : decode cX0_next 8 = .ok (.aload_n 0, 1) := by decide +kernel
theorem dX0_next_9 : decode cX0_next 9 = .ok (.iload_n 2, 1) := by decide +kernel
theorem dX0_next_10 : decode cX0_next 10 = .ok (.invokevirtual 69, 3) := by decide +kernel
theorem dX0_next_13 : decode cX0_next 13 = .ok (.ifCond .eq 5, 3) := by decide +kernel
theorem dX0_next_16 : decode cX0_next 16 = .ok (.iconst (-1), 1) := by decide +kernel
theorem dX0_next_17 : decode cX0_next 17 = .ok (.ireturn, 1) := by decide +kernel
theorem dX0_next_18 : decode cX0_next 18 = .ok (.bipush (-4), 2) := by decide +kernel
theorem dX0_next_20 : decode cX0_next 20 = .ok (.istore 4, 2) := by decide +kernel
theorem dX0_next_22 : decode cX0_next 22 = .ok (.iconst 0, 1) := by decide +kernel
theorem dX0_next_23 : decode cX0_next 23 = .ok (.istore 5, 2) := by decide +kernel
theorem dX0_next_25 : decode cX0_next 25 = .ok (.iload 5, 2) := by decide +kernel
theorem dX0_next_27 : decode cX0_next 27 = .ok (.aload_n 0, 1) := by decide +kernel
theorem dX0_next_28 : decode cX0_next 28 = .ok (.getfield 53, 3) := by decide +kernel
theorem dX0_next_31 : decode cX0_next 31 = .ok (.if_icmp .ge 55, 3) := by decide +kernel
theorem dX0_next_34 : decode cX0_next 34 = .ok (.aload_n 0, 1) := by decide +kernel
theorem dX0_next_35 : decode cX0_next 35 = .ok (.aload_n 0, 1) := by decide +kernel
theorem dX0_next_36 : decode cX0_next 36 = .ok (.getfield 7, 3) := by decide +kernel
theorem dX0_next_39 : decode cX0_next 39 = .ok (.iload 5, 2) := by decide +kernel
theorem dX0_next_41 : decode cX0_next 41 = .ok (.iaload, 1) := by decide +kernel
theorem dX0_next_42 : decode cX0_next 42 = .ok (.iload_n 1, 1) := by decide +kernel
theorem dX0_next_43 : decode cX0_next 43 = .ok (.iload_n 2, 1) := by decide +kernel
theorem dX0_next_44 : decode cX0_next 44 = .ok (.invokevirtual 85, 3) := by decide +kernel
theorem dX0_next_47 : decode cX0_next 47 = .ok (.ifCond .eq 33, 3) := by decide +kernel
theorem dX0_next_50 : decode cX0_next 50 = .ok (.aload_n 0, 1) := by decide +kernel
theorem dX0_next_51 : decode cX0_next 51 = .ok (.iload 5, 2) := by decide +kernel
theorem dX0_next_53 : decode cX0_next 53 = .ok (.iload_n 3, 1) := by decide +kernel
theorem dX0_next_54 : decode cX0_next 54 = .ok (.invokevirtual 89, 3) := by decide +kernel
theorem dX0_next_57 : decode cX0_next 57 = .ok (.istore 6, 2) := by decide +kernel
theorem dX0_next_59 : decode cX0_next 59 = .ok (.iload 6, 2) := by decide +kernel
theorem dX0_next_61 : decode cX0_next 61 = .ok (.ifCond .lt 19, 3) := by decide +kernel
theorem dX0_next_64 : decode cX0_next 64 = .ok (.iload 4, 2) := by decide +kernel
theorem dX0_next_66 : decode cX0_next 66 = .ok (.ifCond .lt 10, 3) := by decide +kernel
theorem dX0_next_69 : decode cX0_next 69 = .ok (.iload 6, 2) := by decide +kernel
theorem dX0_next_71 : decode cX0_next 71 = .ok (.iload 4, 2) := by decide +kernel
theorem dX0_next_73 : decode cX0_next 73 = .ok (.if_icmp .ge 7, 3) := by decide +kernel
theorem dX0_next_76 : decode cX0_next 76 = .ok (.iload 6, 2) := by decide +kernel
theorem dX0_next_78 : decode cX0_next 78 = .ok (.istore 4, 2) := by decide +kernel
theorem dX0_next_80 : decode cX0_next 80 = .ok (.iinc 5 1, 3) := by decide +kernel
theorem dX0_next_83 : decode cX0_next 83 = .ok (.goto (-58), 3) := by decide +kernel
theorem dX0_next_86 : decode cX0_next 86 = .ok (.iload 4, 2) := by decide +kernel
theorem dX0_next_88 : decode cX0_next 88 = .ok (.ireturn, 1) := by decide +kernel
abbrev cX0_leastFrom : ByteArray := prog_1_method_20_code
def yX0_leastFrom : MethodName := ⟨RX0, "leastFrom", "(II)I"⟩
theorem dX0_leastFrom_0 : decode cX0_leastFrom 0 = .ok (.bipush (-4), 2) := by decide +kernel
theorem dX0_leastFrom_2 : decode cX0_leastFrom 2 = .ok (.istore_n 3, 1) := by decide +kernel
theorem dX0_leastFrom_3 : decode cX0_leastFrom 3 = .ok (.iconst 0, 1) := by decide +kernel
theorem dX0_leastFrom_4 : decode cX0_leastFrom 4 = .ok (.istore 4, 2) := by decide +kernel
theorem dX0_leastFrom_6 : decode cX0_leastFrom 6 = .ok (.iload 4, 2) := by decide +kernel
theorem dX0_leastFrom_8 : decode cX0_leastFrom 8 = .ok (.aload_n 0, 1) := by decide +kernel
theorem dX0_leastFrom_9 : decode cX0_leastFrom 9 = .ok (.getfield 16, 3) := by decide +kernel
theorem dX0_leastFrom_12 : decode cX0_leastFrom 12 = .ok (.iload_n 1, 1) := by decide +kernel
theorem dX0_leastFrom_13 : decode cX0_leastFrom 13 = .ok (.iaload, 1) := by decide +kernel
theorem dX0_leastFrom_14 : decode cX0_leastFrom 14 = .ok (.if_icmp .ge 42, 3) := by decide +kernel
theorem dX0_leastFrom_17 : decode cX0_leastFrom 17 = .ok (.aload_n 0, 1) := by decide +kernel
theorem dX0_leastFrom_18 : decode cX0_leastFrom 18 = .ok (.getfield 19, 3) := by decide +kernel
theorem dX0_leastFrom_21 : decode cX0_leastFrom 21 = .ok (.iload_n 1, 1) := by decide +kernel
theorem dX0_leastFrom_22 : decode cX0_leastFrom 22 = .ok (.bipush 24, 2) := by decide +kernel
theorem dX0_leastFrom_24 : decode cX0_leastFrom 24 = .ok (.imul, 1) := by decide +kernel
theorem dX0_leastFrom_25 : decode cX0_leastFrom 25 = .ok (.iload 4, 2) := by decide +kernel
theorem dX0_leastFrom_27 : decode cX0_leastFrom 27 = .ok (.iadd, 1) := by decide +kernel
theorem dX0_leastFrom_28 : decode cX0_leastFrom 28 = .ok (.iaload, 1) := by decide +kernel
theorem dX0_leastFrom_29 : decode cX0_leastFrom 29 = .ok (.istore 5, 2) := by decide +kernel
theorem dX0_leastFrom_31 : decode cX0_leastFrom 31 = .ok (.iload 5, 2) := by decide +kernel
theorem dX0_leastFrom_33 : decode cX0_leastFrom 33 = .ok (.iload_n 2, 1) := by decide +kernel
theorem dX0_leastFrom_34 : decode cX0_leastFrom 34 = .ok (.if_icmp .lt 16, 3) := by decide +kernel
theorem dX0_leastFrom_37 : decode cX0_leastFrom 37 = .ok (.iload_n 3, 1) := by decide +kernel
theorem dX0_leastFrom_38 : decode cX0_leastFrom 38 = .ok (.ifCond .lt 9, 3) := by decide +kernel
theorem dX0_leastFrom_41 : decode cX0_leastFrom 41 = .ok (.iload 5, 2) := by decide +kernel
theorem dX0_leastFrom_43 : decode cX0_leastFrom 43 = .ok (.iload_n 3, 1) := by decide +kernel
theorem dX0_leastFrom_44 : decode cX0_leastFrom 44 = .ok (.if_icmp .ge 6, 3) := by decide +kernel
theorem dX0_leastFrom_47 : decode cX0_leastFrom 47 = .ok (.iload 5, 2) := by decide +kernel
theorem dX0_leastFrom_49 : decode cX0_leastFrom 49 = .ok (.istore_n 3, 1) := by decide +kernel
theorem dX0_leastFrom_50 : decode cX0_leastFrom 50 = .ok (.iinc 4 1, 3) := by decide +kernel
theorem dX0_leastFrom_53 : decode cX0_leastFrom 53 = .ok (.goto (-47), 3) := by decide +kernel
theorem dX0_leastFrom_56 : decode cX0_leastFrom 56 = .ok (.iload_n 3, 1) := by decide +kernel
theorem dX0_leastFrom_57 : decode cX0_leastFrom 57 = .ok (.ireturn, 1) := by decide +kernel
abbrev cX0_sum : ByteArray := prog_1_method_21_code
def yX0_sum : MethodName := ⟨RX0, "sum", "(III)I"⟩
theorem dX0_sum_0 : decode cX0_sum 0 = .ok (.aload_n 0, 1) := by decide +kernel
theorem dX0_sum_1 : decode cX0_sum 1 = .ok (.iload_n 1, 1) := by decide +kernel
theorem dX0_sum_2 : decode cX0_sum 2 = .ok (.invokevirtual 69, 3) := by decide +kernel
theorem dX0_sum_5 : decode cX0_sum 5 = .ok (.ifCond .ne 19, 3) := by decide +kernel
theorem dX0_sum_8 : decode cX0_sum 8 = .ok (.aload_n 0, 1) := by decide +kernel
theorem dX0_sum_9 : decode cX0_sum 9 = .ok (.iload_n 2, 1) := by decide +kernel
theorem dX0_sum_10 : decode cX0_sum 10 = .ok (.invokevirtual 69, 3) := by decide +kernel
theorem dX0_sum_13 : decode cX0_sum 13 = .ok (.ifCond .ne 11, 3) := by decide +kernel
theorem dX0_sum_16 : decode cX0_sum 16 = .ok (.aload_n 0, 1) := by decide +kernel
theorem dX0_sum_17 : decode cX0_sum 17 = .ok (.iload_n 3, 1) := by decide +kernel
theorem dX0_sum_18 : decode cX0_sum 18 = .ok (.invokevirtual 79, 3) := by decide +kernel
theorem dX0_sum_21 : decode cX0_sum 21 = .ok (.ifCond .eq 5, 3) := by decide +kernel
theorem dX0_sum_24 : decode cX0_sum 24 = .ok (.iconst 0, 1) := by decide +kernel
theorem dX0_sum_25 : decode cX0_sum 25 = .ok (.ireturn, 1) := by decide +kernel
theorem dX0_sum_26 : decode cX0_sum 26 = .ok (.iconst 0, 1) := by decide +kernel
theorem dX0_sum_27 : decode cX0_sum 27 = .ok (.istore 4, 2) := by decide +kernel
theorem dX0_sum_29 : decode cX0_sum 29 = .ok (.iload_n 1, 1) := by decide +kernel
theorem dX0_sum_30 : decode cX0_sum 30 = .ok (.iconst 1, 1) := by decide +kernel
theorem dX0_sum_31 : decode cX0_sum 31 = .ok (.iload_n 3, 1) := by decide +kernel
theorem dX0_sum_32 : decode cX0_sum 32 = .ok (.ishl, 1) := by decide +kernel
theorem dX0_sum_33 : decode cX0_sum 33 = .ok (.ior, 1) := by decide +kernel
theorem dX0_sum_34 : decode cX0_sum 34 = .ok (.istore 5, 2) := by decide +kernel
theorem dX0_sum_36 : decode cX0_sum 36 = .ok (.iconst 0, 1) := by decide +kernel
theorem dX0_sum_37 : decode cX0_sum 37 = .ok (.istore 6, 2) := by decide +kernel
theorem dX0_sum_39 : decode cX0_sum 39 = .ok (.iload 6, 2) := by decide +kernel
theorem dX0_sum_41 : decode cX0_sum 41 = .ok (.aload_n 0, 1) := by decide +kernel
theorem dX0_sum_42 : decode cX0_sum 42 = .ok (.getfield 53, 3) := by decide +kernel
theorem dX0_sum_45 : decode cX0_sum 45 = .ok (.if_icmp .ge 75, 3) := by decide +kernel
theorem dX0_sum_48 : decode cX0_sum 48 = .ok (.aload_n 0, 1) := by decide +kernel
theorem dX0_sum_49 : decode cX0_sum 49 = .ok (.aload_n 0, 1) := by decide +kernel
theorem dX0_sum_50 : decode cX0_sum 50 = .ok (.getfield 7, 3) := by decide +kernel
theorem dX0_sum_53 : decode cX0_sum 53 = .ok (.iload 6, 2) := by decide +kernel
theorem dX0_sum_55 : decode cX0_sum 55 = .ok (.iaload, 1) := by decide +kernel
theorem dX0_sum_56 : decode cX0_sum 56 = .ok (.iload 5, 2) := by decide +kernel
theorem dX0_sum_58 : decode cX0_sum 58 = .ok (.iload_n 2, 1) := by decide +kernel
theorem dX0_sum_59 : decode cX0_sum 59 = .ok (.invokevirtual 85, 3) := by decide +kernel
theorem dX0_sum_62 : decode cX0_sum 62 = .ok (.ifCond .eq 52, 3) := by decide +kernel
theorem dX0_sum_65 : decode cX0_sum 65 = .ok (.iconst 0, 1) := by decide +kernel
theorem dX0_sum_66 : decode cX0_sum 66 = .ok (.istore 7, 2) := by decide +kernel
theorem dX0_sum_68 : decode cX0_sum 68 = .ok (.iload 7, 2) := by decide +kernel
theorem dX0_sum_70 : decode cX0_sum 70 = .ok (.aload_n 0, 1) := by decide +kernel
theorem dX0_sum_71 : decode cX0_sum 71 = .ok (.getfield 16, 3) := by decide +kernel
theorem dX0_sum_74 : decode cX0_sum 74 = .ok (.iload 6, 2) := by decide +kernel
theorem dX0_sum_76 : decode cX0_sum 76 = .ok (.iaload, 1) := by decide +kernel
theorem dX0_sum_77 : decode cX0_sum 77 = .ok (.if_icmp .ge 37, 3) := by decide +kernel
theorem dX0_sum_80 : decode cX0_sum 80 = .ok (.iload 4, 2) := by decide +kernel
theorem dX0_sum_82 : decode cX0_sum 82 = .ok (.aload_n 0, 1) := by decide +kernel
theorem dX0_sum_83 : decode cX0_sum 83 = .ok (.getfield 28, 3) := by decide +kernel
theorem dX0_sum_86 : decode cX0_sum 86 = .ok (.iload_n 3, 1) := by decide +kernel
theorem dX0_sum_87 : decode cX0_sum 87 = .ok (.bipush 24, 2) := by decide +kernel
theorem dX0_sum_89 : decode cX0_sum 89 = .ok (.imul, 1) := by decide +kernel
theorem dX0_sum_90 : decode cX0_sum 90 = .ok (.aload_n 0, 1) := by decide +kernel
theorem dX0_sum_91 : decode cX0_sum 91 = .ok (.getfield 19, 3) := by decide +kernel
theorem dX0_sum_94 : decode cX0_sum 94 = .ok (.iload 6, 2) := by decide +kernel
theorem dX0_sum_96 : decode cX0_sum 96 = .ok (.bipush 24, 2) := by decide +kernel
theorem dX0_sum_98 : decode cX0_sum 98 = .ok (.imul, 1) := by decide +kernel
theorem dX0_sum_99 : decode cX0_sum 99 = .ok (.iload 7, 2) := by decide +kernel
theorem dX0_sum_101 : decode cX0_sum 101 = .ok (.iadd, 1) := by decide +kernel
theorem dX0_sum_102 : decode cX0_sum 102 = .ok (.iaload, 1) := by decide +kernel
theorem dX0_sum_103 : decode cX0_sum 103 = .ok (.iadd, 1) := by decide +kernel
theorem dX0_sum_104 : decode cX0_sum 104 = .ok (.iaload, 1) := by decide +kernel
theorem dX0_sum_105 : decode cX0_sum 105 = .ok (.iadd, 1) := by decide +kernel
theorem dX0_sum_106 : decode cX0_sum 106 = .ok (.istore 4, 2) := by decide +kernel
theorem dX0_sum_108 : decode cX0_sum 108 = .ok (.iinc 7 1, 3) := by decide +kernel
theorem dX0_sum_111 : decode cX0_sum 111 = .ok (.goto (-43), 3) := by decide +kernel
theorem dX0_sum_114 : decode cX0_sum 114 = .ok (.iinc 6 1, 3) := by decide +kernel
theorem dX0_sum_117 : decode cX0_sum 117 = .ok (.goto (-78), 3) := by decide +kernel
theorem dX0_sum_120 : decode cX0_sum 120 = .ok (.iload 4, 2) := by decide +kernel
theorem dX0_sum_122 : decode cX0_sum 122 = .ok (.ireturn, 1) := by decide +kernel
abbrev cX0_kinds : ByteArray := prog_1_method_22_code
def yX0_kinds : MethodName := ⟨RX0, "kinds", "()I"⟩
theorem dX0_kinds_0 : decode cX0_kinds 0 = .ok (.iconst 0, 1) := by decide +kernel
theorem dX0_kinds_1 : decode cX0_kinds 1 = .ok (.istore_n 1, 1) := by decide +kernel
theorem dX0_kinds_2 : decode cX0_kinds 2 = .ok (.iconst 0, 1) := by decide +kernel
theorem dX0_kinds_3 : decode cX0_kinds 3 = .ok (.istore_n 2, 1) := by decide +kernel
theorem dX0_kinds_4 : decode cX0_kinds 4 = .ok (.iload_n 2, 1) := by decide +kernel
theorem dX0_kinds_5 : decode cX0_kinds 5 = .ok (.aload_n 0, 1) := by decide +kernel
theorem dX0_kinds_6 : decode cX0_kinds 6 = .ok (.getfield 53, 3) := by decide +kernel
theorem dX0_kinds_9 : decode cX0_kinds 9 = .ok (.if_icmp .ge 21, 3) := by decide +kernel
theorem dX0_kinds_12 : decode cX0_kinds 12 = .ok (.aload_n 0, 1) := by decide +kernel
theorem dX0_kinds_13 : decode cX0_kinds 13 = .ok (.getfield 16, 3) := by decide +kernel
theorem dX0_kinds_16 : decode cX0_kinds 16 = .ok (.iload_n 2, 1) := by decide +kernel
theorem dX0_kinds_17 : decode cX0_kinds 17 = .ok (.iaload, 1) := by decide +kernel
theorem dX0_kinds_18 : decode cX0_kinds 18 = .ok (.ifCond .le 6, 3) := by decide +kernel
theorem dX0_kinds_21 : decode cX0_kinds 21 = .ok (.iinc 1 1, 3) := by decide +kernel
theorem dX0_kinds_24 : decode cX0_kinds 24 = .ok (.iinc 2 1, 3) := by decide +kernel
theorem dX0_kinds_27 : decode cX0_kinds 27 = .ok (.goto (-23), 3) := by decide +kernel
theorem dX0_kinds_30 : decode cX0_kinds 30 = .ok (.iload_n 1, 1) := by decide +kernel
theorem dX0_kinds_31 : decode cX0_kinds 31 = .ok (.ireturn, 1) := by decide +kernel
abbrev cX0_system : ByteArray := prog_1_method_23_code
def yX0_system : MethodName := ⟨RX0, "system", "(II)I"⟩
theorem dX0_system_0 : decode cX0_system 0 = .ok (.iload_n 1, 1) := by decide +kernel
theorem dX0_system_1 : decode cX0_system 1 = .ok (.bipush 63, 2) := by decide +kernel
theorem dX0_system_3 : decode cX0_system 3 = .ok (.iand, 1) := by decide +kernel
theorem dX0_system_4 : decode cX0_system 4 = .ok (.istore_n 3, 1) := by decide +kernel
theorem dX0_system_5 : decode cX0_system 5 = .ok (.iload_n 2, 1) := by decide +kernel
theorem dX0_system_6 : decode cX0_system 6 = .ok (.bipush 7, 2) := by decide +kernel
theorem dX0_system_8 : decode cX0_system 8 = .ok (.iand, 1) := by decide +kernel
theorem dX0_system_9 : decode cX0_system 9 = .ok (.istore 4, 2) := by decide +kernel
theorem dX0_system_11 : decode cX0_system 11 = .ok (.iload_n 2, 1) := by decide +kernel
theorem dX0_system_12 : decode cX0_system 12 = .ok (.iconst 3, 1) := by decide +kernel
theorem dX0_system_13 : decode cX0_system 13 = .ok (.ishr, 1) := by decide +kernel
theorem dX0_system_14 : decode cX0_system 14 = .ok (.bipush 7, 2) := by decide +kernel
theorem dX0_system_16 : decode cX0_system 16 = .ok (.iand, 1) := by decide +kernel
theorem dX0_system_17 : decode cX0_system 17 = .ok (.istore 5, 2) := by decide +kernel
theorem dX0_system_19 : decode cX0_system 19 = .ok (.iload_n 2, 1) := by decide +kernel
theorem dX0_system_20 : decode cX0_system 20 = .ok (.bipush 6, 2) := by decide +kernel
theorem dX0_system_22 : decode cX0_system 22 = .ok (.ishr, 1) := by decide +kernel
theorem dX0_system_23 : decode cX0_system 23 = .ok (.istore 6, 2) := by decide +kernel
theorem dX0_system_25 : decode cX0_system 25 = .ok (.iload_n 1, 1) := by decide +kernel
theorem dX0_system_26 : decode cX0_system 26 = .ok (.ifCond .lt 38, 3) := by decide +kernel
theorem dX0_system_29 : decode cX0_system 29 = .ok (.iload_n 1, 1) := by decide +kernel
theorem dX0_system_30 : decode cX0_system 30 = .ok (.sipush 4095, 3) := by decide +kernel
theorem dX0_system_33 : decode cX0_system 33 = .ok (.if_icmp .gt 31, 3) := by decide +kernel
theorem dX0_system_36 : decode cX0_system 36 = .ok (.iload_n 2, 1) := by decide +kernel
theorem dX0_system_37 : decode cX0_system 37 = .ok (.ifCond .lt 27, 3) := by decide +kernel
theorem dX0_system_40 : decode cX0_system 40 = .ok (.iload 4, 2) := by decide +kernel
theorem dX0_system_42 : decode cX0_system 42 = .ok (.iconst 4, 1) := by decide +kernel
theorem dX0_system_43 : decode cX0_system 43 = .ok (.if_icmp .gt 21, 3) := by decide +kernel
theorem dX0_system_46 : decode cX0_system 46 = .ok (.aload_n 0, 1) := by decide +kernel
theorem dX0_system_47 : decode cX0_system 47 = .ok (.iload 5, 2) := by decide +kernel
theorem dX0_system_49 : decode cX0_system 49 = .ok (.invokevirtual 79, 3) := by decide +kernel
theorem dX0_system_52 : decode cX0_system 52 = .ok (.ifCond .ne 12, 3) := by decide +kernel
theorem dX0_system_55 : decode cX0_system 55 = .ok (.aload_n 0, 1) := by decide +kernel
theorem dX0_system_56 : decode cX0_system 56 = .ok (.iload 6, 2) := by decide +kernel
theorem dX0_system_58 : decode cX0_system 58 = .ok (.invokevirtual 79, 3) := by decide +kernel
theorem dX0_system_61 : decode cX0_system 61 = .ok (.ifCond .eq 5, 3) := by decide +kernel
theorem dX0_system_64 : decode cX0_system 64 = .ok (.iconst (-1), 1) := by decide +kernel
theorem dX0_system_65 : decode cX0_system 65 = .ok (.ireturn, 1) := by decide +kernel
theorem dX0_system_66 : decode cX0_system 66 = .ok (.iload_n 3, 1) := by decide +kernel
theorem dX0_system_67 : decode cX0_system 67 = .ok (.iload 5, 2) := by decide +kernel
theorem dX0_system_69 : decode cX0_system 69 = .ok (.ishr, 1) := by decide +kernel
theorem dX0_system_70 : decode cX0_system 70 = .ok (.iconst 1, 1) := by decide +kernel
theorem dX0_system_71 : decode cX0_system 71 = .ok (.iand, 1) := by decide +kernel
theorem dX0_system_72 : decode cX0_system 72 = .ok (.ifCond .eq 12, 3) := by decide +kernel
theorem dX0_system_75 : decode cX0_system 75 = .ok (.iload_n 3, 1) := by decide +kernel
theorem dX0_system_76 : decode cX0_system 76 = .ok (.iload 6, 2) := by decide +kernel
theorem dX0_system_78 : decode cX0_system 78 = .ok (.ishr, 1) := by decide +kernel
theorem dX0_system_79 : decode cX0_system 79 = .ok (.iconst 1, 1) := by decide +kernel
theorem dX0_system_80 : decode cX0_system 80 = .ok (.iand, 1) := by decide +kernel
theorem dX0_system_81 : decode cX0_system 81 = .ok (.ifCond .ne 5, 3) := by decide +kernel
theorem dX0_system_84 : decode cX0_system 84 = .ok (.iconst (-1), 1) := by decide +kernel
theorem dX0_system_85 : decode cX0_system 85 = .ok (.ireturn, 1) := by decide +kernel
theorem dX0_system_86 : decode cX0_system 86 = .ok (.aload_n 0, 1) := by decide +kernel
theorem dX0_system_87 : decode cX0_system 87 = .ok (.getfield 93, 3) := by decide +kernel
theorem dX0_system_90 : decode cX0_system 90 = .ok (.bipush 8, 2) := by decide +kernel
theorem dX0_system_92 : decode cX0_system 92 = .ok (.if_icmp .ne 6, 3) := by decide +kernel
theorem dX0_system_95 : decode cX0_system 95 = .ok (.bipush (-2), 2) := by decide +kernel
theorem dX0_system_97 : decode cX0_system 97 = .ok (.ireturn, 1) := by decide +kernel
theorem dX0_system_98 : decode cX0_system 98 = .ok (.aload_n 0, 1) := by decide +kernel
theorem dX0_system_99 : decode cX0_system 99 = .ok (.getfield 31, 3) := by decide +kernel
theorem dX0_system_102 : decode cX0_system 102 = .ok (.aload_n 0, 1) := by decide +kernel
theorem dX0_system_103 : decode cX0_system 103 = .ok (.getfield 93, 3) := by decide +kernel
theorem dX0_system_106 : decode cX0_system 106 = .ok (.iload_n 3, 1) := by decide +kernel
theorem dX0_system_107 : decode cX0_system 107 = .ok (.iastore, 1) := by decide +kernel
theorem dX0_system_108 : decode cX0_system 108 = .ok (.aload_n 0, 1) := by decide +kernel
theorem dX0_system_109 : decode cX0_system 109 = .ok (.getfield 34, 3) := by decide +kernel
theorem dX0_system_112 : decode cX0_system 112 = .ok (.aload_n 0, 1) := by decide +kernel
theorem dX0_system_113 : decode cX0_system 113 = .ok (.getfield 93, 3) := by decide +kernel
theorem dX0_system_116 : decode cX0_system 116 = .ok (.iload_n 1, 1) := by decide +kernel
theorem dX0_system_117 : decode cX0_system 117 = .ok (.bipush 6, 2) := by decide +kernel
theorem dX0_system_119 : decode cX0_system 119 = .ok (.ishr, 1) := by decide +kernel
theorem dX0_system_120 : decode cX0_system 120 = .ok (.iastore, 1) := by decide +kernel
theorem dX0_system_121 : decode cX0_system 121 = .ok (.aload_n 0, 1) := by decide +kernel
theorem dX0_system_122 : decode cX0_system 122 = .ok (.getfield 37, 3) := by decide +kernel
theorem dX0_system_125 : decode cX0_system 125 = .ok (.aload_n 0, 1) := by decide +kernel
theorem dX0_system_126 : decode cX0_system 126 = .ok (.getfield 93, 3) := by decide +kernel
theorem dX0_system_129 : decode cX0_system 129 = .ok (.iload 4, 2) := by decide +kernel
theorem dX0_system_131 : decode cX0_system 131 = .ok (.iastore, 1) := by decide +kernel
theorem dX0_system_132 : decode cX0_system 132 = .ok (.aload_n 0, 1) := by decide +kernel
theorem dX0_system_133 : decode cX0_system 133 = .ok (.getfield 40, 3) := by decide +kernel
theorem dX0_system_136 : decode cX0_system 136 = .ok (.aload_n 0, 1) := by decide +kernel
theorem dX0_system_137 : decode cX0_system 137 = .ok (.getfield 93, 3) := by decide +kernel
theorem dX0_system_140 : decode cX0_system 140 = .ok (.iload 5, 2) := by decide +kernel
theorem dX0_system_142 : decode cX0_system 142 = .ok (.iastore, 1) := by decide +kernel
theorem dX0_system_143 : decode cX0_system 143 = .ok (.aload_n 0, 1) := by decide +kernel
theorem dX0_system_144 : decode cX0_system 144 = .ok (.getfield 43, 3) := by decide +kernel
theorem dX0_system_147 : decode cX0_system 147 = .ok (.aload_n 0, 1) := by decide +kernel
theorem dX0_system_148 : decode cX0_system 148 = .ok (.getfield 93, 3) := by decide +kernel
theorem dX0_system_151 : decode cX0_system 151 = .ok (.iload 6, 2) := by decide +kernel
theorem dX0_system_153 : decode cX0_system 153 = .ok (.iastore, 1) := by decide +kernel
theorem dX0_system_154 : decode cX0_system 154 = .ok (.aload_n 0, 1) := by decide +kernel
theorem dX0_system_155 : decode cX0_system 155 = .ok (.dup, 1) := by decide +kernel
theorem dX0_system_156 : decode cX0_system 156 = .ok (.getfield 93, 3) := by decide +kernel
theorem dX0_system_159 : decode cX0_system 159 = .ok (.iconst 1, 1) := by decide +kernel
theorem dX0_system_160 : decode cX0_system 160 = .ok (.iadd, 1) := by decide +kernel
theorem dX0_system_161 : decode cX0_system 161 = .ok (.putfield 93, 3) := by decide +kernel
theorem dX0_system_164 : decode cX0_system 164 = .ok (.aload_n 0, 1) := by decide +kernel
theorem dX0_system_165 : decode cX0_system 165 = .ok (.iconst 0, 1) := by decide +kernel
theorem dX0_system_166 : decode cX0_system 166 = .ok (.putfield 96, 3) := by decide +kernel
theorem dX0_system_169 : decode cX0_system 169 = .ok (.aload_n 0, 1) := by decide +kernel
theorem dX0_system_170 : decode cX0_system 170 = .ok (.iconst 0, 1) := by decide +kernel
theorem dX0_system_171 : decode cX0_system 171 = .ok (.putfield 100, 3) := by decide +kernel
theorem dX0_system_174 : decode cX0_system 174 = .ok (.aload_n 0, 1) := by decide +kernel
theorem dX0_system_175 : decode cX0_system 175 = .ok (.getfield 93, 3) := by decide +kernel
theorem dX0_system_178 : decode cX0_system 178 = .ok (.iconst 1, 1) := by decide +kernel
theorem dX0_system_179 : decode cX0_system 179 = .ok (.isub, 1) := by decide +kernel
theorem dX0_system_180 : decode cX0_system 180 = .ok (.ireturn, 1) := by decide +kernel
end
section
set_option maxRecDepth 100000
abbrev cX0_unsystem : ByteArray := prog_1_method_24_code
def yX0_unsystem : MethodName := ⟨RX0, "unsystem", "()I"⟩
theorem dX0_unsystem_0 : decode cX0_unsystem 0 = .ok (.aload_n 0, 1) := by decide +kernel
theorem dX0_unsystem_1 : decode cX0_unsystem 1 = .ok (.getfield 93, 3) := by decide +kernel
theorem dX0_unsystem_4 : decode cX0_unsystem 4 = .ok (.ifCond .ne 6, 3) := by decide +kernel
theorem dX0_unsystem_7 : decode cX0_unsystem 7 = .ok (.bipush (-4), 2) := by decide +kernel
theorem dX0_unsystem_9 : decode cX0_unsystem 9 = .ok (.ireturn, 1) := by decide +kernel
theorem dX0_unsystem_10 : decode cX0_unsystem 10 = .ok (.aload_n 0, 1) := by decide +kernel
theorem dX0_unsystem_11 : decode cX0_unsystem 11 = .ok (.dup, 1) := by decide +kernel
theorem dX0_unsystem_12 : decode cX0_unsystem 12 = .ok (.getfield 93, 3) := by decide +kernel
theorem dX0_unsystem_15 : decode cX0_unsystem 15 = .ok (.iconst 1, 1) := by decide +kernel
theorem dX0_unsystem_16 : decode cX0_unsystem 16 = .ok (.isub, 1) := by decide +kernel
theorem dX0_unsystem_17 : decode cX0_unsystem 17 = .ok (.putfield 93, 3) := by decide +kernel
theorem dX0_unsystem_20 : decode cX0_unsystem 20 = .ok (.aload_n 0, 1) := by decide +kernel
theorem dX0_unsystem_21 : decode cX0_unsystem 21 = .ok (.iconst 0, 1) := by decide +kernel
theorem dX0_unsystem_22 : decode cX0_unsystem 22 = .ok (.putfield 96, 3) := by decide +kernel
theorem dX0_unsystem_25 : decode cX0_unsystem 25 = .ok (.aload_n 0, 1) := by decide +kernel
theorem dX0_unsystem_26 : decode cX0_unsystem 26 = .ok (.getfield 93, 3) := by decide +kernel
theorem dX0_unsystem_29 : decode cX0_unsystem 29 = .ok (.ireturn, 1) := by decide +kernel
abbrev cX0_stage : ByteArray := prog_1_method_28_code
def yX0_stage : MethodName := ⟨RX0, "stage", "(I)I"⟩
theorem dX0_stage_0 : decode cX0_stage 0 = .ok (.iload_n 1, 1) := by decide +kernel
theorem dX0_stage_1 : decode cX0_stage 1 = .ok (.ifCond .lt 11, 3) := by decide +kernel
theorem dX0_stage_4 : decode cX0_stage 4 = .ok (.iload_n 1, 1) := by decide +kernel
theorem dX0_stage_5 : decode cX0_stage 5 = .ok (.aload_n 0, 1) := by decide +kernel
theorem dX0_stage_6 : decode cX0_stage 6 = .ok (.getfield 93, 3) := by decide +kernel
theorem dX0_stage_9 : decode cX0_stage 9 = .ok (.if_icmp .lt 6, 3) := by decide +kernel
theorem dX0_stage_12 : decode cX0_stage 12 = .ok (.bipush (-4), 2) := by decide +kernel
theorem dX0_stage_14 : decode cX0_stage 14 = .ok (.ireturn, 1) := by decide +kernel
theorem dX0_stage_15 : decode cX0_stage 15 = .ok (.aload_n 0, 1) := by decide +kernel
theorem dX0_stage_16 : decode cX0_stage 16 = .ok (.invokevirtual 113, 3) := by decide +kernel
theorem dX0_stage_19 : decode cX0_stage 19 = .ok (.aload_n 0, 1) := by decide +kernel
theorem dX0_stage_20 : decode cX0_stage 20 = .ok (.getfield 46, 3) := by decide +kernel
theorem dX0_stage_23 : decode cX0_stage 23 = .ok (.iload_n 1, 1) := by decide +kernel
theorem dX0_stage_24 : decode cX0_stage 24 = .ok (.iaload, 1) := by decide +kernel
theorem dX0_stage_25 : decode cX0_stage 25 = .ok (.ireturn, 1) := by decide +kernel
abbrev cX0_layOut : ByteArray := prog_1_method_27_code
def yX0_layOut : MethodName := ⟨RX0, "layOut", "()V"⟩
theorem dX0_layOut_0 : decode cX0_layOut 0 = .ok (.aload_n 0, 1) := by decide +kernel
theorem dX0_layOut_1 : decode cX0_layOut 1 = .ok (.getfield 96, 3) := by decide +kernel
theorem dX0_layOut_4 : decode cX0_layOut 4 = .ok (.ifCond .eq 4, 3) := by decide +kernel
theorem dX0_layOut_7 : decode cX0_layOut 7 = .ok (.return_, 1) := by decide +kernel
theorem dX0_layOut_8 : decode cX0_layOut 8 = .ok (.aload_n 0, 1) := by decide +kernel
theorem dX0_layOut_9 : decode cX0_layOut 9 = .ok (.iconst 0, 1) := by decide +kernel
theorem dX0_layOut_10 : decode cX0_layOut 10 = .ok (.putfield 106, 3) := by decide +kernel
theorem dX0_layOut_13 : decode cX0_layOut 13 = .ok (.iconst 0, 1) := by decide +kernel
theorem dX0_layOut_14 : decode cX0_layOut 14 = .ok (.istore_n 1, 1) := by decide +kernel
theorem dX0_layOut_15 : decode cX0_layOut 15 = .ok (.iload_n 1, 1) := by decide +kernel
theorem dX0_layOut_16 : decode cX0_layOut 16 = .ok (.aload_n 0, 1) := by decide +kernel
theorem dX0_layOut_17 : decode cX0_layOut 17 = .ok (.getfield 93, 3) := by decide +kernel
theorem dX0_layOut_20 : decode cX0_layOut 20 = .ok (.if_icmp .ge 99, 3) := by decide +kernel
theorem dX0_layOut_23 : decode cX0_layOut 23 = .ok (.aload_n 0, 1) := by decide +kernel
theorem dX0_layOut_24 : decode cX0_layOut 24 = .ok (.getfield 46, 3) := by decide +kernel
theorem dX0_layOut_27 : decode cX0_layOut 27 = .ok (.iload_n 1, 1) := by decide +kernel
theorem dX0_layOut_28 : decode cX0_layOut 28 = .ok (.iconst 0, 1) := by decide +kernel
theorem dX0_layOut_29 : decode cX0_layOut 29 = .ok (.iastore, 1) := by decide +kernel
theorem dX0_layOut_30 : decode cX0_layOut 30 = .ok (.iconst 0, 1) := by decide +kernel
theorem dX0_layOut_31 : decode cX0_layOut 31 = .ok (.istore_n 2, 1) := by decide +kernel
theorem dX0_layOut_32 : decode cX0_layOut 32 = .ok (.iload_n 2, 1) := by decide +kernel
theorem dX0_layOut_33 : decode cX0_layOut 33 = .ok (.iload_n 1, 1) := by decide +kernel
theorem dX0_layOut_34 : decode cX0_layOut 34 = .ok (.if_icmp .ge 47, 3) := by decide +kernel
theorem dX0_layOut_37 : decode cX0_layOut 37 = .ok (.aload_n 0, 1) := by decide +kernel
theorem dX0_layOut_38 : decode cX0_layOut 38 = .ok (.iload_n 1, 1) := by decide +kernel
theorem dX0_layOut_39 : decode cX0_layOut 39 = .ok (.iload_n 2, 1) := by decide +kernel
theorem dX0_layOut_40 : decode cX0_layOut 40 = .ok (.invokevirtual 109, 3) := by decide +kernel
theorem dX0_layOut_43 : decode cX0_layOut 43 = .ok (.ifCond .eq 32, 3) := by decide +kernel
theorem dX0_layOut_46 : decode cX0_layOut 46 = .ok (.aload_n 0, 1) := by decide +kernel
theorem dX0_layOut_47 : decode cX0_layOut 47 = .ok (.getfield 46, 3) := by decide +kernel
theorem dX0_layOut_50 : decode cX0_layOut 50 = .ok (.iload_n 2, 1) := by decide +kernel
theorem dX0_layOut_51 : decode cX0_layOut 51 = .ok (.iaload, 1) := by decide +kernel
theorem dX0_layOut_52 : decode cX0_layOut 52 = .ok (.aload_n 0, 1) := by decide +kernel
theorem dX0_layOut_53 : decode cX0_layOut 53 = .ok (.getfield 46, 3) := by decide +kernel
theorem dX0_layOut_56 : decode cX0_layOut 56 = .ok (.iload_n 1, 1) := by decide +kernel
theorem dX0_layOut_57 : decode cX0_layOut 57 = .ok (.iaload, 1) := by decide +kernel
theorem dX0_layOut_58 : decode cX0_layOut 58 = .ok (.if_icmp .lt 17, 3) := by decide +kernel
theorem dX0_layOut_61 : decode cX0_layOut 61 = .ok (.aload_n 0, 1) := by decide +kernel
theorem dX0_layOut_62 : decode cX0_layOut 62 = .ok (.getfield 46, 3) := by decide +kernel
theorem dX0_layOut_65 : decode cX0_layOut 65 = .ok (.iload_n 1, 1) := by decide +kernel
theorem dX0_layOut_66 : decode cX0_layOut 66 = .ok (.aload_n 0, 1) := by decide +kernel
theorem dX0_layOut_67 : decode cX0_layOut 67 = .ok (.getfield 46, 3) := by decide +kernel
theorem dX0_layOut_70 : decode cX0_layOut 70 = .ok (.iload_n 2, 1) := by decide +kernel
theorem dX0_layOut_71 : decode cX0_layOut 71 = .ok (.iaload, 1) := by decide +kernel
theorem dX0_layOut_72 : decode cX0_layOut 72 = .ok (.iconst 1, 1) := by decide +kernel
theorem dX0_layOut_73 : decode cX0_layOut 73 = .ok (.iadd, 1) := by decide +kernel
theorem dX0_layOut_74 : decode cX0_layOut 74 = .ok (.iastore, 1) := by decide +kernel
theorem dX0_layOut_75 : decode cX0_layOut 75 = .ok (.iinc 2 1, 3) := by decide +kernel
theorem dX0_layOut_78 : decode cX0_layOut 78 = .ok (.goto (-46), 3) := by decide +kernel
theorem dX0_layOut_81 : decode cX0_layOut 81 = .ok (.aload_n 0, 1) := by decide +kernel
theorem dX0_layOut_82 : decode cX0_layOut 82 = .ok (.aload_n 0, 1) := by decide +kernel
theorem dX0_layOut_83 : decode cX0_layOut 83 = .ok (.getfield 46, 3) := by decide +kernel
theorem dX0_layOut_86 : decode cX0_layOut 86 = .ok (.iload_n 1, 1) := by decide +kernel
theorem dX0_layOut_87 : decode cX0_layOut 87 = .ok (.iaload, 1) := by decide +kernel
theorem dX0_layOut_88 : decode cX0_layOut 88 = .ok (.aload_n 0, 1) := by decide +kernel
theorem dX0_layOut_89 : decode cX0_layOut 89 = .ok (.getfield 106, 3) := by decide +kernel
theorem dX0_layOut_92 : decode cX0_layOut 92 = .ok (.if_icmp .lt 14, 3) := by decide +kernel
theorem dX0_layOut_95 : decode cX0_layOut 95 = .ok (.aload_n 0, 1) := by decide +kernel
theorem dX0_layOut_96 : decode cX0_layOut 96 = .ok (.getfield 46, 3) := by decide +kernel
theorem dX0_layOut_99 : decode cX0_layOut 99 = .ok (.iload_n 1, 1) := by decide +kernel
theorem dX0_layOut_100 : decode cX0_layOut 100 = .ok (.iaload, 1) := by decide +kernel
theorem dX0_layOut_101 : decode cX0_layOut 101 = .ok (.iconst 1, 1) := by decide +kernel
theorem dX0_layOut_102 : decode cX0_layOut 102 = .ok (.iadd, 1) := by decide +kernel
theorem dX0_layOut_103 : decode cX0_layOut 103 = .ok (.goto 7, 3) := by decide +kernel
theorem dX0_layOut_106 : decode cX0_layOut 106 = .ok (.aload_n 0, 1) := by decide +kernel
theorem dX0_layOut_107 : decode cX0_layOut 107 = .ok (.getfield 106, 3) := by decide +kernel
theorem dX0_layOut_110 : decode cX0_layOut 110 = .ok (.putfield 106, 3) := by decide +kernel
theorem dX0_layOut_113 : decode cX0_layOut 113 = .ok (.iinc 1 1, 3) := by decide +kernel
theorem dX0_layOut_116 : decode cX0_layOut 116 = .ok (.goto (-101), 3) := by decide +kernel
theorem dX0_layOut_119 : decode cX0_layOut 119 = .ok (.aload_n 0, 1) := by decide +kernel
theorem dX0_layOut_120 : decode cX0_layOut 120 = .ok (.iconst 1, 1) := by decide +kernel
theorem dX0_layOut_121 : decode cX0_layOut 121 = .ok (.putfield 96, 3) := by decide +kernel
theorem dX0_layOut_124 : decode cX0_layOut 124 = .ok (.return_, 1) := by decide +kernel
abbrev cX0_conflict : ByteArray := prog_1_method_26_code
def yX0_conflict : MethodName := ⟨RX0, "conflict", "(II)Z"⟩
theorem dX0_conflict_0 : decode cX0_conflict 0 = .ok (.iconst 1, 1) := by decide +kernel
theorem dX0_conflict_1 : decode cX0_conflict 1 = .ok (.aload_n 0, 1) := by decide +kernel
theorem dX0_conflict_2 : decode cX0_conflict 2 = .ok (.getfield 40, 3) := by decide +kernel
theorem dX0_conflict_5 : decode cX0_conflict 5 = .ok (.iload_n 1, 1) := by decide +kernel
theorem dX0_conflict_6 : decode cX0_conflict 6 = .ok (.iaload, 1) := by decide +kernel
theorem dX0_conflict_7 : decode cX0_conflict 7 = .ok (.ishl, 1) := by decide +kernel
theorem dX0_conflict_8 : decode cX0_conflict 8 = .ok (.aload_n 0, 1) := by decide +kernel
theorem dX0_conflict_9 : decode cX0_conflict 9 = .ok (.iload_n 2, 1) := by decide +kernel
theorem dX0_conflict_10 : decode cX0_conflict 10 = .ok (.invokevirtual 103, 3) := by decide +kernel
theorem dX0_conflict_13 : decode cX0_conflict 13 = .ok (.iand, 1) := by decide +kernel
theorem dX0_conflict_14 : decode cX0_conflict 14 = .ok (.ifCond .ne 20, 3) := by decide +kernel
theorem dX0_conflict_17 : decode cX0_conflict 17 = .ok (.iconst 1, 1) := by decide +kernel
theorem dX0_conflict_18 : decode cX0_conflict 18 = .ok (.aload_n 0, 1) := by decide +kernel
theorem dX0_conflict_19 : decode cX0_conflict 19 = .ok (.getfield 40, 3) := by decide +kernel
theorem dX0_conflict_22 : decode cX0_conflict 22 = .ok (.iload_n 2, 1) := by decide +kernel
theorem dX0_conflict_23 : decode cX0_conflict 23 = .ok (.iaload, 1) := by decide +kernel
theorem dX0_conflict_24 : decode cX0_conflict 24 = .ok (.ishl, 1) := by decide +kernel
theorem dX0_conflict_25 : decode cX0_conflict 25 = .ok (.aload_n 0, 1) := by decide +kernel
theorem dX0_conflict_26 : decode cX0_conflict 26 = .ok (.iload_n 1, 1) := by decide +kernel
theorem dX0_conflict_27 : decode cX0_conflict 27 = .ok (.invokevirtual 103, 3) := by decide +kernel
theorem dX0_conflict_30 : decode cX0_conflict 30 = .ok (.iand, 1) := by decide +kernel
theorem dX0_conflict_31 : decode cX0_conflict 31 = .ok (.ifCond .eq 7, 3) := by decide +kernel
theorem dX0_conflict_34 : decode cX0_conflict 34 = .ok (.iconst 1, 1) := by decide +kernel
theorem dX0_conflict_35 : decode cX0_conflict 35 = .ok (.goto 4, 3) := by decide +kernel
theorem dX0_conflict_38 : decode cX0_conflict 38 = .ok (.iconst 0, 1) := by decide +kernel
theorem dX0_conflict_39 : decode cX0_conflict 39 = .ok (.ireturn, 1) := by decide +kernel
abbrev cX0_touched : ByteArray := prog_1_method_25_code
def yX0_touched : MethodName := ⟨RX0, "touched", "(I)I"⟩
theorem dX0_touched_0 : decode cX0_touched 0 = .ok (.iconst 1, 1) := by decide +kernel
theorem dX0_touched_1 : decode cX0_touched 1 = .ok (.aload_n 0, 1) := by decide +kernel
theorem dX0_touched_2 : decode cX0_touched 2 = .ok (.getfield 40, 3) := by decide +kernel
theorem dX0_touched_5 : decode cX0_touched 5 = .ok (.iload_n 1, 1) := by decide +kernel
theorem dX0_touched_6 : decode cX0_touched 6 = .ok (.iaload, 1) := by decide +kernel
theorem dX0_touched_7 : decode cX0_touched 7 = .ok (.ishl, 1) := by decide +kernel
theorem dX0_touched_8 : decode cX0_touched 8 = .ok (.iconst 1, 1) := by decide +kernel
theorem dX0_touched_9 : decode cX0_touched 9 = .ok (.aload_n 0, 1) := by decide +kernel
theorem dX0_touched_10 : decode cX0_touched 10 = .ok (.getfield 43, 3) := by decide +kernel
theorem dX0_touched_13 : decode cX0_touched 13 = .ok (.iload_n 1, 1) := by decide +kernel
theorem dX0_touched_14 : decode cX0_touched 14 = .ok (.iaload, 1) := by decide +kernel
theorem dX0_touched_15 : decode cX0_touched 15 = .ok (.ishl, 1) := by decide +kernel
theorem dX0_touched_16 : decode cX0_touched 16 = .ok (.ior, 1) := by decide +kernel
theorem dX0_touched_17 : decode cX0_touched 17 = .ok (.ireturn, 1) := by decide +kernel
abbrev cX0_stages : ByteArray := prog_1_method_29_code
def yX0_stages : MethodName := ⟨RX0, "stages", "()I"⟩
theorem dX0_stages_0 : decode cX0_stages 0 = .ok (.aload_n 0, 1) := by decide +kernel
theorem dX0_stages_1 : decode cX0_stages 1 = .ok (.invokevirtual 113, 3) := by decide +kernel
theorem dX0_stages_4 : decode cX0_stages 4 = .ok (.aload_n 0, 1) := by decide +kernel
theorem dX0_stages_5 : decode cX0_stages 5 = .ok (.getfield 106, 3) := by decide +kernel
theorem dX0_stages_8 : decode cX0_stages 8 = .ok (.ireturn, 1) := by decide +kernel
abbrev cX0_frame : ByteArray := prog_1_method_35_code
def yX0_frame : MethodName := ⟨RX0, "frame", "(I)I"⟩
theorem dX0_frame_0 : decode cX0_frame 0 = .ok (.aload_n 0, 1) := by decide +kernel
theorem dX0_frame_1 : decode cX0_frame 1 = .ok (.invokevirtual 113, 3) := by decide +kernel
theorem dX0_frame_4 : decode cX0_frame 4 = .ok (.aload_n 0, 1) := by decide +kernel
theorem dX0_frame_5 : decode cX0_frame 5 = .ok (.invokevirtual 126, 3) := by decide +kernel
theorem dX0_frame_8 : decode cX0_frame 8 = .ok (.iconst 0, 1) := by decide +kernel
theorem dX0_frame_9 : decode cX0_frame 9 = .ok (.istore_n 2, 1) := by decide +kernel
theorem dX0_frame_10 : decode cX0_frame 10 = .ok (.iconst 0, 1) := by decide +kernel
theorem dX0_frame_11 : decode cX0_frame 11 = .ok (.istore_n 3, 1) := by decide +kernel
theorem dX0_frame_12 : decode cX0_frame 12 = .ok (.iload_n 3, 1) := by decide +kernel
theorem dX0_frame_13 : decode cX0_frame 13 = .ok (.iload_n 1, 1) := by decide +kernel
theorem dX0_frame_14 : decode cX0_frame 14 = .ok (.if_icmp .ge 46, 3) := by decide +kernel
theorem dX0_frame_17 : decode cX0_frame 17 = .ok (.iload_n 3, 1) := by decide +kernel
theorem dX0_frame_18 : decode cX0_frame 18 = .ok (.bipush 10, 2) := by decide +kernel
theorem dX0_frame_20 : decode cX0_frame 20 = .ok (.if_icmp .ge 40, 3) := by decide +kernel
theorem dX0_frame_23 : decode cX0_frame 23 = .ok (.iconst 0, 1) := by decide +kernel
theorem dX0_frame_24 : decode cX0_frame 24 = .ok (.istore 4, 2) := by decide +kernel
theorem dX0_frame_26 : decode cX0_frame 26 = .ok (.iload 4, 2) := by decide +kernel
theorem dX0_frame_28 : decode cX0_frame 28 = .ok (.aload_n 0, 1) := by decide +kernel
theorem dX0_frame_29 : decode cX0_frame 29 = .ok (.getfield 106, 3) := by decide +kernel
theorem dX0_frame_32 : decode cX0_frame 32 = .ok (.if_icmp .ge 22, 3) := by decide +kernel
theorem dX0_frame_35 : decode cX0_frame 35 = .ok (.aload_n 0, 1) := by decide +kernel
theorem dX0_frame_36 : decode cX0_frame 36 = .ok (.iload 4, 2) := by decide +kernel
theorem dX0_frame_38 : decode cX0_frame 38 = .ok (.invokevirtual 129, 3) := by decide +kernel
theorem dX0_frame_41 : decode cX0_frame 41 = .ok (.istore 5, 2) := by decide +kernel
theorem dX0_frame_43 : decode cX0_frame 43 = .ok (.iload_n 2, 1) := by decide +kernel
theorem dX0_frame_44 : decode cX0_frame 44 = .ok (.iload 5, 2) := by decide +kernel
theorem dX0_frame_46 : decode cX0_frame 46 = .ok (.iadd, 1) := by decide +kernel
theorem dX0_frame_47 : decode cX0_frame 47 = .ok (.istore_n 2, 1) := by decide +kernel
theorem dX0_frame_48 : decode cX0_frame 48 = .ok (.iinc 4 1, 3) := by decide +kernel
theorem dX0_frame_51 : decode cX0_frame 51 = .ok (.goto (-25), 3) := by decide +kernel
theorem dX0_frame_54 : decode cX0_frame 54 = .ok (.iinc 3 1, 3) := by decide +kernel
theorem dX0_frame_57 : decode cX0_frame 57 = .ok (.goto (-45), 3) := by decide +kernel
theorem dX0_frame_60 : decode cX0_frame 60 = .ok (.iload_n 2, 1) := by decide +kernel
theorem dX0_frame_61 : decode cX0_frame 61 = .ok (.ireturn, 1) := by decide +kernel
abbrev cX0_matchTables : ByteArray := prog_1_method_30_code
def yX0_matchTables : MethodName := ⟨RX0, "matchTables", "()V"⟩
theorem dX0_matchTables_0 : decode cX0_matchTables 0 = .ok (.aload_n 0, 1) := by decide +kernel
theorem dX0_matchTables_1 : decode cX0_matchTables 1 = .ok (.getfield 100, 3) := by decide +kernel
theorem dX0_matchTables_4 : decode cX0_matchTables 4 = .ok (.ifCond .ne 26, 3) := by decide +kernel
theorem dX0_matchTables_7 : decode cX0_matchTables 7 = .ok (.iconst 0, 1) := by decide +kernel
theorem dX0_matchTables_8 : decode cX0_matchTables 8 = .ok (.istore_n 1, 1) := by decide +kernel
theorem dX0_matchTables_9 : decode cX0_matchTables 9 = .ok (.iload_n 1, 1) := by decide +kernel
theorem dX0_matchTables_10 : decode cX0_matchTables 10 = .ok (.aload_n 0, 1) := by decide +kernel
theorem dX0_matchTables_11 : decode cX0_matchTables 11 = .ok (.getfield 93, 3) := by decide +kernel
theorem dX0_matchTables_14 : decode cX0_matchTables 14 = .ok (.if_icmp .ge 16, 3) := by decide +kernel
theorem dX0_matchTables_17 : decode cX0_matchTables 17 = .ok (.aload_n 0, 1) := by decide +kernel
theorem dX0_matchTables_18 : decode cX0_matchTables 18 = .ok (.getfield 49, 3) := by decide +kernel
theorem dX0_matchTables_21 : decode cX0_matchTables 21 = .ok (.iload_n 1, 1) := by decide +kernel
theorem dX0_matchTables_22 : decode cX0_matchTables 22 = .ok (.lconst 0, 1) := by decide +kernel
theorem dX0_matchTables_23 : decode cX0_matchTables 23 = .ok (.lastore, 1) := by decide +kernel
theorem dX0_matchTables_24 : decode cX0_matchTables 24 = .ok (.iinc 1 1, 3) := by decide +kernel
theorem dX0_matchTables_27 : decode cX0_matchTables 27 = .ok (.goto (-18), 3) := by decide +kernel
theorem dX0_matchTables_30 : decode cX0_matchTables 30 = .ok (.aload_n 0, 1) := by decide +kernel
theorem dX0_matchTables_31 : decode cX0_matchTables 31 = .ok (.getfield 100, 3) := by decide +kernel
theorem dX0_matchTables_34 : decode cX0_matchTables 34 = .ok (.istore_n 1, 1) := by decide +kernel
theorem dX0_matchTables_35 : decode cX0_matchTables 35 = .ok (.iload_n 1, 1) := by decide +kernel
theorem dX0_matchTables_36 : decode cX0_matchTables 36 = .ok (.aload_n 0, 1) := by decide +kernel
theorem dX0_matchTables_37 : decode cX0_matchTables 37 = .ok (.getfield 53, 3) := by decide +kernel
theorem dX0_matchTables_40 : decode cX0_matchTables 40 = .ok (.if_icmp .ge 66, 3) := by decide +kernel
theorem dX0_matchTables_43 : decode cX0_matchTables 43 = .ok (.iconst 0, 1) := by decide +kernel
theorem dX0_matchTables_44 : decode cX0_matchTables 44 = .ok (.istore_n 2, 1) := by decide +kernel
theorem dX0_matchTables_45 : decode cX0_matchTables 45 = .ok (.iload_n 2, 1) := by decide +kernel
theorem dX0_matchTables_46 : decode cX0_matchTables 46 = .ok (.aload_n 0, 1) := by decide +kernel
theorem dX0_matchTables_47 : decode cX0_matchTables 47 = .ok (.getfield 93, 3) := by decide +kernel
theorem dX0_matchTables_50 : decode cX0_matchTables 50 = .ok (.if_icmp .ge 50, 3) := by decide +kernel
theorem dX0_matchTables_53 : decode cX0_matchTables 53 = .ok (.aload_n 0, 1) := by decide +kernel
theorem dX0_matchTables_54 : decode cX0_matchTables 54 = .ok (.aload_n 0, 1) := by decide +kernel
theorem dX0_matchTables_55 : decode cX0_matchTables 55 = .ok (.getfield 7, 3) := by decide +kernel
theorem dX0_matchTables_58 : decode cX0_matchTables 58 = .ok (.iload_n 1, 1) := by decide +kernel
theorem dX0_matchTables_59 : decode cX0_matchTables 59 = .ok (.iaload, 1) := by decide +kernel
theorem dX0_matchTables_60 : decode cX0_matchTables 60 = .ok (.aload_n 0, 1) := by decide +kernel
theorem dX0_matchTables_61 : decode cX0_matchTables 61 = .ok (.getfield 31, 3) := by decide +kernel
theorem dX0_matchTables_64 : decode cX0_matchTables 64 = .ok (.iload_n 2, 1) := by decide +kernel
theorem dX0_matchTables_65 : decode cX0_matchTables 65 = .ok (.iaload, 1) := by decide +kernel
theorem dX0_matchTables_66 : decode cX0_matchTables 66 = .ok (.aload_n 0, 1) := by decide +kernel
theorem dX0_matchTables_67 : decode cX0_matchTables 67 = .ok (.getfield 34, 3) := by decide +kernel
theorem dX0_matchTables_70 : decode cX0_matchTables 70 = .ok (.iload_n 2, 1) := by decide +kernel
theorem dX0_matchTables_71 : decode cX0_matchTables 71 = .ok (.iaload, 1) := by decide +kernel
theorem dX0_matchTables_72 : decode cX0_matchTables 72 = .ok (.invokevirtual 85, 3) := by decide +kernel
theorem dX0_matchTables_75 : decode cX0_matchTables 75 = .ok (.ifCond .eq 19, 3) := by decide +kernel
theorem dX0_matchTables_78 : decode cX0_matchTables 78 = .ok (.aload_n 0, 1) := by decide +kernel
theorem dX0_matchTables_79 : decode cX0_matchTables 79 = .ok (.getfield 49, 3) := by decide +kernel
theorem dX0_matchTables_82 : decode cX0_matchTables 82 = .ok (.iload_n 2, 1) := by decide +kernel
theorem dX0_matchTables_83 : decode cX0_matchTables 83 = .ok (.aload_n 0, 1) := by decide +kernel
theorem dX0_matchTables_84 : decode cX0_matchTables 84 = .ok (.getfield 49, 3) := by decide +kernel
theorem dX0_matchTables_87 : decode cX0_matchTables 87 = .ok (.iload_n 2, 1) := by decide +kernel
theorem dX0_matchTables_88 : decode cX0_matchTables 88 = .ok (.laload, 1) := by decide +kernel
theorem dX0_matchTables_89 : decode cX0_matchTables 89 = .ok (.lconst 1, 1) := by decide +kernel
theorem dX0_matchTables_90 : decode cX0_matchTables 90 = .ok (.iload_n 1, 1) := by decide +kernel
theorem dX0_matchTables_91 : decode cX0_matchTables 91 = .ok (.lshl, 1) := by decide +kernel
theorem dX0_matchTables_92 : decode cX0_matchTables 92 = .ok (.lor, 1) := by decide +kernel
theorem dX0_matchTables_93 : decode cX0_matchTables 93 = .ok (.lastore, 1) := by decide +kernel
theorem dX0_matchTables_94 : decode cX0_matchTables 94 = .ok (.iinc 2 1, 3) := by decide +kernel
theorem dX0_matchTables_97 : decode cX0_matchTables 97 = .ok (.goto (-52), 3) := by decide +kernel
theorem dX0_matchTables_100 : decode cX0_matchTables 100 = .ok (.iinc 1 1, 3) := by decide +kernel
theorem dX0_matchTables_103 : decode cX0_matchTables 103 = .ok (.goto (-68), 3) := by decide +kernel
theorem dX0_matchTables_106 : decode cX0_matchTables 106 = .ok (.aload_n 0, 1) := by decide +kernel
theorem dX0_matchTables_107 : decode cX0_matchTables 107 = .ok (.aload_n 0, 1) := by decide +kernel
theorem dX0_matchTables_108 : decode cX0_matchTables 108 = .ok (.getfield 53, 3) := by decide +kernel
theorem dX0_matchTables_111 : decode cX0_matchTables 111 = .ok (.putfield 100, 3) := by decide +kernel
theorem dX0_matchTables_114 : decode cX0_matchTables 114 = .ok (.return_, 1) := by decide +kernel
abbrev cX0_runStage : ByteArray := prog_1_method_34_code
def yX0_runStage : MethodName := ⟨RX0, "runStage", "(I)I"⟩
theorem dX0_runStage_0 : decode cX0_runStage 0 = .ok (.iconst 0, 1) := by decide +kernel
theorem dX0_runStage_1 : decode cX0_runStage 1 = .ok (.istore_n 2, 1) := by decide +kernel
theorem dX0_runStage_2 : decode cX0_runStage 2 = .ok (.aload_n 0, 1) := by decide +kernel
theorem dX0_runStage_3 : decode cX0_runStage 3 = .ok (.getfield 93, 3) := by decide +kernel
theorem dX0_runStage_6 : decode cX0_runStage 6 = .ok (.iconst 1, 1) := by decide +kernel
theorem dX0_runStage_7 : decode cX0_runStage 7 = .ok (.isub, 1) := by decide +kernel
theorem dX0_runStage_8 : decode cX0_runStage 8 = .ok (.istore_n 3, 1) := by decide +kernel
theorem dX0_runStage_9 : decode cX0_runStage 9 = .ok (.iload_n 3, 1) := by decide +kernel
theorem dX0_runStage_10 : decode cX0_runStage 10 = .ok (.ifCond .lt 31, 3) := by decide +kernel
theorem dX0_runStage_13 : decode cX0_runStage 13 = .ok (.aload_n 0, 1) := by decide +kernel
theorem dX0_runStage_14 : decode cX0_runStage 14 = .ok (.getfield 46, 3) := by decide +kernel
theorem dX0_runStage_17 : decode cX0_runStage 17 = .ok (.iload_n 3, 1) := by decide +kernel
theorem dX0_runStage_18 : decode cX0_runStage 18 = .ok (.iaload, 1) := by decide +kernel
theorem dX0_runStage_19 : decode cX0_runStage 19 = .ok (.iload_n 1, 1) := by decide +kernel
theorem dX0_runStage_20 : decode cX0_runStage 20 = .ok (.if_icmp .ne 15, 3) := by decide +kernel
theorem dX0_runStage_23 : decode cX0_runStage 23 = .ok (.aload_n 0, 1) := by decide +kernel
theorem dX0_runStage_24 : decode cX0_runStage 24 = .ok (.iload_n 3, 1) := by decide +kernel
theorem dX0_runStage_25 : decode cX0_runStage 25 = .ok (.invokevirtual 123, 3) := by decide +kernel
theorem dX0_runStage_28 : decode cX0_runStage 28 = .ok (.istore 4, 2) := by decide +kernel
theorem dX0_runStage_30 : decode cX0_runStage 30 = .ok (.iload_n 2, 1) := by decide +kernel
theorem dX0_runStage_31 : decode cX0_runStage 31 = .ok (.iload 4, 2) := by decide +kernel
theorem dX0_runStage_33 : decode cX0_runStage 33 = .ok (.iadd, 1) := by decide +kernel
theorem dX0_runStage_34 : decode cX0_runStage 34 = .ok (.istore_n 2, 1) := by decide +kernel
theorem dX0_runStage_35 : decode cX0_runStage 35 = .ok (.iinc 3 (-1), 3) := by decide +kernel
theorem dX0_runStage_38 : decode cX0_runStage 38 = .ok (.goto (-29), 3) := by decide +kernel
theorem dX0_runStage_41 : decode cX0_runStage 41 = .ok (.iload_n 2, 1) := by decide +kernel
theorem dX0_runStage_42 : decode cX0_runStage 42 = .ok (.ireturn, 1) := by decide +kernel
abbrev cX0_runSystem : ByteArray := prog_1_method_33_code
def yX0_runSystem : MethodName := ⟨RX0, "runSystem", "(I)I"⟩
theorem dX0_runSystem_0 : decode cX0_runSystem 0 = .ok (.iconst 0, 1) := by decide +kernel
theorem dX0_runSystem_1 : decode cX0_runSystem 1 = .ok (.istore_n 2, 1) := by decide +kernel
theorem dX0_runSystem_2 : decode cX0_runSystem 2 = .ok (.iconst 0, 1) := by decide +kernel
theorem dX0_runSystem_3 : decode cX0_runSystem 3 = .ok (.istore_n 3, 1) := by decide +kernel
theorem dX0_runSystem_4 : decode cX0_runSystem 4 = .ok (.iload_n 3, 1) := by decide +kernel
theorem dX0_runSystem_5 : decode cX0_runSystem 5 = .ok (.aload_n 0, 1) := by decide +kernel
theorem dX0_runSystem_6 : decode cX0_runSystem 6 = .ok (.getfield 53, 3) := by decide +kernel
theorem dX0_runSystem_9 : decode cX0_runSystem 9 = .ok (.if_icmp .ge 37, 3) := by decide +kernel
theorem dX0_runSystem_12 : decode cX0_runSystem 12 = .ok (.aload_n 0, 1) := by decide +kernel
theorem dX0_runSystem_13 : decode cX0_runSystem 13 = .ok (.getfield 49, 3) := by decide +kernel
theorem dX0_runSystem_16 : decode cX0_runSystem 16 = .ok (.iload_n 1, 1) := by decide +kernel
theorem dX0_runSystem_17 : decode cX0_runSystem 17 = .ok (.laload, 1) := by decide +kernel
theorem dX0_runSystem_18 : decode cX0_runSystem 18 = .ok (.iload_n 3, 1) := by decide +kernel
theorem dX0_runSystem_19 : decode cX0_runSystem 19 = .ok (.lushr, 1) := by decide +kernel
theorem dX0_runSystem_20 : decode cX0_runSystem 20 = .ok (.lconst 1, 1) := by decide +kernel
theorem dX0_runSystem_21 : decode cX0_runSystem 21 = .ok (.land, 1) := by decide +kernel
theorem dX0_runSystem_22 : decode cX0_runSystem 22 = .ok (.lconst 1, 1) := by decide +kernel
theorem dX0_runSystem_23 : decode cX0_runSystem 23 = .ok (.lcmp, 1) := by decide +kernel
theorem dX0_runSystem_24 : decode cX0_runSystem 24 = .ok (.ifCond .ne 16, 3) := by decide +kernel
theorem dX0_runSystem_27 : decode cX0_runSystem 27 = .ok (.aload_n 0, 1) := by decide +kernel
theorem dX0_runSystem_28 : decode cX0_runSystem 28 = .ok (.iload_n 1, 1) := by decide +kernel
theorem dX0_runSystem_29 : decode cX0_runSystem 29 = .ok (.iload_n 3, 1) := by decide +kernel
theorem dX0_runSystem_30 : decode cX0_runSystem 30 = .ok (.invokevirtual 120, 3) := by decide +kernel
theorem dX0_runSystem_33 : decode cX0_runSystem 33 = .ok (.istore 4, 2) := by decide +kernel
theorem dX0_runSystem_35 : decode cX0_runSystem 35 = .ok (.iload_n 2, 1) := by decide +kernel
theorem dX0_runSystem_36 : decode cX0_runSystem 36 = .ok (.iload 4, 2) := by decide +kernel
theorem dX0_runSystem_38 : decode cX0_runSystem 38 = .ok (.iadd, 1) := by decide +kernel
theorem dX0_runSystem_39 : decode cX0_runSystem 39 = .ok (.istore_n 2, 1) := by decide +kernel
theorem dX0_runSystem_40 : decode cX0_runSystem 40 = .ok (.iinc 3 1, 3) := by decide +kernel
theorem dX0_runSystem_43 : decode cX0_runSystem 43 = .ok (.goto (-39), 3) := by decide +kernel
theorem dX0_runSystem_46 : decode cX0_runSystem 46 = .ok (.iload_n 2, 1) := by decide +kernel
theorem dX0_runSystem_47 : decode cX0_runSystem 47 = .ok (.ireturn, 1) := by decide +kernel
abbrev cX0_runOver : ByteArray := prog_1_method_32_code
def yX0_runOver : MethodName := ⟨RX0, "runOver", "(II)I"⟩
theorem dX0_runOver_0 : decode cX0_runOver 0 = .ok (.aload_n 0, 1) := by decide +kernel
theorem dX0_runOver_1 : decode cX0_runOver 1 = .ok (.getfield 40, 3) := by decide +kernel
theorem dX0_runOver_4 : decode cX0_runOver 4 = .ok (.iload_n 1, 1) := by decide +kernel
theorem dX0_runOver_5 : decode cX0_runOver 5 = .ok (.iaload, 1) := by decide +kernel
theorem dX0_runOver_6 : decode cX0_runOver 6 = .ok (.bipush 24, 2) := by decide +kernel
theorem dX0_runOver_8 : decode cX0_runOver 8 = .ok (.imul, 1) := by decide +kernel
theorem dX0_runOver_9 : decode cX0_runOver 9 = .ok (.istore_n 3, 1) := by decide +kernel
theorem dX0_runOver_10 : decode cX0_runOver 10 = .ok (.aload_n 0, 1) := by decide +kernel
theorem dX0_runOver_11 : decode cX0_runOver 11 = .ok (.getfield 43, 3) := by decide +kernel
theorem dX0_runOver_14 : decode cX0_runOver 14 = .ok (.iload_n 1, 1) := by decide +kernel
theorem dX0_runOver_15 : decode cX0_runOver 15 = .ok (.iaload, 1) := by decide +kernel
theorem dX0_runOver_16 : decode cX0_runOver 16 = .ok (.bipush 24, 2) := by decide +kernel
theorem dX0_runOver_18 : decode cX0_runOver 18 = .ok (.imul, 1) := by decide +kernel
theorem dX0_runOver_19 : decode cX0_runOver 19 = .ok (.istore 4, 2) := by decide +kernel
theorem dX0_runOver_21 : decode cX0_runOver 21 = .ok (.iconst 0, 1) := by decide +kernel
theorem dX0_runOver_22 : decode cX0_runOver 22 = .ok (.istore 5, 2) := by decide +kernel
theorem dX0_runOver_24 : decode cX0_runOver 24 = .ok (.iload 5, 2) := by decide +kernel
theorem dX0_runOver_26 : decode cX0_runOver 26 = .ok (.aload_n 0, 1) := by decide +kernel
theorem dX0_runOver_27 : decode cX0_runOver 27 = .ok (.getfield 16, 3) := by decide +kernel
theorem dX0_runOver_30 : decode cX0_runOver 30 = .ok (.iload_n 2, 1) := by decide +kernel
theorem dX0_runOver_31 : decode cX0_runOver 31 = .ok (.iaload, 1) := by decide +kernel
theorem dX0_runOver_32 : decode cX0_runOver 32 = .ok (.if_icmp .ge 61, 3) := by decide +kernel
theorem dX0_runOver_35 : decode cX0_runOver 35 = .ok (.aload_n 0, 1) := by decide +kernel
theorem dX0_runOver_36 : decode cX0_runOver 36 = .ok (.getfield 19, 3) := by decide +kernel
theorem dX0_runOver_39 : decode cX0_runOver 39 = .ok (.iload_n 2, 1) := by decide +kernel
theorem dX0_runOver_40 : decode cX0_runOver 40 = .ok (.bipush 24, 2) := by decide +kernel
theorem dX0_runOver_42 : decode cX0_runOver 42 = .ok (.imul, 1) := by decide +kernel
theorem dX0_runOver_43 : decode cX0_runOver 43 = .ok (.iload 5, 2) := by decide +kernel
theorem dX0_runOver_45 : decode cX0_runOver 45 = .ok (.iadd, 1) := by decide +kernel
theorem dX0_runOver_46 : decode cX0_runOver 46 = .ok (.iaload, 1) := by decide +kernel
theorem dX0_runOver_47 : decode cX0_runOver 47 = .ok (.istore 6, 2) := by decide +kernel
theorem dX0_runOver_49 : decode cX0_runOver 49 = .ok (.aload_n 0, 1) := by decide +kernel
theorem dX0_runOver_50 : decode cX0_runOver 50 = .ok (.getfield 28, 3) := by decide +kernel
theorem dX0_runOver_53 : decode cX0_runOver 53 = .ok (.iload_n 3, 1) := by decide +kernel
theorem dX0_runOver_54 : decode cX0_runOver 54 = .ok (.iload 6, 2) := by decide +kernel
theorem dX0_runOver_56 : decode cX0_runOver 56 = .ok (.iadd, 1) := by decide +kernel
theorem dX0_runOver_57 : decode cX0_runOver 57 = .ok (.aload_n 0, 1) := by decide +kernel
theorem dX0_runOver_58 : decode cX0_runOver 58 = .ok (.aload_n 0, 1) := by decide +kernel
theorem dX0_runOver_59 : decode cX0_runOver 59 = .ok (.getfield 37, 3) := by decide +kernel
theorem dX0_runOver_62 : decode cX0_runOver 62 = .ok (.iload_n 1, 1) := by decide +kernel
theorem dX0_runOver_63 : decode cX0_runOver 63 = .ok (.iaload, 1) := by decide +kernel
theorem dX0_runOver_64 : decode cX0_runOver 64 = .ok (.aload_n 0, 1) := by decide +kernel
theorem dX0_runOver_65 : decode cX0_runOver 65 = .ok (.getfield 28, 3) := by decide +kernel
theorem dX0_runOver_68 : decode cX0_runOver 68 = .ok (.iload_n 3, 1) := by decide +kernel
theorem dX0_runOver_69 : decode cX0_runOver 69 = .ok (.iload 6, 2) := by decide +kernel
theorem dX0_runOver_71 : decode cX0_runOver 71 = .ok (.iadd, 1) := by decide +kernel
theorem dX0_runOver_72 : decode cX0_runOver 72 = .ok (.iaload, 1) := by decide +kernel
theorem dX0_runOver_73 : decode cX0_runOver 73 = .ok (.aload_n 0, 1) := by decide +kernel
theorem dX0_runOver_74 : decode cX0_runOver 74 = .ok (.getfield 28, 3) := by decide +kernel
theorem dX0_runOver_77 : decode cX0_runOver 77 = .ok (.iload 4, 2) := by decide +kernel
theorem dX0_runOver_79 : decode cX0_runOver 79 = .ok (.iload 6, 2) := by decide +kernel
theorem dX0_runOver_81 : decode cX0_runOver 81 = .ok (.iadd, 1) := by decide +kernel
theorem dX0_runOver_82 : decode cX0_runOver 82 = .ok (.iaload, 1) := by decide +kernel
theorem dX0_runOver_83 : decode cX0_runOver 83 = .ok (.invokevirtual 116, 3) := by decide +kernel
theorem dX0_runOver_86 : decode cX0_runOver 86 = .ok (.iastore, 1) := by decide +kernel
theorem dX0_runOver_87 : decode cX0_runOver 87 = .ok (.iinc 5 1, 3) := by decide +kernel
theorem dX0_runOver_90 : decode cX0_runOver 90 = .ok (.goto (-66), 3) := by decide +kernel
theorem dX0_runOver_93 : decode cX0_runOver 93 = .ok (.aload_n 0, 1) := by decide +kernel
theorem dX0_runOver_94 : decode cX0_runOver 94 = .ok (.getfield 16, 3) := by decide +kernel
theorem dX0_runOver_97 : decode cX0_runOver 97 = .ok (.iload_n 2, 1) := by decide +kernel
theorem dX0_runOver_98 : decode cX0_runOver 98 = .ok (.iaload, 1) := by decide +kernel
theorem dX0_runOver_99 : decode cX0_runOver 99 = .ok (.ireturn, 1) := by decide +kernel
abbrev cX0_worked : ByteArray := prog_1_method_31_code
def yX0_worked : MethodName := ⟨RX0, "worked", "(III)I"⟩
theorem dX0_worked_0 : decode cX0_worked 0 = .ok (.iload_n 1, 1) := by decide +kernel
theorem dX0_worked_1 : decode cX0_worked 1 = .ok (.ifCond .ne 7, 3) := by decide +kernel
theorem dX0_worked_4 : decode cX0_worked 4 = .ok (.iload_n 2, 1) := by decide +kernel
theorem dX0_worked_5 : decode cX0_worked 5 = .ok (.iload_n 3, 1) := by decide +kernel
theorem dX0_worked_6 : decode cX0_worked 6 = .ok (.iadd, 1) := by decide +kernel
theorem dX0_worked_7 : decode cX0_worked 7 = .ok (.ireturn, 1) := by decide +kernel
theorem dX0_worked_8 : decode cX0_worked 8 = .ok (.iload_n 1, 1) := by decide +kernel
theorem dX0_worked_9 : decode cX0_worked 9 = .ok (.iconst 1, 1) := by decide +kernel
theorem dX0_worked_10 : decode cX0_worked 10 = .ok (.if_icmp .ne 7, 3) := by decide +kernel
theorem dX0_worked_13 : decode cX0_worked 13 = .ok (.iload_n 2, 1) := by decide +kernel
theorem dX0_worked_14 : decode cX0_worked 14 = .ok (.iload_n 3, 1) := by decide +kernel
theorem dX0_worked_15 : decode cX0_worked 15 = .ok (.isub, 1) := by decide +kernel
theorem dX0_worked_16 : decode cX0_worked 16 = .ok (.ireturn, 1) := by decide +kernel
theorem dX0_worked_17 : decode cX0_worked 17 = .ok (.iload_n 1, 1) := by decide +kernel
theorem dX0_worked_18 : decode cX0_worked 18 = .ok (.iconst 2, 1) := by decide +kernel
theorem dX0_worked_19 : decode cX0_worked 19 = .ok (.if_icmp .ne 5, 3) := by decide +kernel
theorem dX0_worked_22 : decode cX0_worked 22 = .ok (.iload_n 3, 1) := by decide +kernel
theorem dX0_worked_23 : decode cX0_worked 23 = .ok (.ireturn, 1) := by decide +kernel
theorem dX0_worked_24 : decode cX0_worked 24 = .ok (.iload_n 1, 1) := by decide +kernel
theorem dX0_worked_25 : decode cX0_worked 25 = .ok (.iconst 3, 1) := by decide +kernel
theorem dX0_worked_26 : decode cX0_worked 26 = .ok (.if_icmp .ne 7, 3) := by decide +kernel
theorem dX0_worked_29 : decode cX0_worked 29 = .ok (.iload_n 2, 1) := by decide +kernel
theorem dX0_worked_30 : decode cX0_worked 30 = .ok (.iload_n 3, 1) := by decide +kernel
theorem dX0_worked_31 : decode cX0_worked 31 = .ok (.imul, 1) := by decide +kernel
theorem dX0_worked_32 : decode cX0_worked 32 = .ok (.ireturn, 1) := by decide +kernel
theorem dX0_worked_33 : decode cX0_worked 33 = .ok (.iload_n 3, 1) := by decide +kernel
theorem dX0_worked_34 : decode cX0_worked 34 = .ok (.ifCond .ge 7, 3) := by decide +kernel
theorem dX0_worked_37 : decode cX0_worked 37 = .ok (.iconst 0, 1) := by decide +kernel
theorem dX0_worked_38 : decode cX0_worked 38 = .ok (.goto 4, 3) := by decide +kernel
theorem dX0_worked_41 : decode cX0_worked 41 = .ok (.iload_n 2, 1) := by decide +kernel
theorem dX0_worked_42 : decode cX0_worked 42 = .ok (.ireturn, 1) := by decide +kernel
end
section
set_option maxRecDepth 100000
abbrev cX0_digest : ByteArray := prog_1_method_36_code
def yX0_digest : MethodName := ⟨RX0, "digest", "()I"⟩
theorem dX0_digest_0 : decode cX0_digest 0 = .ok (.iconst 0, 1) := by decide +kernel
theorem dX0_digest_1 : decode cX0_digest 1 = .ok (.istore_n 1, 1) := by decide +kernel
theorem dX0_digest_2 : decode cX0_digest 2 = .ok (.iconst 0, 1) := by decide +kernel
theorem dX0_digest_3 : decode cX0_digest 3 = .ok (.istore_n 2, 1) := by decide +kernel
theorem dX0_digest_4 : decode cX0_digest 4 = .ok (.iload_n 2, 1) := by decide +kernel
theorem dX0_digest_5 : decode cX0_digest 5 = .ok (.bipush 24, 2) := by decide +kernel
theorem dX0_digest_7 : decode cX0_digest 7 = .ok (.if_icmp .ge 72, 3) := by decide +kernel
theorem dX0_digest_10 : decode cX0_digest 10 = .ok (.aload_n 0, 1) := by decide +kernel
theorem dX0_digest_11 : decode cX0_digest 11 = .ok (.getfield 22, 3) := by decide +kernel
theorem dX0_digest_14 : decode cX0_digest 14 = .ok (.iload_n 2, 1) := by decide +kernel
theorem dX0_digest_15 : decode cX0_digest 15 = .ok (.iaload, 1) := by decide +kernel
theorem dX0_digest_16 : decode cX0_digest 16 = .ok (.ifCond .lt 57, 3) := by decide +kernel
theorem dX0_digest_19 : decode cX0_digest 19 = .ok (.aload_n 0, 1) := by decide +kernel
theorem dX0_digest_20 : decode cX0_digest 20 = .ok (.iload_n 2, 1) := by decide +kernel
theorem dX0_digest_21 : decode cX0_digest 21 = .ok (.invokevirtual 76, 3) := by decide +kernel
theorem dX0_digest_24 : decode cX0_digest 24 = .ok (.istore_n 3, 1) := by decide +kernel
theorem dX0_digest_25 : decode cX0_digest 25 = .ok (.iconst 0, 1) := by decide +kernel
theorem dX0_digest_26 : decode cX0_digest 26 = .ok (.istore 4, 2) := by decide +kernel
theorem dX0_digest_28 : decode cX0_digest 28 = .ok (.iload 4, 2) := by decide +kernel
theorem dX0_digest_30 : decode cX0_digest 30 = .ok (.bipush 6, 2) := by decide +kernel
theorem dX0_digest_32 : decode cX0_digest 32 = .ok (.if_icmp .ge 41, 3) := by decide +kernel
theorem dX0_digest_35 : decode cX0_digest 35 = .ok (.iload_n 1, 1) := by decide +kernel
theorem dX0_digest_36 : decode cX0_digest 36 = .ok (.iload_n 3, 1) := by decide +kernel
theorem dX0_digest_37 : decode cX0_digest 37 = .ok (.iload 4, 2) := by decide +kernel
theorem dX0_digest_39 : decode cX0_digest 39 = .ok (.ishr, 1) := by decide +kernel
theorem dX0_digest_40 : decode cX0_digest 40 = .ok (.iconst 1, 1) := by decide +kernel
theorem dX0_digest_41 : decode cX0_digest 41 = .ok (.iand, 1) := by decide +kernel
theorem dX0_digest_42 : decode cX0_digest 42 = .ok (.bipush 6, 2) := by decide +kernel
theorem dX0_digest_44 : decode cX0_digest 44 = .ok (.iload_n 2, 1) := by decide +kernel
theorem dX0_digest_45 : decode cX0_digest 45 = .ok (.imul, 1) := by decide +kernel
theorem dX0_digest_46 : decode cX0_digest 46 = .ok (.iload 4, 2) := by decide +kernel
theorem dX0_digest_48 : decode cX0_digest 48 = .ok (.iadd, 1) := by decide +kernel
theorem dX0_digest_49 : decode cX0_digest 49 = .ok (.iconst 1, 1) := by decide +kernel
theorem dX0_digest_50 : decode cX0_digest 50 = .ok (.iadd, 1) := by decide +kernel
theorem dX0_digest_51 : decode cX0_digest 51 = .ok (.imul, 1) := by decide +kernel
theorem dX0_digest_52 : decode cX0_digest 52 = .ok (.aload_n 0, 1) := by decide +kernel
theorem dX0_digest_53 : decode cX0_digest 53 = .ok (.getfield 28, 3) := by decide +kernel
theorem dX0_digest_56 : decode cX0_digest 56 = .ok (.iload 4, 2) := by decide +kernel
theorem dX0_digest_58 : decode cX0_digest 58 = .ok (.bipush 24, 2) := by decide +kernel
theorem dX0_digest_60 : decode cX0_digest 60 = .ok (.imul, 1) := by decide +kernel
theorem dX0_digest_61 : decode cX0_digest 61 = .ok (.iload_n 2, 1) := by decide +kernel
theorem dX0_digest_62 : decode cX0_digest 62 = .ok (.iadd, 1) := by decide +kernel
theorem dX0_digest_63 : decode cX0_digest 63 = .ok (.iaload, 1) := by decide +kernel
theorem dX0_digest_64 : decode cX0_digest 64 = .ok (.imul, 1) := by decide +kernel
theorem dX0_digest_65 : decode cX0_digest 65 = .ok (.iadd, 1) := by decide +kernel
theorem dX0_digest_66 : decode cX0_digest 66 = .ok (.istore_n 1, 1) := by decide +kernel
theorem dX0_digest_67 : decode cX0_digest 67 = .ok (.iinc 4 1, 3) := by decide +kernel
theorem dX0_digest_70 : decode cX0_digest 70 = .ok (.goto (-42), 3) := by decide +kernel
theorem dX0_digest_73 : decode cX0_digest 73 = .ok (.iinc 2 1, 3) := by decide +kernel
theorem dX0_digest_76 : decode cX0_digest 76 = .ok (.goto (-72), 3) := by decide +kernel
theorem dX0_digest_79 : decode cX0_digest 79 = .ok (.iload_n 1, 1) := by decide +kernel
theorem dX0_digest_80 : decode cX0_digest 80 = .ok (.ireturn, 1) := by decide +kernel
theorem q29 : (Jvm.Cond.initialized "ArchetypeWorld") ∈ lw_all := lw_g (lw_at lw_m1 1 rfl) rfl
theorem q32 : (Jvm.Cond.instantiable "ArchetypeWorld" (19 : Nat)) ∈ lw_all := lw_g (lw_at lw_m1 4 rfl) rfl
theorem q34 : (Jvm.Cond.instanceMethod ({ cls := "ArchetypeWorld", name := "<init>", desc := "()V" } : Jvm.MethodName)) ∈ lw_all := lw_g (lw_at lw_m1 6 rfl) rfl
theorem q35 : (Jvm.Cond.code ({ cls := "ArchetypeWorld", name := "<init>", desc := "()V" } : Jvm.MethodName) prog_1_method_1_code (2 : Nat) (Option.none : Option Jvm.ClassFile.FieldType)) ∈ lw_all := lw_g (lw_at lw_m1 7 rfl) rfl
theorem q36 : (Jvm.Cond.methodLink "ArchetypeWorld" (1 : Nat) ({ cls := "java/lang/Object", name := "<init>", desc := "()V" } : Jvm.MethodName)) ∈ lw_all := lw_g (lw_at lw_m1 8 rfl) rfl
theorem q39 : (Jvm.Cond.fieldLink "ArchetypeWorld" (53 : Nat) "ArchetypeWorld" "tables" "I") ∈ lw_all := lw_g (lw_at lw_m1 11 rfl) rfl
theorem q40 : (Jvm.Cond.fieldLink "ArchetypeWorld" (7 : Nat) "ArchetypeWorld" "tableSet" "[I") ∈ lw_all := lw_g (lw_at lw_m1 12 rfl) rfl
theorem q41 : (Jvm.Cond.fieldLink "ArchetypeWorld" (13 : Nat) "ArchetypeWorld" "tableOf" "[I") ∈ lw_all := lw_g (lw_at lw_m1 13 rfl) rfl
theorem q42 : (Jvm.Cond.fieldLink "ArchetypeWorld" (16 : Nat) "ArchetypeWorld" "rows" "[I") ∈ lw_all := lw_g (lw_at lw_m1 14 rfl) rfl
theorem q43 : (Jvm.Cond.fieldLink "ArchetypeWorld" (19 : Nat) "ArchetypeWorld" "rowAt" "[I") ∈ lw_all := lw_g (lw_at lw_m1 15 rfl) rfl
theorem q44 : (Jvm.Cond.fieldLink "ArchetypeWorld" (22 : Nat) "ArchetypeWorld" "table" "[I") ∈ lw_all := lw_g (lw_at lw_m1 16 rfl) rfl
theorem q45 : (Jvm.Cond.fieldLink "ArchetypeWorld" (25 : Nat) "ArchetypeWorld" "place" "[I") ∈ lw_all := lw_g (lw_at lw_m1 17 rfl) rfl
theorem q46 : (Jvm.Cond.fieldLink "ArchetypeWorld" (28 : Nat) "ArchetypeWorld" "column" "[I") ∈ lw_all := lw_g (lw_at lw_m1 18 rfl) rfl
theorem q47 : (Jvm.Cond.fieldLink "ArchetypeWorld" (93 : Nat) "ArchetypeWorld" "systems" "I") ∈ lw_all := lw_g (lw_at lw_m1 19 rfl) rfl
theorem q48 : (Jvm.Cond.fieldLink "ArchetypeWorld" (31 : Nat) "ArchetypeWorld" "with" "[I") ∈ lw_all := lw_g (lw_at lw_m1 20 rfl) rfl
theorem q49 : (Jvm.Cond.fieldLink "ArchetypeWorld" (34 : Nat) "ArchetypeWorld" "without" "[I") ∈ lw_all := lw_g (lw_at lw_m1 21 rfl) rfl
theorem q50 : (Jvm.Cond.fieldLink "ArchetypeWorld" (37 : Nat) "ArchetypeWorld" "kind" "[I") ∈ lw_all := lw_g (lw_at lw_m1 22 rfl) rfl
theorem q51 : (Jvm.Cond.fieldLink "ArchetypeWorld" (40 : Nat) "ArchetypeWorld" "target" "[I") ∈ lw_all := lw_g (lw_at lw_m1 23 rfl) rfl
theorem q52 : (Jvm.Cond.fieldLink "ArchetypeWorld" (43 : Nat) "ArchetypeWorld" "source" "[I") ∈ lw_all := lw_g (lw_at lw_m1 24 rfl) rfl
theorem q53 : (Jvm.Cond.fieldLink "ArchetypeWorld" (96 : Nat) "ArchetypeWorld" "laid" "Z") ∈ lw_all := lw_g (lw_at lw_m1 25 rfl) rfl
theorem q54 : (Jvm.Cond.fieldLink "ArchetypeWorld" (106 : Nat) "ArchetypeWorld" "stageCount" "I") ∈ lw_all := lw_g (lw_at lw_m1 26 rfl) rfl
theorem q55 : (Jvm.Cond.fieldLink "ArchetypeWorld" (46 : Nat) "ArchetypeWorld" "stage" "[I") ∈ lw_all := lw_g (lw_at lw_m1 27 rfl) rfl
theorem q56 : (Jvm.Cond.fieldLink "ArchetypeWorld" (49 : Nat) "ArchetypeWorld" "match" "[J") ∈ lw_all := lw_g (lw_at lw_m1 28 rfl) rfl
theorem q57 : (Jvm.Cond.fieldLink "ArchetypeWorld" (100 : Nat) "ArchetypeWorld" "matched" "I") ∈ lw_all := lw_g (lw_at lw_m1 29 rfl) rfl
theorem q58 : (Jvm.Cond.lays "ArchetypeWorld" "ArchetypeWorld" "tables" "I") ∈ lw_all := lw_g (lw_at lw_m1 30 rfl) rfl
theorem q59 : (Jvm.Cond.soleField "ArchetypeWorld" "tables") ∈ lw_all := lw_g (lw_at lw_m1 31 rfl) rfl
theorem q60 : (Jvm.Cond.laysFinal "ArchetypeWorld" "ArchetypeWorld" "tableSet" "[I") ∈ lw_all := lw_g (lw_at lw_m1 32 rfl) rfl
theorem q61 : (Jvm.Cond.soleField "ArchetypeWorld" "tableSet") ∈ lw_all := lw_g (lw_at lw_m1 33 rfl) rfl
theorem q62 : (Jvm.Cond.laysFinal "ArchetypeWorld" "ArchetypeWorld" "tableOf" "[I") ∈ lw_all := lw_g (lw_at lw_m1 34 rfl) rfl
theorem q63 : (Jvm.Cond.soleField "ArchetypeWorld" "tableOf") ∈ lw_all := lw_g (lw_at lw_m1 35 rfl) rfl
theorem q64 : (Jvm.Cond.laysFinal "ArchetypeWorld" "ArchetypeWorld" "rows" "[I") ∈ lw_all := lw_g (lw_at lw_m1 36 rfl) rfl
theorem q65 : (Jvm.Cond.soleField "ArchetypeWorld" "rows") ∈ lw_all := lw_g (lw_at lw_m1 37 rfl) rfl
theorem q66 : (Jvm.Cond.laysFinal "ArchetypeWorld" "ArchetypeWorld" "rowAt" "[I") ∈ lw_all := lw_g (lw_at lw_m1 38 rfl) rfl
theorem q67 : (Jvm.Cond.soleField "ArchetypeWorld" "rowAt") ∈ lw_all := lw_g (lw_at lw_m1 39 rfl) rfl
theorem q68 : (Jvm.Cond.laysFinal "ArchetypeWorld" "ArchetypeWorld" "table" "[I") ∈ lw_all := lw_g (lw_at lw_m1 40 rfl) rfl
theorem q69 : (Jvm.Cond.soleField "ArchetypeWorld" "table") ∈ lw_all := lw_g (lw_at lw_m1 41 rfl) rfl
theorem q70 : (Jvm.Cond.laysFinal "ArchetypeWorld" "ArchetypeWorld" "place" "[I") ∈ lw_all := lw_g (lw_at lw_m1 42 rfl) rfl
theorem q71 : (Jvm.Cond.soleField "ArchetypeWorld" "place") ∈ lw_all := lw_g (lw_at lw_m1 43 rfl) rfl
theorem q72 : (Jvm.Cond.laysFinal "ArchetypeWorld" "ArchetypeWorld" "column" "[I") ∈ lw_all := lw_g (lw_at lw_m1 44 rfl) rfl
theorem q73 : (Jvm.Cond.soleField "ArchetypeWorld" "column") ∈ lw_all := lw_g (lw_at lw_m1 45 rfl) rfl
theorem q74 : (Jvm.Cond.lays "ArchetypeWorld" "ArchetypeWorld" "systems" "I") ∈ lw_all := lw_g (lw_at lw_m1 46 rfl) rfl
theorem q75 : (Jvm.Cond.soleField "ArchetypeWorld" "systems") ∈ lw_all := lw_g (lw_at lw_m1 47 rfl) rfl
theorem q76 : (Jvm.Cond.laysFinal "ArchetypeWorld" "ArchetypeWorld" "with" "[I") ∈ lw_all := lw_g (lw_at lw_m1 48 rfl) rfl
theorem q77 : (Jvm.Cond.soleField "ArchetypeWorld" "with") ∈ lw_all := lw_g (lw_at lw_m1 49 rfl) rfl
theorem q78 : (Jvm.Cond.laysFinal "ArchetypeWorld" "ArchetypeWorld" "without" "[I") ∈ lw_all := lw_g (lw_at lw_m1 50 rfl) rfl
theorem q79 : (Jvm.Cond.soleField "ArchetypeWorld" "without") ∈ lw_all := lw_g (lw_at lw_m1 51 rfl) rfl
theorem q80 : (Jvm.Cond.laysFinal "ArchetypeWorld" "ArchetypeWorld" "kind" "[I") ∈ lw_all := lw_g (lw_at lw_m1 52 rfl) rfl
theorem q81 : (Jvm.Cond.soleField "ArchetypeWorld" "kind") ∈ lw_all := lw_g (lw_at lw_m1 53 rfl) rfl
theorem q82 : (Jvm.Cond.laysFinal "ArchetypeWorld" "ArchetypeWorld" "target" "[I") ∈ lw_all := lw_g (lw_at lw_m1 54 rfl) rfl
theorem q83 : (Jvm.Cond.soleField "ArchetypeWorld" "target") ∈ lw_all := lw_g (lw_at lw_m1 55 rfl) rfl
theorem q84 : (Jvm.Cond.laysFinal "ArchetypeWorld" "ArchetypeWorld" "source" "[I") ∈ lw_all := lw_g (lw_at lw_m1 56 rfl) rfl
theorem q85 : (Jvm.Cond.soleField "ArchetypeWorld" "source") ∈ lw_all := lw_g (lw_at lw_m1 57 rfl) rfl
theorem q86 : (Jvm.Cond.lays "ArchetypeWorld" "ArchetypeWorld" "laid" "Z") ∈ lw_all := lw_g (lw_at lw_m1 58 rfl) rfl
theorem q87 : (Jvm.Cond.soleField "ArchetypeWorld" "laid") ∈ lw_all := lw_g (lw_at lw_m1 59 rfl) rfl
theorem q88 : (Jvm.Cond.lays "ArchetypeWorld" "ArchetypeWorld" "stageCount" "I") ∈ lw_all := lw_g (lw_at lw_m1 60 rfl) rfl
theorem q89 : (Jvm.Cond.soleField "ArchetypeWorld" "stageCount") ∈ lw_all := lw_g (lw_at lw_m1 61 rfl) rfl
theorem q90 : (Jvm.Cond.laysFinal "ArchetypeWorld" "ArchetypeWorld" "stage" "[I") ∈ lw_all := lw_g (lw_at lw_m1 62 rfl) rfl
theorem q91 : (Jvm.Cond.soleField "ArchetypeWorld" "stage") ∈ lw_all := lw_g (lw_at lw_m1 63 rfl) rfl
theorem q92 : (Jvm.Cond.laysFinal "ArchetypeWorld" "ArchetypeWorld" "match" "[J") ∈ lw_all := lw_g (lw_at lw_m1 64 rfl) rfl
theorem q93 : (Jvm.Cond.soleField "ArchetypeWorld" "match") ∈ lw_all := lw_g (lw_at lw_m1 65 rfl) rfl
theorem q94 : (Jvm.Cond.lays "ArchetypeWorld" "ArchetypeWorld" "matched" "I") ∈ lw_all := lw_g (lw_at lw_m1 66 rfl) rfl
theorem q95 : (Jvm.Cond.soleField "ArchetypeWorld" "matched") ∈ lw_all := lw_g (lw_at lw_m1 67 rfl) rfl
theorem q96 : (Jvm.Cond.superclass "ArchetypeWorld" "java/lang/Object") ∈ lw_all := lw_g (lw_at lw_m1 68 rfl) rfl
theorem q100 : (Jvm.Cond.instanceMethod ({ cls := "ArchetypeWorld", name := "spawn", desc := "(II)I" } : Jvm.MethodName)) ∈ lw_all := lw_g (lw_at lw_m1 72 rfl) rfl
theorem q101 : (Jvm.Cond.selects "ArchetypeWorld" ({ cls := "ArchetypeWorld", name := "spawn", desc := "(II)I" } : Jvm.MethodName) ({ cls := "ArchetypeWorld", name := "spawn", desc := "(II)I" } : Jvm.MethodName)) ∈ lw_all := lw_g (lw_at lw_m1 73 rfl) rfl
theorem q102 : (Jvm.Cond.code ({ cls := "ArchetypeWorld", name := "spawn", desc := "(II)I" } : Jvm.MethodName) prog_1_method_11_code (6 : Nat) (Option.some Jvm.ClassFile.FieldType.int)) ∈ lw_all := lw_g (lw_at lw_m1 74 rfl) rfl
theorem q103 : (Jvm.Cond.methodLink "ArchetypeWorld" (69 : Nat) ({ cls := "ArchetypeWorld", name := "badSet", desc := "(I)Z" } : Jvm.MethodName)) ∈ lw_all := lw_g (lw_at lw_m1 75 rfl) rfl
theorem q104 : (Jvm.Cond.privateMethod ({ cls := "ArchetypeWorld", name := "badSet", desc := "(I)Z" } : Jvm.MethodName)) ∈ lw_tbl := lw_at lw_m1 76 rfl
theorem q105 : (Jvm.Cond.instanceMethod ({ cls := "ArchetypeWorld", name := "badSet", desc := "(I)Z" } : Jvm.MethodName)) ∈ lw_all := lw_g (lw_at lw_m1 77 rfl) rfl
theorem q106 : (Jvm.Cond.code ({ cls := "ArchetypeWorld", name := "badSet", desc := "(I)Z" } : Jvm.MethodName) prog_1_method_4_code (2 : Nat) (Option.some Jvm.ClassFile.FieldType.boolean)) ∈ lw_all := lw_g (lw_at lw_m1 78 rfl) rfl
theorem q107 : (Jvm.Cond.methodLink "ArchetypeWorld" (57 : Nat) ({ cls := "ArchetypeWorld", name := "tableFor", desc := "(I)I" } : Jvm.MethodName)) ∈ lw_all := lw_g (lw_at lw_m1 79 rfl) rfl
theorem q108 : (Jvm.Cond.privateMethod ({ cls := "ArchetypeWorld", name := "tableFor", desc := "(I)I" } : Jvm.MethodName)) ∈ lw_tbl := lw_at lw_m1 80 rfl
theorem q109 : (Jvm.Cond.instanceMethod ({ cls := "ArchetypeWorld", name := "tableFor", desc := "(I)I" } : Jvm.MethodName)) ∈ lw_all := lw_g (lw_at lw_m1 81 rfl) rfl
theorem q110 : (Jvm.Cond.code ({ cls := "ArchetypeWorld", name := "tableFor", desc := "(I)I" } : Jvm.MethodName) prog_1_method_6_code (2 : Nat) (Option.some Jvm.ClassFile.FieldType.int)) ∈ lw_all := lw_g (lw_at lw_m1 82 rfl) rfl
theorem q111 : (Jvm.Cond.methodLink "ArchetypeWorld" (65 : Nat) ({ cls := "ArchetypeWorld", name := "enter", desc := "(II)V" } : Jvm.MethodName)) ∈ lw_all := lw_g (lw_at lw_m1 83 rfl) rfl
theorem q112 : (Jvm.Cond.privateMethod ({ cls := "ArchetypeWorld", name := "enter", desc := "(II)V" } : Jvm.MethodName)) ∈ lw_tbl := lw_at lw_m1 84 rfl
theorem q113 : (Jvm.Cond.instanceMethod ({ cls := "ArchetypeWorld", name := "enter", desc := "(II)V" } : Jvm.MethodName)) ∈ lw_all := lw_g (lw_at lw_m1 85 rfl) rfl
theorem q114 : (Jvm.Cond.code ({ cls := "ArchetypeWorld", name := "enter", desc := "(II)V" } : Jvm.MethodName) prog_1_method_7_code (3 : Nat) (Option.none : Option Jvm.ClassFile.FieldType)) ∈ lw_all := lw_g (lw_at lw_m1 86 rfl) rfl
theorem q116 : (Jvm.Cond.instanceMethod ({ cls := "ArchetypeWorld", name := "kill", desc := "(I)I" } : Jvm.MethodName)) ∈ lw_all := lw_g (lw_at lw_m1 88 rfl) rfl
theorem q117 : (Jvm.Cond.selects "ArchetypeWorld" ({ cls := "ArchetypeWorld", name := "kill", desc := "(I)I" } : Jvm.MethodName) ({ cls := "ArchetypeWorld", name := "kill", desc := "(I)I" } : Jvm.MethodName)) ∈ lw_all := lw_g (lw_at lw_m1 89 rfl) rfl
theorem q118 : (Jvm.Cond.code ({ cls := "ArchetypeWorld", name := "kill", desc := "(I)I" } : Jvm.MethodName) prog_1_method_12_code (3 : Nat) (Option.some Jvm.ClassFile.FieldType.int)) ∈ lw_all := lw_g (lw_at lw_m1 90 rfl) rfl
theorem q119 : (Jvm.Cond.methodLink "ArchetypeWorld" (73 : Nat) ({ cls := "ArchetypeWorld", name := "lives", desc := "(I)Z" } : Jvm.MethodName)) ∈ lw_all := lw_g (lw_at lw_m1 91 rfl) rfl
theorem q120 : (Jvm.Cond.privateMethod ({ cls := "ArchetypeWorld", name := "lives", desc := "(I)Z" } : Jvm.MethodName)) ∈ lw_tbl := lw_at lw_m1 92 rfl
theorem q121 : (Jvm.Cond.instanceMethod ({ cls := "ArchetypeWorld", name := "lives", desc := "(I)Z" } : Jvm.MethodName)) ∈ lw_all := lw_g (lw_at lw_m1 93 rfl) rfl
theorem q122 : (Jvm.Cond.code ({ cls := "ArchetypeWorld", name := "lives", desc := "(I)Z" } : Jvm.MethodName) prog_1_method_2_code (2 : Nat) (Option.some Jvm.ClassFile.FieldType.boolean)) ∈ lw_all := lw_g (lw_at lw_m1 94 rfl) rfl
theorem q123 : (Jvm.Cond.methodLink "ArchetypeWorld" (76 : Nat) ({ cls := "ArchetypeWorld", name := "setOf", desc := "(I)I" } : Jvm.MethodName)) ∈ lw_all := lw_g (lw_at lw_m1 95 rfl) rfl
theorem q124 : (Jvm.Cond.privateMethod ({ cls := "ArchetypeWorld", name := "setOf", desc := "(I)I" } : Jvm.MethodName)) ∈ lw_tbl := lw_at lw_m1 96 rfl
theorem q125 : (Jvm.Cond.instanceMethod ({ cls := "ArchetypeWorld", name := "setOf", desc := "(I)I" } : Jvm.MethodName)) ∈ lw_all := lw_g (lw_at lw_m1 97 rfl) rfl
theorem q126 : (Jvm.Cond.code ({ cls := "ArchetypeWorld", name := "setOf", desc := "(I)I" } : Jvm.MethodName) prog_1_method_9_code (2 : Nat) (Option.some Jvm.ClassFile.FieldType.int)) ∈ lw_all := lw_g (lw_at lw_m1 98 rfl) rfl
theorem q127 : (Jvm.Cond.methodLink "ArchetypeWorld" (61 : Nat) ({ cls := "ArchetypeWorld", name := "leave", desc := "(I)V" } : Jvm.MethodName)) ∈ lw_all := lw_g (lw_at lw_m1 99 rfl) rfl
theorem q128 : (Jvm.Cond.privateMethod ({ cls := "ArchetypeWorld", name := "leave", desc := "(I)V" } : Jvm.MethodName)) ∈ lw_tbl := lw_at lw_m1 100 rfl
theorem q129 : (Jvm.Cond.instanceMethod ({ cls := "ArchetypeWorld", name := "leave", desc := "(I)V" } : Jvm.MethodName)) ∈ lw_all := lw_g (lw_at lw_m1 101 rfl) rfl
theorem q130 : (Jvm.Cond.code ({ cls := "ArchetypeWorld", name := "leave", desc := "(I)V" } : Jvm.MethodName) prog_1_method_8_code (4 : Nat) (Option.none : Option Jvm.ClassFile.FieldType)) ∈ lw_all := lw_g (lw_at lw_m1 102 rfl) rfl
theorem q132 : (Jvm.Cond.instanceMethod ({ cls := "ArchetypeWorld", name := "put", desc := "(III)I" } : Jvm.MethodName)) ∈ lw_all := lw_g (lw_at lw_m1 104 rfl) rfl
theorem q133 : (Jvm.Cond.selects "ArchetypeWorld" ({ cls := "ArchetypeWorld", name := "put", desc := "(III)I" } : Jvm.MethodName) ({ cls := "ArchetypeWorld", name := "put", desc := "(III)I" } : Jvm.MethodName)) ∈ lw_all := lw_g (lw_at lw_m1 105 rfl) rfl
theorem q134 : (Jvm.Cond.code ({ cls := "ArchetypeWorld", name := "put", desc := "(III)I" } : Jvm.MethodName) prog_1_method_13_code (5 : Nat) (Option.some Jvm.ClassFile.FieldType.int)) ∈ lw_all := lw_g (lw_at lw_m1 106 rfl) rfl
theorem q135 : (Jvm.Cond.methodLink "ArchetypeWorld" (79 : Nat) ({ cls := "ArchetypeWorld", name := "badPart", desc := "(I)Z" } : Jvm.MethodName)) ∈ lw_all := lw_g (lw_at lw_m1 107 rfl) rfl
theorem q136 : (Jvm.Cond.privateMethod ({ cls := "ArchetypeWorld", name := "badPart", desc := "(I)Z" } : Jvm.MethodName)) ∈ lw_tbl := lw_at lw_m1 108 rfl
theorem q137 : (Jvm.Cond.instanceMethod ({ cls := "ArchetypeWorld", name := "badPart", desc := "(I)Z" } : Jvm.MethodName)) ∈ lw_all := lw_g (lw_at lw_m1 109 rfl) rfl
theorem q138 : (Jvm.Cond.code ({ cls := "ArchetypeWorld", name := "badPart", desc := "(I)Z" } : Jvm.MethodName) prog_1_method_3_code (2 : Nat) (Option.some Jvm.ClassFile.FieldType.boolean)) ∈ lw_all := lw_g (lw_at lw_m1 110 rfl) rfl
theorem q139 : (Jvm.Cond.methodLink "ArchetypeWorld" (82 : Nat) ({ cls := "ArchetypeWorld", name := "change", desc := "(II)V" } : Jvm.MethodName)) ∈ lw_all := lw_g (lw_at lw_m1 111 rfl) rfl
theorem q140 : (Jvm.Cond.privateMethod ({ cls := "ArchetypeWorld", name := "change", desc := "(II)V" } : Jvm.MethodName)) ∈ lw_tbl := lw_at lw_m1 112 rfl
theorem q141 : (Jvm.Cond.instanceMethod ({ cls := "ArchetypeWorld", name := "change", desc := "(II)V" } : Jvm.MethodName)) ∈ lw_all := lw_g (lw_at lw_m1 113 rfl) rfl
theorem q142 : (Jvm.Cond.code ({ cls := "ArchetypeWorld", name := "change", desc := "(II)V" } : Jvm.MethodName) prog_1_method_10_code (4 : Nat) (Option.none : Option Jvm.ClassFile.FieldType)) ∈ lw_all := lw_g (lw_at lw_m1 114 rfl) rfl
theorem q144 : (Jvm.Cond.instanceMethod ({ cls := "ArchetypeWorld", name := "drop", desc := "(II)I" } : Jvm.MethodName)) ∈ lw_all := lw_g (lw_at lw_m1 116 rfl) rfl
theorem q145 : (Jvm.Cond.selects "ArchetypeWorld" ({ cls := "ArchetypeWorld", name := "drop", desc := "(II)I" } : Jvm.MethodName) ({ cls := "ArchetypeWorld", name := "drop", desc := "(II)I" } : Jvm.MethodName)) ∈ lw_all := lw_g (lw_at lw_m1 117 rfl) rfl
theorem q146 : (Jvm.Cond.code ({ cls := "ArchetypeWorld", name := "drop", desc := "(II)I" } : Jvm.MethodName) prog_1_method_14_code (4 : Nat) (Option.some Jvm.ClassFile.FieldType.int)) ∈ lw_all := lw_g (lw_at lw_m1 118 rfl) rfl
theorem q148 : (Jvm.Cond.instanceMethod ({ cls := "ArchetypeWorld", name := "get", desc := "(II)I" } : Jvm.MethodName)) ∈ lw_all := lw_g (lw_at lw_m1 120 rfl) rfl
theorem q149 : (Jvm.Cond.selects "ArchetypeWorld" ({ cls := "ArchetypeWorld", name := "get", desc := "(II)I" } : Jvm.MethodName) ({ cls := "ArchetypeWorld", name := "get", desc := "(II)I" } : Jvm.MethodName)) ∈ lw_all := lw_g (lw_at lw_m1 121 rfl) rfl
theorem q150 : (Jvm.Cond.code ({ cls := "ArchetypeWorld", name := "get", desc := "(II)I" } : Jvm.MethodName) prog_1_method_15_code (3 : Nat) (Option.some Jvm.ClassFile.FieldType.int)) ∈ lw_all := lw_g (lw_at lw_m1 122 rfl) rfl
theorem q152 : (Jvm.Cond.instanceMethod ({ cls := "ArchetypeWorld", name := "parts", desc := "(I)I" } : Jvm.MethodName)) ∈ lw_all := lw_g (lw_at lw_m1 124 rfl) rfl
theorem q153 : (Jvm.Cond.selects "ArchetypeWorld" ({ cls := "ArchetypeWorld", name := "parts", desc := "(I)I" } : Jvm.MethodName) ({ cls := "ArchetypeWorld", name := "parts", desc := "(I)I" } : Jvm.MethodName)) ∈ lw_all := lw_g (lw_at lw_m1 125 rfl) rfl
theorem q154 : (Jvm.Cond.code ({ cls := "ArchetypeWorld", name := "parts", desc := "(I)I" } : Jvm.MethodName) prog_1_method_16_code (2 : Nat) (Option.some Jvm.ClassFile.FieldType.int)) ∈ lw_all := lw_g (lw_at lw_m1 126 rfl) rfl
theorem q156 : (Jvm.Cond.instanceMethod ({ cls := "ArchetypeWorld", name := "living", desc := "()I" } : Jvm.MethodName)) ∈ lw_all := lw_g (lw_at lw_m1 128 rfl) rfl
theorem q157 : (Jvm.Cond.selects "ArchetypeWorld" ({ cls := "ArchetypeWorld", name := "living", desc := "()I" } : Jvm.MethodName) ({ cls := "ArchetypeWorld", name := "living", desc := "()I" } : Jvm.MethodName)) ∈ lw_all := lw_g (lw_at lw_m1 129 rfl) rfl
theorem q158 : (Jvm.Cond.code ({ cls := "ArchetypeWorld", name := "living", desc := "()I" } : Jvm.MethodName) prog_1_method_17_code (3 : Nat) (Option.some Jvm.ClassFile.FieldType.int)) ∈ lw_all := lw_g (lw_at lw_m1 130 rfl) rfl
theorem q160 : (Jvm.Cond.instanceMethod ({ cls := "ArchetypeWorld", name := "count", desc := "(II)I" } : Jvm.MethodName)) ∈ lw_all := lw_g (lw_at lw_m1 132 rfl) rfl
theorem q161 : (Jvm.Cond.selects "ArchetypeWorld" ({ cls := "ArchetypeWorld", name := "count", desc := "(II)I" } : Jvm.MethodName) ({ cls := "ArchetypeWorld", name := "count", desc := "(II)I" } : Jvm.MethodName)) ∈ lw_all := lw_g (lw_at lw_m1 133 rfl) rfl
theorem q162 : (Jvm.Cond.code ({ cls := "ArchetypeWorld", name := "count", desc := "(II)I" } : Jvm.MethodName) prog_1_method_18_code (5 : Nat) (Option.some Jvm.ClassFile.FieldType.int)) ∈ lw_all := lw_g (lw_at lw_m1 134 rfl) rfl
theorem q163 : (Jvm.Cond.methodLink "ArchetypeWorld" (85 : Nat) ({ cls := "ArchetypeWorld", name := "fits", desc := "(III)Z" } : Jvm.MethodName)) ∈ lw_all := lw_g (lw_at lw_m1 135 rfl) rfl
theorem q164 : (Jvm.Cond.privateMethod ({ cls := "ArchetypeWorld", name := "fits", desc := "(III)Z" } : Jvm.MethodName)) ∈ lw_tbl := lw_at lw_m1 136 rfl
theorem q165 : (Jvm.Cond.instanceMethod ({ cls := "ArchetypeWorld", name := "fits", desc := "(III)Z" } : Jvm.MethodName)) ∈ lw_all := lw_g (lw_at lw_m1 137 rfl) rfl
theorem q166 : (Jvm.Cond.code ({ cls := "ArchetypeWorld", name := "fits", desc := "(III)Z" } : Jvm.MethodName) prog_1_method_5_code (4 : Nat) (Option.some Jvm.ClassFile.FieldType.boolean)) ∈ lw_all := lw_g (lw_at lw_m1 138 rfl) rfl
theorem q168 : (Jvm.Cond.instanceMethod ({ cls := "ArchetypeWorld", name := "next", desc := "(III)I" } : Jvm.MethodName)) ∈ lw_all := lw_g (lw_at lw_m1 140 rfl) rfl
theorem q169 : (Jvm.Cond.selects "ArchetypeWorld" ({ cls := "ArchetypeWorld", name := "next", desc := "(III)I" } : Jvm.MethodName) ({ cls := "ArchetypeWorld", name := "next", desc := "(III)I" } : Jvm.MethodName)) ∈ lw_all := lw_g (lw_at lw_m1 141 rfl) rfl
theorem q170 : (Jvm.Cond.code ({ cls := "ArchetypeWorld", name := "next", desc := "(III)I" } : Jvm.MethodName) prog_1_method_19_code (7 : Nat) (Option.some Jvm.ClassFile.FieldType.int)) ∈ lw_all := lw_g (lw_at lw_m1 142 rfl) rfl
theorem q171 : (Jvm.Cond.methodLink "ArchetypeWorld" (89 : Nat) ({ cls := "ArchetypeWorld", name := "leastFrom", desc := "(II)I" } : Jvm.MethodName)) ∈ lw_all := lw_g (lw_at lw_m1 143 rfl) rfl
theorem q172 : (Jvm.Cond.privateMethod ({ cls := "ArchetypeWorld", name := "leastFrom", desc := "(II)I" } : Jvm.MethodName)) ∈ lw_tbl := lw_at lw_m1 144 rfl
theorem q173 : (Jvm.Cond.instanceMethod ({ cls := "ArchetypeWorld", name := "leastFrom", desc := "(II)I" } : Jvm.MethodName)) ∈ lw_all := lw_g (lw_at lw_m1 145 rfl) rfl
theorem q174 : (Jvm.Cond.code ({ cls := "ArchetypeWorld", name := "leastFrom", desc := "(II)I" } : Jvm.MethodName) prog_1_method_20_code (6 : Nat) (Option.some Jvm.ClassFile.FieldType.int)) ∈ lw_all := lw_g (lw_at lw_m1 146 rfl) rfl
theorem q176 : (Jvm.Cond.instanceMethod ({ cls := "ArchetypeWorld", name := "sum", desc := "(III)I" } : Jvm.MethodName)) ∈ lw_all := lw_g (lw_at lw_m1 148 rfl) rfl
theorem q177 : (Jvm.Cond.selects "ArchetypeWorld" ({ cls := "ArchetypeWorld", name := "sum", desc := "(III)I" } : Jvm.MethodName) ({ cls := "ArchetypeWorld", name := "sum", desc := "(III)I" } : Jvm.MethodName)) ∈ lw_all := lw_g (lw_at lw_m1 149 rfl) rfl
theorem q178 : (Jvm.Cond.code ({ cls := "ArchetypeWorld", name := "sum", desc := "(III)I" } : Jvm.MethodName) prog_1_method_21_code (8 : Nat) (Option.some Jvm.ClassFile.FieldType.int)) ∈ lw_all := lw_g (lw_at lw_m1 150 rfl) rfl
theorem q180 : (Jvm.Cond.instanceMethod ({ cls := "ArchetypeWorld", name := "kinds", desc := "()I" } : Jvm.MethodName)) ∈ lw_all := lw_g (lw_at lw_m1 152 rfl) rfl
theorem q181 : (Jvm.Cond.selects "ArchetypeWorld" ({ cls := "ArchetypeWorld", name := "kinds", desc := "()I" } : Jvm.MethodName) ({ cls := "ArchetypeWorld", name := "kinds", desc := "()I" } : Jvm.MethodName)) ∈ lw_all := lw_g (lw_at lw_m1 153 rfl) rfl
theorem q182 : (Jvm.Cond.code ({ cls := "ArchetypeWorld", name := "kinds", desc := "()I" } : Jvm.MethodName) prog_1_method_22_code (3 : Nat) (Option.some Jvm.ClassFile.FieldType.int)) ∈ lw_all := lw_g (lw_at lw_m1 154 rfl) rfl
theorem q184 : (Jvm.Cond.instanceMethod ({ cls := "ArchetypeWorld", name := "system", desc := "(II)I" } : Jvm.MethodName)) ∈ lw_all := lw_g (lw_at lw_m1 156 rfl) rfl
theorem q185 : (Jvm.Cond.selects "ArchetypeWorld" ({ cls := "ArchetypeWorld", name := "system", desc := "(II)I" } : Jvm.MethodName) ({ cls := "ArchetypeWorld", name := "system", desc := "(II)I" } : Jvm.MethodName)) ∈ lw_all := lw_g (lw_at lw_m1 157 rfl) rfl
theorem q186 : (Jvm.Cond.code ({ cls := "ArchetypeWorld", name := "system", desc := "(II)I" } : Jvm.MethodName) prog_1_method_23_code (7 : Nat) (Option.some Jvm.ClassFile.FieldType.int)) ∈ lw_all := lw_g (lw_at lw_m1 158 rfl) rfl
theorem q188 : (Jvm.Cond.instanceMethod ({ cls := "ArchetypeWorld", name := "unsystem", desc := "()I" } : Jvm.MethodName)) ∈ lw_all := lw_g (lw_at lw_m1 160 rfl) rfl
theorem q189 : (Jvm.Cond.selects "ArchetypeWorld" ({ cls := "ArchetypeWorld", name := "unsystem", desc := "()I" } : Jvm.MethodName) ({ cls := "ArchetypeWorld", name := "unsystem", desc := "()I" } : Jvm.MethodName)) ∈ lw_all := lw_g (lw_at lw_m1 161 rfl) rfl
theorem q190 : (Jvm.Cond.code ({ cls := "ArchetypeWorld", name := "unsystem", desc := "()I" } : Jvm.MethodName) prog_1_method_24_code (1 : Nat) (Option.some Jvm.ClassFile.FieldType.int)) ∈ lw_all := lw_g (lw_at lw_m1 162 rfl) rfl
theorem q192 : (Jvm.Cond.instanceMethod ({ cls := "ArchetypeWorld", name := "stage", desc := "(I)I" } : Jvm.MethodName)) ∈ lw_all := lw_g (lw_at lw_m1 164 rfl) rfl
theorem q193 : (Jvm.Cond.selects "ArchetypeWorld" ({ cls := "ArchetypeWorld", name := "stage", desc := "(I)I" } : Jvm.MethodName) ({ cls := "ArchetypeWorld", name := "stage", desc := "(I)I" } : Jvm.MethodName)) ∈ lw_all := lw_g (lw_at lw_m1 165 rfl) rfl
theorem q194 : (Jvm.Cond.code ({ cls := "ArchetypeWorld", name := "stage", desc := "(I)I" } : Jvm.MethodName) prog_1_method_28_code (2 : Nat) (Option.some Jvm.ClassFile.FieldType.int)) ∈ lw_all := lw_g (lw_at lw_m1 166 rfl) rfl
theorem q195 : (Jvm.Cond.methodLink "ArchetypeWorld" (113 : Nat) ({ cls := "ArchetypeWorld", name := "layOut", desc := "()V" } : Jvm.MethodName)) ∈ lw_all := lw_g (lw_at lw_m1 167 rfl) rfl
theorem q196 : (Jvm.Cond.privateMethod ({ cls := "ArchetypeWorld", name := "layOut", desc := "()V" } : Jvm.MethodName)) ∈ lw_tbl := lw_at lw_m1 168 rfl
theorem q197 : (Jvm.Cond.instanceMethod ({ cls := "ArchetypeWorld", name := "layOut", desc := "()V" } : Jvm.MethodName)) ∈ lw_all := lw_g (lw_at lw_m1 169 rfl) rfl
theorem q198 : (Jvm.Cond.code ({ cls := "ArchetypeWorld", name := "layOut", desc := "()V" } : Jvm.MethodName) prog_1_method_27_code (3 : Nat) (Option.none : Option Jvm.ClassFile.FieldType)) ∈ lw_all := lw_g (lw_at lw_m1 170 rfl) rfl
theorem q199 : (Jvm.Cond.methodLink "ArchetypeWorld" (109 : Nat) ({ cls := "ArchetypeWorld", name := "conflict", desc := "(II)Z" } : Jvm.MethodName)) ∈ lw_all := lw_g (lw_at lw_m1 171 rfl) rfl
theorem q200 : (Jvm.Cond.privateMethod ({ cls := "ArchetypeWorld", name := "conflict", desc := "(II)Z" } : Jvm.MethodName)) ∈ lw_tbl := lw_at lw_m1 172 rfl
theorem q201 : (Jvm.Cond.instanceMethod ({ cls := "ArchetypeWorld", name := "conflict", desc := "(II)Z" } : Jvm.MethodName)) ∈ lw_all := lw_g (lw_at lw_m1 173 rfl) rfl
theorem q202 : (Jvm.Cond.code ({ cls := "ArchetypeWorld", name := "conflict", desc := "(II)Z" } : Jvm.MethodName) prog_1_method_26_code (3 : Nat) (Option.some Jvm.ClassFile.FieldType.boolean)) ∈ lw_all := lw_g (lw_at lw_m1 174 rfl) rfl
theorem q203 : (Jvm.Cond.methodLink "ArchetypeWorld" (103 : Nat) ({ cls := "ArchetypeWorld", name := "touched", desc := "(I)I" } : Jvm.MethodName)) ∈ lw_all := lw_g (lw_at lw_m1 175 rfl) rfl
theorem q204 : (Jvm.Cond.privateMethod ({ cls := "ArchetypeWorld", name := "touched", desc := "(I)I" } : Jvm.MethodName)) ∈ lw_tbl := lw_at lw_m1 176 rfl
theorem q205 : (Jvm.Cond.instanceMethod ({ cls := "ArchetypeWorld", name := "touched", desc := "(I)I" } : Jvm.MethodName)) ∈ lw_all := lw_g (lw_at lw_m1 177 rfl) rfl
theorem q206 : (Jvm.Cond.code ({ cls := "ArchetypeWorld", name := "touched", desc := "(I)I" } : Jvm.MethodName) prog_1_method_25_code (2 : Nat) (Option.some Jvm.ClassFile.FieldType.int)) ∈ lw_all := lw_g (lw_at lw_m1 178 rfl) rfl
theorem q208 : (Jvm.Cond.instanceMethod ({ cls := "ArchetypeWorld", name := "stages", desc := "()I" } : Jvm.MethodName)) ∈ lw_all := lw_g (lw_at lw_m1 180 rfl) rfl
theorem q209 : (Jvm.Cond.selects "ArchetypeWorld" ({ cls := "ArchetypeWorld", name := "stages", desc := "()I" } : Jvm.MethodName) ({ cls := "ArchetypeWorld", name := "stages", desc := "()I" } : Jvm.MethodName)) ∈ lw_all := lw_g (lw_at lw_m1 181 rfl) rfl
theorem q210 : (Jvm.Cond.code ({ cls := "ArchetypeWorld", name := "stages", desc := "()I" } : Jvm.MethodName) prog_1_method_29_code (1 : Nat) (Option.some Jvm.ClassFile.FieldType.int)) ∈ lw_all := lw_g (lw_at lw_m1 182 rfl) rfl
theorem q212 : (Jvm.Cond.instanceMethod ({ cls := "ArchetypeWorld", name := "frame", desc := "(I)I" } : Jvm.MethodName)) ∈ lw_all := lw_g (lw_at lw_m1 184 rfl) rfl
theorem q213 : (Jvm.Cond.selects "ArchetypeWorld" ({ cls := "ArchetypeWorld", name := "frame", desc := "(I)I" } : Jvm.MethodName) ({ cls := "ArchetypeWorld", name := "frame", desc := "(I)I" } : Jvm.MethodName)) ∈ lw_all := lw_g (lw_at lw_m1 185 rfl) rfl
theorem q214 : (Jvm.Cond.code ({ cls := "ArchetypeWorld", name := "frame", desc := "(I)I" } : Jvm.MethodName) prog_1_method_35_code (6 : Nat) (Option.some Jvm.ClassFile.FieldType.int)) ∈ lw_all := lw_g (lw_at lw_m1 186 rfl) rfl
theorem q215 : (Jvm.Cond.methodLink "ArchetypeWorld" (126 : Nat) ({ cls := "ArchetypeWorld", name := "matchTables", desc := "()V" } : Jvm.MethodName)) ∈ lw_all := lw_g (lw_at lw_m1 187 rfl) rfl
theorem q216 : (Jvm.Cond.privateMethod ({ cls := "ArchetypeWorld", name := "matchTables", desc := "()V" } : Jvm.MethodName)) ∈ lw_tbl := lw_at lw_m1 188 rfl
theorem q217 : (Jvm.Cond.instanceMethod ({ cls := "ArchetypeWorld", name := "matchTables", desc := "()V" } : Jvm.MethodName)) ∈ lw_all := lw_g (lw_at lw_m1 189 rfl) rfl
theorem q218 : (Jvm.Cond.code ({ cls := "ArchetypeWorld", name := "matchTables", desc := "()V" } : Jvm.MethodName) prog_1_method_30_code (3 : Nat) (Option.none : Option Jvm.ClassFile.FieldType)) ∈ lw_all := lw_g (lw_at lw_m1 190 rfl) rfl
theorem q219 : (Jvm.Cond.methodLink "ArchetypeWorld" (129 : Nat) ({ cls := "ArchetypeWorld", name := "runStage", desc := "(I)I" } : Jvm.MethodName)) ∈ lw_all := lw_g (lw_at lw_m1 191 rfl) rfl
theorem q220 : (Jvm.Cond.privateMethod ({ cls := "ArchetypeWorld", name := "runStage", desc := "(I)I" } : Jvm.MethodName)) ∈ lw_tbl := lw_at lw_m1 192 rfl
theorem q221 : (Jvm.Cond.instanceMethod ({ cls := "ArchetypeWorld", name := "runStage", desc := "(I)I" } : Jvm.MethodName)) ∈ lw_all := lw_g (lw_at lw_m1 193 rfl) rfl
theorem q222 : (Jvm.Cond.code ({ cls := "ArchetypeWorld", name := "runStage", desc := "(I)I" } : Jvm.MethodName) prog_1_method_34_code (5 : Nat) (Option.some Jvm.ClassFile.FieldType.int)) ∈ lw_all := lw_g (lw_at lw_m1 194 rfl) rfl
theorem q223 : (Jvm.Cond.methodLink "ArchetypeWorld" (123 : Nat) ({ cls := "ArchetypeWorld", name := "runSystem", desc := "(I)I" } : Jvm.MethodName)) ∈ lw_all := lw_g (lw_at lw_m1 195 rfl) rfl
theorem q224 : (Jvm.Cond.privateMethod ({ cls := "ArchetypeWorld", name := "runSystem", desc := "(I)I" } : Jvm.MethodName)) ∈ lw_tbl := lw_at lw_m1 196 rfl
theorem q225 : (Jvm.Cond.instanceMethod ({ cls := "ArchetypeWorld", name := "runSystem", desc := "(I)I" } : Jvm.MethodName)) ∈ lw_all := lw_g (lw_at lw_m1 197 rfl) rfl
theorem q226 : (Jvm.Cond.code ({ cls := "ArchetypeWorld", name := "runSystem", desc := "(I)I" } : Jvm.MethodName) prog_1_method_33_code (5 : Nat) (Option.some Jvm.ClassFile.FieldType.int)) ∈ lw_all := lw_g (lw_at lw_m1 198 rfl) rfl
theorem q227 : (Jvm.Cond.methodLink "ArchetypeWorld" (120 : Nat) ({ cls := "ArchetypeWorld", name := "runOver", desc := "(II)I" } : Jvm.MethodName)) ∈ lw_all := lw_g (lw_at lw_m1 199 rfl) rfl
theorem q228 : (Jvm.Cond.privateMethod ({ cls := "ArchetypeWorld", name := "runOver", desc := "(II)I" } : Jvm.MethodName)) ∈ lw_tbl := lw_at lw_m1 200 rfl
theorem q229 : (Jvm.Cond.instanceMethod ({ cls := "ArchetypeWorld", name := "runOver", desc := "(II)I" } : Jvm.MethodName)) ∈ lw_all := lw_g (lw_at lw_m1 201 rfl) rfl
theorem q230 : (Jvm.Cond.code ({ cls := "ArchetypeWorld", name := "runOver", desc := "(II)I" } : Jvm.MethodName) prog_1_method_32_code (7 : Nat) (Option.some Jvm.ClassFile.FieldType.int)) ∈ lw_all := lw_g (lw_at lw_m1 202 rfl) rfl
theorem q231 : (Jvm.Cond.methodLink "ArchetypeWorld" (116 : Nat) ({ cls := "ArchetypeWorld", name := "worked", desc := "(III)I" } : Jvm.MethodName)) ∈ lw_all := lw_g (lw_at lw_m1 203 rfl) rfl
theorem q232 : (Jvm.Cond.privateMethod ({ cls := "ArchetypeWorld", name := "worked", desc := "(III)I" } : Jvm.MethodName)) ∈ lw_tbl := lw_at lw_m1 204 rfl
theorem q233 : (Jvm.Cond.instanceMethod ({ cls := "ArchetypeWorld", name := "worked", desc := "(III)I" } : Jvm.MethodName)) ∈ lw_all := lw_g (lw_at lw_m1 205 rfl) rfl
theorem q234 : (Jvm.Cond.code ({ cls := "ArchetypeWorld", name := "worked", desc := "(III)I" } : Jvm.MethodName) prog_1_method_31_code (4 : Nat) (Option.some Jvm.ClassFile.FieldType.int)) ∈ lw_all := lw_g (lw_at lw_m1 206 rfl) rfl
theorem q236 : (Jvm.Cond.instanceMethod ({ cls := "ArchetypeWorld", name := "digest", desc := "()I" } : Jvm.MethodName)) ∈ lw_all := lw_g (lw_at lw_m1 208 rfl) rfl
theorem q237 : (Jvm.Cond.selects "ArchetypeWorld" ({ cls := "ArchetypeWorld", name := "digest", desc := "()I" } : Jvm.MethodName) ({ cls := "ArchetypeWorld", name := "digest", desc := "()I" } : Jvm.MethodName)) ∈ lw_all := lw_g (lw_at lw_m1 209 rfl) rfl
theorem q238 : (Jvm.Cond.code ({ cls := "ArchetypeWorld", name := "digest", desc := "()I" } : Jvm.MethodName) prog_1_method_36_code (5 : Nat) (Option.some Jvm.ClassFile.FieldType.int)) ∈ lw_all := lw_g (lw_at lw_m1 210 rfl) rfl
theorem in_X0 : ∀ w ∈ wsX00, w ∈ lw_all := lw_in wsX00 [58, 60, 62, 64, 66, 68, 70, 72, 74, 76, 78, 80, 82, 84, 86, 88, 90, 92, 94] (by decide +kernel) (by decide +kernel)
end
section
/-! ArchetypeWorldModel -/
set_option maxRecDepth 100000
def RX1 : String := "ArchetypeWorldModel"
def TX1 : u_T := fun k => match k with
  | 0 => ("ArchetypeWorldModel", "lives", "[Z", true)
  | 1 => ("ArchetypeWorldModel", "sets", "[I", true)
  | 2 => ("ArchetypeWorldModel", "values", "[I", true)
  | 3 => ("ArchetypeWorldModel", "withs", "[I", true)
  | 4 => ("ArchetypeWorldModel", "withouts", "[I", true)
  | 5 => ("ArchetypeWorldModel", "kinds", "[I", true)
  | 6 => ("ArchetypeWorldModel", "firsts", "[I", true)
  | 7 => ("ArchetypeWorldModel", "seconds", "[I", true)
  | 8 => ("ArchetypeWorldModel", "stages", "[I", true)
  | _ => ("ArchetypeWorldModel", "systems", "I", false)
def tyX1 : Nat → FieldType := fun k => match k with
  | 0 => .array .boolean
  | 1 => .array .int
  | 2 => .array .int
  | 3 => .array .int
  | 4 => .array .int
  | 5 => .array .int
  | 6 => .array .int
  | 7 => .array .int
  | 8 => .array .int
  | _ => .int
abbrev wsX10 : List Cond := u_ws RX1 TX1 10
theorem nmX1 : ∀ a, a < 10 → ∀ b, b < 10 → a ≠ b → (TX1 a).2.1 ≠ (TX1 b).2.1 := by decide +kernel
theorem tyX1_ok : ∀ k, k < 10 → parseFieldDescriptor (TX1 k).2.2.1 = some (tyX1 k) := by decide +kernel
abbrev cX1_init : ByteArray := prog_3_method_1_code
def yX1_init : MethodName := ⟨RX1, "<init>", "()V"⟩
theorem dX1_init_0 : decode cX1_init 0 = .ok (.aload_n 0, 1) := by decide +kernel
theorem dX1_init_1 : decode cX1_init 1 = .ok (.invokespecial 1, 3) := by decide +kernel
theorem dX1_init_4 : decode cX1_init 4 = .ok (.aload_n 0, 1) := by decide +kernel
theorem dX1_init_5 : decode cX1_init 5 = .ok (.bipush 24, 2) := by decide +kernel
theorem dX1_init_7 : decode cX1_init 7 = .ok (.newarray .boolean, 2) := by decide +kernel
theorem dX1_init_9 : decode cX1_init 9 = .ok (.putfield 7, 3) := by decide +kernel
theorem dX1_init_12 : decode cX1_init 12 = .ok (.aload_n 0, 1) := by decide +kernel
theorem dX1_init_13 : decode cX1_init 13 = .ok (.bipush 24, 2) := by decide +kernel
theorem dX1_init_15 : decode cX1_init 15 = .ok (.newarray .int, 2) := by decide +kernel
theorem dX1_init_17 : decode cX1_init 17 = .ok (.putfield 13, 3) := by decide +kernel
theorem dX1_init_20 : decode cX1_init 20 = .ok (.aload_n 0, 1) := by decide +kernel
theorem dX1_init_21 : decode cX1_init 21 = .ok (.sipush 144, 3) := by decide +kernel
theorem dX1_init_24 : decode cX1_init 24 = .ok (.newarray .int, 2) := by decide +kernel
theorem dX1_init_26 : decode cX1_init 26 = .ok (.putfield 17, 3) := by decide +kernel
theorem dX1_init_29 : decode cX1_init 29 = .ok (.aload_n 0, 1) := by decide +kernel
theorem dX1_init_30 : decode cX1_init 30 = .ok (.bipush 8, 2) := by decide +kernel
theorem dX1_init_32 : decode cX1_init 32 = .ok (.newarray .int, 2) := by decide +kernel
theorem dX1_init_34 : decode cX1_init 34 = .ok (.putfield 20, 3) := by decide +kernel
theorem dX1_init_37 : decode cX1_init 37 = .ok (.aload_n 0, 1) := by decide +kernel
theorem dX1_init_38 : decode cX1_init 38 = .ok (.bipush 8, 2) := by decide +kernel
theorem dX1_init_40 : decode cX1_init 40 = .ok (.newarray .int, 2) := by decide +kernel
theorem dX1_init_42 : decode cX1_init 42 = .ok (.putfield 23, 3) := by decide +kernel
theorem dX1_init_45 : decode cX1_init 45 = .ok (.aload_n 0, 1) := by decide +kernel
theorem dX1_init_46 : decode cX1_init 46 = .ok (.bipush 8, 2) := by decide +kernel
theorem dX1_init_48 : decode cX1_init 48 = .ok (.newarray .int, 2) := by decide +kernel
theorem dX1_init_50 : decode cX1_init 50 = .ok (.putfield 26, 3) := by decide +kernel
theorem dX1_init_53 : decode cX1_init 53 = .ok (.aload_n 0, 1) := by decide +kernel
theorem dX1_init_54 : decode cX1_init 54 = .ok (.bipush 8, 2) := by decide +kernel
theorem dX1_init_56 : decode cX1_init 56 = .ok (.newarray .int, 2) := by decide +kernel
theorem dX1_init_58 : decode cX1_init 58 = .ok (.putfield 29, 3) := by decide +kernel
theorem dX1_init_61 : decode cX1_init 61 = .ok (.aload_n 0, 1) := by decide +kernel
theorem dX1_init_62 : decode cX1_init 62 = .ok (.bipush 8, 2) := by decide +kernel
theorem dX1_init_64 : decode cX1_init 64 = .ok (.newarray .int, 2) := by decide +kernel
theorem dX1_init_66 : decode cX1_init 66 = .ok (.putfield 32, 3) := by decide +kernel
theorem dX1_init_69 : decode cX1_init 69 = .ok (.aload_n 0, 1) := by decide +kernel
theorem dX1_init_70 : decode cX1_init 70 = .ok (.bipush 8, 2) := by decide +kernel
theorem dX1_init_72 : decode cX1_init 72 = .ok (.newarray .int, 2) := by decide +kernel
theorem dX1_init_74 : decode cX1_init 74 = .ok (.putfield 35, 3) := by decide +kernel
theorem dX1_init_77 : decode cX1_init 77 = .ok (.return_, 1) := by decide +kernel
abbrev cX1_spawn : ByteArray := prog_3_method_6_code
def yX1_spawn : MethodName := ⟨RX1, "spawn", "(II)I"⟩
theorem dX1_spawn_0 : decode cX1_spawn 0 = .ok (.aload_n 0, 1) := by decide +kernel
theorem dX1_spawn_1 : decode cX1_spawn 1 = .ok (.iload_n 1, 1) := by decide +kernel
theorem dX1_spawn_2 : decode cX1_spawn 2 = .ok (.invokevirtual 38, 3) := by decide +kernel
theorem dX1_spawn_5 : decode cX1_spawn 5 = .ok (.ifCond .ne 5, 3) := by decide +kernel
theorem dX1_spawn_8 : decode cX1_spawn 8 = .ok (.iconst (-1), 1) := by decide +kernel
theorem dX1_spawn_9 : decode cX1_spawn 9 = .ok (.ireturn, 1) := by decide +kernel
theorem dX1_spawn_10 : decode cX1_spawn 10 = .ok (.iconst 0, 1) := by decide +kernel
theorem dX1_spawn_11 : decode cX1_spawn 11 = .ok (.istore_n 3, 1) := by decide +kernel
theorem dX1_spawn_12 : decode cX1_spawn 12 = .ok (.iload_n 3, 1) := by decide +kernel
theorem dX1_spawn_13 : decode cX1_spawn 13 = .ok (.bipush 24, 2) := by decide +kernel
theorem dX1_spawn_15 : decode cX1_spawn 15 = .ok (.if_icmp .ge 63, 3) := by decide +kernel
theorem dX1_spawn_18 : decode cX1_spawn 18 = .ok (.aload_n 0, 1) := by decide +kernel
theorem dX1_spawn_19 : decode cX1_spawn 19 = .ok (.getfield 7, 3) := by decide +kernel
theorem dX1_spawn_22 : decode cX1_spawn 22 = .ok (.iload_n 3, 1) := by decide +kernel
theorem dX1_spawn_23 : decode cX1_spawn 23 = .ok (.baload, 1) := by decide +kernel
theorem dX1_spawn_24 : decode cX1_spawn 24 = .ok (.ifCond .ne 48, 3) := by decide +kernel
theorem dX1_spawn_27 : decode cX1_spawn 27 = .ok (.aload_n 0, 1) := by decide +kernel
theorem dX1_spawn_28 : decode cX1_spawn 28 = .ok (.getfield 7, 3) := by decide +kernel
theorem dX1_spawn_31 : decode cX1_spawn 31 = .ok (.iload_n 3, 1) := by decide +kernel
theorem dX1_spawn_32 : decode cX1_spawn 32 = .ok (.iconst 1, 1) := by decide +kernel
theorem dX1_spawn_33 : decode cX1_spawn 33 = .ok (.bastore, 1) := by decide +kernel
theorem dX1_spawn_34 : decode cX1_spawn 34 = .ok (.aload_n 0, 1) := by decide +kernel
theorem dX1_spawn_35 : decode cX1_spawn 35 = .ok (.getfield 13, 3) := by decide +kernel
theorem dX1_spawn_38 : decode cX1_spawn 38 = .ok (.iload_n 3, 1) := by decide +kernel
theorem dX1_spawn_39 : decode cX1_spawn 39 = .ok (.iload_n 1, 1) := by decide +kernel
theorem dX1_spawn_40 : decode cX1_spawn 40 = .ok (.iastore, 1) := by decide +kernel
theorem dX1_spawn_41 : decode cX1_spawn 41 = .ok (.iconst 0, 1) := by decide +kernel
theorem dX1_spawn_42 : decode cX1_spawn 42 = .ok (.istore 4, 2) := by decide +kernel
theorem dX1_spawn_44 : decode cX1_spawn 44 = .ok (.iload 4, 2) := by decide +kernel
theorem dX1_spawn_46 : decode cX1_spawn 46 = .ok (.bipush 6, 2) := by decide +kernel
theorem dX1_spawn_48 : decode cX1_spawn 48 = .ok (.if_icmp .ge 22, 3) := by decide +kernel
theorem dX1_spawn_51 : decode cX1_spawn 51 = .ok (.aload_n 0, 1) := by decide +kernel
theorem dX1_spawn_52 : decode cX1_spawn 52 = .ok (.getfield 17, 3) := by decide +kernel
theorem dX1_spawn_55 : decode cX1_spawn 55 = .ok (.bipush 6, 2) := by decide +kernel
theorem dX1_spawn_57 : decode cX1_spawn 57 = .ok (.iload_n 3, 1) := by decide +kernel
theorem dX1_spawn_58 : decode cX1_spawn 58 = .ok (.imul, 1) := by decide +kernel
theorem dX1_spawn_59 : decode cX1_spawn 59 = .ok (.iload 4, 2) := by decide +kernel
theorem dX1_spawn_61 : decode cX1_spawn 61 = .ok (.iadd, 1) := by decide +kernel
theorem dX1_spawn_62 : decode cX1_spawn 62 = .ok (.iload_n 2, 1) := by decide +kernel
theorem dX1_spawn_63 : decode cX1_spawn 63 = .ok (.iastore, 1) := by decide +kernel
theorem dX1_spawn_64 : decode cX1_spawn 64 = .ok (.iinc 4 1, 3) := by decide +kernel
theorem dX1_spawn_67 : decode cX1_spawn 67 = .ok (.goto (-23), 3) := by decide +kernel
theorem dX1_spawn_70 : decode cX1_spawn 70 = .ok (.iload_n 3, 1) := by decide +kernel
theorem dX1_spawn_71 : decode cX1_spawn 71 = .ok (.ireturn, 1) := by decide +kernel
theorem dX1_spawn_72 : decode cX1_spawn 72 = .ok (.iinc 3 1, 3) := by decide +kernel
theorem dX1_spawn_75 : decode cX1_spawn 75 = .ok (.goto (-63), 3) := by decide +kernel
theorem dX1_spawn_78 : decode cX1_spawn 78 = .ok (.bipush (-2), 2) := by decide +kernel
theorem dX1_spawn_80 : decode cX1_spawn 80 = .ok (.ireturn, 1) := by decide +kernel
abbrev cX1_isSet : ByteArray := prog_3_method_3_code
def yX1_isSet : MethodName := ⟨RX1, "isSet", "(I)Z"⟩
theorem dX1_isSet_0 : decode cX1_isSet 0 = .ok (.iload_n 1, 1) := by decide +kernel
theorem dX1_isSet_1 : decode cX1_isSet 1 = .ok (.ifCond .lt 13, 3) := by decide +kernel
theorem dX1_isSet_4 : decode cX1_isSet 4 = .ok (.iload_n 1, 1) := by decide +kernel
theorem dX1_isSet_5 : decode cX1_isSet 5 = .ok (.bipush 63, 2) := by decide +kernel
theorem dX1_isSet_7 : decode cX1_isSet 7 = .ok (.if_icmp .gt 7, 3) := by decide +kernel
theorem dX1_isSet_10 : decode cX1_isSet 10 = .ok (.iconst 1, 1) := by decide +kernel
theorem dX1_isSet_11 : decode cX1_isSet 11 = .ok (.goto 4, 3) := by decide +kernel
theorem dX1_isSet_14 : decode cX1_isSet 14 = .ok (.iconst 0, 1) := by decide +kernel
theorem dX1_isSet_15 : decode cX1_isSet 15 = .ok (.ireturn, 1) := by decide +kernel
abbrev cX1_kill : ByteArray := prog_3_method_7_code
def yX1_kill : MethodName := ⟨RX1, "kill", "(I)I"⟩
theorem dX1_kill_0 : decode cX1_kill 0 = .ok (.aload_n 0, 1) := by decide +kernel
theorem dX1_kill_1 : decode cX1_kill 1 = .ok (.iload_n 1, 1) := by decide +kernel
theorem dX1_kill_2 : decode cX1_kill 2 = .ok (.invokevirtual 42, 3) := by decide +kernel
theorem dX1_kill_5 : decode cX1_kill 5 = .ok (.ifCond .ne 6, 3) := by decide +kernel
theorem dX1_kill_8 : decode cX1_kill 8 = .ok (.bipush (-4), 2) := by decide +kernel
theorem dX1_kill_10 : decode cX1_kill 10 = .ok (.ireturn, 1) := by decide +kernel
theorem dX1_kill_11 : decode cX1_kill 11 = .ok (.aload_n 0, 1) := by decide +kernel
theorem dX1_kill_12 : decode cX1_kill 12 = .ok (.getfield 7, 3) := by decide +kernel
theorem dX1_kill_15 : decode cX1_kill 15 = .ok (.iload_n 1, 1) := by decide +kernel
theorem dX1_kill_16 : decode cX1_kill 16 = .ok (.iconst 0, 1) := by decide +kernel
theorem dX1_kill_17 : decode cX1_kill 17 = .ok (.bastore, 1) := by decide +kernel
theorem dX1_kill_18 : decode cX1_kill 18 = .ok (.aload_n 0, 1) := by decide +kernel
theorem dX1_kill_19 : decode cX1_kill 19 = .ok (.getfield 13, 3) := by decide +kernel
theorem dX1_kill_22 : decode cX1_kill 22 = .ok (.iload_n 1, 1) := by decide +kernel
theorem dX1_kill_23 : decode cX1_kill 23 = .ok (.iaload, 1) := by decide +kernel
theorem dX1_kill_24 : decode cX1_kill 24 = .ok (.ireturn, 1) := by decide +kernel
abbrev cX1_isAlive : ByteArray := prog_3_method_4_code
def yX1_isAlive : MethodName := ⟨RX1, "isAlive", "(I)Z"⟩
theorem dX1_isAlive_0 : decode cX1_isAlive 0 = .ok (.iload_n 1, 1) := by decide +kernel
theorem dX1_isAlive_1 : decode cX1_isAlive 1 = .ok (.ifCond .lt 22, 3) := by decide +kernel
theorem dX1_isAlive_4 : decode cX1_isAlive 4 = .ok (.iload_n 1, 1) := by decide +kernel
theorem dX1_isAlive_5 : decode cX1_isAlive 5 = .ok (.bipush 23, 2) := by decide +kernel
theorem dX1_isAlive_7 : decode cX1_isAlive 7 = .ok (.if_icmp .gt 16, 3) := by decide +kernel
theorem dX1_isAlive_10 : decode cX1_isAlive 10 = .ok (.aload_n 0, 1) := by decide +kernel
theorem dX1_isAlive_11 : decode cX1_isAlive 11 = .ok (.getfield 7, 3) := by decide +kernel
theorem dX1_isAlive_14 : decode cX1_isAlive 14 = .ok (.iload_n 1, 1) := by decide +kernel
theorem dX1_isAlive_15 : decode cX1_isAlive 15 = .ok (.baload, 1) := by decide +kernel
theorem dX1_isAlive_16 : decode cX1_isAlive 16 = .ok (.ifCond .eq 7, 3) := by decide +kernel
theorem dX1_isAlive_19 : decode cX1_isAlive 19 = .ok (.iconst 1, 1) := by decide +kernel
theorem dX1_isAlive_20 : decode cX1_isAlive 20 = .ok (.goto 4, 3) := by decide +kernel
theorem dX1_isAlive_23 : decode cX1_isAlive 23 = .ok (.iconst 0, 1) := by decide +kernel
theorem dX1_isAlive_24 : decode cX1_isAlive 24 = .ok (.ireturn, 1) := by decide +kernel
abbrev cX1_put : ByteArray := prog_3_method_8_code
def yX1_put : MethodName := ⟨RX1, "put", "(III)I"⟩
theorem dX1_put_0 : decode cX1_put 0 = .ok (.aload_n 0, 1) := by decide +kernel
theorem dX1_put_1 : decode cX1_put 1 = .ok (.iload_n 1, 1) := by decide +kernel
theorem dX1_put_2 : decode cX1_put 2 = .ok (.invokevirtual 42, 3) := by decide +kernel
theorem dX1_put_5 : decode cX1_put 5 = .ok (.ifCond .ne 6, 3) := by decide +kernel
theorem dX1_put_8 : decode cX1_put 8 = .ok (.bipush (-4), 2) := by decide +kernel
theorem dX1_put_10 : decode cX1_put 10 = .ok (.ireturn, 1) := by decide +kernel
theorem dX1_put_11 : decode cX1_put 11 = .ok (.aload_n 0, 1) := by decide +kernel
theorem dX1_put_12 : decode cX1_put 12 = .ok (.iload_n 2, 1) := by decide +kernel
theorem dX1_put_13 : decode cX1_put 13 = .ok (.invokevirtual 45, 3) := by decide +kernel
theorem dX1_put_16 : decode cX1_put 16 = .ok (.ifCond .ne 5, 3) := by decide +kernel
theorem dX1_put_19 : decode cX1_put 19 = .ok (.iconst (-1), 1) := by decide +kernel
theorem dX1_put_20 : decode cX1_put 20 = .ok (.ireturn, 1) := by decide +kernel
theorem dX1_put_21 : decode cX1_put 21 = .ok (.aload_n 0, 1) := by decide +kernel
theorem dX1_put_22 : decode cX1_put 22 = .ok (.getfield 13, 3) := by decide +kernel
theorem dX1_put_25 : decode cX1_put 25 = .ok (.iload_n 1, 1) := by decide +kernel
theorem dX1_put_26 : decode cX1_put 26 = .ok (.iaload, 1) := by decide +kernel
theorem dX1_put_27 : decode cX1_put 27 = .ok (.iload_n 2, 1) := by decide +kernel
theorem dX1_put_28 : decode cX1_put 28 = .ok (.ishr, 1) := by decide +kernel
theorem dX1_put_29 : decode cX1_put 29 = .ok (.iconst 1, 1) := by decide +kernel
theorem dX1_put_30 : decode cX1_put 30 = .ok (.iand, 1) := by decide +kernel
theorem dX1_put_31 : decode cX1_put 31 = .ok (.istore 4, 2) := by decide +kernel
theorem dX1_put_33 : decode cX1_put 33 = .ok (.aload_n 0, 1) := by decide +kernel
theorem dX1_put_34 : decode cX1_put 34 = .ok (.getfield 13, 3) := by decide +kernel
theorem dX1_put_37 : decode cX1_put 37 = .ok (.iload_n 1, 1) := by decide +kernel
theorem dX1_put_38 : decode cX1_put 38 = .ok (.aload_n 0, 1) := by decide +kernel
theorem dX1_put_39 : decode cX1_put 39 = .ok (.getfield 13, 3) := by decide +kernel
theorem dX1_put_42 : decode cX1_put 42 = .ok (.iload_n 1, 1) := by decide +kernel
theorem dX1_put_43 : decode cX1_put 43 = .ok (.iaload, 1) := by decide +kernel
theorem dX1_put_44 : decode cX1_put 44 = .ok (.iconst 1, 1) := by decide +kernel
theorem dX1_put_45 : decode cX1_put 45 = .ok (.iload_n 2, 1) := by decide +kernel
theorem dX1_put_46 : decode cX1_put 46 = .ok (.ishl, 1) := by decide +kernel
theorem dX1_put_47 : decode cX1_put 47 = .ok (.ior, 1) := by decide +kernel
theorem dX1_put_48 : decode cX1_put 48 = .ok (.iastore, 1) := by decide +kernel
theorem dX1_put_49 : decode cX1_put 49 = .ok (.aload_n 0, 1) := by decide +kernel
theorem dX1_put_50 : decode cX1_put 50 = .ok (.getfield 17, 3) := by decide +kernel
theorem dX1_put_53 : decode cX1_put 53 = .ok (.bipush 6, 2) := by decide +kernel
theorem dX1_put_55 : decode cX1_put 55 = .ok (.iload_n 1, 1) := by decide +kernel
theorem dX1_put_56 : decode cX1_put 56 = .ok (.imul, 1) := by decide +kernel
theorem dX1_put_57 : decode cX1_put 57 = .ok (.iload_n 2, 1) := by decide +kernel
theorem dX1_put_58 : decode cX1_put 58 = .ok (.iadd, 1) := by decide +kernel
theorem dX1_put_59 : decode cX1_put 59 = .ok (.iload_n 3, 1) := by decide +kernel
theorem dX1_put_60 : decode cX1_put 60 = .ok (.iastore, 1) := by decide +kernel
theorem dX1_put_61 : decode cX1_put 61 = .ok (.iload 4, 2) := by decide +kernel
theorem dX1_put_63 : decode cX1_put 63 = .ok (.ireturn, 1) := by decide +kernel
abbrev cX1_isComponent : ByteArray := prog_3_method_5_code
def yX1_isComponent : MethodName := ⟨RX1, "isComponent", "(I)Z"⟩
theorem dX1_isComponent_0 : decode cX1_isComponent 0 = .ok (.iload_n 1, 1) := by decide +kernel
theorem dX1_isComponent_1 : decode cX1_isComponent 1 = .ok (.ifCond .lt 12, 3) := by decide +kernel
theorem dX1_isComponent_4 : decode cX1_isComponent 4 = .ok (.iload_n 1, 1) := by decide +kernel
theorem dX1_isComponent_5 : decode cX1_isComponent 5 = .ok (.iconst 5, 1) := by decide +kernel
theorem dX1_isComponent_6 : decode cX1_isComponent 6 = .ok (.if_icmp .gt 7, 3) := by decide +kernel
theorem dX1_isComponent_9 : decode cX1_isComponent 9 = .ok (.iconst 1, 1) := by decide +kernel
theorem dX1_isComponent_10 : decode cX1_isComponent 10 = .ok (.goto 4, 3) := by decide +kernel
theorem dX1_isComponent_13 : decode cX1_isComponent 13 = .ok (.iconst 0, 1) := by decide +kernel
theorem dX1_isComponent_14 : decode cX1_isComponent 14 = .ok (.ireturn, 1) := by decide +kernel
abbrev cX1_drop : ByteArray := prog_3_method_9_code
def yX1_drop : MethodName := ⟨RX1, "drop", "(II)I"⟩
theorem dX1_drop_0 : decode cX1_drop 0 = .ok (.aload_n 0, 1) := by decide +kernel
theorem dX1_drop_1 : decode cX1_drop 1 = .ok (.iload_n 1, 1) := by decide +kernel
theorem dX1_drop_2 : decode cX1_drop 2 = .ok (.invokevirtual 42, 3) := by decide +kernel
theorem dX1_drop_5 : decode cX1_drop 5 = .ok (.ifCond .ne 6, 3) := by decide +kernel
theorem dX1_drop_8 : decode cX1_drop 8 = .ok (.bipush (-4), 2) := by decide +kernel
theorem dX1_drop_10 : decode cX1_drop 10 = .ok (.ireturn, 1) := by decide +kernel
theorem dX1_drop_11 : decode cX1_drop 11 = .ok (.aload_n 0, 1) := by decide +kernel
theorem dX1_drop_12 : decode cX1_drop 12 = .ok (.iload_n 2, 1) := by decide +kernel
theorem dX1_drop_13 : decode cX1_drop 13 = .ok (.invokevirtual 45, 3) := by decide +kernel
theorem dX1_drop_16 : decode cX1_drop 16 = .ok (.ifCond .ne 5, 3) := by decide +kernel
theorem dX1_drop_19 : decode cX1_drop 19 = .ok (.iconst (-1), 1) := by decide +kernel
theorem dX1_drop_20 : decode cX1_drop 20 = .ok (.ireturn, 1) := by decide +kernel
theorem dX1_drop_21 : decode cX1_drop 21 = .ok (.aload_n 0, 1) := by decide +kernel
theorem dX1_drop_22 : decode cX1_drop 22 = .ok (.getfield 13, 3) := by decide +kernel
theorem dX1_drop_25 : decode cX1_drop 25 = .ok (.iload_n 1, 1) := by decide +kernel
theorem dX1_drop_26 : decode cX1_drop 26 = .ok (.iaload, 1) := by decide +kernel
theorem dX1_drop_27 : decode cX1_drop 27 = .ok (.iload_n 2, 1) := by decide +kernel
theorem dX1_drop_28 : decode cX1_drop 28 = .ok (.ishr, 1) := by decide +kernel
theorem dX1_drop_29 : decode cX1_drop 29 = .ok (.iconst 1, 1) := by decide +kernel
theorem dX1_drop_30 : decode cX1_drop 30 = .ok (.iand, 1) := by decide +kernel
theorem dX1_drop_31 : decode cX1_drop 31 = .ok (.istore_n 3, 1) := by decide +kernel
theorem dX1_drop_32 : decode cX1_drop 32 = .ok (.aload_n 0, 1) := by decide +kernel
theorem dX1_drop_33 : decode cX1_drop 33 = .ok (.getfield 13, 3) := by decide +kernel
theorem dX1_drop_36 : decode cX1_drop 36 = .ok (.iload_n 1, 1) := by decide +kernel
theorem dX1_drop_37 : decode cX1_drop 37 = .ok (.aload_n 0, 1) := by decide +kernel
theorem dX1_drop_38 : decode cX1_drop 38 = .ok (.getfield 13, 3) := by decide +kernel
theorem dX1_drop_41 : decode cX1_drop 41 = .ok (.iload_n 1, 1) := by decide +kernel
theorem dX1_drop_42 : decode cX1_drop 42 = .ok (.iaload, 1) := by decide +kernel
theorem dX1_drop_43 : decode cX1_drop 43 = .ok (.iconst 1, 1) := by decide +kernel
theorem dX1_drop_44 : decode cX1_drop 44 = .ok (.iload_n 2, 1) := by decide +kernel
theorem dX1_drop_45 : decode cX1_drop 45 = .ok (.ishl, 1) := by decide +kernel
theorem dX1_drop_46 : decode cX1_drop 46 = .ok (.iconst (-1), 1) := by decide +kernel
theorem dX1_drop_47 : decode cX1_drop 47 = .ok (.ixor, 1) := by decide +kernel
theorem dX1_drop_48 : decode cX1_drop 48 = .ok (.iand, 1) := by decide +kernel
theorem dX1_drop_49 : decode cX1_drop 49 = .ok (.iastore, 1) := by decide +kernel
theorem dX1_drop_50 : decode cX1_drop 50 = .ok (.iload_n 3, 1) := by decide +kernel
theorem dX1_drop_51 : decode cX1_drop 51 = .ok (.ireturn, 1) := by decide +kernel
abbrev cX1_get : ByteArray := prog_3_method_10_code
def yX1_get : MethodName := ⟨RX1, "get", "(II)I"⟩
theorem dX1_get_0 : decode cX1_get 0 = .ok (.aload_n 0, 1) := by decide +kernel
theorem dX1_get_1 : decode cX1_get 1 = .ok (.iload_n 1, 1) := by decide +kernel
theorem dX1_get_2 : decode cX1_get 2 = .ok (.invokevirtual 42, 3) := by decide +kernel
theorem dX1_get_5 : decode cX1_get 5 = .ok (.ifCond .eq 39, 3) := by decide +kernel
theorem dX1_get_8 : decode cX1_get 8 = .ok (.aload_n 0, 1) := by decide +kernel
theorem dX1_get_9 : decode cX1_get 9 = .ok (.iload_n 2, 1) := by decide +kernel
theorem dX1_get_10 : decode cX1_get 10 = .ok (.invokevirtual 45, 3) := by decide +kernel
theorem dX1_get_13 : decode cX1_get 13 = .ok (.ifCond .eq 31, 3) := by decide +kernel
theorem dX1_get_16 : decode cX1_get 16 = .ok (.aload_n 0, 1) := by decide +kernel
theorem dX1_get_17 : decode cX1_get 17 = .ok (.aload_n 0, 1) := by decide +kernel
theorem dX1_get_18 : decode cX1_get 18 = .ok (.getfield 13, 3) := by decide +kernel
theorem dX1_get_21 : decode cX1_get 21 = .ok (.iload_n 1, 1) := by decide +kernel
theorem dX1_get_22 : decode cX1_get 22 = .ok (.iaload, 1) := by decide +kernel
theorem dX1_get_23 : decode cX1_get 23 = .ok (.iload_n 2, 1) := by decide +kernel
theorem dX1_get_24 : decode cX1_get 24 = .ok (.invokevirtual 48, 3) := by decide +kernel
theorem dX1_get_27 : decode cX1_get 27 = .ok (.ifCond .eq 17, 3) := by decide +kernel
theorem dX1_get_30 : decode cX1_get 30 = .ok (.aload_n 0, 1) := by decide +kernel
theorem dX1_get_31 : decode cX1_get 31 = .ok (.getfield 17, 3) := by decide +kernel
theorem dX1_get_34 : decode cX1_get 34 = .ok (.bipush 6, 2) := by decide +kernel
theorem dX1_get_36 : decode cX1_get 36 = .ok (.iload_n 1, 1) := by decide +kernel
theorem dX1_get_37 : decode cX1_get 37 = .ok (.imul, 1) := by decide +kernel
theorem dX1_get_38 : decode cX1_get 38 = .ok (.iload_n 2, 1) := by decide +kernel
theorem dX1_get_39 : decode cX1_get 39 = .ok (.iadd, 1) := by decide +kernel
theorem dX1_get_40 : decode cX1_get 40 = .ok (.iaload, 1) := by decide +kernel
theorem dX1_get_41 : decode cX1_get 41 = .ok (.goto 4, 3) := by decide +kernel
theorem dX1_get_44 : decode cX1_get 44 = .ok (.iconst 0, 1) := by decide +kernel
theorem dX1_get_45 : decode cX1_get 45 = .ok (.ireturn, 1) := by decide +kernel
abbrev cX1_has : ByteArray := prog_3_method_2_code
def yX1_has : MethodName := ⟨RX1, "has", "(II)Z"⟩
theorem dX1_has_0 : decode cX1_has 0 = .ok (.iload_n 1, 1) := by decide +kernel
theorem dX1_has_1 : decode cX1_has 1 = .ok (.iload_n 2, 1) := by decide +kernel
theorem dX1_has_2 : decode cX1_has 2 = .ok (.ishr, 1) := by decide +kernel
theorem dX1_has_3 : decode cX1_has 3 = .ok (.iconst 1, 1) := by decide +kernel
theorem dX1_has_4 : decode cX1_has 4 = .ok (.iand, 1) := by decide +kernel
theorem dX1_has_5 : decode cX1_has 5 = .ok (.iconst 1, 1) := by decide +kernel
theorem dX1_has_6 : decode cX1_has 6 = .ok (.if_icmp .ne 7, 3) := by decide +kernel
theorem dX1_has_9 : decode cX1_has 9 = .ok (.iconst 1, 1) := by decide +kernel
theorem dX1_has_10 : decode cX1_has 10 = .ok (.goto 4, 3) := by decide +kernel
theorem dX1_has_13 : decode cX1_has 13 = .ok (.iconst 0, 1) := by decide +kernel
theorem dX1_has_14 : decode cX1_has 14 = .ok (.ireturn, 1) := by decide +kernel
abbrev cX1_parts : ByteArray := prog_3_method_11_code
def yX1_parts : MethodName := ⟨RX1, "parts", "(I)I"⟩
theorem dX1_parts_0 : decode cX1_parts 0 = .ok (.aload_n 0, 1) := by decide +kernel
theorem dX1_parts_1 : decode cX1_parts 1 = .ok (.iload_n 1, 1) := by decide +kernel
theorem dX1_parts_2 : decode cX1_parts 2 = .ok (.invokevirtual 42, 3) := by decide +kernel
theorem dX1_parts_5 : decode cX1_parts 5 = .ok (.ifCond .eq 12, 3) := by decide +kernel
theorem dX1_parts_8 : decode cX1_parts 8 = .ok (.aload_n 0, 1) := by decide +kernel
theorem dX1_parts_9 : decode cX1_parts 9 = .ok (.getfield 13, 3) := by decide +kernel
theorem dX1_parts_12 : decode cX1_parts 12 = .ok (.iload_n 1, 1) := by decide +kernel
theorem dX1_parts_13 : decode cX1_parts 13 = .ok (.iaload, 1) := by decide +kernel
theorem dX1_parts_14 : decode cX1_parts 14 = .ok (.goto 5, 3) := by decide +kernel
theorem dX1_parts_17 : decode cX1_parts 17 = .ok (.bipush (-4), 2) := by decide +kernel
theorem dX1_parts_19 : decode cX1_parts 19 = .ok (.ireturn, 1) := by decide +kernel
abbrev cX1_living : ByteArray := prog_3_method_12_code
def yX1_living : MethodName := ⟨RX1, "living", "()I"⟩
theorem dX1_living_0 : decode cX1_living 0 = .ok (.aload_n 0, 1) := by decide +kernel
theorem dX1_living_1 : decode cX1_living 1 = .ok (.iconst 0, 1) := by decide +kernel
theorem dX1_living_2 : decode cX1_living 2 = .ok (.iconst 0, 1) := by decide +kernel
theorem dX1_living_3 : decode cX1_living 3 = .ok (.invokevirtual 52, 3) := by decide +kernel
theorem dX1_living_6 : decode cX1_living 6 = .ok (.ireturn, 1) := by decide +kernel
abbrev cX1_count : ByteArray := prog_3_method_14_code
def yX1_count : MethodName := ⟨RX1, "count", "(II)I"⟩
theorem dX1_count_0 : decode cX1_count 0 = .ok (.aload_n 0, 1) := by decide +kernel
theorem dX1_count_1 : decode cX1_count 1 = .ok (.iload_n 1, 1) := by decide +kernel
theorem dX1_count_2 : decode cX1_count 2 = .ok (.invokevirtual 38, 3) := by decide +kernel
theorem dX1_count_5 : decode cX1_count 5 = .ok (.ifCond .eq 11, 3) := by decide +kernel
theorem dX1_count_8 : decode cX1_count 8 = .ok (.aload_n 0, 1) := by decide +kernel
theorem dX1_count_9 : decode cX1_count 9 = .ok (.iload_n 2, 1) := by decide +kernel
theorem dX1_count_10 : decode cX1_count 10 = .ok (.invokevirtual 38, 3) := by decide +kernel
theorem dX1_count_13 : decode cX1_count 13 = .ok (.ifCond .ne 5, 3) := by decide +kernel
theorem dX1_count_16 : decode cX1_count 16 = .ok (.iconst (-1), 1) := by decide +kernel
theorem dX1_count_17 : decode cX1_count 17 = .ok (.ireturn, 1) := by decide +kernel
theorem dX1_count_18 : decode cX1_count 18 = .ok (.iconst 0, 1) := by decide +kernel
theorem dX1_count_19 : decode cX1_count 19 = .ok (.istore_n 3, 1) := by decide +kernel
theorem dX1_count_20 : decode cX1_count 20 = .ok (.iconst 0, 1) := by decide +kernel
theorem dX1_count_21 : decode cX1_count 21 = .ok (.istore 4, 2) := by decide +kernel
theorem dX1_count_23 : decode cX1_count 23 = .ok (.iload 4, 2) := by decide +kernel
theorem dX1_count_25 : decode cX1_count 25 = .ok (.bipush 24, 2) := by decide +kernel
theorem dX1_count_27 : decode cX1_count 27 = .ok (.if_icmp .ge 28, 3) := by decide +kernel
theorem dX1_count_30 : decode cX1_count 30 = .ok (.aload_n 0, 1) := by decide +kernel
theorem dX1_count_31 : decode cX1_count 31 = .ok (.iload 4, 2) := by decide +kernel
theorem dX1_count_33 : decode cX1_count 33 = .ok (.iload_n 1, 1) := by decide +kernel
theorem dX1_count_34 : decode cX1_count 34 = .ok (.iload_n 2, 1) := by decide +kernel
theorem dX1_count_35 : decode cX1_count 35 = .ok (.invokevirtual 56, 3) := by decide +kernel
theorem dX1_count_38 : decode cX1_count 38 = .ok (.ifCond .eq 9, 3) := by decide +kernel
theorem dX1_count_41 : decode cX1_count 41 = .ok (.iload_n 3, 1) := by decide +kernel
theorem dX1_count_42 : decode cX1_count 42 = .ok (.iconst 1, 1) := by decide +kernel
theorem dX1_count_43 : decode cX1_count 43 = .ok (.iadd, 1) := by decide +kernel
theorem dX1_count_44 : decode cX1_count 44 = .ok (.goto 4, 3) := by decide +kernel
theorem dX1_count_47 : decode cX1_count 47 = .ok (.iload_n 3, 1) := by decide +kernel
theorem dX1_count_48 : decode cX1_count 48 = .ok (.istore_n 3, 1) := by decide +kernel
theorem dX1_count_49 : decode cX1_count 49 = .ok (.iinc 4 1, 3) := by decide +kernel
theorem dX1_count_52 : decode cX1_count 52 = .ok (.goto (-29), 3) := by decide +kernel
theorem dX1_count_55 : decode cX1_count 55 = .ok (.iload_n 3, 1) := by decide +kernel
theorem dX1_count_56 : decode cX1_count 56 = .ok (.ireturn, 1) := by decide +kernel
abbrev cX1_fits : ByteArray := prog_3_method_13_code
def yX1_fits : MethodName := ⟨RX1, "fits", "(III)Z"⟩
theorem dX1_fits_0 : decode cX1_fits 0 = .ok (.aload_n 0, 1) := by decide +kernel
theorem dX1_fits_1 : decode cX1_fits 1 = .ok (.getfield 7, 3) := by decide +kernel
theorem dX1_fits_4 : decode cX1_fits 4 = .ok (.iload_n 1, 1) := by decide +kernel
theorem dX1_fits_5 : decode cX1_fits 5 = .ok (.baload, 1) := by decide +kernel
theorem dX1_fits_6 : decode cX1_fits 6 = .ok (.ifCond .eq 30, 3) := by decide +kernel
theorem dX1_fits_9 : decode cX1_fits 9 = .ok (.aload_n 0, 1) := by decide +kernel
theorem dX1_fits_10 : decode cX1_fits 10 = .ok (.getfield 13, 3) := by decide +kernel
theorem dX1_fits_13 : decode cX1_fits 13 = .ok (.iload_n 1, 1) := by decide +kernel
theorem dX1_fits_14 : decode cX1_fits 14 = .ok (.iaload, 1) := by decide +kernel
theorem dX1_fits_15 : decode cX1_fits 15 = .ok (.iload_n 2, 1) := by decide +kernel
theorem dX1_fits_16 : decode cX1_fits 16 = .ok (.iand, 1) := by decide +kernel
theorem dX1_fits_17 : decode cX1_fits 17 = .ok (.iload_n 2, 1) := by decide +kernel
theorem dX1_fits_18 : decode cX1_fits 18 = .ok (.if_icmp .ne 18, 3) := by decide +kernel
theorem dX1_fits_21 : decode cX1_fits 21 = .ok (.aload_n 0, 1) := by decide +kernel
theorem dX1_fits_22 : decode cX1_fits 22 = .ok (.getfield 13, 3) := by decide +kernel
theorem dX1_fits_25 : decode cX1_fits 25 = .ok (.iload_n 1, 1) := by decide +kernel
theorem dX1_fits_26 : decode cX1_fits 26 = .ok (.iaload, 1) := by decide +kernel
theorem dX1_fits_27 : decode cX1_fits 27 = .ok (.iload_n 3, 1) := by decide +kernel
theorem dX1_fits_28 : decode cX1_fits 28 = .ok (.iand, 1) := by decide +kernel
theorem dX1_fits_29 : decode cX1_fits 29 = .ok (.ifCond .ne 7, 3) := by decide +kernel
theorem dX1_fits_32 : decode cX1_fits 32 = .ok (.iconst 1, 1) := by decide +kernel
theorem dX1_fits_33 : decode cX1_fits 33 = .ok (.goto 4, 3) := by decide +kernel
theorem dX1_fits_36 : decode cX1_fits 36 = .ok (.iconst 0, 1) := by decide +kernel
theorem dX1_fits_37 : decode cX1_fits 37 = .ok (.ireturn, 1) := by decide +kernel
abbrev cX1_next : ByteArray := prog_3_method_15_code
def yX1_next : MethodName := ⟨RX1, "next", "(III)I"⟩
theorem dX1_next_0 : decode cX1_next 0 = .ok (.aload_n 0, 1) := by decide +kernel
theorem dX1_next_1 : decode cX1_next 1 = .ok (.iload_n 1, 1) := by decide +kernel
theorem dX1_next_2 : decode cX1_next 2 = .ok (.invokevirtual 38, 3) := by decide +kernel
theorem dX1_next_5 : decode cX1_next 5 = .ok (.ifCond .eq 11, 3) := by decide +kernel
theorem dX1_next_8 : decode cX1_next 8 = .ok (.aload_n 0, 1) := by decide +kernel
theorem dX1_next_9 : decode cX1_next 9 = .ok (.iload_n 2, 1) := by decide +kernel
theorem dX1_next_10 : decode cX1_next 10 = .ok (.invokevirtual 38, 3) := by decide +kernel
theorem dX1_next_13 : decode cX1_next 13 = .ok (.ifCond .ne 5, 3) := by decide +kernel
theorem dX1_next_16 : decode cX1_next 16 = .ok (.iconst (-1), 1) := by decide +kernel
theorem dX1_next_17 : decode cX1_next 17 = .ok (.ireturn, 1) := by decide +kernel
theorem dX1_next_18 : decode cX1_next 18 = .ok (.iconst 0, 1) := by decide +kernel
theorem dX1_next_19 : decode cX1_next 19 = .ok (.istore 4, 2) := by decide +kernel
theorem dX1_next_21 : decode cX1_next 21 = .ok (.iload 4, 2) := by decide +kernel
theorem dX1_next_23 : decode cX1_next 23 = .ok (.bipush 24, 2) := by decide +kernel
theorem dX1_next_25 : decode cX1_next 25 = .ok (.if_icmp .ge 29, 3) := by decide +kernel
theorem dX1_next_28 : decode cX1_next 28 = .ok (.iload 4, 2) := by decide +kernel
theorem dX1_next_30 : decode cX1_next 30 = .ok (.iload_n 3, 1) := by decide +kernel
theorem dX1_next_31 : decode cX1_next 31 = .ok (.if_icmp .lt 17, 3) := by decide +kernel
theorem dX1_next_34 : decode cX1_next 34 = .ok (.aload_n 0, 1) := by decide +kernel
theorem dX1_next_35 : decode cX1_next 35 = .ok (.iload 4, 2) := by decide +kernel
theorem dX1_next_37 : decode cX1_next 37 = .ok (.iload_n 1, 1) := by decide +kernel
theorem dX1_next_38 : decode cX1_next 38 = .ok (.iload_n 2, 1) := by decide +kernel
theorem dX1_next_39 : decode cX1_next 39 = .ok (.invokevirtual 56, 3) := by decide +kernel
theorem dX1_next_42 : decode cX1_next 42 = .ok (.ifCond .eq 6, 3) := by decide +kernel
theorem dX1_next_45 : decode cX1_next 45 = .ok (.iload 4, 2) := by decide +kernel
theorem dX1_next_47 : decode cX1_next 47 = .ok (.ireturn, 1) := by decide +kernel
theorem dX1_next_48 : decode cX1_next 48 = .ok (.iinc 4 1, 3) := by decide +kernel
theorem dX1_next_51 : decode cX1_next 51 = .ok (.goto (-30), 3) := by decide +kernel
theorem dX1_next_54 : decode cX1_next 54 = .ok (.bipush (-4), 2) := by decide +kernel
theorem dX1_next_56 : decode cX1_next 56 = .ok (.ireturn, 1) := by decide +kernel
abbrev cX1_sum : ByteArray := prog_3_method_16_code
def yX1_sum : MethodName := ⟨RX1, "sum", "(III)I"⟩
theorem dX1_sum_0 : decode cX1_sum 0 = .ok (.aload_n 0, 1) := by decide +kernel
theorem dX1_sum_1 : decode cX1_sum 1 = .ok (.iload_n 1, 1) := by decide +kernel
theorem dX1_sum_2 : decode cX1_sum 2 = .ok (.invokevirtual 38, 3) := by decide +kernel
theorem dX1_sum_5 : decode cX1_sum 5 = .ok (.ifCond .eq 19, 3) := by decide +kernel
theorem dX1_sum_8 : decode cX1_sum 8 = .ok (.aload_n 0, 1) := by decide +kernel
theorem dX1_sum_9 : decode cX1_sum 9 = .ok (.iload_n 2, 1) := by decide +kernel
theorem dX1_sum_10 : decode cX1_sum 10 = .ok (.invokevirtual 38, 3) := by decide +kernel
theorem dX1_sum_13 : decode cX1_sum 13 = .ok (.ifCond .eq 11, 3) := by decide +kernel
theorem dX1_sum_16 : decode cX1_sum 16 = .ok (.aload_n 0, 1) := by decide +kernel
theorem dX1_sum_17 : decode cX1_sum 17 = .ok (.iload_n 3, 1) := by decide +kernel
theorem dX1_sum_18 : decode cX1_sum 18 = .ok (.invokevirtual 45, 3) := by decide +kernel
theorem dX1_sum_21 : decode cX1_sum 21 = .ok (.ifCond .ne 5, 3) := by decide +kernel
theorem dX1_sum_24 : decode cX1_sum 24 = .ok (.iconst 0, 1) := by decide +kernel
theorem dX1_sum_25 : decode cX1_sum 25 = .ok (.ireturn, 1) := by decide +kernel
theorem dX1_sum_26 : decode cX1_sum 26 = .ok (.iconst 0, 1) := by decide +kernel
theorem dX1_sum_27 : decode cX1_sum 27 = .ok (.istore 4, 2) := by decide +kernel
theorem dX1_sum_29 : decode cX1_sum 29 = .ok (.iconst 0, 1) := by decide +kernel
theorem dX1_sum_30 : decode cX1_sum 30 = .ok (.istore 5, 2) := by decide +kernel
theorem dX1_sum_32 : decode cX1_sum 32 = .ok (.iload 5, 2) := by decide +kernel
theorem dX1_sum_34 : decode cX1_sum 34 = .ok (.bipush 24, 2) := by decide +kernel
theorem dX1_sum_36 : decode cX1_sum 36 = .ok (.if_icmp .ge 52, 3) := by decide +kernel
theorem dX1_sum_39 : decode cX1_sum 39 = .ok (.aload_n 0, 1) := by decide +kernel
theorem dX1_sum_40 : decode cX1_sum 40 = .ok (.iload 5, 2) := by decide +kernel
theorem dX1_sum_42 : decode cX1_sum 42 = .ok (.iload_n 1, 1) := by decide +kernel
theorem dX1_sum_43 : decode cX1_sum 43 = .ok (.iload_n 2, 1) := by decide +kernel
theorem dX1_sum_44 : decode cX1_sum 44 = .ok (.invokevirtual 56, 3) := by decide +kernel
theorem dX1_sum_47 : decode cX1_sum 47 = .ok (.ifCond .eq 35, 3) := by decide +kernel
theorem dX1_sum_50 : decode cX1_sum 50 = .ok (.aload_n 0, 1) := by decide +kernel
theorem dX1_sum_51 : decode cX1_sum 51 = .ok (.aload_n 0, 1) := by decide +kernel
theorem dX1_sum_52 : decode cX1_sum 52 = .ok (.getfield 13, 3) := by decide +kernel
theorem dX1_sum_55 : decode cX1_sum 55 = .ok (.iload 5, 2) := by decide +kernel
theorem dX1_sum_57 : decode cX1_sum 57 = .ok (.iaload, 1) := by decide +kernel
theorem dX1_sum_58 : decode cX1_sum 58 = .ok (.iload_n 3, 1) := by decide +kernel
theorem dX1_sum_59 : decode cX1_sum 59 = .ok (.invokevirtual 48, 3) := by decide +kernel
theorem dX1_sum_62 : decode cX1_sum 62 = .ok (.ifCond .eq 20, 3) := by decide +kernel
theorem dX1_sum_65 : decode cX1_sum 65 = .ok (.iload 4, 2) := by decide +kernel
theorem dX1_sum_67 : decode cX1_sum 67 = .ok (.aload_n 0, 1) := by decide +kernel
theorem dX1_sum_68 : decode cX1_sum 68 = .ok (.getfield 17, 3) := by decide +kernel
theorem dX1_sum_71 : decode cX1_sum 71 = .ok (.bipush 6, 2) := by decide +kernel
theorem dX1_sum_73 : decode cX1_sum 73 = .ok (.iload 5, 2) := by decide +kernel
theorem dX1_sum_75 : decode cX1_sum 75 = .ok (.imul, 1) := by decide +kernel
theorem dX1_sum_76 : decode cX1_sum 76 = .ok (.iload_n 3, 1) := by decide +kernel
theorem dX1_sum_77 : decode cX1_sum 77 = .ok (.iadd, 1) := by decide +kernel
theorem dX1_sum_78 : decode cX1_sum 78 = .ok (.iaload, 1) := by decide +kernel
theorem dX1_sum_79 : decode cX1_sum 79 = .ok (.iadd, 1) := by decide +kernel
theorem dX1_sum_80 : decode cX1_sum 80 = .ok (.istore 4, 2) := by decide +kernel
theorem dX1_sum_82 : decode cX1_sum 82 = .ok (.iinc 5 1, 3) := by decide +kernel
theorem dX1_sum_85 : decode cX1_sum 85 = .ok (.goto (-53), 3) := by decide +kernel
theorem dX1_sum_88 : decode cX1_sum 88 = .ok (.iload 4, 2) := by decide +kernel
theorem dX1_sum_90 : decode cX1_sum 90 = .ok (.ireturn, 1) := by decide +kernel
end
section
set_option maxRecDepth 100000
abbrev cX1_kinds : ByteArray := prog_3_method_17_code
def yX1_kinds : MethodName := ⟨RX1, "kinds", "()I"⟩
theorem dX1_kinds_0 : decode cX1_kinds 0 = .ok (.iconst 0, 1) := by decide +kernel
theorem dX1_kinds_1 : decode cX1_kinds 1 = .ok (.istore_n 1, 1) := by decide +kernel
theorem dX1_kinds_2 : decode cX1_kinds 2 = .ok (.iconst 0, 1) := by decide +kernel
theorem dX1_kinds_3 : decode cX1_kinds 3 = .ok (.istore_n 2, 1) := by decide +kernel
theorem dX1_kinds_4 : decode cX1_kinds 4 = .ok (.iload_n 2, 1) := by decide +kernel
theorem dX1_kinds_5 : decode cX1_kinds 5 = .ok (.bipush 64, 2) := by decide +kernel
theorem dX1_kinds_7 : decode cX1_kinds 7 = .ok (.if_icmp .ge 70, 3) := by decide +kernel
theorem dX1_kinds_10 : decode cX1_kinds 10 = .ok (.iconst 0, 1) := by decide +kernel
theorem dX1_kinds_11 : decode cX1_kinds 11 = .ok (.istore_n 3, 1) := by decide +kernel
theorem dX1_kinds_12 : decode cX1_kinds 12 = .ok (.iconst 0, 1) := by decide +kernel
theorem dX1_kinds_13 : decode cX1_kinds 13 = .ok (.istore 4, 2) := by decide +kernel
theorem dX1_kinds_15 : decode cX1_kinds 15 = .ok (.iload 4, 2) := by decide +kernel
theorem dX1_kinds_17 : decode cX1_kinds 17 = .ok (.bipush 24, 2) := by decide +kernel
theorem dX1_kinds_19 : decode cX1_kinds 19 = .ok (.if_icmp .ge 40, 3) := by decide +kernel
theorem dX1_kinds_22 : decode cX1_kinds 22 = .ok (.iload_n 3, 1) := by decide +kernel
theorem dX1_kinds_23 : decode cX1_kinds 23 = .ok (.ifCond .ne 24, 3) := by decide +kernel
theorem dX1_kinds_26 : decode cX1_kinds 26 = .ok (.aload_n 0, 1) := by decide +kernel
theorem dX1_kinds_27 : decode cX1_kinds 27 = .ok (.getfield 7, 3) := by decide +kernel
theorem dX1_kinds_30 : decode cX1_kinds 30 = .ok (.iload 4, 2) := by decide +kernel
theorem dX1_kinds_32 : decode cX1_kinds 32 = .ok (.baload, 1) := by decide +kernel
theorem dX1_kinds_33 : decode cX1_kinds 33 = .ok (.ifCond .eq 18, 3) := by decide +kernel
theorem dX1_kinds_36 : decode cX1_kinds 36 = .ok (.aload_n 0, 1) := by decide +kernel
theorem dX1_kinds_37 : decode cX1_kinds 37 = .ok (.getfield 13, 3) := by decide +kernel
theorem dX1_kinds_40 : decode cX1_kinds 40 = .ok (.iload 4, 2) := by decide +kernel
theorem dX1_kinds_42 : decode cX1_kinds 42 = .ok (.iaload, 1) := by decide +kernel
theorem dX1_kinds_43 : decode cX1_kinds 43 = .ok (.iload_n 2, 1) := by decide +kernel
theorem dX1_kinds_44 : decode cX1_kinds 44 = .ok (.if_icmp .ne 7, 3) := by decide +kernel
theorem dX1_kinds_47 : decode cX1_kinds 47 = .ok (.iconst 1, 1) := by decide +kernel
theorem dX1_kinds_48 : decode cX1_kinds 48 = .ok (.goto 4, 3) := by decide +kernel
theorem dX1_kinds_51 : decode cX1_kinds 51 = .ok (.iconst 0, 1) := by decide +kernel
theorem dX1_kinds_52 : decode cX1_kinds 52 = .ok (.istore_n 3, 1) := by decide +kernel
theorem dX1_kinds_53 : decode cX1_kinds 53 = .ok (.iinc 4 1, 3) := by decide +kernel
theorem dX1_kinds_56 : decode cX1_kinds 56 = .ok (.goto (-41), 3) := by decide +kernel
theorem dX1_kinds_59 : decode cX1_kinds 59 = .ok (.iload_n 3, 1) := by decide +kernel
theorem dX1_kinds_60 : decode cX1_kinds 60 = .ok (.ifCond .eq 9, 3) := by decide +kernel
theorem dX1_kinds_63 : decode cX1_kinds 63 = .ok (.iload_n 1, 1) := by decide +kernel
theorem dX1_kinds_64 : decode cX1_kinds 64 = .ok (.iconst 1, 1) := by decide +kernel
theorem dX1_kinds_65 : decode cX1_kinds 65 = .ok (.iadd, 1) := by decide +kernel
theorem dX1_kinds_66 : decode cX1_kinds 66 = .ok (.goto 4, 3) := by decide +kernel
theorem dX1_kinds_69 : decode cX1_kinds 69 = .ok (.iload_n 1, 1) := by decide +kernel
theorem dX1_kinds_70 : decode cX1_kinds 70 = .ok (.istore_n 1, 1) := by decide +kernel
theorem dX1_kinds_71 : decode cX1_kinds 71 = .ok (.iinc 2 1, 3) := by decide +kernel
theorem dX1_kinds_74 : decode cX1_kinds 74 = .ok (.goto (-70), 3) := by decide +kernel
theorem dX1_kinds_77 : decode cX1_kinds 77 = .ok (.iload_n 1, 1) := by decide +kernel
theorem dX1_kinds_78 : decode cX1_kinds 78 = .ok (.ireturn, 1) := by decide +kernel
abbrev cX1_system : ByteArray := prog_3_method_18_code
def yX1_system : MethodName := ⟨RX1, "system", "(II)I"⟩
theorem dX1_system_0 : decode cX1_system 0 = .ok (.iload_n 1, 1) := by decide +kernel
theorem dX1_system_1 : decode cX1_system 1 = .ok (.ifCond .lt 14, 3) := by decide +kernel
theorem dX1_system_4 : decode cX1_system 4 = .ok (.iload_n 1, 1) := by decide +kernel
theorem dX1_system_5 : decode cX1_system 5 = .ok (.sipush 4095, 3) := by decide +kernel
theorem dX1_system_8 : decode cX1_system 8 = .ok (.if_icmp .gt 7, 3) := by decide +kernel
theorem dX1_system_11 : decode cX1_system 11 = .ok (.iload_n 2, 1) := by decide +kernel
theorem dX1_system_12 : decode cX1_system 12 = .ok (.ifCond .ge 5, 3) := by decide +kernel
theorem dX1_system_15 : decode cX1_system 15 = .ok (.iconst (-1), 1) := by decide +kernel
theorem dX1_system_16 : decode cX1_system 16 = .ok (.ireturn, 1) := by decide +kernel
theorem dX1_system_17 : decode cX1_system 17 = .ok (.iload_n 2, 1) := by decide +kernel
theorem dX1_system_18 : decode cX1_system 18 = .ok (.bipush 8, 2) := by decide +kernel
theorem dX1_system_20 : decode cX1_system 20 = .ok (.irem, 1) := by decide +kernel
theorem dX1_system_21 : decode cX1_system 21 = .ok (.istore_n 3, 1) := by decide +kernel
theorem dX1_system_22 : decode cX1_system 22 = .ok (.iload_n 2, 1) := by decide +kernel
theorem dX1_system_23 : decode cX1_system 23 = .ok (.bipush 8, 2) := by decide +kernel
theorem dX1_system_25 : decode cX1_system 25 = .ok (.idiv, 1) := by decide +kernel
theorem dX1_system_26 : decode cX1_system 26 = .ok (.bipush 8, 2) := by decide +kernel
theorem dX1_system_28 : decode cX1_system 28 = .ok (.irem, 1) := by decide +kernel
theorem dX1_system_29 : decode cX1_system 29 = .ok (.istore 4, 2) := by decide +kernel
theorem dX1_system_31 : decode cX1_system 31 = .ok (.iload_n 2, 1) := by decide +kernel
theorem dX1_system_32 : decode cX1_system 32 = .ok (.bipush 64, 2) := by decide +kernel
theorem dX1_system_34 : decode cX1_system 34 = .ok (.idiv, 1) := by decide +kernel
theorem dX1_system_35 : decode cX1_system 35 = .ok (.istore 5, 2) := by decide +kernel
theorem dX1_system_37 : decode cX1_system 37 = .ok (.iload_n 3, 1) := by decide +kernel
theorem dX1_system_38 : decode cX1_system 38 = .ok (.iconst 4, 1) := by decide +kernel
theorem dX1_system_39 : decode cX1_system 39 = .ok (.if_icmp .gt 35, 3) := by decide +kernel
theorem dX1_system_42 : decode cX1_system 42 = .ok (.iload 4, 2) := by decide +kernel
theorem dX1_system_44 : decode cX1_system 44 = .ok (.iconst 5, 1) := by decide +kernel
theorem dX1_system_45 : decode cX1_system 45 = .ok (.if_icmp .gt 29, 3) := by decide +kernel
theorem dX1_system_48 : decode cX1_system 48 = .ok (.iload 5, 2) := by decide +kernel
theorem dX1_system_50 : decode cX1_system 50 = .ok (.iconst 5, 1) := by decide +kernel
theorem dX1_system_51 : decode cX1_system 51 = .ok (.if_icmp .gt 23, 3) := by decide +kernel
theorem dX1_system_54 : decode cX1_system 54 = .ok (.aload_n 0, 1) := by decide +kernel
theorem dX1_system_55 : decode cX1_system 55 = .ok (.iload_n 1, 1) := by decide +kernel
theorem dX1_system_56 : decode cX1_system 56 = .ok (.iload 4, 2) := by decide +kernel
theorem dX1_system_58 : decode cX1_system 58 = .ok (.invokevirtual 48, 3) := by decide +kernel
theorem dX1_system_61 : decode cX1_system 61 = .ok (.ifCond .eq 13, 3) := by decide +kernel
theorem dX1_system_64 : decode cX1_system 64 = .ok (.aload_n 0, 1) := by decide +kernel
theorem dX1_system_65 : decode cX1_system 65 = .ok (.iload_n 1, 1) := by decide +kernel
theorem dX1_system_66 : decode cX1_system 66 = .ok (.iload 5, 2) := by decide +kernel
theorem dX1_system_68 : decode cX1_system 68 = .ok (.invokevirtual 48, 3) := by decide +kernel
theorem dX1_system_71 : decode cX1_system 71 = .ok (.ifCond .ne 5, 3) := by decide +kernel
theorem dX1_system_74 : decode cX1_system 74 = .ok (.iconst (-1), 1) := by decide +kernel
theorem dX1_system_75 : decode cX1_system 75 = .ok (.ireturn, 1) := by decide +kernel
theorem dX1_system_76 : decode cX1_system 76 = .ok (.aload_n 0, 1) := by decide +kernel
theorem dX1_system_77 : decode cX1_system 77 = .ok (.getfield 60, 3) := by decide +kernel
theorem dX1_system_80 : decode cX1_system 80 = .ok (.bipush 8, 2) := by decide +kernel
theorem dX1_system_82 : decode cX1_system 82 = .ok (.if_icmp .ne 6, 3) := by decide +kernel
theorem dX1_system_85 : decode cX1_system 85 = .ok (.bipush (-2), 2) := by decide +kernel
theorem dX1_system_87 : decode cX1_system 87 = .ok (.ireturn, 1) := by decide +kernel
theorem dX1_system_88 : decode cX1_system 88 = .ok (.aload_n 0, 1) := by decide +kernel
theorem dX1_system_89 : decode cX1_system 89 = .ok (.getfield 20, 3) := by decide +kernel
theorem dX1_system_92 : decode cX1_system 92 = .ok (.aload_n 0, 1) := by decide +kernel
theorem dX1_system_93 : decode cX1_system 93 = .ok (.getfield 60, 3) := by decide +kernel
theorem dX1_system_96 : decode cX1_system 96 = .ok (.iload_n 1, 1) := by decide +kernel
theorem dX1_system_97 : decode cX1_system 97 = .ok (.bipush 64, 2) := by decide +kernel
theorem dX1_system_99 : decode cX1_system 99 = .ok (.irem, 1) := by decide +kernel
theorem dX1_system_100 : decode cX1_system 100 = .ok (.iastore, 1) := by decide +kernel
theorem dX1_system_101 : decode cX1_system 101 = .ok (.aload_n 0, 1) := by decide +kernel
theorem dX1_system_102 : decode cX1_system 102 = .ok (.getfield 23, 3) := by decide +kernel
theorem dX1_system_105 : decode cX1_system 105 = .ok (.aload_n 0, 1) := by decide +kernel
theorem dX1_system_106 : decode cX1_system 106 = .ok (.getfield 60, 3) := by decide +kernel
theorem dX1_system_109 : decode cX1_system 109 = .ok (.iload_n 1, 1) := by decide +kernel
theorem dX1_system_110 : decode cX1_system 110 = .ok (.bipush 64, 2) := by decide +kernel
theorem dX1_system_112 : decode cX1_system 112 = .ok (.idiv, 1) := by decide +kernel
theorem dX1_system_113 : decode cX1_system 113 = .ok (.iastore, 1) := by decide +kernel
theorem dX1_system_114 : decode cX1_system 114 = .ok (.aload_n 0, 1) := by decide +kernel
theorem dX1_system_115 : decode cX1_system 115 = .ok (.getfield 26, 3) := by decide +kernel
theorem dX1_system_118 : decode cX1_system 118 = .ok (.aload_n 0, 1) := by decide +kernel
theorem dX1_system_119 : decode cX1_system 119 = .ok (.getfield 60, 3) := by decide +kernel
theorem dX1_system_122 : decode cX1_system 122 = .ok (.iload_n 3, 1) := by decide +kernel
theorem dX1_system_123 : decode cX1_system 123 = .ok (.iastore, 1) := by decide +kernel
theorem dX1_system_124 : decode cX1_system 124 = .ok (.aload_n 0, 1) := by decide +kernel
theorem dX1_system_125 : decode cX1_system 125 = .ok (.getfield 29, 3) := by decide +kernel
theorem dX1_system_128 : decode cX1_system 128 = .ok (.aload_n 0, 1) := by decide +kernel
theorem dX1_system_129 : decode cX1_system 129 = .ok (.getfield 60, 3) := by decide +kernel
theorem dX1_system_132 : decode cX1_system 132 = .ok (.iload 4, 2) := by decide +kernel
theorem dX1_system_134 : decode cX1_system 134 = .ok (.iastore, 1) := by decide +kernel
theorem dX1_system_135 : decode cX1_system 135 = .ok (.aload_n 0, 1) := by decide +kernel
theorem dX1_system_136 : decode cX1_system 136 = .ok (.getfield 32, 3) := by decide +kernel
theorem dX1_system_139 : decode cX1_system 139 = .ok (.aload_n 0, 1) := by decide +kernel
theorem dX1_system_140 : decode cX1_system 140 = .ok (.getfield 60, 3) := by decide +kernel
theorem dX1_system_143 : decode cX1_system 143 = .ok (.iload 5, 2) := by decide +kernel
theorem dX1_system_145 : decode cX1_system 145 = .ok (.iastore, 1) := by decide +kernel
theorem dX1_system_146 : decode cX1_system 146 = .ok (.aload_n 0, 1) := by decide +kernel
theorem dX1_system_147 : decode cX1_system 147 = .ok (.dup, 1) := by decide +kernel
theorem dX1_system_148 : decode cX1_system 148 = .ok (.getfield 60, 3) := by decide +kernel
theorem dX1_system_151 : decode cX1_system 151 = .ok (.iconst 1, 1) := by decide +kernel
theorem dX1_system_152 : decode cX1_system 152 = .ok (.iadd, 1) := by decide +kernel
theorem dX1_system_153 : decode cX1_system 153 = .ok (.putfield 60, 3) := by decide +kernel
theorem dX1_system_156 : decode cX1_system 156 = .ok (.aload_n 0, 1) := by decide +kernel
theorem dX1_system_157 : decode cX1_system 157 = .ok (.getfield 60, 3) := by decide +kernel
theorem dX1_system_160 : decode cX1_system 160 = .ok (.iconst 1, 1) := by decide +kernel
theorem dX1_system_161 : decode cX1_system 161 = .ok (.isub, 1) := by decide +kernel
theorem dX1_system_162 : decode cX1_system 162 = .ok (.ireturn, 1) := by decide +kernel
abbrev cX1_unsystem : ByteArray := prog_3_method_19_code
def yX1_unsystem : MethodName := ⟨RX1, "unsystem", "()I"⟩
theorem dX1_unsystem_0 : decode cX1_unsystem 0 = .ok (.aload_n 0, 1) := by decide +kernel
theorem dX1_unsystem_1 : decode cX1_unsystem 1 = .ok (.getfield 60, 3) := by decide +kernel
theorem dX1_unsystem_4 : decode cX1_unsystem 4 = .ok (.ifCond .ne 6, 3) := by decide +kernel
theorem dX1_unsystem_7 : decode cX1_unsystem 7 = .ok (.bipush (-4), 2) := by decide +kernel
theorem dX1_unsystem_9 : decode cX1_unsystem 9 = .ok (.ireturn, 1) := by decide +kernel
theorem dX1_unsystem_10 : decode cX1_unsystem 10 = .ok (.aload_n 0, 1) := by decide +kernel
theorem dX1_unsystem_11 : decode cX1_unsystem 11 = .ok (.dup, 1) := by decide +kernel
theorem dX1_unsystem_12 : decode cX1_unsystem 12 = .ok (.getfield 60, 3) := by decide +kernel
theorem dX1_unsystem_15 : decode cX1_unsystem 15 = .ok (.iconst 1, 1) := by decide +kernel
theorem dX1_unsystem_16 : decode cX1_unsystem 16 = .ok (.isub, 1) := by decide +kernel
theorem dX1_unsystem_17 : decode cX1_unsystem 17 = .ok (.putfield 60, 3) := by decide +kernel
theorem dX1_unsystem_20 : decode cX1_unsystem 20 = .ok (.aload_n 0, 1) := by decide +kernel
theorem dX1_unsystem_21 : decode cX1_unsystem 21 = .ok (.getfield 60, 3) := by decide +kernel
theorem dX1_unsystem_24 : decode cX1_unsystem 24 = .ok (.ireturn, 1) := by decide +kernel
abbrev cX1_stage : ByteArray := prog_3_method_22_code
def yX1_stage : MethodName := ⟨RX1, "stage", "(I)I"⟩
theorem dX1_stage_0 : decode cX1_stage 0 = .ok (.aload_n 0, 1) := by decide +kernel
theorem dX1_stage_1 : decode cX1_stage 1 = .ok (.invokevirtual 67, 3) := by decide +kernel
theorem dX1_stage_4 : decode cX1_stage 4 = .ok (.iload_n 1, 1) := by decide +kernel
theorem dX1_stage_5 : decode cX1_stage 5 = .ok (.ifCond .lt 20, 3) := by decide +kernel
theorem dX1_stage_8 : decode cX1_stage 8 = .ok (.iload_n 1, 1) := by decide +kernel
theorem dX1_stage_9 : decode cX1_stage 9 = .ok (.aload_n 0, 1) := by decide +kernel
theorem dX1_stage_10 : decode cX1_stage 10 = .ok (.getfield 60, 3) := by decide +kernel
theorem dX1_stage_13 : decode cX1_stage 13 = .ok (.if_icmp .ge 12, 3) := by decide +kernel
theorem dX1_stage_16 : decode cX1_stage 16 = .ok (.aload_n 0, 1) := by decide +kernel
theorem dX1_stage_17 : decode cX1_stage 17 = .ok (.getfield 35, 3) := by decide +kernel
theorem dX1_stage_20 : decode cX1_stage 20 = .ok (.iload_n 1, 1) := by decide +kernel
theorem dX1_stage_21 : decode cX1_stage 21 = .ok (.iaload, 1) := by decide +kernel
theorem dX1_stage_22 : decode cX1_stage 22 = .ok (.goto 5, 3) := by decide +kernel
theorem dX1_stage_25 : decode cX1_stage 25 = .ok (.bipush (-4), 2) := by decide +kernel
theorem dX1_stage_27 : decode cX1_stage 27 = .ok (.ireturn, 1) := by decide +kernel
abbrev cX1_layStages : ByteArray := prog_3_method_21_code
def yX1_layStages : MethodName := ⟨RX1, "layStages", "()V"⟩
theorem dX1_layStages_0 : decode cX1_layStages 0 = .ok (.iconst 0, 1) := by decide +kernel
theorem dX1_layStages_1 : decode cX1_layStages 1 = .ok (.istore_n 1, 1) := by decide +kernel
theorem dX1_layStages_2 : decode cX1_layStages 2 = .ok (.iload_n 1, 1) := by decide +kernel
theorem dX1_layStages_3 : decode cX1_layStages 3 = .ok (.aload_n 0, 1) := by decide +kernel
theorem dX1_layStages_4 : decode cX1_layStages 4 = .ok (.getfield 60, 3) := by decide +kernel
theorem dX1_layStages_7 : decode cX1_layStages 7 = .ok (.if_icmp .ge 76, 3) := by decide +kernel
theorem dX1_layStages_10 : decode cX1_layStages 10 = .ok (.aload_n 0, 1) := by decide +kernel
theorem dX1_layStages_11 : decode cX1_layStages 11 = .ok (.getfield 35, 3) := by decide +kernel
theorem dX1_layStages_14 : decode cX1_layStages 14 = .ok (.iload_n 1, 1) := by decide +kernel
theorem dX1_layStages_15 : decode cX1_layStages 15 = .ok (.iconst 0, 1) := by decide +kernel
theorem dX1_layStages_16 : decode cX1_layStages 16 = .ok (.iastore, 1) := by decide +kernel
theorem dX1_layStages_17 : decode cX1_layStages 17 = .ok (.iconst 0, 1) := by decide +kernel
theorem dX1_layStages_18 : decode cX1_layStages 18 = .ok (.istore_n 2, 1) := by decide +kernel
theorem dX1_layStages_19 : decode cX1_layStages 19 = .ok (.iload_n 2, 1) := by decide +kernel
theorem dX1_layStages_20 : decode cX1_layStages 20 = .ok (.iload_n 1, 1) := by decide +kernel
theorem dX1_layStages_21 : decode cX1_layStages 21 = .ok (.if_icmp .ge 56, 3) := by decide +kernel
theorem dX1_layStages_24 : decode cX1_layStages 24 = .ok (.aload_n 0, 1) := by decide +kernel
theorem dX1_layStages_25 : decode cX1_layStages 25 = .ok (.iload_n 1, 1) := by decide +kernel
theorem dX1_layStages_26 : decode cX1_layStages 26 = .ok (.iload_n 2, 1) := by decide +kernel
theorem dX1_layStages_27 : decode cX1_layStages 27 = .ok (.invokevirtual 64, 3) := by decide +kernel
theorem dX1_layStages_30 : decode cX1_layStages 30 = .ok (.ifCond .ne 12, 3) := by decide +kernel
theorem dX1_layStages_33 : decode cX1_layStages 33 = .ok (.aload_n 0, 1) := by decide +kernel
theorem dX1_layStages_34 : decode cX1_layStages 34 = .ok (.iload_n 2, 1) := by decide +kernel
theorem dX1_layStages_35 : decode cX1_layStages 35 = .ok (.iload_n 1, 1) := by decide +kernel
theorem dX1_layStages_36 : decode cX1_layStages 36 = .ok (.invokevirtual 64, 3) := by decide +kernel
theorem dX1_layStages_39 : decode cX1_layStages 39 = .ok (.ifCond .eq 32, 3) := by decide +kernel
theorem dX1_layStages_42 : decode cX1_layStages 42 = .ok (.aload_n 0, 1) := by decide +kernel
theorem dX1_layStages_43 : decode cX1_layStages 43 = .ok (.getfield 35, 3) := by decide +kernel
theorem dX1_layStages_46 : decode cX1_layStages 46 = .ok (.iload_n 2, 1) := by decide +kernel
theorem dX1_layStages_47 : decode cX1_layStages 47 = .ok (.iaload, 1) := by decide +kernel
theorem dX1_layStages_48 : decode cX1_layStages 48 = .ok (.aload_n 0, 1) := by decide +kernel
theorem dX1_layStages_49 : decode cX1_layStages 49 = .ok (.getfield 35, 3) := by decide +kernel
theorem dX1_layStages_52 : decode cX1_layStages 52 = .ok (.iload_n 1, 1) := by decide +kernel
theorem dX1_layStages_53 : decode cX1_layStages 53 = .ok (.iaload, 1) := by decide +kernel
theorem dX1_layStages_54 : decode cX1_layStages 54 = .ok (.if_icmp .lt 17, 3) := by decide +kernel
theorem dX1_layStages_57 : decode cX1_layStages 57 = .ok (.aload_n 0, 1) := by decide +kernel
theorem dX1_layStages_58 : decode cX1_layStages 58 = .ok (.getfield 35, 3) := by decide +kernel
theorem dX1_layStages_61 : decode cX1_layStages 61 = .ok (.iload_n 1, 1) := by decide +kernel
theorem dX1_layStages_62 : decode cX1_layStages 62 = .ok (.aload_n 0, 1) := by decide +kernel
theorem dX1_layStages_63 : decode cX1_layStages 63 = .ok (.getfield 35, 3) := by decide +kernel
theorem dX1_layStages_66 : decode cX1_layStages 66 = .ok (.iload_n 2, 1) := by decide +kernel
theorem dX1_layStages_67 : decode cX1_layStages 67 = .ok (.iaload, 1) := by decide +kernel
theorem dX1_layStages_68 : decode cX1_layStages 68 = .ok (.iconst 1, 1) := by decide +kernel
theorem dX1_layStages_69 : decode cX1_layStages 69 = .ok (.iadd, 1) := by decide +kernel
theorem dX1_layStages_70 : decode cX1_layStages 70 = .ok (.iastore, 1) := by decide +kernel
theorem dX1_layStages_71 : decode cX1_layStages 71 = .ok (.iinc 2 1, 3) := by decide +kernel
theorem dX1_layStages_74 : decode cX1_layStages 74 = .ok (.goto (-55), 3) := by decide +kernel
theorem dX1_layStages_77 : decode cX1_layStages 77 = .ok (.iinc 1 1, 3) := by decide +kernel
theorem dX1_layStages_80 : decode cX1_layStages 80 = .ok (.goto (-78), 3) := by decide +kernel
theorem dX1_layStages_83 : decode cX1_layStages 83 = .ok (.return_, 1) := by decide +kernel
abbrev cX1_disturbs : ByteArray := prog_3_method_20_code
def yX1_disturbs : MethodName := ⟨RX1, "disturbs", "(II)Z"⟩
theorem dX1_disturbs_0 : decode cX1_disturbs 0 = .ok (.aload_n 0, 1) := by decide +kernel
theorem dX1_disturbs_1 : decode cX1_disturbs 1 = .ok (.getfield 29, 3) := by decide +kernel
theorem dX1_disturbs_4 : decode cX1_disturbs 4 = .ok (.iload_n 1, 1) := by decide +kernel
theorem dX1_disturbs_5 : decode cX1_disturbs 5 = .ok (.iaload, 1) := by decide +kernel
theorem dX1_disturbs_6 : decode cX1_disturbs 6 = .ok (.aload_n 0, 1) := by decide +kernel
theorem dX1_disturbs_7 : decode cX1_disturbs 7 = .ok (.getfield 29, 3) := by decide +kernel
theorem dX1_disturbs_10 : decode cX1_disturbs 10 = .ok (.iload_n 2, 1) := by decide +kernel
theorem dX1_disturbs_11 : decode cX1_disturbs 11 = .ok (.iaload, 1) := by decide +kernel
theorem dX1_disturbs_12 : decode cX1_disturbs 12 = .ok (.if_icmp .eq 18, 3) := by decide +kernel
theorem dX1_disturbs_15 : decode cX1_disturbs 15 = .ok (.aload_n 0, 1) := by decide +kernel
theorem dX1_disturbs_16 : decode cX1_disturbs 16 = .ok (.getfield 29, 3) := by decide +kernel
theorem dX1_disturbs_19 : decode cX1_disturbs 19 = .ok (.iload_n 1, 1) := by decide +kernel
theorem dX1_disturbs_20 : decode cX1_disturbs 20 = .ok (.iaload, 1) := by decide +kernel
theorem dX1_disturbs_21 : decode cX1_disturbs 21 = .ok (.aload_n 0, 1) := by decide +kernel
theorem dX1_disturbs_22 : decode cX1_disturbs 22 = .ok (.getfield 32, 3) := by decide +kernel
theorem dX1_disturbs_25 : decode cX1_disturbs 25 = .ok (.iload_n 2, 1) := by decide +kernel
theorem dX1_disturbs_26 : decode cX1_disturbs 26 = .ok (.iaload, 1) := by decide +kernel
theorem dX1_disturbs_27 : decode cX1_disturbs 27 = .ok (.if_icmp .ne 7, 3) := by decide +kernel
theorem dX1_disturbs_30 : decode cX1_disturbs 30 = .ok (.iconst 1, 1) := by decide +kernel
theorem dX1_disturbs_31 : decode cX1_disturbs 31 = .ok (.goto 4, 3) := by decide +kernel
theorem dX1_disturbs_34 : decode cX1_disturbs 34 = .ok (.iconst 0, 1) := by decide +kernel
theorem dX1_disturbs_35 : decode cX1_disturbs 35 = .ok (.ireturn, 1) := by decide +kernel
abbrev cX1_stages : ByteArray := prog_3_method_23_code
def yX1_stages : MethodName := ⟨RX1, "stages", "()I"⟩
theorem dX1_stages_0 : decode cX1_stages 0 = .ok (.aload_n 0, 1) := by decide +kernel
theorem dX1_stages_1 : decode cX1_stages 1 = .ok (.invokevirtual 67, 3) := by decide +kernel
theorem dX1_stages_4 : decode cX1_stages 4 = .ok (.iconst 0, 1) := by decide +kernel
theorem dX1_stages_5 : decode cX1_stages 5 = .ok (.istore_n 1, 1) := by decide +kernel
theorem dX1_stages_6 : decode cX1_stages 6 = .ok (.iconst 0, 1) := by decide +kernel
theorem dX1_stages_7 : decode cX1_stages 7 = .ok (.istore_n 2, 1) := by decide +kernel
theorem dX1_stages_8 : decode cX1_stages 8 = .ok (.iload_n 2, 1) := by decide +kernel
theorem dX1_stages_9 : decode cX1_stages 9 = .ok (.aload_n 0, 1) := by decide +kernel
theorem dX1_stages_10 : decode cX1_stages 10 = .ok (.getfield 60, 3) := by decide +kernel
theorem dX1_stages_13 : decode cX1_stages 13 = .ok (.if_icmp .ge 34, 3) := by decide +kernel
theorem dX1_stages_16 : decode cX1_stages 16 = .ok (.aload_n 0, 1) := by decide +kernel
theorem dX1_stages_17 : decode cX1_stages 17 = .ok (.getfield 35, 3) := by decide +kernel
theorem dX1_stages_20 : decode cX1_stages 20 = .ok (.iload_n 2, 1) := by decide +kernel
theorem dX1_stages_21 : decode cX1_stages 21 = .ok (.iaload, 1) := by decide +kernel
theorem dX1_stages_22 : decode cX1_stages 22 = .ok (.iconst 1, 1) := by decide +kernel
theorem dX1_stages_23 : decode cX1_stages 23 = .ok (.iadd, 1) := by decide +kernel
theorem dX1_stages_24 : decode cX1_stages 24 = .ok (.iload_n 1, 1) := by decide +kernel
theorem dX1_stages_25 : decode cX1_stages 25 = .ok (.if_icmp .le 14, 3) := by decide +kernel
theorem dX1_stages_28 : decode cX1_stages 28 = .ok (.aload_n 0, 1) := by decide +kernel
theorem dX1_stages_29 : decode cX1_stages 29 = .ok (.getfield 35, 3) := by decide +kernel
theorem dX1_stages_32 : decode cX1_stages 32 = .ok (.iload_n 2, 1) := by decide +kernel
theorem dX1_stages_33 : decode cX1_stages 33 = .ok (.iaload, 1) := by decide +kernel
theorem dX1_stages_34 : decode cX1_stages 34 = .ok (.iconst 1, 1) := by decide +kernel
theorem dX1_stages_35 : decode cX1_stages 35 = .ok (.iadd, 1) := by decide +kernel
theorem dX1_stages_36 : decode cX1_stages 36 = .ok (.goto 4, 3) := by decide +kernel
theorem dX1_stages_39 : decode cX1_stages 39 = .ok (.iload_n 1, 1) := by decide +kernel
theorem dX1_stages_40 : decode cX1_stages 40 = .ok (.istore_n 1, 1) := by decide +kernel
theorem dX1_stages_41 : decode cX1_stages 41 = .ok (.iinc 2 1, 3) := by decide +kernel
theorem dX1_stages_44 : decode cX1_stages 44 = .ok (.goto (-36), 3) := by decide +kernel
theorem dX1_stages_47 : decode cX1_stages 47 = .ok (.iload_n 1, 1) := by decide +kernel
theorem dX1_stages_48 : decode cX1_stages 48 = .ok (.ireturn, 1) := by decide +kernel
abbrev cX1_frame : ByteArray := prog_3_method_27_code
def yX1_frame : MethodName := ⟨RX1, "frame", "(I)I"⟩
theorem dX1_frame_0 : decode cX1_frame 0 = .ok (.aload_n 0, 1) := by decide +kernel
theorem dX1_frame_1 : decode cX1_frame 1 = .ok (.invokevirtual 67, 3) := by decide +kernel
theorem dX1_frame_4 : decode cX1_frame 4 = .ok (.iconst 0, 1) := by decide +kernel
theorem dX1_frame_5 : decode cX1_frame 5 = .ok (.istore_n 2, 1) := by decide +kernel
theorem dX1_frame_6 : decode cX1_frame 6 = .ok (.iconst 0, 1) := by decide +kernel
theorem dX1_frame_7 : decode cX1_frame 7 = .ok (.istore_n 3, 1) := by decide +kernel
theorem dX1_frame_8 : decode cX1_frame 8 = .ok (.iload_n 3, 1) := by decide +kernel
theorem dX1_frame_9 : decode cX1_frame 9 = .ok (.bipush 10, 2) := by decide +kernel
theorem dX1_frame_11 : decode cX1_frame 11 = .ok (.if_icmp .ge 21, 3) := by decide +kernel
theorem dX1_frame_14 : decode cX1_frame 14 = .ok (.iload_n 3, 1) := by decide +kernel
theorem dX1_frame_15 : decode cX1_frame 15 = .ok (.iload_n 1, 1) := by decide +kernel
theorem dX1_frame_16 : decode cX1_frame 16 = .ok (.if_icmp .ge 16, 3) := by decide +kernel
theorem dX1_frame_19 : decode cX1_frame 19 = .ok (.iload_n 2, 1) := by decide +kernel
theorem dX1_frame_20 : decode cX1_frame 20 = .ok (.aload_n 0, 1) := by decide +kernel
theorem dX1_frame_21 : decode cX1_frame 21 = .ok (.invokevirtual 78, 3) := by decide +kernel
theorem dX1_frame_24 : decode cX1_frame 24 = .ok (.iadd, 1) := by decide +kernel
theorem dX1_frame_25 : decode cX1_frame 25 = .ok (.istore_n 2, 1) := by decide +kernel
theorem dX1_frame_26 : decode cX1_frame 26 = .ok (.iinc 3 1, 3) := by decide +kernel
theorem dX1_frame_29 : decode cX1_frame 29 = .ok (.goto (-21), 3) := by decide +kernel
theorem dX1_frame_32 : decode cX1_frame 32 = .ok (.iload_n 2, 1) := by decide +kernel
theorem dX1_frame_33 : decode cX1_frame 33 = .ok (.ireturn, 1) := by decide +kernel
abbrev cX1_runFrame : ByteArray := prog_3_method_26_code
def yX1_runFrame : MethodName := ⟨RX1, "runFrame", "()I"⟩
theorem dX1_runFrame_0 : decode cX1_runFrame 0 = .ok (.iconst 0, 1) := by decide +kernel
theorem dX1_runFrame_1 : decode cX1_runFrame 1 = .ok (.istore_n 1, 1) := by decide +kernel
theorem dX1_runFrame_2 : decode cX1_runFrame 2 = .ok (.iconst 0, 1) := by decide +kernel
theorem dX1_runFrame_3 : decode cX1_runFrame 3 = .ok (.istore_n 2, 1) := by decide +kernel
theorem dX1_runFrame_4 : decode cX1_runFrame 4 = .ok (.iload_n 2, 1) := by decide +kernel
theorem dX1_runFrame_5 : decode cX1_runFrame 5 = .ok (.bipush 8, 2) := by decide +kernel
theorem dX1_runFrame_7 : decode cX1_runFrame 7 = .ok (.if_icmp .ge 47, 3) := by decide +kernel
theorem dX1_runFrame_10 : decode cX1_runFrame 10 = .ok (.iconst 0, 1) := by decide +kernel
theorem dX1_runFrame_11 : decode cX1_runFrame 11 = .ok (.istore_n 3, 1) := by decide +kernel
theorem dX1_runFrame_12 : decode cX1_runFrame 12 = .ok (.iload_n 3, 1) := by decide +kernel
theorem dX1_runFrame_13 : decode cX1_runFrame 13 = .ok (.aload_n 0, 1) := by decide +kernel
theorem dX1_runFrame_14 : decode cX1_runFrame 14 = .ok (.getfield 60, 3) := by decide +kernel
theorem dX1_runFrame_17 : decode cX1_runFrame 17 = .ok (.if_icmp .ge 31, 3) := by decide +kernel
theorem dX1_runFrame_20 : decode cX1_runFrame 20 = .ok (.aload_n 0, 1) := by decide +kernel
theorem dX1_runFrame_21 : decode cX1_runFrame 21 = .ok (.getfield 35, 3) := by decide +kernel
theorem dX1_runFrame_24 : decode cX1_runFrame 24 = .ok (.iload_n 3, 1) := by decide +kernel
theorem dX1_runFrame_25 : decode cX1_runFrame 25 = .ok (.iaload, 1) := by decide +kernel
theorem dX1_runFrame_26 : decode cX1_runFrame 26 = .ok (.iload_n 2, 1) := by decide +kernel
theorem dX1_runFrame_27 : decode cX1_runFrame 27 = .ok (.if_icmp .ne 13, 3) := by decide +kernel
theorem dX1_runFrame_30 : decode cX1_runFrame 30 = .ok (.iload_n 1, 1) := by decide +kernel
theorem dX1_runFrame_31 : decode cX1_runFrame 31 = .ok (.aload_n 0, 1) := by decide +kernel
theorem dX1_runFrame_32 : decode cX1_runFrame 32 = .ok (.iload_n 3, 1) := by decide +kernel
theorem dX1_runFrame_33 : decode cX1_runFrame 33 = .ok (.invokevirtual 74, 3) := by decide +kernel
theorem dX1_runFrame_36 : decode cX1_runFrame 36 = .ok (.iadd, 1) := by decide +kernel
theorem dX1_runFrame_37 : decode cX1_runFrame 37 = .ok (.goto 4, 3) := by decide +kernel
theorem dX1_runFrame_40 : decode cX1_runFrame 40 = .ok (.iload_n 1, 1) := by decide +kernel
theorem dX1_runFrame_41 : decode cX1_runFrame 41 = .ok (.istore_n 1, 1) := by decide +kernel
theorem dX1_runFrame_42 : decode cX1_runFrame 42 = .ok (.iinc 3 1, 3) := by decide +kernel
theorem dX1_runFrame_45 : decode cX1_runFrame 45 = .ok (.goto (-33), 3) := by decide +kernel
theorem dX1_runFrame_48 : decode cX1_runFrame 48 = .ok (.iinc 2 1, 3) := by decide +kernel
theorem dX1_runFrame_51 : decode cX1_runFrame 51 = .ok (.goto (-47), 3) := by decide +kernel
theorem dX1_runFrame_54 : decode cX1_runFrame 54 = .ok (.iload_n 1, 1) := by decide +kernel
theorem dX1_runFrame_55 : decode cX1_runFrame 55 = .ok (.ireturn, 1) := by decide +kernel
abbrev cX1_runSystem : ByteArray := prog_3_method_25_code
def yX1_runSystem : MethodName := ⟨RX1, "runSystem", "(I)I"⟩
theorem dX1_runSystem_0 : decode cX1_runSystem 0 = .ok (.iconst 0, 1) := by decide +kernel
theorem dX1_runSystem_1 : decode cX1_runSystem 1 = .ok (.istore_n 2, 1) := by decide +kernel
theorem dX1_runSystem_2 : decode cX1_runSystem 2 = .ok (.iconst 0, 1) := by decide +kernel
theorem dX1_runSystem_3 : decode cX1_runSystem 3 = .ok (.istore_n 3, 1) := by decide +kernel
theorem dX1_runSystem_4 : decode cX1_runSystem 4 = .ok (.iload_n 3, 1) := by decide +kernel
theorem dX1_runSystem_5 : decode cX1_runSystem 5 = .ok (.bipush 24, 2) := by decide +kernel
theorem dX1_runSystem_7 : decode cX1_runSystem 7 = .ok (.if_icmp .ge 38, 3) := by decide +kernel
theorem dX1_runSystem_10 : decode cX1_runSystem 10 = .ok (.aload_n 0, 1) := by decide +kernel
theorem dX1_runSystem_11 : decode cX1_runSystem 11 = .ok (.iload_n 3, 1) := by decide +kernel
theorem dX1_runSystem_12 : decode cX1_runSystem 12 = .ok (.aload_n 0, 1) := by decide +kernel
theorem dX1_runSystem_13 : decode cX1_runSystem 13 = .ok (.getfield 20, 3) := by decide +kernel
theorem dX1_runSystem_16 : decode cX1_runSystem 16 = .ok (.iload_n 1, 1) := by decide +kernel
theorem dX1_runSystem_17 : decode cX1_runSystem 17 = .ok (.iaload, 1) := by decide +kernel
theorem dX1_runSystem_18 : decode cX1_runSystem 18 = .ok (.aload_n 0, 1) := by decide +kernel
theorem dX1_runSystem_19 : decode cX1_runSystem 19 = .ok (.getfield 23, 3) := by decide +kernel
theorem dX1_runSystem_22 : decode cX1_runSystem 22 = .ok (.iload_n 1, 1) := by decide +kernel
theorem dX1_runSystem_23 : decode cX1_runSystem 23 = .ok (.iaload, 1) := by decide +kernel
theorem dX1_runSystem_24 : decode cX1_runSystem 24 = .ok (.invokevirtual 56, 3) := by decide +kernel
theorem dX1_runSystem_27 : decode cX1_runSystem 27 = .ok (.ifCond .eq 12, 3) := by decide +kernel
theorem dX1_runSystem_30 : decode cX1_runSystem 30 = .ok (.aload_n 0, 1) := by decide +kernel
theorem dX1_runSystem_31 : decode cX1_runSystem 31 = .ok (.iload_n 1, 1) := by decide +kernel
theorem dX1_runSystem_32 : decode cX1_runSystem 32 = .ok (.iload_n 3, 1) := by decide +kernel
theorem dX1_runSystem_33 : decode cX1_runSystem 33 = .ok (.invokevirtual 70, 3) := by decide +kernel
theorem dX1_runSystem_36 : decode cX1_runSystem 36 = .ok (.iinc 2 1, 3) := by decide +kernel
theorem dX1_runSystem_39 : decode cX1_runSystem 39 = .ok (.iinc 3 1, 3) := by decide +kernel
theorem dX1_runSystem_42 : decode cX1_runSystem 42 = .ok (.goto (-38), 3) := by decide +kernel
theorem dX1_runSystem_45 : decode cX1_runSystem 45 = .ok (.iload_n 2, 1) := by decide +kernel
theorem dX1_runSystem_46 : decode cX1_runSystem 46 = .ok (.ireturn, 1) := by decide +kernel
abbrev cX1_work : ByteArray := prog_3_method_24_code
def yX1_work : MethodName := ⟨RX1, "work", "(II)V"⟩
theorem dX1_work_0 : decode cX1_work 0 = .ok (.bipush 6, 2) := by decide +kernel
theorem dX1_work_2 : decode cX1_work 2 = .ok (.iload_n 2, 1) := by decide +kernel
theorem dX1_work_3 : decode cX1_work 3 = .ok (.imul, 1) := by decide +kernel
theorem dX1_work_4 : decode cX1_work 4 = .ok (.aload_n 0, 1) := by decide +kernel
theorem dX1_work_5 : decode cX1_work 5 = .ok (.getfield 29, 3) := by decide +kernel
theorem dX1_work_8 : decode cX1_work 8 = .ok (.iload_n 1, 1) := by decide +kernel
theorem dX1_work_9 : decode cX1_work 9 = .ok (.iaload, 1) := by decide +kernel
theorem dX1_work_10 : decode cX1_work 10 = .ok (.iadd, 1) := by decide +kernel
theorem dX1_work_11 : decode cX1_work 11 = .ok (.istore_n 3, 1) := by decide +kernel
theorem dX1_work_12 : decode cX1_work 12 = .ok (.aload_n 0, 1) := by decide +kernel
theorem dX1_work_13 : decode cX1_work 13 = .ok (.getfield 17, 3) := by decide +kernel
theorem dX1_work_16 : decode cX1_work 16 = .ok (.iload_n 3, 1) := by decide +kernel
theorem dX1_work_17 : decode cX1_work 17 = .ok (.iaload, 1) := by decide +kernel
theorem dX1_work_18 : decode cX1_work 18 = .ok (.istore 4, 2) := by decide +kernel
theorem dX1_work_20 : decode cX1_work 20 = .ok (.aload_n 0, 1) := by decide +kernel
theorem dX1_work_21 : decode cX1_work 21 = .ok (.getfield 17, 3) := by decide +kernel
theorem dX1_work_24 : decode cX1_work 24 = .ok (.bipush 6, 2) := by decide +kernel
theorem dX1_work_26 : decode cX1_work 26 = .ok (.iload_n 2, 1) := by decide +kernel
theorem dX1_work_27 : decode cX1_work 27 = .ok (.imul, 1) := by decide +kernel
theorem dX1_work_28 : decode cX1_work 28 = .ok (.aload_n 0, 1) := by decide +kernel
theorem dX1_work_29 : decode cX1_work 29 = .ok (.getfield 32, 3) := by decide +kernel
theorem dX1_work_32 : decode cX1_work 32 = .ok (.iload_n 1, 1) := by decide +kernel
theorem dX1_work_33 : decode cX1_work 33 = .ok (.iaload, 1) := by decide +kernel
theorem dX1_work_34 : decode cX1_work 34 = .ok (.iadd, 1) := by decide +kernel
theorem dX1_work_35 : decode cX1_work 35 = .ok (.iaload, 1) := by decide +kernel
theorem dX1_work_36 : decode cX1_work 36 = .ok (.istore 5, 2) := by decide +kernel
theorem dX1_work_38 : decode cX1_work 38 = .ok (.aload_n 0, 1) := by decide +kernel
theorem dX1_work_39 : decode cX1_work 39 = .ok (.getfield 26, 3) := by decide +kernel
theorem dX1_work_42 : decode cX1_work 42 = .ok (.iload_n 1, 1) := by decide +kernel
theorem dX1_work_43 : decode cX1_work 43 = .ok (.iaload, 1) := by decide +kernel
theorem dX1_work_44 : decode cX1_work 44 = .ok (.ifCond .ne 17, 3) := by decide +kernel
theorem dX1_work_47 : decode cX1_work 47 = .ok (.aload_n 0, 1) := by decide +kernel
theorem dX1_work_48 : decode cX1_work 48 = .ok (.getfield 17, 3) := by decide +kernel
theorem dX1_work_51 : decode cX1_work 51 = .ok (.iload_n 3, 1) := by decide +kernel
theorem dX1_work_52 : decode cX1_work 52 = .ok (.iload 4, 2) := by decide +kernel
theorem dX1_work_54 : decode cX1_work 54 = .ok (.iload 5, 2) := by decide +kernel
theorem dX1_work_56 : decode cX1_work 56 = .ok (.iadd, 1) := by decide +kernel
theorem dX1_work_57 : decode cX1_work 57 = .ok (.iastore, 1) := by decide +kernel
theorem dX1_work_58 : decode cX1_work 58 = .ok (.goto 84, 3) := by decide +kernel
theorem dX1_work_61 : decode cX1_work 61 = .ok (.aload_n 0, 1) := by decide +kernel
theorem dX1_work_62 : decode cX1_work 62 = .ok (.getfield 26, 3) := by decide +kernel
theorem dX1_work_65 : decode cX1_work 65 = .ok (.iload_n 1, 1) := by decide +kernel
theorem dX1_work_66 : decode cX1_work 66 = .ok (.iaload, 1) := by decide +kernel
theorem dX1_work_67 : decode cX1_work 67 = .ok (.iconst 1, 1) := by decide +kernel
theorem dX1_work_68 : decode cX1_work 68 = .ok (.if_icmp .ne 17, 3) := by decide +kernel
theorem dX1_work_71 : decode cX1_work 71 = .ok (.aload_n 0, 1) := by decide +kernel
theorem dX1_work_72 : decode cX1_work 72 = .ok (.getfield 17, 3) := by decide +kernel
theorem dX1_work_75 : decode cX1_work 75 = .ok (.iload_n 3, 1) := by decide +kernel
theorem dX1_work_76 : decode cX1_work 76 = .ok (.iload 4, 2) := by decide +kernel
theorem dX1_work_78 : decode cX1_work 78 = .ok (.iload 5, 2) := by decide +kernel
theorem dX1_work_80 : decode cX1_work 80 = .ok (.isub, 1) := by decide +kernel
theorem dX1_work_81 : decode cX1_work 81 = .ok (.iastore, 1) := by decide +kernel
theorem dX1_work_82 : decode cX1_work 82 = .ok (.goto 60, 3) := by decide +kernel
theorem dX1_work_85 : decode cX1_work 85 = .ok (.aload_n 0, 1) := by decide +kernel
theorem dX1_work_86 : decode cX1_work 86 = .ok (.getfield 26, 3) := by decide +kernel
theorem dX1_work_89 : decode cX1_work 89 = .ok (.iload_n 1, 1) := by decide +kernel
theorem dX1_work_90 : decode cX1_work 90 = .ok (.iaload, 1) := by decide +kernel
theorem dX1_work_91 : decode cX1_work 91 = .ok (.iconst 2, 1) := by decide +kernel
theorem dX1_work_92 : decode cX1_work 92 = .ok (.if_icmp .ne 14, 3) := by decide +kernel
theorem dX1_work_95 : decode cX1_work 95 = .ok (.aload_n 0, 1) := by decide +kernel
theorem dX1_work_96 : decode cX1_work 96 = .ok (.getfield 17, 3) := by decide +kernel
theorem dX1_work_99 : decode cX1_work 99 = .ok (.iload_n 3, 1) := by decide +kernel
theorem dX1_work_100 : decode cX1_work 100 = .ok (.iload 5, 2) := by decide +kernel
theorem dX1_work_102 : decode cX1_work 102 = .ok (.iastore, 1) := by decide +kernel
theorem dX1_work_103 : decode cX1_work 103 = .ok (.goto 39, 3) := by decide +kernel
theorem dX1_work_106 : decode cX1_work 106 = .ok (.aload_n 0, 1) := by decide +kernel
theorem dX1_work_107 : decode cX1_work 107 = .ok (.getfield 26, 3) := by decide +kernel
theorem dX1_work_110 : decode cX1_work 110 = .ok (.iload_n 1, 1) := by decide +kernel
theorem dX1_work_111 : decode cX1_work 111 = .ok (.iaload, 1) := by decide +kernel
theorem dX1_work_112 : decode cX1_work 112 = .ok (.iconst 3, 1) := by decide +kernel
theorem dX1_work_113 : decode cX1_work 113 = .ok (.if_icmp .ne 17, 3) := by decide +kernel
theorem dX1_work_116 : decode cX1_work 116 = .ok (.aload_n 0, 1) := by decide +kernel
theorem dX1_work_117 : decode cX1_work 117 = .ok (.getfield 17, 3) := by decide +kernel
theorem dX1_work_120 : decode cX1_work 120 = .ok (.iload_n 3, 1) := by decide +kernel
theorem dX1_work_121 : decode cX1_work 121 = .ok (.iload 4, 2) := by decide +kernel
theorem dX1_work_123 : decode cX1_work 123 = .ok (.iload 5, 2) := by decide +kernel
theorem dX1_work_125 : decode cX1_work 125 = .ok (.imul, 1) := by decide +kernel
theorem dX1_work_126 : decode cX1_work 126 = .ok (.iastore, 1) := by decide +kernel
theorem dX1_work_127 : decode cX1_work 127 = .ok (.goto 15, 3) := by decide +kernel
theorem dX1_work_130 : decode cX1_work 130 = .ok (.iload 5, 2) := by decide +kernel
theorem dX1_work_132 : decode cX1_work 132 = .ok (.ifCond .ge 10, 3) := by decide +kernel
theorem dX1_work_135 : decode cX1_work 135 = .ok (.aload_n 0, 1) := by decide +kernel
theorem dX1_work_136 : decode cX1_work 136 = .ok (.getfield 17, 3) := by decide +kernel
theorem dX1_work_139 : decode cX1_work 139 = .ok (.iload_n 3, 1) := by decide +kernel
theorem dX1_work_140 : decode cX1_work 140 = .ok (.iconst 0, 1) := by decide +kernel
theorem dX1_work_141 : decode cX1_work 141 = .ok (.iastore, 1) := by decide +kernel
theorem dX1_work_142 : decode cX1_work 142 = .ok (.return_, 1) := by decide +kernel
end
section
set_option maxRecDepth 100000
abbrev cX1_digest : ByteArray := prog_3_method_28_code
def yX1_digest : MethodName := ⟨RX1, "digest", "()I"⟩
theorem dX1_digest_0 : decode cX1_digest 0 = .ok (.iconst 0, 1) := by decide +kernel
theorem dX1_digest_1 : decode cX1_digest 1 = .ok (.istore_n 1, 1) := by decide +kernel
theorem dX1_digest_2 : decode cX1_digest 2 = .ok (.iconst 0, 1) := by decide +kernel
theorem dX1_digest_3 : decode cX1_digest 3 = .ok (.istore_n 2, 1) := by decide +kernel
theorem dX1_digest_4 : decode cX1_digest 4 = .ok (.iload_n 2, 1) := by decide +kernel
theorem dX1_digest_5 : decode cX1_digest 5 = .ok (.sipush 144, 3) := by decide +kernel
theorem dX1_digest_8 : decode cX1_digest 8 = .ok (.if_icmp .ge 28, 3) := by decide +kernel
theorem dX1_digest_11 : decode cX1_digest 11 = .ok (.iload_n 1, 1) := by decide +kernel
theorem dX1_digest_12 : decode cX1_digest 12 = .ok (.iload_n 2, 1) := by decide +kernel
theorem dX1_digest_13 : decode cX1_digest 13 = .ok (.iconst 1, 1) := by decide +kernel
theorem dX1_digest_14 : decode cX1_digest 14 = .ok (.iadd, 1) := by decide +kernel
theorem dX1_digest_15 : decode cX1_digest 15 = .ok (.aload_n 0, 1) := by decide +kernel
theorem dX1_digest_16 : decode cX1_digest 16 = .ok (.iload_n 2, 1) := by decide +kernel
theorem dX1_digest_17 : decode cX1_digest 17 = .ok (.bipush 6, 2) := by decide +kernel
theorem dX1_digest_19 : decode cX1_digest 19 = .ok (.idiv, 1) := by decide +kernel
theorem dX1_digest_20 : decode cX1_digest 20 = .ok (.iload_n 2, 1) := by decide +kernel
theorem dX1_digest_21 : decode cX1_digest 21 = .ok (.bipush 6, 2) := by decide +kernel
theorem dX1_digest_23 : decode cX1_digest 23 = .ok (.irem, 1) := by decide +kernel
theorem dX1_digest_24 : decode cX1_digest 24 = .ok (.invokevirtual 82, 3) := by decide +kernel
theorem dX1_digest_27 : decode cX1_digest 27 = .ok (.imul, 1) := by decide +kernel
theorem dX1_digest_28 : decode cX1_digest 28 = .ok (.iadd, 1) := by decide +kernel
theorem dX1_digest_29 : decode cX1_digest 29 = .ok (.istore_n 1, 1) := by decide +kernel
theorem dX1_digest_30 : decode cX1_digest 30 = .ok (.iinc 2 1, 3) := by decide +kernel
theorem dX1_digest_33 : decode cX1_digest 33 = .ok (.goto (-29), 3) := by decide +kernel
theorem dX1_digest_36 : decode cX1_digest 36 = .ok (.iload_n 1, 1) := by decide +kernel
theorem dX1_digest_37 : decode cX1_digest 37 = .ok (.ireturn, 1) := by decide +kernel
theorem q30 : (Jvm.Cond.initialized "ArchetypeWorldModel") ∈ lw_all := lw_g (lw_at lw_m1 2 rfl) rfl
theorem q240 : (Jvm.Cond.instantiable "ArchetypeWorldModel" (10 : Nat)) ∈ lw_all := lw_g (lw_at lw_m1 212 rfl) rfl
theorem q242 : (Jvm.Cond.instanceMethod ({ cls := "ArchetypeWorldModel", name := "<init>", desc := "()V" } : Jvm.MethodName)) ∈ lw_all := lw_g (lw_at lw_m1 214 rfl) rfl
theorem q243 : (Jvm.Cond.code ({ cls := "ArchetypeWorldModel", name := "<init>", desc := "()V" } : Jvm.MethodName) prog_3_method_1_code (1 : Nat) (Option.none : Option Jvm.ClassFile.FieldType)) ∈ lw_all := lw_g (lw_at lw_m1 215 rfl) rfl
theorem q244 : (Jvm.Cond.methodLink "ArchetypeWorldModel" (1 : Nat) ({ cls := "java/lang/Object", name := "<init>", desc := "()V" } : Jvm.MethodName)) ∈ lw_all := lw_g (lw_at lw_m1 216 rfl) rfl
theorem q245 : (Jvm.Cond.fieldLink "ArchetypeWorldModel" (7 : Nat) "ArchetypeWorldModel" "lives" "[Z") ∈ lw_all := lw_g (lw_at lw_m1 217 rfl) rfl
theorem q246 : (Jvm.Cond.fieldLink "ArchetypeWorldModel" (13 : Nat) "ArchetypeWorldModel" "sets" "[I") ∈ lw_all := lw_g (lw_at lw_m1 218 rfl) rfl
theorem q247 : (Jvm.Cond.fieldLink "ArchetypeWorldModel" (17 : Nat) "ArchetypeWorldModel" "values" "[I") ∈ lw_all := lw_g (lw_at lw_m1 219 rfl) rfl
theorem q248 : (Jvm.Cond.fieldLink "ArchetypeWorldModel" (20 : Nat) "ArchetypeWorldModel" "withs" "[I") ∈ lw_all := lw_g (lw_at lw_m1 220 rfl) rfl
theorem q249 : (Jvm.Cond.fieldLink "ArchetypeWorldModel" (23 : Nat) "ArchetypeWorldModel" "withouts" "[I") ∈ lw_all := lw_g (lw_at lw_m1 221 rfl) rfl
theorem q250 : (Jvm.Cond.fieldLink "ArchetypeWorldModel" (26 : Nat) "ArchetypeWorldModel" "kinds" "[I") ∈ lw_all := lw_g (lw_at lw_m1 222 rfl) rfl
theorem q251 : (Jvm.Cond.fieldLink "ArchetypeWorldModel" (29 : Nat) "ArchetypeWorldModel" "firsts" "[I") ∈ lw_all := lw_g (lw_at lw_m1 223 rfl) rfl
theorem q252 : (Jvm.Cond.fieldLink "ArchetypeWorldModel" (32 : Nat) "ArchetypeWorldModel" "seconds" "[I") ∈ lw_all := lw_g (lw_at lw_m1 224 rfl) rfl
theorem q253 : (Jvm.Cond.fieldLink "ArchetypeWorldModel" (35 : Nat) "ArchetypeWorldModel" "stages" "[I") ∈ lw_all := lw_g (lw_at lw_m1 225 rfl) rfl
theorem q254 : (Jvm.Cond.fieldLink "ArchetypeWorldModel" (60 : Nat) "ArchetypeWorldModel" "systems" "I") ∈ lw_all := lw_g (lw_at lw_m1 226 rfl) rfl
theorem q255 : (Jvm.Cond.laysFinal "ArchetypeWorldModel" "ArchetypeWorldModel" "lives" "[Z") ∈ lw_all := lw_g (lw_at lw_m1 227 rfl) rfl
theorem q256 : (Jvm.Cond.soleField "ArchetypeWorldModel" "lives") ∈ lw_all := lw_g (lw_at lw_m1 228 rfl) rfl
theorem q257 : (Jvm.Cond.laysFinal "ArchetypeWorldModel" "ArchetypeWorldModel" "sets" "[I") ∈ lw_all := lw_g (lw_at lw_m1 229 rfl) rfl
theorem q258 : (Jvm.Cond.soleField "ArchetypeWorldModel" "sets") ∈ lw_all := lw_g (lw_at lw_m1 230 rfl) rfl
theorem q259 : (Jvm.Cond.laysFinal "ArchetypeWorldModel" "ArchetypeWorldModel" "values" "[I") ∈ lw_all := lw_g (lw_at lw_m1 231 rfl) rfl
theorem q260 : (Jvm.Cond.soleField "ArchetypeWorldModel" "values") ∈ lw_all := lw_g (lw_at lw_m1 232 rfl) rfl
theorem q261 : (Jvm.Cond.laysFinal "ArchetypeWorldModel" "ArchetypeWorldModel" "withs" "[I") ∈ lw_all := lw_g (lw_at lw_m1 233 rfl) rfl
theorem q262 : (Jvm.Cond.soleField "ArchetypeWorldModel" "withs") ∈ lw_all := lw_g (lw_at lw_m1 234 rfl) rfl
theorem q263 : (Jvm.Cond.laysFinal "ArchetypeWorldModel" "ArchetypeWorldModel" "withouts" "[I") ∈ lw_all := lw_g (lw_at lw_m1 235 rfl) rfl
theorem q264 : (Jvm.Cond.soleField "ArchetypeWorldModel" "withouts") ∈ lw_all := lw_g (lw_at lw_m1 236 rfl) rfl
theorem q265 : (Jvm.Cond.laysFinal "ArchetypeWorldModel" "ArchetypeWorldModel" "kinds" "[I") ∈ lw_all := lw_g (lw_at lw_m1 237 rfl) rfl
theorem q266 : (Jvm.Cond.soleField "ArchetypeWorldModel" "kinds") ∈ lw_all := lw_g (lw_at lw_m1 238 rfl) rfl
theorem q267 : (Jvm.Cond.laysFinal "ArchetypeWorldModel" "ArchetypeWorldModel" "firsts" "[I") ∈ lw_all := lw_g (lw_at lw_m1 239 rfl) rfl
theorem q268 : (Jvm.Cond.soleField "ArchetypeWorldModel" "firsts") ∈ lw_all := lw_g (lw_at lw_m2 0 rfl) rfl
theorem q269 : (Jvm.Cond.laysFinal "ArchetypeWorldModel" "ArchetypeWorldModel" "seconds" "[I") ∈ lw_all := lw_g (lw_at lw_m2 1 rfl) rfl
theorem q270 : (Jvm.Cond.soleField "ArchetypeWorldModel" "seconds") ∈ lw_all := lw_g (lw_at lw_m2 2 rfl) rfl
theorem q271 : (Jvm.Cond.laysFinal "ArchetypeWorldModel" "ArchetypeWorldModel" "stages" "[I") ∈ lw_all := lw_g (lw_at lw_m2 3 rfl) rfl
theorem q272 : (Jvm.Cond.soleField "ArchetypeWorldModel" "stages") ∈ lw_all := lw_g (lw_at lw_m2 4 rfl) rfl
theorem q273 : (Jvm.Cond.lays "ArchetypeWorldModel" "ArchetypeWorldModel" "systems" "I") ∈ lw_all := lw_g (lw_at lw_m2 5 rfl) rfl
theorem q274 : (Jvm.Cond.soleField "ArchetypeWorldModel" "systems") ∈ lw_all := lw_g (lw_at lw_m2 6 rfl) rfl
theorem q275 : (Jvm.Cond.superclass "ArchetypeWorldModel" "java/lang/Object") ∈ lw_all := lw_g (lw_at lw_m2 7 rfl) rfl
theorem q278 : (Jvm.Cond.instanceMethod ({ cls := "ArchetypeWorldModel", name := "spawn", desc := "(II)I" } : Jvm.MethodName)) ∈ lw_all := lw_g (lw_at lw_m2 10 rfl) rfl
theorem q279 : (Jvm.Cond.selects "ArchetypeWorldModel" ({ cls := "ArchetypeWorldModel", name := "spawn", desc := "(II)I" } : Jvm.MethodName) ({ cls := "ArchetypeWorldModel", name := "spawn", desc := "(II)I" } : Jvm.MethodName)) ∈ lw_all := lw_g (lw_at lw_m2 11 rfl) rfl
theorem q280 : (Jvm.Cond.code ({ cls := "ArchetypeWorldModel", name := "spawn", desc := "(II)I" } : Jvm.MethodName) prog_3_method_6_code (5 : Nat) (Option.some Jvm.ClassFile.FieldType.int)) ∈ lw_all := lw_g (lw_at lw_m2 12 rfl) rfl
theorem q281 : (Jvm.Cond.methodLink "ArchetypeWorldModel" (38 : Nat) ({ cls := "ArchetypeWorldModel", name := "isSet", desc := "(I)Z" } : Jvm.MethodName)) ∈ lw_all := lw_g (lw_at lw_m2 13 rfl) rfl
theorem q282 : (Jvm.Cond.privateMethod ({ cls := "ArchetypeWorldModel", name := "isSet", desc := "(I)Z" } : Jvm.MethodName)) ∈ lw_tbl := lw_at lw_m2 14 rfl
theorem q283 : (Jvm.Cond.instanceMethod ({ cls := "ArchetypeWorldModel", name := "isSet", desc := "(I)Z" } : Jvm.MethodName)) ∈ lw_all := lw_g (lw_at lw_m2 15 rfl) rfl
theorem q284 : (Jvm.Cond.code ({ cls := "ArchetypeWorldModel", name := "isSet", desc := "(I)Z" } : Jvm.MethodName) prog_3_method_3_code (2 : Nat) (Option.some Jvm.ClassFile.FieldType.boolean)) ∈ lw_all := lw_g (lw_at lw_m2 16 rfl) rfl
theorem q286 : (Jvm.Cond.instanceMethod ({ cls := "ArchetypeWorldModel", name := "kill", desc := "(I)I" } : Jvm.MethodName)) ∈ lw_all := lw_g (lw_at lw_m2 18 rfl) rfl
theorem q287 : (Jvm.Cond.selects "ArchetypeWorldModel" ({ cls := "ArchetypeWorldModel", name := "kill", desc := "(I)I" } : Jvm.MethodName) ({ cls := "ArchetypeWorldModel", name := "kill", desc := "(I)I" } : Jvm.MethodName)) ∈ lw_all := lw_g (lw_at lw_m2 19 rfl) rfl
theorem q288 : (Jvm.Cond.code ({ cls := "ArchetypeWorldModel", name := "kill", desc := "(I)I" } : Jvm.MethodName) prog_3_method_7_code (2 : Nat) (Option.some Jvm.ClassFile.FieldType.int)) ∈ lw_all := lw_g (lw_at lw_m2 20 rfl) rfl
theorem q289 : (Jvm.Cond.methodLink "ArchetypeWorldModel" (42 : Nat) ({ cls := "ArchetypeWorldModel", name := "isAlive", desc := "(I)Z" } : Jvm.MethodName)) ∈ lw_all := lw_g (lw_at lw_m2 21 rfl) rfl
theorem q290 : (Jvm.Cond.privateMethod ({ cls := "ArchetypeWorldModel", name := "isAlive", desc := "(I)Z" } : Jvm.MethodName)) ∈ lw_tbl := lw_at lw_m2 22 rfl
theorem q291 : (Jvm.Cond.instanceMethod ({ cls := "ArchetypeWorldModel", name := "isAlive", desc := "(I)Z" } : Jvm.MethodName)) ∈ lw_all := lw_g (lw_at lw_m2 23 rfl) rfl
theorem q292 : (Jvm.Cond.code ({ cls := "ArchetypeWorldModel", name := "isAlive", desc := "(I)Z" } : Jvm.MethodName) prog_3_method_4_code (2 : Nat) (Option.some Jvm.ClassFile.FieldType.boolean)) ∈ lw_all := lw_g (lw_at lw_m2 24 rfl) rfl
theorem q294 : (Jvm.Cond.instanceMethod ({ cls := "ArchetypeWorldModel", name := "put", desc := "(III)I" } : Jvm.MethodName)) ∈ lw_all := lw_g (lw_at lw_m2 26 rfl) rfl
theorem q295 : (Jvm.Cond.selects "ArchetypeWorldModel" ({ cls := "ArchetypeWorldModel", name := "put", desc := "(III)I" } : Jvm.MethodName) ({ cls := "ArchetypeWorldModel", name := "put", desc := "(III)I" } : Jvm.MethodName)) ∈ lw_all := lw_g (lw_at lw_m2 27 rfl) rfl
theorem q296 : (Jvm.Cond.code ({ cls := "ArchetypeWorldModel", name := "put", desc := "(III)I" } : Jvm.MethodName) prog_3_method_8_code (5 : Nat) (Option.some Jvm.ClassFile.FieldType.int)) ∈ lw_all := lw_g (lw_at lw_m2 28 rfl) rfl
theorem q297 : (Jvm.Cond.methodLink "ArchetypeWorldModel" (45 : Nat) ({ cls := "ArchetypeWorldModel", name := "isComponent", desc := "(I)Z" } : Jvm.MethodName)) ∈ lw_all := lw_g (lw_at lw_m2 29 rfl) rfl
theorem q298 : (Jvm.Cond.privateMethod ({ cls := "ArchetypeWorldModel", name := "isComponent", desc := "(I)Z" } : Jvm.MethodName)) ∈ lw_tbl := lw_at lw_m2 30 rfl
theorem q299 : (Jvm.Cond.instanceMethod ({ cls := "ArchetypeWorldModel", name := "isComponent", desc := "(I)Z" } : Jvm.MethodName)) ∈ lw_all := lw_g (lw_at lw_m2 31 rfl) rfl
theorem q300 : (Jvm.Cond.code ({ cls := "ArchetypeWorldModel", name := "isComponent", desc := "(I)Z" } : Jvm.MethodName) prog_3_method_5_code (2 : Nat) (Option.some Jvm.ClassFile.FieldType.boolean)) ∈ lw_all := lw_g (lw_at lw_m2 32 rfl) rfl
theorem q302 : (Jvm.Cond.instanceMethod ({ cls := "ArchetypeWorldModel", name := "drop", desc := "(II)I" } : Jvm.MethodName)) ∈ lw_all := lw_g (lw_at lw_m2 34 rfl) rfl
theorem q303 : (Jvm.Cond.selects "ArchetypeWorldModel" ({ cls := "ArchetypeWorldModel", name := "drop", desc := "(II)I" } : Jvm.MethodName) ({ cls := "ArchetypeWorldModel", name := "drop", desc := "(II)I" } : Jvm.MethodName)) ∈ lw_all := lw_g (lw_at lw_m2 35 rfl) rfl
theorem q304 : (Jvm.Cond.code ({ cls := "ArchetypeWorldModel", name := "drop", desc := "(II)I" } : Jvm.MethodName) prog_3_method_9_code (4 : Nat) (Option.some Jvm.ClassFile.FieldType.int)) ∈ lw_all := lw_g (lw_at lw_m2 36 rfl) rfl
theorem q306 : (Jvm.Cond.instanceMethod ({ cls := "ArchetypeWorldModel", name := "get", desc := "(II)I" } : Jvm.MethodName)) ∈ lw_all := lw_g (lw_at lw_m2 38 rfl) rfl
theorem q307 : (Jvm.Cond.selects "ArchetypeWorldModel" ({ cls := "ArchetypeWorldModel", name := "get", desc := "(II)I" } : Jvm.MethodName) ({ cls := "ArchetypeWorldModel", name := "get", desc := "(II)I" } : Jvm.MethodName)) ∈ lw_all := lw_g (lw_at lw_m2 39 rfl) rfl
theorem q308 : (Jvm.Cond.code ({ cls := "ArchetypeWorldModel", name := "get", desc := "(II)I" } : Jvm.MethodName) prog_3_method_10_code (3 : Nat) (Option.some Jvm.ClassFile.FieldType.int)) ∈ lw_all := lw_g (lw_at lw_m2 40 rfl) rfl
theorem q309 : (Jvm.Cond.methodLink "ArchetypeWorldModel" (48 : Nat) ({ cls := "ArchetypeWorldModel", name := "has", desc := "(II)Z" } : Jvm.MethodName)) ∈ lw_all := lw_g (lw_at lw_m2 41 rfl) rfl
theorem q310 : (Jvm.Cond.privateMethod ({ cls := "ArchetypeWorldModel", name := "has", desc := "(II)Z" } : Jvm.MethodName)) ∈ lw_tbl := lw_at lw_m2 42 rfl
theorem q311 : (Jvm.Cond.instanceMethod ({ cls := "ArchetypeWorldModel", name := "has", desc := "(II)Z" } : Jvm.MethodName)) ∈ lw_all := lw_g (lw_at lw_m2 43 rfl) rfl
theorem q312 : (Jvm.Cond.code ({ cls := "ArchetypeWorldModel", name := "has", desc := "(II)Z" } : Jvm.MethodName) prog_3_method_2_code (3 : Nat) (Option.some Jvm.ClassFile.FieldType.boolean)) ∈ lw_all := lw_g (lw_at lw_m2 44 rfl) rfl
theorem q314 : (Jvm.Cond.instanceMethod ({ cls := "ArchetypeWorldModel", name := "parts", desc := "(I)I" } : Jvm.MethodName)) ∈ lw_all := lw_g (lw_at lw_m2 46 rfl) rfl
theorem q315 : (Jvm.Cond.selects "ArchetypeWorldModel" ({ cls := "ArchetypeWorldModel", name := "parts", desc := "(I)I" } : Jvm.MethodName) ({ cls := "ArchetypeWorldModel", name := "parts", desc := "(I)I" } : Jvm.MethodName)) ∈ lw_all := lw_g (lw_at lw_m2 47 rfl) rfl
theorem q316 : (Jvm.Cond.code ({ cls := "ArchetypeWorldModel", name := "parts", desc := "(I)I" } : Jvm.MethodName) prog_3_method_11_code (2 : Nat) (Option.some Jvm.ClassFile.FieldType.int)) ∈ lw_all := lw_g (lw_at lw_m2 48 rfl) rfl
theorem q318 : (Jvm.Cond.instanceMethod ({ cls := "ArchetypeWorldModel", name := "living", desc := "()I" } : Jvm.MethodName)) ∈ lw_all := lw_g (lw_at lw_m2 50 rfl) rfl
theorem q319 : (Jvm.Cond.selects "ArchetypeWorldModel" ({ cls := "ArchetypeWorldModel", name := "living", desc := "()I" } : Jvm.MethodName) ({ cls := "ArchetypeWorldModel", name := "living", desc := "()I" } : Jvm.MethodName)) ∈ lw_all := lw_g (lw_at lw_m2 51 rfl) rfl
theorem q320 : (Jvm.Cond.code ({ cls := "ArchetypeWorldModel", name := "living", desc := "()I" } : Jvm.MethodName) prog_3_method_12_code (1 : Nat) (Option.some Jvm.ClassFile.FieldType.int)) ∈ lw_all := lw_g (lw_at lw_m2 52 rfl) rfl
theorem q321 : (Jvm.Cond.methodLink "ArchetypeWorldModel" (52 : Nat) ({ cls := "ArchetypeWorldModel", name := "count", desc := "(II)I" } : Jvm.MethodName)) ∈ lw_all := lw_g (lw_at lw_m2 53 rfl) rfl
theorem q322 : (Jvm.Cond.instanceMethod ({ cls := "ArchetypeWorldModel", name := "count", desc := "(II)I" } : Jvm.MethodName)) ∈ lw_all := lw_g (lw_at lw_m2 54 rfl) rfl
theorem q323 : (Jvm.Cond.selects "ArchetypeWorldModel" ({ cls := "ArchetypeWorldModel", name := "count", desc := "(II)I" } : Jvm.MethodName) ({ cls := "ArchetypeWorldModel", name := "count", desc := "(II)I" } : Jvm.MethodName)) ∈ lw_all := lw_g (lw_at lw_m2 55 rfl) rfl
theorem q324 : (Jvm.Cond.code ({ cls := "ArchetypeWorldModel", name := "count", desc := "(II)I" } : Jvm.MethodName) prog_3_method_14_code (5 : Nat) (Option.some Jvm.ClassFile.FieldType.int)) ∈ lw_all := lw_g (lw_at lw_m2 56 rfl) rfl
theorem q325 : (Jvm.Cond.methodLink "ArchetypeWorldModel" (56 : Nat) ({ cls := "ArchetypeWorldModel", name := "fits", desc := "(III)Z" } : Jvm.MethodName)) ∈ lw_all := lw_g (lw_at lw_m2 57 rfl) rfl
theorem q326 : (Jvm.Cond.privateMethod ({ cls := "ArchetypeWorldModel", name := "fits", desc := "(III)Z" } : Jvm.MethodName)) ∈ lw_tbl := lw_at lw_m2 58 rfl
theorem q327 : (Jvm.Cond.instanceMethod ({ cls := "ArchetypeWorldModel", name := "fits", desc := "(III)Z" } : Jvm.MethodName)) ∈ lw_all := lw_g (lw_at lw_m2 59 rfl) rfl
theorem q328 : (Jvm.Cond.code ({ cls := "ArchetypeWorldModel", name := "fits", desc := "(III)Z" } : Jvm.MethodName) prog_3_method_13_code (4 : Nat) (Option.some Jvm.ClassFile.FieldType.boolean)) ∈ lw_all := lw_g (lw_at lw_m2 60 rfl) rfl
theorem q331 : (Jvm.Cond.instanceMethod ({ cls := "ArchetypeWorldModel", name := "next", desc := "(III)I" } : Jvm.MethodName)) ∈ lw_all := lw_g (lw_at lw_m2 63 rfl) rfl
theorem q332 : (Jvm.Cond.selects "ArchetypeWorldModel" ({ cls := "ArchetypeWorldModel", name := "next", desc := "(III)I" } : Jvm.MethodName) ({ cls := "ArchetypeWorldModel", name := "next", desc := "(III)I" } : Jvm.MethodName)) ∈ lw_all := lw_g (lw_at lw_m2 64 rfl) rfl
theorem q333 : (Jvm.Cond.code ({ cls := "ArchetypeWorldModel", name := "next", desc := "(III)I" } : Jvm.MethodName) prog_3_method_15_code (5 : Nat) (Option.some Jvm.ClassFile.FieldType.int)) ∈ lw_all := lw_g (lw_at lw_m2 65 rfl) rfl
theorem q335 : (Jvm.Cond.instanceMethod ({ cls := "ArchetypeWorldModel", name := "sum", desc := "(III)I" } : Jvm.MethodName)) ∈ lw_all := lw_g (lw_at lw_m2 67 rfl) rfl
theorem q336 : (Jvm.Cond.selects "ArchetypeWorldModel" ({ cls := "ArchetypeWorldModel", name := "sum", desc := "(III)I" } : Jvm.MethodName) ({ cls := "ArchetypeWorldModel", name := "sum", desc := "(III)I" } : Jvm.MethodName)) ∈ lw_all := lw_g (lw_at lw_m2 68 rfl) rfl
theorem q337 : (Jvm.Cond.code ({ cls := "ArchetypeWorldModel", name := "sum", desc := "(III)I" } : Jvm.MethodName) prog_3_method_16_code (6 : Nat) (Option.some Jvm.ClassFile.FieldType.int)) ∈ lw_all := lw_g (lw_at lw_m2 69 rfl) rfl
theorem q339 : (Jvm.Cond.instanceMethod ({ cls := "ArchetypeWorldModel", name := "kinds", desc := "()I" } : Jvm.MethodName)) ∈ lw_all := lw_g (lw_at lw_m2 71 rfl) rfl
theorem q340 : (Jvm.Cond.selects "ArchetypeWorldModel" ({ cls := "ArchetypeWorldModel", name := "kinds", desc := "()I" } : Jvm.MethodName) ({ cls := "ArchetypeWorldModel", name := "kinds", desc := "()I" } : Jvm.MethodName)) ∈ lw_all := lw_g (lw_at lw_m2 72 rfl) rfl
theorem q341 : (Jvm.Cond.code ({ cls := "ArchetypeWorldModel", name := "kinds", desc := "()I" } : Jvm.MethodName) prog_3_method_17_code (5 : Nat) (Option.some Jvm.ClassFile.FieldType.int)) ∈ lw_all := lw_g (lw_at lw_m2 73 rfl) rfl
theorem q343 : (Jvm.Cond.instanceMethod ({ cls := "ArchetypeWorldModel", name := "system", desc := "(II)I" } : Jvm.MethodName)) ∈ lw_all := lw_g (lw_at lw_m2 75 rfl) rfl
theorem q344 : (Jvm.Cond.selects "ArchetypeWorldModel" ({ cls := "ArchetypeWorldModel", name := "system", desc := "(II)I" } : Jvm.MethodName) ({ cls := "ArchetypeWorldModel", name := "system", desc := "(II)I" } : Jvm.MethodName)) ∈ lw_all := lw_g (lw_at lw_m2 76 rfl) rfl
theorem q345 : (Jvm.Cond.code ({ cls := "ArchetypeWorldModel", name := "system", desc := "(II)I" } : Jvm.MethodName) prog_3_method_18_code (6 : Nat) (Option.some Jvm.ClassFile.FieldType.int)) ∈ lw_all := lw_g (lw_at lw_m2 77 rfl) rfl
theorem q347 : (Jvm.Cond.instanceMethod ({ cls := "ArchetypeWorldModel", name := "unsystem", desc := "()I" } : Jvm.MethodName)) ∈ lw_all := lw_g (lw_at lw_m2 79 rfl) rfl
theorem q348 : (Jvm.Cond.selects "ArchetypeWorldModel" ({ cls := "ArchetypeWorldModel", name := "unsystem", desc := "()I" } : Jvm.MethodName) ({ cls := "ArchetypeWorldModel", name := "unsystem", desc := "()I" } : Jvm.MethodName)) ∈ lw_all := lw_g (lw_at lw_m2 80 rfl) rfl
theorem q349 : (Jvm.Cond.code ({ cls := "ArchetypeWorldModel", name := "unsystem", desc := "()I" } : Jvm.MethodName) prog_3_method_19_code (1 : Nat) (Option.some Jvm.ClassFile.FieldType.int)) ∈ lw_all := lw_g (lw_at lw_m2 81 rfl) rfl
theorem q351 : (Jvm.Cond.instanceMethod ({ cls := "ArchetypeWorldModel", name := "stage", desc := "(I)I" } : Jvm.MethodName)) ∈ lw_all := lw_g (lw_at lw_m2 83 rfl) rfl
theorem q352 : (Jvm.Cond.selects "ArchetypeWorldModel" ({ cls := "ArchetypeWorldModel", name := "stage", desc := "(I)I" } : Jvm.MethodName) ({ cls := "ArchetypeWorldModel", name := "stage", desc := "(I)I" } : Jvm.MethodName)) ∈ lw_all := lw_g (lw_at lw_m2 84 rfl) rfl
theorem q353 : (Jvm.Cond.code ({ cls := "ArchetypeWorldModel", name := "stage", desc := "(I)I" } : Jvm.MethodName) prog_3_method_22_code (2 : Nat) (Option.some Jvm.ClassFile.FieldType.int)) ∈ lw_all := lw_g (lw_at lw_m2 85 rfl) rfl
theorem q354 : (Jvm.Cond.methodLink "ArchetypeWorldModel" (67 : Nat) ({ cls := "ArchetypeWorldModel", name := "layStages", desc := "()V" } : Jvm.MethodName)) ∈ lw_all := lw_g (lw_at lw_m2 86 rfl) rfl
theorem q355 : (Jvm.Cond.privateMethod ({ cls := "ArchetypeWorldModel", name := "layStages", desc := "()V" } : Jvm.MethodName)) ∈ lw_tbl := lw_at lw_m2 87 rfl
theorem q356 : (Jvm.Cond.instanceMethod ({ cls := "ArchetypeWorldModel", name := "layStages", desc := "()V" } : Jvm.MethodName)) ∈ lw_all := lw_g (lw_at lw_m2 88 rfl) rfl
theorem q357 : (Jvm.Cond.code ({ cls := "ArchetypeWorldModel", name := "layStages", desc := "()V" } : Jvm.MethodName) prog_3_method_21_code (3 : Nat) (Option.none : Option Jvm.ClassFile.FieldType)) ∈ lw_all := lw_g (lw_at lw_m2 89 rfl) rfl
theorem q358 : (Jvm.Cond.methodLink "ArchetypeWorldModel" (64 : Nat) ({ cls := "ArchetypeWorldModel", name := "disturbs", desc := "(II)Z" } : Jvm.MethodName)) ∈ lw_all := lw_g (lw_at lw_m2 90 rfl) rfl
theorem q359 : (Jvm.Cond.privateMethod ({ cls := "ArchetypeWorldModel", name := "disturbs", desc := "(II)Z" } : Jvm.MethodName)) ∈ lw_tbl := lw_at lw_m2 91 rfl
theorem q360 : (Jvm.Cond.instanceMethod ({ cls := "ArchetypeWorldModel", name := "disturbs", desc := "(II)Z" } : Jvm.MethodName)) ∈ lw_all := lw_g (lw_at lw_m2 92 rfl) rfl
theorem q361 : (Jvm.Cond.code ({ cls := "ArchetypeWorldModel", name := "disturbs", desc := "(II)Z" } : Jvm.MethodName) prog_3_method_20_code (3 : Nat) (Option.some Jvm.ClassFile.FieldType.boolean)) ∈ lw_all := lw_g (lw_at lw_m2 93 rfl) rfl
theorem q363 : (Jvm.Cond.instanceMethod ({ cls := "ArchetypeWorldModel", name := "stages", desc := "()I" } : Jvm.MethodName)) ∈ lw_all := lw_g (lw_at lw_m2 95 rfl) rfl
theorem q364 : (Jvm.Cond.selects "ArchetypeWorldModel" ({ cls := "ArchetypeWorldModel", name := "stages", desc := "()I" } : Jvm.MethodName) ({ cls := "ArchetypeWorldModel", name := "stages", desc := "()I" } : Jvm.MethodName)) ∈ lw_all := lw_g (lw_at lw_m2 96 rfl) rfl
theorem q365 : (Jvm.Cond.code ({ cls := "ArchetypeWorldModel", name := "stages", desc := "()I" } : Jvm.MethodName) prog_3_method_23_code (3 : Nat) (Option.some Jvm.ClassFile.FieldType.int)) ∈ lw_all := lw_g (lw_at lw_m2 97 rfl) rfl
theorem q367 : (Jvm.Cond.instanceMethod ({ cls := "ArchetypeWorldModel", name := "frame", desc := "(I)I" } : Jvm.MethodName)) ∈ lw_all := lw_g (lw_at lw_m2 99 rfl) rfl
theorem q368 : (Jvm.Cond.selects "ArchetypeWorldModel" ({ cls := "ArchetypeWorldModel", name := "frame", desc := "(I)I" } : Jvm.MethodName) ({ cls := "ArchetypeWorldModel", name := "frame", desc := "(I)I" } : Jvm.MethodName)) ∈ lw_all := lw_g (lw_at lw_m2 100 rfl) rfl
theorem q369 : (Jvm.Cond.code ({ cls := "ArchetypeWorldModel", name := "frame", desc := "(I)I" } : Jvm.MethodName) prog_3_method_27_code (4 : Nat) (Option.some Jvm.ClassFile.FieldType.int)) ∈ lw_all := lw_g (lw_at lw_m2 101 rfl) rfl
theorem q370 : (Jvm.Cond.methodLink "ArchetypeWorldModel" (78 : Nat) ({ cls := "ArchetypeWorldModel", name := "runFrame", desc := "()I" } : Jvm.MethodName)) ∈ lw_all := lw_g (lw_at lw_m2 102 rfl) rfl
theorem q371 : (Jvm.Cond.privateMethod ({ cls := "ArchetypeWorldModel", name := "runFrame", desc := "()I" } : Jvm.MethodName)) ∈ lw_tbl := lw_at lw_m2 103 rfl
theorem q372 : (Jvm.Cond.instanceMethod ({ cls := "ArchetypeWorldModel", name := "runFrame", desc := "()I" } : Jvm.MethodName)) ∈ lw_all := lw_g (lw_at lw_m2 104 rfl) rfl
theorem q373 : (Jvm.Cond.code ({ cls := "ArchetypeWorldModel", name := "runFrame", desc := "()I" } : Jvm.MethodName) prog_3_method_26_code (4 : Nat) (Option.some Jvm.ClassFile.FieldType.int)) ∈ lw_all := lw_g (lw_at lw_m2 105 rfl) rfl
theorem q374 : (Jvm.Cond.methodLink "ArchetypeWorldModel" (74 : Nat) ({ cls := "ArchetypeWorldModel", name := "runSystem", desc := "(I)I" } : Jvm.MethodName)) ∈ lw_all := lw_g (lw_at lw_m2 106 rfl) rfl
theorem q375 : (Jvm.Cond.privateMethod ({ cls := "ArchetypeWorldModel", name := "runSystem", desc := "(I)I" } : Jvm.MethodName)) ∈ lw_tbl := lw_at lw_m2 107 rfl
theorem q376 : (Jvm.Cond.instanceMethod ({ cls := "ArchetypeWorldModel", name := "runSystem", desc := "(I)I" } : Jvm.MethodName)) ∈ lw_all := lw_g (lw_at lw_m2 108 rfl) rfl
theorem q377 : (Jvm.Cond.code ({ cls := "ArchetypeWorldModel", name := "runSystem", desc := "(I)I" } : Jvm.MethodName) prog_3_method_25_code (4 : Nat) (Option.some Jvm.ClassFile.FieldType.int)) ∈ lw_all := lw_g (lw_at lw_m2 109 rfl) rfl
theorem q378 : (Jvm.Cond.methodLink "ArchetypeWorldModel" (70 : Nat) ({ cls := "ArchetypeWorldModel", name := "work", desc := "(II)V" } : Jvm.MethodName)) ∈ lw_all := lw_g (lw_at lw_m2 110 rfl) rfl
theorem q379 : (Jvm.Cond.privateMethod ({ cls := "ArchetypeWorldModel", name := "work", desc := "(II)V" } : Jvm.MethodName)) ∈ lw_tbl := lw_at lw_m2 111 rfl
theorem q380 : (Jvm.Cond.instanceMethod ({ cls := "ArchetypeWorldModel", name := "work", desc := "(II)V" } : Jvm.MethodName)) ∈ lw_all := lw_g (lw_at lw_m2 112 rfl) rfl
theorem q381 : (Jvm.Cond.code ({ cls := "ArchetypeWorldModel", name := "work", desc := "(II)V" } : Jvm.MethodName) prog_3_method_24_code (6 : Nat) (Option.none : Option Jvm.ClassFile.FieldType)) ∈ lw_all := lw_g (lw_at lw_m2 113 rfl) rfl
theorem q383 : (Jvm.Cond.instanceMethod ({ cls := "ArchetypeWorldModel", name := "digest", desc := "()I" } : Jvm.MethodName)) ∈ lw_all := lw_g (lw_at lw_m2 115 rfl) rfl
theorem q384 : (Jvm.Cond.selects "ArchetypeWorldModel" ({ cls := "ArchetypeWorldModel", name := "digest", desc := "()I" } : Jvm.MethodName) ({ cls := "ArchetypeWorldModel", name := "digest", desc := "()I" } : Jvm.MethodName)) ∈ lw_all := lw_g (lw_at lw_m2 116 rfl) rfl
theorem q385 : (Jvm.Cond.code ({ cls := "ArchetypeWorldModel", name := "digest", desc := "()I" } : Jvm.MethodName) prog_3_method_28_code (3 : Nat) (Option.some Jvm.ClassFile.FieldType.int)) ∈ lw_all := lw_g (lw_at lw_m2 117 rfl) rfl
theorem q386 : (Jvm.Cond.methodLink "ArchetypeWorldModel" (82 : Nat) ({ cls := "ArchetypeWorldModel", name := "get", desc := "(II)I" } : Jvm.MethodName)) ∈ lw_all := lw_g (lw_at lw_m2 118 rfl) rfl
theorem in_X1 : ∀ w ∈ wsX10, w ∈ lw_all := lw_in wsX10 [255, 257, 259, 261, 263, 265, 267, 269, 271, 273] (by decide +kernel) (by decide +kernel)
end
section
/-! java/lang/Object -/
set_option maxRecDepth 100000
def RJ0 : String := "java/lang/Object"
abbrev cJ0_init : ByteArray := object_method_1_code
def yJ0_init : MethodName := ⟨RJ0, "<init>", "()V"⟩
theorem dJ0_init_0 : decode cJ0_init 0 = .ok (.return_, 1) := by decide +kernel
theorem q37 : (Jvm.Cond.instanceMethod ({ cls := "java/lang/Object", name := "<init>", desc := "()V" } : Jvm.MethodName)) ∈ lw_all := lw_g (lw_at lw_m1 9 rfl) rfl
theorem q38 : (Jvm.Cond.code ({ cls := "java/lang/Object", name := "<init>", desc := "()V" } : Jvm.MethodName) object_method_1_code (1 : Nat) (Option.none : Option Jvm.ClassFile.FieldType)) ∈ lw_all := lw_g (lw_at lw_m1 10 rfl) rfl
theorem q97 : (Jvm.Cond.arrayClass Jvm.ClassFile.FieldType.int) ∈ lw_all := lw_g (lw_at lw_m1 69 rfl) rfl
set_option maxRecDepth 100000
theorem q98 : (Jvm.Cond.arrayClass Jvm.ClassFile.FieldType.long) ∈ lw_all := lw_g (lw_at lw_m1 70 rfl) rfl
theorem q276 : (Jvm.Cond.arrayClass Jvm.ClassFile.FieldType.boolean) ∈ lw_all := lw_g (lw_at lw_m2 8 rfl) rfl
theorem q28 : (Jvm.Cond.initialized "ArchetypeWorldLaw") ∈ lw_all := lw_g (lw_at lw_m1 0 rfl) rfl
set_option maxRecDepth 100000
theorem q31 : (Jvm.Cond.classLink "ArchetypeWorldLaw" (7 : Nat) "ArchetypeWorld") ∈ lw_all := lw_g (lw_at lw_m1 3 rfl) rfl
theorem q33 : (Jvm.Cond.methodLink "ArchetypeWorldLaw" (9 : Nat) ({ cls := "ArchetypeWorld", name := "<init>", desc := "()V" } : Jvm.MethodName)) ∈ lw_all := lw_g (lw_at lw_m1 5 rfl) rfl
theorem q99 : (Jvm.Cond.methodLink "ArchetypeWorldLaw" (13 : Nat) ({ cls := "ArchetypeWorld", name := "spawn", desc := "(II)I" } : Jvm.MethodName)) ∈ lw_all := lw_g (lw_at lw_m1 71 rfl) rfl
theorem q115 : (Jvm.Cond.methodLink "ArchetypeWorldLaw" (18 : Nat) ({ cls := "ArchetypeWorld", name := "kill", desc := "(I)I" } : Jvm.MethodName)) ∈ lw_all := lw_g (lw_at lw_m1 87 rfl) rfl
theorem q131 : (Jvm.Cond.methodLink "ArchetypeWorldLaw" (23 : Nat) ({ cls := "ArchetypeWorld", name := "put", desc := "(III)I" } : Jvm.MethodName)) ∈ lw_all := lw_g (lw_at lw_m1 103 rfl) rfl
theorem q143 : (Jvm.Cond.methodLink "ArchetypeWorldLaw" (28 : Nat) ({ cls := "ArchetypeWorld", name := "drop", desc := "(II)I" } : Jvm.MethodName)) ∈ lw_all := lw_g (lw_at lw_m1 115 rfl) rfl
theorem q147 : (Jvm.Cond.methodLink "ArchetypeWorldLaw" (32 : Nat) ({ cls := "ArchetypeWorld", name := "get", desc := "(II)I" } : Jvm.MethodName)) ∈ lw_all := lw_g (lw_at lw_m1 119 rfl) rfl
theorem q151 : (Jvm.Cond.methodLink "ArchetypeWorldLaw" (36 : Nat) ({ cls := "ArchetypeWorld", name := "parts", desc := "(I)I" } : Jvm.MethodName)) ∈ lw_all := lw_g (lw_at lw_m1 123 rfl) rfl
theorem q155 : (Jvm.Cond.methodLink "ArchetypeWorldLaw" (40 : Nat) ({ cls := "ArchetypeWorld", name := "living", desc := "()I" } : Jvm.MethodName)) ∈ lw_all := lw_g (lw_at lw_m1 127 rfl) rfl
theorem q159 : (Jvm.Cond.methodLink "ArchetypeWorldLaw" (45 : Nat) ({ cls := "ArchetypeWorld", name := "count", desc := "(II)I" } : Jvm.MethodName)) ∈ lw_all := lw_g (lw_at lw_m1 131 rfl) rfl
theorem q167 : (Jvm.Cond.methodLink "ArchetypeWorldLaw" (49 : Nat) ({ cls := "ArchetypeWorld", name := "next", desc := "(III)I" } : Jvm.MethodName)) ∈ lw_all := lw_g (lw_at lw_m1 139 rfl) rfl
theorem q175 : (Jvm.Cond.methodLink "ArchetypeWorldLaw" (53 : Nat) ({ cls := "ArchetypeWorld", name := "sum", desc := "(III)I" } : Jvm.MethodName)) ∈ lw_all := lw_g (lw_at lw_m1 147 rfl) rfl
theorem q179 : (Jvm.Cond.methodLink "ArchetypeWorldLaw" (57 : Nat) ({ cls := "ArchetypeWorld", name := "kinds", desc := "()I" } : Jvm.MethodName)) ∈ lw_all := lw_g (lw_at lw_m1 151 rfl) rfl
theorem q183 : (Jvm.Cond.methodLink "ArchetypeWorldLaw" (61 : Nat) ({ cls := "ArchetypeWorld", name := "system", desc := "(II)I" } : Jvm.MethodName)) ∈ lw_all := lw_g (lw_at lw_m1 155 rfl) rfl
theorem q187 : (Jvm.Cond.methodLink "ArchetypeWorldLaw" (65 : Nat) ({ cls := "ArchetypeWorld", name := "unsystem", desc := "()I" } : Jvm.MethodName)) ∈ lw_all := lw_g (lw_at lw_m1 159 rfl) rfl
theorem q191 : (Jvm.Cond.methodLink "ArchetypeWorldLaw" (69 : Nat) ({ cls := "ArchetypeWorld", name := "stage", desc := "(I)I" } : Jvm.MethodName)) ∈ lw_all := lw_g (lw_at lw_m1 163 rfl) rfl
theorem q207 : (Jvm.Cond.methodLink "ArchetypeWorldLaw" (73 : Nat) ({ cls := "ArchetypeWorld", name := "stages", desc := "()I" } : Jvm.MethodName)) ∈ lw_all := lw_g (lw_at lw_m1 179 rfl) rfl
theorem q211 : (Jvm.Cond.methodLink "ArchetypeWorldLaw" (77 : Nat) ({ cls := "ArchetypeWorld", name := "frame", desc := "(I)I" } : Jvm.MethodName)) ∈ lw_all := lw_g (lw_at lw_m1 183 rfl) rfl
theorem q235 : (Jvm.Cond.methodLink "ArchetypeWorldLaw" (81 : Nat) ({ cls := "ArchetypeWorld", name := "digest", desc := "()I" } : Jvm.MethodName)) ∈ lw_all := lw_g (lw_at lw_m1 207 rfl) rfl
theorem q239 : (Jvm.Cond.classLink "ArchetypeWorldLaw" (10 : Nat) "ArchetypeWorldModel") ∈ lw_all := lw_g (lw_at lw_m1 211 rfl) rfl
theorem q241 : (Jvm.Cond.methodLink "ArchetypeWorldLaw" (12 : Nat) ({ cls := "ArchetypeWorldModel", name := "<init>", desc := "()V" } : Jvm.MethodName)) ∈ lw_all := lw_g (lw_at lw_m1 213 rfl) rfl
theorem q277 : (Jvm.Cond.methodLink "ArchetypeWorldLaw" (17 : Nat) ({ cls := "ArchetypeWorldModel", name := "spawn", desc := "(II)I" } : Jvm.MethodName)) ∈ lw_all := lw_g (lw_at lw_m2 9 rfl) rfl
theorem q285 : (Jvm.Cond.methodLink "ArchetypeWorldLaw" (22 : Nat) ({ cls := "ArchetypeWorldModel", name := "kill", desc := "(I)I" } : Jvm.MethodName)) ∈ lw_all := lw_g (lw_at lw_m2 17 rfl) rfl
theorem q293 : (Jvm.Cond.methodLink "ArchetypeWorldLaw" (27 : Nat) ({ cls := "ArchetypeWorldModel", name := "put", desc := "(III)I" } : Jvm.MethodName)) ∈ lw_all := lw_g (lw_at lw_m2 25 rfl) rfl
theorem q301 : (Jvm.Cond.methodLink "ArchetypeWorldLaw" (31 : Nat) ({ cls := "ArchetypeWorldModel", name := "drop", desc := "(II)I" } : Jvm.MethodName)) ∈ lw_all := lw_g (lw_at lw_m2 33 rfl) rfl
theorem q305 : (Jvm.Cond.methodLink "ArchetypeWorldLaw" (35 : Nat) ({ cls := "ArchetypeWorldModel", name := "get", desc := "(II)I" } : Jvm.MethodName)) ∈ lw_all := lw_g (lw_at lw_m2 37 rfl) rfl
theorem q313 : (Jvm.Cond.methodLink "ArchetypeWorldLaw" (39 : Nat) ({ cls := "ArchetypeWorldModel", name := "parts", desc := "(I)I" } : Jvm.MethodName)) ∈ lw_all := lw_g (lw_at lw_m2 45 rfl) rfl
theorem q317 : (Jvm.Cond.methodLink "ArchetypeWorldLaw" (44 : Nat) ({ cls := "ArchetypeWorldModel", name := "living", desc := "()I" } : Jvm.MethodName)) ∈ lw_all := lw_g (lw_at lw_m2 49 rfl) rfl
theorem q329 : (Jvm.Cond.methodLink "ArchetypeWorldLaw" (48 : Nat) ({ cls := "ArchetypeWorldModel", name := "count", desc := "(II)I" } : Jvm.MethodName)) ∈ lw_all := lw_g (lw_at lw_m2 61 rfl) rfl
theorem q330 : (Jvm.Cond.methodLink "ArchetypeWorldLaw" (52 : Nat) ({ cls := "ArchetypeWorldModel", name := "next", desc := "(III)I" } : Jvm.MethodName)) ∈ lw_all := lw_g (lw_at lw_m2 62 rfl) rfl
theorem q334 : (Jvm.Cond.methodLink "ArchetypeWorldLaw" (56 : Nat) ({ cls := "ArchetypeWorldModel", name := "sum", desc := "(III)I" } : Jvm.MethodName)) ∈ lw_all := lw_g (lw_at lw_m2 66 rfl) rfl
theorem q338 : (Jvm.Cond.methodLink "ArchetypeWorldLaw" (60 : Nat) ({ cls := "ArchetypeWorldModel", name := "kinds", desc := "()I" } : Jvm.MethodName)) ∈ lw_all := lw_g (lw_at lw_m2 70 rfl) rfl
theorem q342 : (Jvm.Cond.methodLink "ArchetypeWorldLaw" (64 : Nat) ({ cls := "ArchetypeWorldModel", name := "system", desc := "(II)I" } : Jvm.MethodName)) ∈ lw_all := lw_g (lw_at lw_m2 74 rfl) rfl
theorem q346 : (Jvm.Cond.methodLink "ArchetypeWorldLaw" (68 : Nat) ({ cls := "ArchetypeWorldModel", name := "unsystem", desc := "()I" } : Jvm.MethodName)) ∈ lw_all := lw_g (lw_at lw_m2 78 rfl) rfl
theorem q350 : (Jvm.Cond.methodLink "ArchetypeWorldLaw" (72 : Nat) ({ cls := "ArchetypeWorldModel", name := "stage", desc := "(I)I" } : Jvm.MethodName)) ∈ lw_all := lw_g (lw_at lw_m2 82 rfl) rfl
theorem q362 : (Jvm.Cond.methodLink "ArchetypeWorldLaw" (76 : Nat) ({ cls := "ArchetypeWorldModel", name := "stages", desc := "()I" } : Jvm.MethodName)) ∈ lw_all := lw_g (lw_at lw_m2 94 rfl) rfl
theorem q366 : (Jvm.Cond.methodLink "ArchetypeWorldLaw" (80 : Nat) ({ cls := "ArchetypeWorldModel", name := "frame", desc := "(I)I" } : Jvm.MethodName)) ∈ lw_all := lw_g (lw_at lw_m2 98 rfl) rfl
theorem q382 : (Jvm.Cond.methodLink "ArchetypeWorldLaw" (84 : Nat) ({ cls := "ArchetypeWorldModel", name := "digest", desc := "()I" } : Jvm.MethodName)) ∈ lw_all := lw_g (lw_at lw_m2 114 rfl) rfl
/-! the law's own entry -/
set_option maxRecDepth 100000
abbrev cL_law : ByteArray := code
theorem dL_law_0 : decode cL_law 0 = .ok (.new 7, 3) := by decide +kernel
theorem dL_law_3 : decode cL_law 3 = .ok (.dup, 1) := by decide +kernel
theorem dL_law_4 : decode cL_law 4 = .ok (.invokespecial 9, 3) := by decide +kernel
theorem dL_law_7 : decode cL_law 7 = .ok (.astore_n 1, 1) := by decide +kernel
theorem dL_law_8 : decode cL_law 8 = .ok (.new 10, 3) := by decide +kernel
theorem dL_law_11 : decode cL_law 11 = .ok (.dup, 1) := by decide +kernel
theorem dL_law_12 : decode cL_law 12 = .ok (.invokespecial 12, 3) := by decide +kernel
theorem dL_law_15 : decode cL_law 15 = .ok (.astore_n 2, 1) := by decide +kernel
theorem dL_law_16 : decode cL_law 16 = .ok (.iconst 0, 1) := by decide +kernel
theorem dL_law_17 : decode cL_law 17 = .ok (.istore_n 3, 1) := by decide +kernel
theorem dL_law_18 : decode cL_law 18 = .ok (.iload_n 3, 1) := by decide +kernel
theorem dL_law_19 : decode cL_law 19 = .ok (.aload_n 0, 1) := by decide +kernel
theorem dL_law_20 : decode cL_law 20 = .ok (.arraylength, 1) := by decide +kernel
theorem dL_law_21 : decode cL_law 21 = .ok (.iconst 4, 1) := by decide +kernel
theorem dL_law_22 : decode cL_law 22 = .ok (.isub, 1) := by decide +kernel
theorem dL_law_23 : decode cL_law 23 = .ok (.if_icmp .gt 550, 3) := by decide +kernel
theorem dL_law_26 : decode cL_law 26 = .ok (.aload_n 0, 1) := by decide +kernel
theorem dL_law_27 : decode cL_law 27 = .ok (.iload_n 3, 1) := by decide +kernel
theorem dL_law_28 : decode cL_law 28 = .ok (.iaload, 1) := by decide +kernel
theorem dL_law_29 : decode cL_law 29 = .ok (.bipush 31, 2) := by decide +kernel
theorem dL_law_31 : decode cL_law 31 = .ok (.iand, 1) := by decide +kernel
theorem dL_law_32 : decode cL_law 32 = .ok (.tableswitch 535 0 16 #[84, 117, 140, 183, 216, 249, 272, 285, 318, 361, 404, 417, 450, 463, 486, 499, 522], 84) := by decide +kernel
theorem dL_law_116 : decode cL_law 116 = .ok (.aload_n 1, 1) := by decide +kernel
theorem dL_law_117 : decode cL_law 117 = .ok (.aload_n 0, 1) := by decide +kernel
theorem dL_law_118 : decode cL_law 118 = .ok (.iload_n 3, 1) := by decide +kernel
theorem dL_law_119 : decode cL_law 119 = .ok (.iconst 1, 1) := by decide +kernel
theorem dL_law_120 : decode cL_law 120 = .ok (.iadd, 1) := by decide +kernel
theorem dL_law_121 : decode cL_law 121 = .ok (.iaload, 1) := by decide +kernel
theorem dL_law_122 : decode cL_law 122 = .ok (.aload_n 0, 1) := by decide +kernel
theorem dL_law_123 : decode cL_law 123 = .ok (.iload_n 3, 1) := by decide +kernel
theorem dL_law_124 : decode cL_law 124 = .ok (.iconst 2, 1) := by decide +kernel
theorem dL_law_125 : decode cL_law 125 = .ok (.iadd, 1) := by decide +kernel
theorem dL_law_126 : decode cL_law 126 = .ok (.iaload, 1) := by decide +kernel
theorem dL_law_127 : decode cL_law 127 = .ok (.invokevirtual 13, 3) := by decide +kernel
theorem dL_law_130 : decode cL_law 130 = .ok (.aload_n 2, 1) := by decide +kernel
theorem dL_law_131 : decode cL_law 131 = .ok (.aload_n 0, 1) := by decide +kernel
theorem dL_law_132 : decode cL_law 132 = .ok (.iload_n 3, 1) := by decide +kernel
theorem dL_law_133 : decode cL_law 133 = .ok (.iconst 1, 1) := by decide +kernel
theorem dL_law_134 : decode cL_law 134 = .ok (.iadd, 1) := by decide +kernel
theorem dL_law_135 : decode cL_law 135 = .ok (.iaload, 1) := by decide +kernel
theorem dL_law_136 : decode cL_law 136 = .ok (.aload_n 0, 1) := by decide +kernel
theorem dL_law_137 : decode cL_law 137 = .ok (.iload_n 3, 1) := by decide +kernel
theorem dL_law_138 : decode cL_law 138 = .ok (.iconst 2, 1) := by decide +kernel
theorem dL_law_139 : decode cL_law 139 = .ok (.iadd, 1) := by decide +kernel
theorem dL_law_140 : decode cL_law 140 = .ok (.iaload, 1) := by decide +kernel
theorem dL_law_141 : decode cL_law 141 = .ok (.invokevirtual 17, 3) := by decide +kernel
theorem dL_law_144 : decode cL_law 144 = .ok (.if_icmp .eq 423, 3) := by decide +kernel
theorem dL_law_147 : decode cL_law 147 = .ok (.iconst 0, 1) := by decide +kernel
theorem dL_law_148 : decode cL_law 148 = .ok (.ireturn, 1) := by decide +kernel
theorem dL_law_149 : decode cL_law 149 = .ok (.aload_n 1, 1) := by decide +kernel
theorem dL_law_150 : decode cL_law 150 = .ok (.aload_n 0, 1) := by decide +kernel
theorem dL_law_151 : decode cL_law 151 = .ok (.iload_n 3, 1) := by decide +kernel
theorem dL_law_152 : decode cL_law 152 = .ok (.iconst 1, 1) := by decide +kernel
theorem dL_law_153 : decode cL_law 153 = .ok (.iadd, 1) := by decide +kernel
theorem dL_law_154 : decode cL_law 154 = .ok (.iaload, 1) := by decide +kernel
theorem dL_law_155 : decode cL_law 155 = .ok (.invokevirtual 18, 3) := by decide +kernel
theorem dL_law_158 : decode cL_law 158 = .ok (.aload_n 2, 1) := by decide +kernel
theorem dL_law_159 : decode cL_law 159 = .ok (.aload_n 0, 1) := by decide +kernel
theorem dL_law_160 : decode cL_law 160 = .ok (.iload_n 3, 1) := by decide +kernel
theorem dL_law_161 : decode cL_law 161 = .ok (.iconst 1, 1) := by decide +kernel
theorem dL_law_162 : decode cL_law 162 = .ok (.iadd, 1) := by decide +kernel
theorem dL_law_163 : decode cL_law 163 = .ok (.iaload, 1) := by decide +kernel
theorem dL_law_164 : decode cL_law 164 = .ok (.invokevirtual 22, 3) := by decide +kernel
theorem dL_law_167 : decode cL_law 167 = .ok (.if_icmp .eq 400, 3) := by decide +kernel
theorem dL_law_170 : decode cL_law 170 = .ok (.iconst 0, 1) := by decide +kernel
theorem dL_law_171 : decode cL_law 171 = .ok (.ireturn, 1) := by decide +kernel
theorem dL_law_172 : decode cL_law 172 = .ok (.aload_n 1, 1) := by decide +kernel
theorem dL_law_173 : decode cL_law 173 = .ok (.aload_n 0, 1) := by decide +kernel
theorem dL_law_174 : decode cL_law 174 = .ok (.iload_n 3, 1) := by decide +kernel
theorem dL_law_175 : decode cL_law 175 = .ok (.iconst 1, 1) := by decide +kernel
theorem dL_law_176 : decode cL_law 176 = .ok (.iadd, 1) := by decide +kernel
theorem dL_law_177 : decode cL_law 177 = .ok (.iaload, 1) := by decide +kernel
theorem dL_law_178 : decode cL_law 178 = .ok (.aload_n 0, 1) := by decide +kernel
theorem dL_law_179 : decode cL_law 179 = .ok (.iload_n 3, 1) := by decide +kernel
theorem dL_law_180 : decode cL_law 180 = .ok (.iconst 2, 1) := by decide +kernel
theorem dL_law_181 : decode cL_law 181 = .ok (.iadd, 1) := by decide +kernel
theorem dL_law_182 : decode cL_law 182 = .ok (.iaload, 1) := by decide +kernel
theorem dL_law_183 : decode cL_law 183 = .ok (.aload_n 0, 1) := by decide +kernel
theorem dL_law_184 : decode cL_law 184 = .ok (.iload_n 3, 1) := by decide +kernel
theorem dL_law_185 : decode cL_law 185 = .ok (.iconst 3, 1) := by decide +kernel
theorem dL_law_186 : decode cL_law 186 = .ok (.iadd, 1) := by decide +kernel
theorem dL_law_187 : decode cL_law 187 = .ok (.iaload, 1) := by decide +kernel
theorem dL_law_188 : decode cL_law 188 = .ok (.invokevirtual 23, 3) := by decide +kernel
theorem dL_law_191 : decode cL_law 191 = .ok (.aload_n 2, 1) := by decide +kernel
theorem dL_law_192 : decode cL_law 192 = .ok (.aload_n 0, 1) := by decide +kernel
theorem dL_law_193 : decode cL_law 193 = .ok (.iload_n 3, 1) := by decide +kernel
theorem dL_law_194 : decode cL_law 194 = .ok (.iconst 1, 1) := by decide +kernel
theorem dL_law_195 : decode cL_law 195 = .ok (.iadd, 1) := by decide +kernel
theorem dL_law_196 : decode cL_law 196 = .ok (.iaload, 1) := by decide +kernel
theorem dL_law_197 : decode cL_law 197 = .ok (.aload_n 0, 1) := by decide +kernel
theorem dL_law_198 : decode cL_law 198 = .ok (.iload_n 3, 1) := by decide +kernel
theorem dL_law_199 : decode cL_law 199 = .ok (.iconst 2, 1) := by decide +kernel
theorem dL_law_200 : decode cL_law 200 = .ok (.iadd, 1) := by decide +kernel
theorem dL_law_201 : decode cL_law 201 = .ok (.iaload, 1) := by decide +kernel
theorem dL_law_202 : decode cL_law 202 = .ok (.aload_n 0, 1) := by decide +kernel
theorem dL_law_203 : decode cL_law 203 = .ok (.iload_n 3, 1) := by decide +kernel
theorem dL_law_204 : decode cL_law 204 = .ok (.iconst 3, 1) := by decide +kernel
theorem dL_law_205 : decode cL_law 205 = .ok (.iadd, 1) := by decide +kernel
theorem dL_law_206 : decode cL_law 206 = .ok (.iaload, 1) := by decide +kernel
theorem dL_law_207 : decode cL_law 207 = .ok (.invokevirtual 27, 3) := by decide +kernel
theorem dL_law_210 : decode cL_law 210 = .ok (.if_icmp .eq 357, 3) := by decide +kernel
theorem dL_law_213 : decode cL_law 213 = .ok (.iconst 0, 1) := by decide +kernel
theorem dL_law_214 : decode cL_law 214 = .ok (.ireturn, 1) := by decide +kernel
theorem dL_law_215 : decode cL_law 215 = .ok (.aload_n 1, 1) := by decide +kernel
theorem dL_law_216 : decode cL_law 216 = .ok (.aload_n 0, 1) := by decide +kernel
theorem dL_law_217 : decode cL_law 217 = .ok (.iload_n 3, 1) := by decide +kernel
theorem dL_law_218 : decode cL_law 218 = .ok (.iconst 1, 1) := by decide +kernel
theorem dL_law_219 : decode cL_law 219 = .ok (.iadd, 1) := by decide +kernel
theorem dL_law_220 : decode cL_law 220 = .ok (.iaload, 1) := by decide +kernel
theorem dL_law_221 : decode cL_law 221 = .ok (.aload_n 0, 1) := by decide +kernel
theorem dL_law_222 : decode cL_law 222 = .ok (.iload_n 3, 1) := by decide +kernel
theorem dL_law_223 : decode cL_law 223 = .ok (.iconst 2, 1) := by decide +kernel
theorem dL_law_224 : decode cL_law 224 = .ok (.iadd, 1) := by decide +kernel
theorem dL_law_225 : decode cL_law 225 = .ok (.iaload, 1) := by decide +kernel
theorem dL_law_226 : decode cL_law 226 = .ok (.invokevirtual 28, 3) := by decide +kernel
theorem dL_law_229 : decode cL_law 229 = .ok (.aload_n 2, 1) := by decide +kernel
theorem dL_law_230 : decode cL_law 230 = .ok (.aload_n 0, 1) := by decide +kernel
theorem dL_law_231 : decode cL_law 231 = .ok (.iload_n 3, 1) := by decide +kernel
theorem dL_law_232 : decode cL_law 232 = .ok (.iconst 1, 1) := by decide +kernel
theorem dL_law_233 : decode cL_law 233 = .ok (.iadd, 1) := by decide +kernel
theorem dL_law_234 : decode cL_law 234 = .ok (.iaload, 1) := by decide +kernel
theorem dL_law_235 : decode cL_law 235 = .ok (.aload_n 0, 1) := by decide +kernel
theorem dL_law_236 : decode cL_law 236 = .ok (.iload_n 3, 1) := by decide +kernel
theorem dL_law_237 : decode cL_law 237 = .ok (.iconst 2, 1) := by decide +kernel
theorem dL_law_238 : decode cL_law 238 = .ok (.iadd, 1) := by decide +kernel
theorem dL_law_239 : decode cL_law 239 = .ok (.iaload, 1) := by decide +kernel
theorem dL_law_240 : decode cL_law 240 = .ok (.invokevirtual 31, 3) := by decide +kernel
theorem dL_law_243 : decode cL_law 243 = .ok (.if_icmp .eq 324, 3) := by decide +kernel
theorem dL_law_246 : decode cL_law 246 = .ok (.iconst 0, 1) := by decide +kernel
theorem dL_law_247 : decode cL_law 247 = .ok (.ireturn, 1) := by decide +kernel
theorem dL_law_248 : decode cL_law 248 = .ok (.aload_n 1, 1) := by decide +kernel
theorem dL_law_249 : decode cL_law 249 = .ok (.aload_n 0, 1) := by decide +kernel
theorem dL_law_250 : decode cL_law 250 = .ok (.iload_n 3, 1) := by decide +kernel
theorem dL_law_251 : decode cL_law 251 = .ok (.iconst 1, 1) := by decide +kernel
theorem dL_law_252 : decode cL_law 252 = .ok (.iadd, 1) := by decide +kernel
theorem dL_law_253 : decode cL_law 253 = .ok (.iaload, 1) := by decide +kernel
theorem dL_law_254 : decode cL_law 254 = .ok (.aload_n 0, 1) := by decide +kernel
theorem dL_law_255 : decode cL_law 255 = .ok (.iload_n 3, 1) := by decide +kernel
theorem dL_law_256 : decode cL_law 256 = .ok (.iconst 2, 1) := by decide +kernel
theorem dL_law_257 : decode cL_law 257 = .ok (.iadd, 1) := by decide +kernel
theorem dL_law_258 : decode cL_law 258 = .ok (.iaload, 1) := by decide +kernel
theorem dL_law_259 : decode cL_law 259 = .ok (.invokevirtual 32, 3) := by decide +kernel
theorem dL_law_262 : decode cL_law 262 = .ok (.aload_n 2, 1) := by decide +kernel
theorem dL_law_263 : decode cL_law 263 = .ok (.aload_n 0, 1) := by decide +kernel
theorem dL_law_264 : decode cL_law 264 = .ok (.iload_n 3, 1) := by decide +kernel
theorem dL_law_265 : decode cL_law 265 = .ok (.iconst 1, 1) := by decide +kernel
theorem dL_law_266 : decode cL_law 266 = .ok (.iadd, 1) := by decide +kernel
theorem dL_law_267 : decode cL_law 267 = .ok (.iaload, 1) := by decide +kernel
theorem dL_law_268 : decode cL_law 268 = .ok (.aload_n 0, 1) := by decide +kernel
theorem dL_law_269 : decode cL_law 269 = .ok (.iload_n 3, 1) := by decide +kernel
theorem dL_law_270 : decode cL_law 270 = .ok (.iconst 2, 1) := by decide +kernel
theorem dL_law_271 : decode cL_law 271 = .ok (.iadd, 1) := by decide +kernel
theorem dL_law_272 : decode cL_law 272 = .ok (.iaload, 1) := by decide +kernel
theorem dL_law_273 : decode cL_law 273 = .ok (.invokevirtual 35, 3) := by decide +kernel
theorem dL_law_276 : decode cL_law 276 = .ok (.if_icmp .eq 291, 3) := by decide +kernel
theorem dL_law_279 : decode cL_law 279 = .ok (.iconst 0, 1) := by decide +kernel
theorem dL_law_280 : decode cL_law 280 = .ok (.ireturn, 1) := by decide +kernel
theorem dL_law_281 : decode cL_law 281 = .ok (.aload_n 1, 1) := by decide +kernel
theorem dL_law_282 : decode cL_law 282 = .ok (.aload_n 0, 1) := by decide +kernel
theorem dL_law_283 : decode cL_law 283 = .ok (.iload_n 3, 1) := by decide +kernel
theorem dL_law_284 : decode cL_law 284 = .ok (.iconst 1, 1) := by decide +kernel
theorem dL_law_285 : decode cL_law 285 = .ok (.iadd, 1) := by decide +kernel
theorem dL_law_286 : decode cL_law 286 = .ok (.iaload, 1) := by decide +kernel
theorem dL_law_287 : decode cL_law 287 = .ok (.invokevirtual 36, 3) := by decide +kernel
theorem dL_law_290 : decode cL_law 290 = .ok (.aload_n 2, 1) := by decide +kernel
theorem dL_law_291 : decode cL_law 291 = .ok (.aload_n 0, 1) := by decide +kernel
theorem dL_law_292 : decode cL_law 292 = .ok (.iload_n 3, 1) := by decide +kernel
theorem dL_law_293 : decode cL_law 293 = .ok (.iconst 1, 1) := by decide +kernel
theorem dL_law_294 : decode cL_law 294 = .ok (.iadd, 1) := by decide +kernel
theorem dL_law_295 : decode cL_law 295 = .ok (.iaload, 1) := by decide +kernel
theorem dL_law_296 : decode cL_law 296 = .ok (.invokevirtual 39, 3) := by decide +kernel
theorem dL_law_299 : decode cL_law 299 = .ok (.if_icmp .eq 268, 3) := by decide +kernel
theorem dL_law_302 : decode cL_law 302 = .ok (.iconst 0, 1) := by decide +kernel
theorem dL_law_303 : decode cL_law 303 = .ok (.ireturn, 1) := by decide +kernel
theorem dL_law_304 : decode cL_law 304 = .ok (.aload_n 1, 1) := by decide +kernel
theorem dL_law_305 : decode cL_law 305 = .ok (.invokevirtual 40, 3) := by decide +kernel
theorem dL_law_308 : decode cL_law 308 = .ok (.aload_n 2, 1) := by decide +kernel
theorem dL_law_309 : decode cL_law 309 = .ok (.invokevirtual 44, 3) := by decide +kernel
theorem dL_law_312 : decode cL_law 312 = .ok (.if_icmp .eq 255, 3) := by decide +kernel
theorem dL_law_315 : decode cL_law 315 = .ok (.iconst 0, 1) := by decide +kernel
theorem dL_law_316 : decode cL_law 316 = .ok (.ireturn, 1) := by decide +kernel
theorem dL_law_317 : decode cL_law 317 = .ok (.aload_n 1, 1) := by decide +kernel
theorem dL_law_318 : decode cL_law 318 = .ok (.aload_n 0, 1) := by decide +kernel
theorem dL_law_319 : decode cL_law 319 = .ok (.iload_n 3, 1) := by decide +kernel
theorem dL_law_320 : decode cL_law 320 = .ok (.iconst 1, 1) := by decide +kernel
theorem dL_law_321 : decode cL_law 321 = .ok (.iadd, 1) := by decide +kernel
theorem dL_law_322 : decode cL_law 322 = .ok (.iaload, 1) := by decide +kernel
theorem dL_law_323 : decode cL_law 323 = .ok (.aload_n 0, 1) := by decide +kernel
theorem dL_law_324 : decode cL_law 324 = .ok (.iload_n 3, 1) := by decide +kernel
theorem dL_law_325 : decode cL_law 325 = .ok (.iconst 2, 1) := by decide +kernel
theorem dL_law_326 : decode cL_law 326 = .ok (.iadd, 1) := by decide +kernel
theorem dL_law_327 : decode cL_law 327 = .ok (.iaload, 1) := by decide +kernel
theorem dL_law_328 : decode cL_law 328 = .ok (.invokevirtual 45, 3) := by decide +kernel
theorem dL_law_331 : decode cL_law 331 = .ok (.aload_n 2, 1) := by decide +kernel
theorem dL_law_332 : decode cL_law 332 = .ok (.aload_n 0, 1) := by decide +kernel
theorem dL_law_333 : decode cL_law 333 = .ok (.iload_n 3, 1) := by decide +kernel
theorem dL_law_334 : decode cL_law 334 = .ok (.iconst 1, 1) := by decide +kernel
theorem dL_law_335 : decode cL_law 335 = .ok (.iadd, 1) := by decide +kernel
theorem dL_law_336 : decode cL_law 336 = .ok (.iaload, 1) := by decide +kernel
theorem dL_law_337 : decode cL_law 337 = .ok (.aload_n 0, 1) := by decide +kernel
theorem dL_law_338 : decode cL_law 338 = .ok (.iload_n 3, 1) := by decide +kernel
theorem dL_law_339 : decode cL_law 339 = .ok (.iconst 2, 1) := by decide +kernel
theorem dL_law_340 : decode cL_law 340 = .ok (.iadd, 1) := by decide +kernel
theorem dL_law_341 : decode cL_law 341 = .ok (.iaload, 1) := by decide +kernel
theorem dL_law_342 : decode cL_law 342 = .ok (.invokevirtual 48, 3) := by decide +kernel
theorem dL_law_345 : decode cL_law 345 = .ok (.if_icmp .eq 222, 3) := by decide +kernel
theorem dL_law_348 : decode cL_law 348 = .ok (.iconst 0, 1) := by decide +kernel
theorem dL_law_349 : decode cL_law 349 = .ok (.ireturn, 1) := by decide +kernel
theorem dL_law_350 : decode cL_law 350 = .ok (.aload_n 1, 1) := by decide +kernel
theorem dL_law_351 : decode cL_law 351 = .ok (.aload_n 0, 1) := by decide +kernel
theorem dL_law_352 : decode cL_law 352 = .ok (.iload_n 3, 1) := by decide +kernel
theorem dL_law_353 : decode cL_law 353 = .ok (.iconst 1, 1) := by decide +kernel
theorem dL_law_354 : decode cL_law 354 = .ok (.iadd, 1) := by decide +kernel
theorem dL_law_355 : decode cL_law 355 = .ok (.iaload, 1) := by decide +kernel
theorem dL_law_356 : decode cL_law 356 = .ok (.aload_n 0, 1) := by decide +kernel
theorem dL_law_357 : decode cL_law 357 = .ok (.iload_n 3, 1) := by decide +kernel
theorem dL_law_358 : decode cL_law 358 = .ok (.iconst 2, 1) := by decide +kernel
theorem dL_law_359 : decode cL_law 359 = .ok (.iadd, 1) := by decide +kernel
theorem dL_law_360 : decode cL_law 360 = .ok (.iaload, 1) := by decide +kernel
theorem dL_law_361 : decode cL_law 361 = .ok (.aload_n 0, 1) := by decide +kernel
theorem dL_law_362 : decode cL_law 362 = .ok (.iload_n 3, 1) := by decide +kernel
theorem dL_law_363 : decode cL_law 363 = .ok (.iconst 3, 1) := by decide +kernel
theorem dL_law_364 : decode cL_law 364 = .ok (.iadd, 1) := by decide +kernel
theorem dL_law_365 : decode cL_law 365 = .ok (.iaload, 1) := by decide +kernel
theorem dL_law_366 : decode cL_law 366 = .ok (.invokevirtual 49, 3) := by decide +kernel
theorem dL_law_369 : decode cL_law 369 = .ok (.aload_n 2, 1) := by decide +kernel
theorem dL_law_370 : decode cL_law 370 = .ok (.aload_n 0, 1) := by decide +kernel
theorem dL_law_371 : decode cL_law 371 = .ok (.iload_n 3, 1) := by decide +kernel
theorem dL_law_372 : decode cL_law 372 = .ok (.iconst 1, 1) := by decide +kernel
theorem dL_law_373 : decode cL_law 373 = .ok (.iadd, 1) := by decide +kernel
theorem dL_law_374 : decode cL_law 374 = .ok (.iaload, 1) := by decide +kernel
theorem dL_law_375 : decode cL_law 375 = .ok (.aload_n 0, 1) := by decide +kernel
theorem dL_law_376 : decode cL_law 376 = .ok (.iload_n 3, 1) := by decide +kernel
theorem dL_law_377 : decode cL_law 377 = .ok (.iconst 2, 1) := by decide +kernel
theorem dL_law_378 : decode cL_law 378 = .ok (.iadd, 1) := by decide +kernel
theorem dL_law_379 : decode cL_law 379 = .ok (.iaload, 1) := by decide +kernel
theorem dL_law_380 : decode cL_law 380 = .ok (.aload_n 0, 1) := by decide +kernel
theorem dL_law_381 : decode cL_law 381 = .ok (.iload_n 3, 1) := by decide +kernel
theorem dL_law_382 : decode cL_law 382 = .ok (.iconst 3, 1) := by decide +kernel
theorem dL_law_383 : decode cL_law 383 = .ok (.iadd, 1) := by decide +kernel
theorem dL_law_384 : decode cL_law 384 = .ok (.iaload, 1) := by decide +kernel
theorem dL_law_385 : decode cL_law 385 = .ok (.invokevirtual 52, 3) := by decide +kernel
theorem dL_law_388 : decode cL_law 388 = .ok (.if_icmp .eq 179, 3) := by decide +kernel
theorem dL_law_391 : decode cL_law 391 = .ok (.iconst 0, 1) := by decide +kernel
theorem dL_law_392 : decode cL_law 392 = .ok (.ireturn, 1) := by decide +kernel
theorem dL_law_393 : decode cL_law 393 = .ok (.aload_n 1, 1) := by decide +kernel
theorem dL_law_394 : decode cL_law 394 = .ok (.aload_n 0, 1) := by decide +kernel
theorem dL_law_395 : decode cL_law 395 = .ok (.iload_n 3, 1) := by decide +kernel
theorem dL_law_396 : decode cL_law 396 = .ok (.iconst 1, 1) := by decide +kernel
theorem dL_law_397 : decode cL_law 397 = .ok (.iadd, 1) := by decide +kernel
theorem dL_law_398 : decode cL_law 398 = .ok (.iaload, 1) := by decide +kernel
theorem dL_law_399 : decode cL_law 399 = .ok (.aload_n 0, 1) := by decide +kernel
theorem dL_law_400 : decode cL_law 400 = .ok (.iload_n 3, 1) := by decide +kernel
theorem dL_law_401 : decode cL_law 401 = .ok (.iconst 2, 1) := by decide +kernel
theorem dL_law_402 : decode cL_law 402 = .ok (.iadd, 1) := by decide +kernel
theorem dL_law_403 : decode cL_law 403 = .ok (.iaload, 1) := by decide +kernel
theorem dL_law_404 : decode cL_law 404 = .ok (.aload_n 0, 1) := by decide +kernel
theorem dL_law_405 : decode cL_law 405 = .ok (.iload_n 3, 1) := by decide +kernel
theorem dL_law_406 : decode cL_law 406 = .ok (.iconst 3, 1) := by decide +kernel
theorem dL_law_407 : decode cL_law 407 = .ok (.iadd, 1) := by decide +kernel
theorem dL_law_408 : decode cL_law 408 = .ok (.iaload, 1) := by decide +kernel
theorem dL_law_409 : decode cL_law 409 = .ok (.invokevirtual 53, 3) := by decide +kernel
theorem dL_law_412 : decode cL_law 412 = .ok (.aload_n 2, 1) := by decide +kernel
theorem dL_law_413 : decode cL_law 413 = .ok (.aload_n 0, 1) := by decide +kernel
theorem dL_law_414 : decode cL_law 414 = .ok (.iload_n 3, 1) := by decide +kernel
theorem dL_law_415 : decode cL_law 415 = .ok (.iconst 1, 1) := by decide +kernel
theorem dL_law_416 : decode cL_law 416 = .ok (.iadd, 1) := by decide +kernel
theorem dL_law_417 : decode cL_law 417 = .ok (.iaload, 1) := by decide +kernel
theorem dL_law_418 : decode cL_law 418 = .ok (.aload_n 0, 1) := by decide +kernel
theorem dL_law_419 : decode cL_law 419 = .ok (.iload_n 3, 1) := by decide +kernel
theorem dL_law_420 : decode cL_law 420 = .ok (.iconst 2, 1) := by decide +kernel
theorem dL_law_421 : decode cL_law 421 = .ok (.iadd, 1) := by decide +kernel
theorem dL_law_422 : decode cL_law 422 = .ok (.iaload, 1) := by decide +kernel
theorem dL_law_423 : decode cL_law 423 = .ok (.aload_n 0, 1) := by decide +kernel
theorem dL_law_424 : decode cL_law 424 = .ok (.iload_n 3, 1) := by decide +kernel
theorem dL_law_425 : decode cL_law 425 = .ok (.iconst 3, 1) := by decide +kernel
theorem dL_law_426 : decode cL_law 426 = .ok (.iadd, 1) := by decide +kernel
theorem dL_law_427 : decode cL_law 427 = .ok (.iaload, 1) := by decide +kernel
theorem dL_law_428 : decode cL_law 428 = .ok (.invokevirtual 56, 3) := by decide +kernel
theorem dL_law_431 : decode cL_law 431 = .ok (.if_icmp .eq 136, 3) := by decide +kernel
theorem dL_law_434 : decode cL_law 434 = .ok (.iconst 0, 1) := by decide +kernel
theorem dL_law_435 : decode cL_law 435 = .ok (.ireturn, 1) := by decide +kernel
theorem dL_law_436 : decode cL_law 436 = .ok (.aload_n 1, 1) := by decide +kernel
theorem dL_law_437 : decode cL_law 437 = .ok (.invokevirtual 57, 3) := by decide +kernel
theorem dL_law_440 : decode cL_law 440 = .ok (.aload_n 2, 1) := by decide +kernel
theorem dL_law_441 : decode cL_law 441 = .ok (.invokevirtual 60, 3) := by decide +kernel
theorem dL_law_444 : decode cL_law 444 = .ok (.if_icmp .eq 123, 3) := by decide +kernel
theorem dL_law_447 : decode cL_law 447 = .ok (.iconst 0, 1) := by decide +kernel
theorem dL_law_448 : decode cL_law 448 = .ok (.ireturn, 1) := by decide +kernel
theorem dL_law_449 : decode cL_law 449 = .ok (.aload_n 1, 1) := by decide +kernel
theorem dL_law_450 : decode cL_law 450 = .ok (.aload_n 0, 1) := by decide +kernel
theorem dL_law_451 : decode cL_law 451 = .ok (.iload_n 3, 1) := by decide +kernel
theorem dL_law_452 : decode cL_law 452 = .ok (.iconst 1, 1) := by decide +kernel
theorem dL_law_453 : decode cL_law 453 = .ok (.iadd, 1) := by decide +kernel
theorem dL_law_454 : decode cL_law 454 = .ok (.iaload, 1) := by decide +kernel
theorem dL_law_455 : decode cL_law 455 = .ok (.aload_n 0, 1) := by decide +kernel
theorem dL_law_456 : decode cL_law 456 = .ok (.iload_n 3, 1) := by decide +kernel
theorem dL_law_457 : decode cL_law 457 = .ok (.iconst 2, 1) := by decide +kernel
theorem dL_law_458 : decode cL_law 458 = .ok (.iadd, 1) := by decide +kernel
theorem dL_law_459 : decode cL_law 459 = .ok (.iaload, 1) := by decide +kernel
theorem dL_law_460 : decode cL_law 460 = .ok (.invokevirtual 61, 3) := by decide +kernel
theorem dL_law_463 : decode cL_law 463 = .ok (.aload_n 2, 1) := by decide +kernel
theorem dL_law_464 : decode cL_law 464 = .ok (.aload_n 0, 1) := by decide +kernel
theorem dL_law_465 : decode cL_law 465 = .ok (.iload_n 3, 1) := by decide +kernel
theorem dL_law_466 : decode cL_law 466 = .ok (.iconst 1, 1) := by decide +kernel
theorem dL_law_467 : decode cL_law 467 = .ok (.iadd, 1) := by decide +kernel
theorem dL_law_468 : decode cL_law 468 = .ok (.iaload, 1) := by decide +kernel
theorem dL_law_469 : decode cL_law 469 = .ok (.aload_n 0, 1) := by decide +kernel
theorem dL_law_470 : decode cL_law 470 = .ok (.iload_n 3, 1) := by decide +kernel
theorem dL_law_471 : decode cL_law 471 = .ok (.iconst 2, 1) := by decide +kernel
theorem dL_law_472 : decode cL_law 472 = .ok (.iadd, 1) := by decide +kernel
theorem dL_law_473 : decode cL_law 473 = .ok (.iaload, 1) := by decide +kernel
theorem dL_law_474 : decode cL_law 474 = .ok (.invokevirtual 64, 3) := by decide +kernel
theorem dL_law_477 : decode cL_law 477 = .ok (.if_icmp .eq 90, 3) := by decide +kernel
theorem dL_law_480 : decode cL_law 480 = .ok (.iconst 0, 1) := by decide +kernel
theorem dL_law_481 : decode cL_law 481 = .ok (.ireturn, 1) := by decide +kernel
theorem dL_law_482 : decode cL_law 482 = .ok (.aload_n 1, 1) := by decide +kernel
theorem dL_law_483 : decode cL_law 483 = .ok (.invokevirtual 65, 3) := by decide +kernel
theorem dL_law_486 : decode cL_law 486 = .ok (.aload_n 2, 1) := by decide +kernel
theorem dL_law_487 : decode cL_law 487 = .ok (.invokevirtual 68, 3) := by decide +kernel
theorem dL_law_490 : decode cL_law 490 = .ok (.if_icmp .eq 77, 3) := by decide +kernel
theorem dL_law_493 : decode cL_law 493 = .ok (.iconst 0, 1) := by decide +kernel
theorem dL_law_494 : decode cL_law 494 = .ok (.ireturn, 1) := by decide +kernel
theorem dL_law_495 : decode cL_law 495 = .ok (.aload_n 1, 1) := by decide +kernel
theorem dL_law_496 : decode cL_law 496 = .ok (.aload_n 0, 1) := by decide +kernel
theorem dL_law_497 : decode cL_law 497 = .ok (.iload_n 3, 1) := by decide +kernel
theorem dL_law_498 : decode cL_law 498 = .ok (.iconst 1, 1) := by decide +kernel
theorem dL_law_499 : decode cL_law 499 = .ok (.iadd, 1) := by decide +kernel
theorem dL_law_500 : decode cL_law 500 = .ok (.iaload, 1) := by decide +kernel
theorem dL_law_501 : decode cL_law 501 = .ok (.invokevirtual 69, 3) := by decide +kernel
theorem dL_law_504 : decode cL_law 504 = .ok (.aload_n 2, 1) := by decide +kernel
theorem dL_law_505 : decode cL_law 505 = .ok (.aload_n 0, 1) := by decide +kernel
theorem dL_law_506 : decode cL_law 506 = .ok (.iload_n 3, 1) := by decide +kernel
theorem dL_law_507 : decode cL_law 507 = .ok (.iconst 1, 1) := by decide +kernel
theorem dL_law_508 : decode cL_law 508 = .ok (.iadd, 1) := by decide +kernel
theorem dL_law_509 : decode cL_law 509 = .ok (.iaload, 1) := by decide +kernel
theorem dL_law_510 : decode cL_law 510 = .ok (.invokevirtual 72, 3) := by decide +kernel
theorem dL_law_513 : decode cL_law 513 = .ok (.if_icmp .eq 54, 3) := by decide +kernel
theorem dL_law_516 : decode cL_law 516 = .ok (.iconst 0, 1) := by decide +kernel
theorem dL_law_517 : decode cL_law 517 = .ok (.ireturn, 1) := by decide +kernel
theorem dL_law_518 : decode cL_law 518 = .ok (.aload_n 1, 1) := by decide +kernel
theorem dL_law_519 : decode cL_law 519 = .ok (.invokevirtual 73, 3) := by decide +kernel
theorem dL_law_522 : decode cL_law 522 = .ok (.aload_n 2, 1) := by decide +kernel
theorem dL_law_523 : decode cL_law 523 = .ok (.invokevirtual 76, 3) := by decide +kernel
theorem dL_law_526 : decode cL_law 526 = .ok (.if_icmp .eq 41, 3) := by decide +kernel
theorem dL_law_529 : decode cL_law 529 = .ok (.iconst 0, 1) := by decide +kernel
theorem dL_law_530 : decode cL_law 530 = .ok (.ireturn, 1) := by decide +kernel
theorem dL_law_531 : decode cL_law 531 = .ok (.aload_n 1, 1) := by decide +kernel
theorem dL_law_532 : decode cL_law 532 = .ok (.aload_n 0, 1) := by decide +kernel
theorem dL_law_533 : decode cL_law 533 = .ok (.iload_n 3, 1) := by decide +kernel
theorem dL_law_534 : decode cL_law 534 = .ok (.iconst 1, 1) := by decide +kernel
theorem dL_law_535 : decode cL_law 535 = .ok (.iadd, 1) := by decide +kernel
theorem dL_law_536 : decode cL_law 536 = .ok (.iaload, 1) := by decide +kernel
theorem dL_law_537 : decode cL_law 537 = .ok (.invokevirtual 77, 3) := by decide +kernel
theorem dL_law_540 : decode cL_law 540 = .ok (.aload_n 2, 1) := by decide +kernel
theorem dL_law_541 : decode cL_law 541 = .ok (.aload_n 0, 1) := by decide +kernel
theorem dL_law_542 : decode cL_law 542 = .ok (.iload_n 3, 1) := by decide +kernel
theorem dL_law_543 : decode cL_law 543 = .ok (.iconst 1, 1) := by decide +kernel
theorem dL_law_544 : decode cL_law 544 = .ok (.iadd, 1) := by decide +kernel
theorem dL_law_545 : decode cL_law 545 = .ok (.iaload, 1) := by decide +kernel
theorem dL_law_546 : decode cL_law 546 = .ok (.invokevirtual 80, 3) := by decide +kernel
theorem dL_law_549 : decode cL_law 549 = .ok (.if_icmp .eq 18, 3) := by decide +kernel
theorem dL_law_552 : decode cL_law 552 = .ok (.iconst 0, 1) := by decide +kernel
theorem dL_law_553 : decode cL_law 553 = .ok (.ireturn, 1) := by decide +kernel
theorem dL_law_554 : decode cL_law 554 = .ok (.aload_n 1, 1) := by decide +kernel
theorem dL_law_555 : decode cL_law 555 = .ok (.invokevirtual 81, 3) := by decide +kernel
theorem dL_law_558 : decode cL_law 558 = .ok (.aload_n 2, 1) := by decide +kernel
theorem dL_law_559 : decode cL_law 559 = .ok (.invokevirtual 84, 3) := by decide +kernel
theorem dL_law_562 : decode cL_law 562 = .ok (.if_icmp .eq 5, 3) := by decide +kernel
theorem dL_law_565 : decode cL_law 565 = .ok (.iconst 0, 1) := by decide +kernel
theorem dL_law_566 : decode cL_law 566 = .ok (.ireturn, 1) := by decide +kernel
theorem dL_law_567 : decode cL_law 567 = .ok (.iinc 3 4, 3) := by decide +kernel
theorem dL_law_570 : decode cL_law 570 = .ok (.goto (-552), 3) := by decide +kernel
theorem dL_law_573 : decode cL_law 573 = .ok (.iconst 1, 1) := by decide +kernel
theorem dL_law_574 : decode cL_law 574 = .ok (.ireturn, 1) := by decide +kernel
end
section
set_option maxRecDepth 100000
/-! THE FRAME OF THE WALKS. aw_J pic X pc lv st w: the machine, at pc with locals lv and stack st, its cells as 'pic w' says, comes to the end that X asks. X holds all that stays the same through a method's run; aw_ok says what is known of it. -/
abbrev vwCl : List vw_C := [(RX0, TX0, 19), (RX1, TX1, 10)]
/-- a state: int arrays by field number, int fields by number, the long array -/
abbrev aw_S : Type := (Nat → Nat → Int32) × (Nat → Int32) × (Nat → Int64)
/-- a layout: classes and slots; array classes (0 int, 1 long, 2 boolean); addresses by field number, the object's own at 20 -/
abbrev aw_L : Type := va_G × (Nat → ClassId) × (Nat → Nat)
abbrev aw_tys (L : aw_L) : List (ClassId × FieldType) := [(L.2.1 0, .int), (L.2.1 1, .long), (L.2.1 2, .boolean)]
def aw_A (L : aw_L) : Nat → Prop := fun q => ∃ k, q = L.2.2 k
abbrev aw_X : Type := Program × Launch × Env × Room × State × MethodId × Array Value × List Frame × Method × Code × (State → Prop) × Nat × Nat × Nat × va_G × (Nat → Prop)
def aw_nl (X : aw_X) : Nat := X.2.2.2.2.2.2.2.2.2.2.2.1
def aw_ax (X : aw_X) : Nat → Prop := X.2.2.2.2.2.2.2.2.2.2.2.2.2.2.2
def aw_J {σ : Type} (pic : σ → va_W) (X : aw_X) (pc : Nat) (lv : List (Nat × Value)) (st : List Value) (w : σ) : Prop := match X with
  | (p, l, e, R, s, m, args, below, meth, c, Q, nL, cz, sz, D, A) => ∀ (H : Heap) (locs : List Loc) (ls : Array Slot), va_P D vwCl (pic w) H → va_S A s.heap H locs → lv_has ls nL lv → W p l e R s m args below meth c H locs cz sz Q (F0 m pc ls st)
def aw_ok (l : Launch) (L : aw_L) (own : String) (cc : ByteArray) (fr lo : Nat) (X : aw_X) : Prop := match X with
  | (p, l0, _, R, s, m, args, _, meth, c, _, nL, cz, sz, D, _) => p.tables.exec = Jvm.exec ∧ c.code = cc ∧ c.maxLocals = nL ∧ s.vm.findClass own = some m.cls ∧ (∀ w ∈ lw_all, w.before args s = true) ∧ va_K D vwCl (aw_tys L) s ∧ meth.locks = false ∧ fr ≤ R.frames ∧ lo ≤ R.locals ∧ cz ≤ R.cells ∧ sz ≤ R.slots ∧ l0 = l ∧ D = L.1
/-- the locals behind a store -/
def aw_set (lv : List (Nat × Value)) (i : Nat) (v : Value) : List (Nat × Value) := if lv.any (fun q => q.1 == i) then lv.map (fun q => if q.1 == i then (i, v) else q) else lv ++ [(i, v)]
def aw_lk : List (Nat × Value) → Nat → Option Value
  | [], _ => none
  | (j, v) :: l, i => if j == i then some v else aw_lk l i
theorem aw_lk_mem : ∀ {lv : List (Nat × Value)} {i : Nat} {v : Value}, aw_lk lv i = some v → (i, v) ∈ lv
  | [], _, _, h => by cases h
  | (j, u) :: l, i, v, h => by
    unfold aw_lk at h
    by_cases hj : j = i
    · subst hj
      simp at h
      subst h
      exact List.mem_cons_self
    · have : (j == i) = false := by simpa using hj
      rw [this] at h
      exact List.mem_cons_of_mem _ (aw_lk_mem h)
theorem aw_set_mem {lv : List (Nat × Value)} {i : Nat} {v : Value} {q : Nat × Value} (h : q ∈ aw_set lv i v) : q = (i, v) ∨ (q ∈ lv ∧ q.1 ≠ i) := by
  unfold aw_set at h
  split at h
  · obtain ⟨a, ha, hq⟩ := List.mem_map.mp h
    by_cases hi : a.1 = i
    · have : (a.1 == i) = true := by simpa using hi
      rw [this] at hq
      exact Or.inl hq.symm
    · have : (a.1 == i) = false := by simpa using hi
      rw [this] at hq
      have hq : a = q := hq
      subst hq
      exact Or.inr ⟨ha, hi⟩
  · rename_i hn
    rcases List.mem_append.mp h with h | h
    · refine Or.inr ⟨h, fun e => hn ?_⟩
      exact List.any_eq_true.mpr ⟨q, h, by simpa using e⟩
    · exact Or.inl (List.mem_singleton.mp h)
def aw_c1 (lv : List (Nat × Value)) : Bool := lv.all (fun q => q.2.category == 1)
theorem aw_has_set {ls : Array Slot} {nL : Nat} {lv : List (Nat × Value)} {i : Nat} {v : Value} (h : lv_has ls nL ((i, v) :: lv.filter (fun q => !(q.1 == i) && !(q.1 + 1 == i && q.2.category == 2)))) (hc : aw_c1 lv = true) : lv_has ls nL (aw_set lv i v) := by
  refine ⟨h.1, h.2.1, fun q hq => h.2.2 q ?_⟩
  rcases aw_set_mem hq with e | ⟨e1, e2⟩
  · rw [e]
    exact List.mem_cons_self
  · refine List.mem_cons_of_mem _ (List.mem_filter.mpr ⟨e1, ?_⟩)
    have h1 : q.2.category = 1 := by simpa using List.all_eq_true.mp hc q e1
    have h2 : (q.1 == i) = false := by simpa using e2
    have h3 : (q.2.category == 2) = false := by rw [h1]; rfl
    rw [h2, h3]
    simp
section AWR
variable {σ : Type} {pic : σ → va_W} {X : aw_X} {l : Launch} {L : aw_L} {own : String} {cc : ByteArray} {fr lo : Nat} {pc pc' : Nat} {lv lv' : List (Nat × Value)} {st : List Value} {w : σ}
theorem aw_top {x y : Int32} (h : x = y) (K : aw_J pic X pc lv (.int y :: st) w) : aw_J pic X pc lv (.int x :: st) w := h ▸ K
theorem aw_topl {x y : Int64} (h : x = y) (K : aw_J pic X pc lv (.long y :: st) w) : aw_J pic X pc lv (.long x :: st) w := h ▸ K
theorem aw_wd {w w' : σ} (h : w = w') (K : aw_J pic X pc lv st w') : aw_J pic X pc lv st w := h ▸ K
theorem aw_lv {lv lv' : List (Nat × Value)} (h : lv = lv') (K : aw_J pic X pc lv' st w) : aw_J pic X pc lv st w := h ▸ K
theorem aw_st {st st' : List Value} (h : st = st') (K : aw_J pic X pc lv st' w) : aw_J pic X pc lv st w := h ▸ K
theorem aw_iconst (O : aw_ok l L own cc fr lo X) {n : Int} {v : Int32} (hd : decode cc pc = .ok (.iconst n, 1)) (hv : Int32.ofInt n = v) (hp : pc + 1 = pc') (K : aw_J pic X pc' lv (.int v :: st) w) : aw_J pic X pc lv (st) w := by
  obtain ⟨p, l0, e, R, s, m, args, below, meth, c, Q, nL, cz, sz, D, A⟩ := X
  subst hp
  intro H locs ls h1 h2 h3
  exact lv_iconst O.1 O.2.1 hd hv (K H locs ls h1 h2 h3)
theorem aw_bipush (O : aw_ok l L own cc fr lo X) {n : Int} {v : Int32} (hd : decode cc pc = .ok (.bipush n, 2)) (hv : (Int8.ofInt n).toInt32 = v) (hp : pc + 2 = pc') (K : aw_J pic X pc' lv (.int v :: st) w) : aw_J pic X pc lv (st) w := by
  obtain ⟨p, l0, e, R, s, m, args, below, meth, c, Q, nL, cz, sz, D, A⟩ := X
  subst hp
  intro H locs ls h1 h2 h3
  exact lv_bipush O.1 O.2.1 hd hv (K H locs ls h1 h2 h3)
theorem aw_sipush (O : aw_ok l L own cc fr lo X) {n : Int} {v : Int32} (hd : decode cc pc = .ok (.sipush n, 3)) (hv : (Int16.ofInt n).toInt32 = v) (hp : pc + 3 = pc') (K : aw_J pic X pc' lv (.int v :: st) w) : aw_J pic X pc lv (st) w := by
  obtain ⟨p, l0, e, R, s, m, args, below, meth, c, Q, nL, cz, sz, D, A⟩ := X
  subst hp
  intro H locs ls h1 h2 h3
  exact lv_sipush O.1 O.2.1 hd hv (K H locs ls h1 h2 h3)
theorem aw_lconst (O : aw_ok l L own cc fr lo X) {n : Fin 2} {v : Int64} (hd : decode cc pc = .ok (.lconst n, 1)) (hv : Int64.ofNat (n : Nat) = v) (hp : pc + 1 = pc') (K : aw_J pic X pc' lv (.long v :: st) w) : aw_J pic X pc lv (st) w := by
  obtain ⟨p, l0, e, R, s, m, args, below, meth, c, Q, nL, cz, sz, D, A⟩ := X
  subst hp
  intro H locs ls h1 h2 h3
  exact lv_lconst O.1 O.2.1 hd hv (K H locs ls h1 h2 h3)
theorem aw_iload_n (O : aw_ok l L own cc fr lo X) {k : Fin 4} {x : Int32} (hd : decode cc pc = .ok (.iload_n k, 1)) (hl : aw_lk lv k = some (.int x)) (hp : pc + 1 = pc') (K : aw_J pic X pc' lv (.int x :: st) w) : aw_J pic X pc lv (st) w := by
  obtain ⟨p, l0, e, R, s, m, args, below, meth, c, Q, nL, cz, sz, D, A⟩ := X
  subst hp
  intro H locs ls h1 h2 h3
  exact lv_iload_n O.1 O.2.1 hd rfl (h3.2.2 _ (aw_lk_mem hl)) (K H locs ls h1 h2 h3)
theorem aw_iload (O : aw_ok l L own cc fr lo X) {k : Nat} {x : Int32} (hd : decode cc pc = .ok (.iload k, 2)) (hl : aw_lk lv k = some (.int x)) (hp : pc + 2 = pc') (K : aw_J pic X pc' lv (.int x :: st) w) : aw_J pic X pc lv (st) w := by
  obtain ⟨p, l0, e, R, s, m, args, below, meth, c, Q, nL, cz, sz, D, A⟩ := X
  subst hp
  intro H locs ls h1 h2 h3
  exact lv_iload O.1 O.2.1 hd (h3.2.2 _ (aw_lk_mem hl)) (K H locs ls h1 h2 h3)
theorem aw_aload_n (O : aw_ok l L own cc fr lo X) {k : Fin 4} {x : Nat} (hd : decode cc pc = .ok (.aload_n k, 1)) (hl : aw_lk lv k = some (.ref x)) (hp : pc + 1 = pc') (K : aw_J pic X pc' lv (.ref x :: st) w) : aw_J pic X pc lv (st) w := by
  obtain ⟨p, l0, e, R, s, m, args, below, meth, c, Q, nL, cz, sz, D, A⟩ := X
  subst hp
  intro H locs ls h1 h2 h3
  exact lv_aload_n O.1 O.2.1 hd rfl (h3.2.2 _ (aw_lk_mem hl)) (K H locs ls h1 h2 h3)
theorem aw_iadd (O : aw_ok l L own cc fr lo X) {x y : Int32} (hd : decode cc pc = .ok (.iadd, 1)) (hp : pc + 1 = pc') (K : aw_J pic X pc' lv (.int (x + y) :: st) w) : aw_J pic X pc lv (.int y :: .int x :: st) w := by
  obtain ⟨p, l0, e, R, s, m, args, below, meth, c, Q, nL, cz, sz, D, A⟩ := X
  subst hp
  intro H locs ls h1 h2 h3
  exact lv_iadd O.1 O.2.1 hd (K H locs ls h1 h2 h3)
theorem aw_isub (O : aw_ok l L own cc fr lo X) {x y : Int32} (hd : decode cc pc = .ok (.isub, 1)) (hp : pc + 1 = pc') (K : aw_J pic X pc' lv (.int (x - y) :: st) w) : aw_J pic X pc lv (.int y :: .int x :: st) w := by
  obtain ⟨p, l0, e, R, s, m, args, below, meth, c, Q, nL, cz, sz, D, A⟩ := X
  subst hp
  intro H locs ls h1 h2 h3
  exact lv_isub O.1 O.2.1 hd (K H locs ls h1 h2 h3)
theorem aw_imul (O : aw_ok l L own cc fr lo X) {x y : Int32} (hd : decode cc pc = .ok (.imul, 1)) (hp : pc + 1 = pc') (K : aw_J pic X pc' lv (.int (x * y) :: st) w) : aw_J pic X pc lv (.int y :: .int x :: st) w := by
  obtain ⟨p, l0, e, R, s, m, args, below, meth, c, Q, nL, cz, sz, D, A⟩ := X
  subst hp
  intro H locs ls h1 h2 h3
  exact lv_imul O.1 O.2.1 hd (K H locs ls h1 h2 h3)
theorem aw_iand (O : aw_ok l L own cc fr lo X) {x y : Int32} (hd : decode cc pc = .ok (.iand, 1)) (hp : pc + 1 = pc') (K : aw_J pic X pc' lv (.int (x &&& y) :: st) w) : aw_J pic X pc lv (.int y :: .int x :: st) w := by
  obtain ⟨p, l0, e, R, s, m, args, below, meth, c, Q, nL, cz, sz, D, A⟩ := X
  subst hp
  intro H locs ls h1 h2 h3
  exact lv_iand O.1 O.2.1 hd (K H locs ls h1 h2 h3)
theorem aw_ior (O : aw_ok l L own cc fr lo X) {x y : Int32} (hd : decode cc pc = .ok (.ior, 1)) (hp : pc + 1 = pc') (K : aw_J pic X pc' lv (.int (x ||| y) :: st) w) : aw_J pic X pc lv (.int y :: .int x :: st) w := by
  obtain ⟨p, l0, e, R, s, m, args, below, meth, c, Q, nL, cz, sz, D, A⟩ := X
  subst hp
  intro H locs ls h1 h2 h3
  exact lv_ior O.1 O.2.1 hd (K H locs ls h1 h2 h3)
theorem aw_ixor (O : aw_ok l L own cc fr lo X) {x y : Int32} (hd : decode cc pc = .ok (.ixor, 1)) (hp : pc + 1 = pc') (K : aw_J pic X pc' lv (.int (x ^^^ y) :: st) w) : aw_J pic X pc lv (.int y :: .int x :: st) w := by
  obtain ⟨p, l0, e, R, s, m, args, below, meth, c, Q, nL, cz, sz, D, A⟩ := X
  subst hp
  intro H locs ls h1 h2 h3
  exact lv_ixor O.1 O.2.1 hd (K H locs ls h1 h2 h3)
theorem aw_ishl (O : aw_ok l L own cc fr lo X) {x y : Int32} (hd : decode cc pc = .ok (.ishl, 1)) (hp : pc + 1 = pc') (K : aw_J pic X pc' lv (.int (x <<< (y &&& 31)) :: st) w) : aw_J pic X pc lv (.int y :: .int x :: st) w := by
  obtain ⟨p, l0, e, R, s, m, args, below, meth, c, Q, nL, cz, sz, D, A⟩ := X
  subst hp
  intro H locs ls h1 h2 h3
  exact lv_ishl O.1 O.2.1 hd (K H locs ls h1 h2 h3)
theorem aw_ishr (O : aw_ok l L own cc fr lo X) {x y : Int32} (hd : decode cc pc = .ok (.ishr, 1)) (hp : pc + 1 = pc') (K : aw_J pic X pc' lv (.int (x >>> (y &&& 31)) :: st) w) : aw_J pic X pc lv (.int y :: .int x :: st) w := by
  obtain ⟨p, l0, e, R, s, m, args, below, meth, c, Q, nL, cz, sz, D, A⟩ := X
  subst hp
  intro H locs ls h1 h2 h3
  exact lv_ishr O.1 O.2.1 hd (K H locs ls h1 h2 h3)
theorem aw_idiv (O : aw_ok l L own cc fr lo X) {x y : Int32} (hd : decode cc pc = .ok (.idiv, 1)) (hne : ¬ y = 0) (hp : pc + 1 = pc') (K : aw_J pic X pc' lv (.int (x / y) :: st) w) : aw_J pic X pc lv (.int y :: .int x :: st) w := by
  obtain ⟨p, l0, e, R, s, m, args, below, meth, c, Q, nL, cz, sz, D, A⟩ := X
  subst hp
  intro H locs ls h1 h2 h3
  exact lv_idiv O.1 O.2.1 hd hne (K H locs ls h1 h2 h3)
theorem aw_irem (O : aw_ok l L own cc fr lo X) {x y : Int32} (hd : decode cc pc = .ok (.irem, 1)) (hne : ¬ y = 0) (hp : pc + 1 = pc') (K : aw_J pic X pc' lv (.int (x - x / y * y) :: st) w) : aw_J pic X pc lv (.int y :: .int x :: st) w := by
  obtain ⟨p, l0, e, R, s, m, args, below, meth, c, Q, nL, cz, sz, D, A⟩ := X
  subst hp
  intro H locs ls h1 h2 h3
  exact lv_irem O.1 O.2.1 hd hne (K H locs ls h1 h2 h3)
theorem aw_land (O : aw_ok l L own cc fr lo X) {x y : Int64} (hd : decode cc pc = .ok (.land, 1)) (hp : pc + 1 = pc') (K : aw_J pic X pc' lv (.long (x &&& y) :: st) w) : aw_J pic X pc lv (.long y :: .long x :: st) w := by
  obtain ⟨p, l0, e, R, s, m, args, below, meth, c, Q, nL, cz, sz, D, A⟩ := X
  subst hp
  intro H locs ls h1 h2 h3
  exact lv_land O.1 O.2.1 hd (K H locs ls h1 h2 h3)
theorem aw_lor (O : aw_ok l L own cc fr lo X) {x y : Int64} (hd : decode cc pc = .ok (.lor, 1)) (hp : pc + 1 = pc') (K : aw_J pic X pc' lv (.long (x ||| y) :: st) w) : aw_J pic X pc lv (.long y :: .long x :: st) w := by
  obtain ⟨p, l0, e, R, s, m, args, below, meth, c, Q, nL, cz, sz, D, A⟩ := X
  subst hp
  intro H locs ls h1 h2 h3
  exact lv_lor O.1 O.2.1 hd (K H locs ls h1 h2 h3)
theorem aw_lushr (O : aw_ok l L own cc fr lo X) {x : Int64} {y : Int32} {v : Int64} (hd : decode cc pc = .ok (.lushr, 1)) (hv : (x.toUInt64 >>> (y.toInt64.toUInt64 &&& Int64.toUInt64 63)).toInt64 = v) (hp : pc + 1 = pc') (K : aw_J pic X pc' lv (.long v :: st) w) : aw_J pic X pc lv (.int y :: .long x :: st) w := by
  obtain ⟨p, l0, e, R, s, m, args, below, meth, c, Q, nL, cz, sz, D, A⟩ := X
  subst hp
  intro H locs ls h1 h2 h3
  exact lv_lushr O.1 O.2.1 hd hv (K H locs ls h1 h2 h3)
theorem aw_lshl (O : aw_ok l L own cc fr lo X) {x : Int64} {y : Int32} {v : Int64} (hd : decode cc pc = .ok (.lshl, 1)) (hv : x <<< (y.toInt64 &&& 63) = v) (hp : pc + 1 = pc') (K : aw_J pic X pc' lv (.long v :: st) w) : aw_J pic X pc lv (.int y :: .long x :: st) w := by
  obtain ⟨p, l0, e, R, s, m, args, below, meth, c, Q, nL, cz, sz, D, A⟩ := X
  subst hp
  intro H locs ls h1 h2 h3
  exact lv_lshl O.1 O.2.1 hd hv (K H locs ls h1 h2 h3)
theorem aw_lcmp (O : aw_ok l L own cc fr lo X) {x y : Int64} (hd : decode cc pc = .ok (.lcmp, 1)) (hp : pc + 1 = pc') (K : aw_J pic X pc' lv (.int (lg_cmp x y) :: st) w) : aw_J pic X pc lv (.long y :: .long x :: st) w := by
  obtain ⟨p, l0, e, R, s, m, args, below, meth, c, Q, nL, cz, sz, D, A⟩ := X
  subst hp
  intro H locs ls h1 h2 h3
  exact W.lcmp O.1 O.2.1 hd (K H locs ls h1 h2 h3)
theorem aw_dup (O : aw_ok l L own cc fr lo X) {v : Value} (hd : decode cc pc = .ok (.dup, 1)) (hv : v.category = 1) (hp : pc + 1 = pc') (K : aw_J pic X pc' lv (v :: v :: st) w) : aw_J pic X pc lv (v :: st) w := by
  obtain ⟨p, l0, e, R, s, m, args, below, meth, c, Q, nL, cz, sz, D, A⟩ := X
  subst hp
  intro H locs ls h1 h2 h3
  exact lv_dup O.1 O.2.1 hd hv (K H locs ls h1 h2 h3)
theorem aw_iaddN (O : aw_ok l L own cc fr lo X) {a b : Nat} (hd : decode cc pc = .ok (.iadd, 1)) (hp : pc + 1 = pc') (K : aw_J pic X pc' lv (.int (nI (a + b)) :: st) w) : aw_J pic X pc lv (.int (nI b) :: .int (nI a) :: st) w := aw_iadd O hd hp (aw_top (nI_add a b) K)
theorem aw_imulN (O : aw_ok l L own cc fr lo X) {a b : Nat} (hd : decode cc pc = .ok (.imul, 1)) (hp : pc + 1 = pc') (K : aw_J pic X pc' lv (.int (nI (a * b)) :: st) w) : aw_J pic X pc lv (.int (nI b) :: .int (nI a) :: st) w := aw_imul O hd hp (aw_top (pk_mul a b) K)
theorem aw_isubN (O : aw_ok l L own cc fr lo X) {a b : Nat} (h : b ≤ a) (hd : decode cc pc = .ok (.isub, 1)) (hp : pc + 1 = pc') (K : aw_J pic X pc' lv (.int (nI (a - b)) :: st) w) : aw_J pic X pc lv (.int (nI b) :: .int (nI a) :: st) w := aw_isub O hd hp (aw_top (pk_sub h) K)
theorem aw_idivN (O : aw_ok l L own cc fr lo X) {a b : Nat} (ha : a < 2 ^ 31) (h0 : 0 < b) (hb : b < 2 ^ 31) (hd : decode cc pc = .ok (.idiv, 1)) (hp : pc + 1 = pc') (K : aw_J pic X pc' lv (.int (nI (a / b)) :: st) w) : aw_J pic X pc lv (.int (nI b) :: .int (nI a) :: st) w := aw_idiv O hd (nI_ne0 h0 hb) hp (aw_top (pk_div ha h0 hb) K)
theorem aw_iremN (O : aw_ok l L own cc fr lo X) {a b : Nat} (ha : a < 2 ^ 31) (h0 : 0 < b) (hb : b < 2 ^ 31) (hd : decode cc pc = .ok (.irem, 1)) (hp : pc + 1 = pc') (K : aw_J pic X pc' lv (.int (nI (a % b)) :: st) w) : aw_J pic X pc lv (.int (nI b) :: .int (nI a) :: st) w := aw_irem O hd (nI_ne0 h0 hb) hp (aw_top (pk_rem ha h0 hb) K)
theorem aw_istore_n (O : aw_ok l L own cc fr lo X) {k : Fin 4} {x : Int32} (hd : decode cc pc = .ok (.istore_n k, 1)) (hn : (k : Nat) < aw_nl X) (hc : aw_c1 lv = true) (hl : aw_set lv k (.int x) = lv') (hp : pc + 1 = pc') (K : aw_J pic X pc' lv' st w) : aw_J pic X pc lv (.int x :: st) w := by
  obtain ⟨p, l0, e, R, s, m, args, below, meth, c, Q, nL, cz, sz, D, A⟩ := X
  subst hp; subst hl
  intro H locs ls h1 h2 h3
  exact lv_istore_n O.1 O.2.1 hd rfl h3 hn rfl (fun ls' h => K H locs ls' h1 h2 (aw_has_set h hc))
theorem aw_istore (O : aw_ok l L own cc fr lo X) {k : Nat} {x : Int32} (hd : decode cc pc = .ok (.istore k, 2)) (hn : (k : Nat) < aw_nl X) (hc : aw_c1 lv = true) (hl : aw_set lv k (.int x) = lv') (hp : pc + 2 = pc') (K : aw_J pic X pc' lv' st w) : aw_J pic X pc lv (.int x :: st) w := by
  obtain ⟨p, l0, e, R, s, m, args, below, meth, c, Q, nL, cz, sz, D, A⟩ := X
  subst hp; subst hl
  intro H locs ls h1 h2 h3
  exact lv_istore O.1 O.2.1 hd h3 hn rfl (fun ls' h => K H locs ls' h1 h2 (aw_has_set h hc))
theorem aw_astore_n (O : aw_ok l L own cc fr lo X) {k : Fin 4} {x : Nat} (hd : decode cc pc = .ok (.astore_n k, 1)) (hn : (k : Nat) < aw_nl X) (hc : aw_c1 lv = true) (hl : aw_set lv k (.ref x) = lv') (hp : pc + 1 = pc') (K : aw_J pic X pc' lv' st w) : aw_J pic X pc lv (.ref x :: st) w := by
  obtain ⟨p, l0, e, R, s, m, args, below, meth, c, Q, nL, cz, sz, D, A⟩ := X
  subst hp; subst hl
  intro H locs ls h1 h2 h3
  exact lv_astore_n O.1 O.2.1 hd rfl h3 hn rfl (fun ls' h => K H locs ls' h1 h2 (aw_has_set h hc))
theorem aw_iinc (O : aw_ok l L own cc fr lo X) {k : Nat} {n : Int} {x v : Int32} (hd : decode cc pc = .ok (.iinc k n, 3)) (hn : (k : Nat) < aw_nl X) (hx : aw_lk lv k = some (.int x)) (hv : x + Int32.ofInt n = v) (hc : aw_c1 lv = true) (hl : aw_set lv k (.int v) = lv') (hp : pc + 3 = pc') (K : aw_J pic X pc' lv' st w) : aw_J pic X pc lv st w := by
  obtain ⟨p, l0, e, R, s, m, args, below, meth, c, Q, nL, cz, sz, D, A⟩ := X
  subst hp; subst hl
  intro H locs ls h1 h2 h3
  obtain ⟨i, hi⟩ := List.getElem?_of_mem (aw_lk_mem hx)
  exact lv_iinc O.1 O.2.1 hd h3 hi hv hn rfl (fun ls' h => K H locs ls' h1 h2 (aw_has_set h hc))
theorem aw_if_eq (O : aw_ok l L own cc fr lo X) {x : Int32} {off : Int} {tgt : Nat} (hd : decode cc pc = .ok (.ifCond .eq off, 3)) (ht : (pc : Int) + off = (tgt : Int)) (hp : pc + 3 = pc') (kt : x = 0 → aw_J pic X tgt lv st w) (kf : ¬ x = 0 → aw_J pic X pc' lv st w) : aw_J pic X pc lv (.int x :: st) w := by
  obtain ⟨p, l0, e, R, s, m, args, below, meth, c, Q, nL, cz, sz, D, A⟩ := X
  subst hp
  intro H locs ls h1 h2 h3
  exact lv_if_eq O.1 O.2.1 hd ht (fun h => kt h H locs ls h1 h2 h3) (fun h => kf h H locs ls h1 h2 h3)
theorem aw_icmp_eq (O : aw_ok l L own cc fr lo X) {x y : Int32} {off : Int} {tgt : Nat} (hd : decode cc pc = .ok (.if_icmp .eq off, 3)) (ht : (pc : Int) + off = (tgt : Int)) (hp : pc + 3 = pc') (kt : x = y → aw_J pic X tgt lv st w) (kf : ¬ x = y → aw_J pic X pc' lv st w) : aw_J pic X pc lv (.int y :: .int x :: st) w := by
  obtain ⟨p, l0, e, R, s, m, args, below, meth, c, Q, nL, cz, sz, D, A⟩ := X
  subst hp
  intro H locs ls h1 h2 h3
  exact lv_icmp_eq O.1 O.2.1 hd ht (fun h => kt h H locs ls h1 h2 h3) (fun h => kf h H locs ls h1 h2 h3)
theorem aw_if_ne (O : aw_ok l L own cc fr lo X) {x : Int32} {off : Int} {tgt : Nat} (hd : decode cc pc = .ok (.ifCond .ne off, 3)) (ht : (pc : Int) + off = (tgt : Int)) (hp : pc + 3 = pc') (kt : ¬ x = 0 → aw_J pic X tgt lv st w) (kf : x = 0 → aw_J pic X pc' lv st w) : aw_J pic X pc lv (.int x :: st) w := by
  obtain ⟨p, l0, e, R, s, m, args, below, meth, c, Q, nL, cz, sz, D, A⟩ := X
  subst hp
  intro H locs ls h1 h2 h3
  exact lv_if_ne O.1 O.2.1 hd ht (fun h => kt h H locs ls h1 h2 h3) (fun h => kf h H locs ls h1 h2 h3)
theorem aw_icmp_ne (O : aw_ok l L own cc fr lo X) {x y : Int32} {off : Int} {tgt : Nat} (hd : decode cc pc = .ok (.if_icmp .ne off, 3)) (ht : (pc : Int) + off = (tgt : Int)) (hp : pc + 3 = pc') (kt : ¬ x = y → aw_J pic X tgt lv st w) (kf : x = y → aw_J pic X pc' lv st w) : aw_J pic X pc lv (.int y :: .int x :: st) w := by
  obtain ⟨p, l0, e, R, s, m, args, below, meth, c, Q, nL, cz, sz, D, A⟩ := X
  subst hp
  intro H locs ls h1 h2 h3
  exact lv_icmp_ne O.1 O.2.1 hd ht (fun h => kt h H locs ls h1 h2 h3) (fun h => kf h H locs ls h1 h2 h3)
theorem aw_if_lt (O : aw_ok l L own cc fr lo X) {x : Int32} {off : Int} {tgt : Nat} (hd : decode cc pc = .ok (.ifCond .lt off, 3)) (ht : (pc : Int) + off = (tgt : Int)) (hp : pc + 3 = pc') (kt : x < 0 → aw_J pic X tgt lv st w) (kf : ¬ x < 0 → aw_J pic X pc' lv st w) : aw_J pic X pc lv (.int x :: st) w := by
  obtain ⟨p, l0, e, R, s, m, args, below, meth, c, Q, nL, cz, sz, D, A⟩ := X
  subst hp
  intro H locs ls h1 h2 h3
  exact lv_if_lt O.1 O.2.1 hd ht (fun h => kt h H locs ls h1 h2 h3) (fun h => kf h H locs ls h1 h2 h3)
theorem aw_icmp_lt (O : aw_ok l L own cc fr lo X) {x y : Int32} {off : Int} {tgt : Nat} (hd : decode cc pc = .ok (.if_icmp .lt off, 3)) (ht : (pc : Int) + off = (tgt : Int)) (hp : pc + 3 = pc') (kt : x < y → aw_J pic X tgt lv st w) (kf : ¬ x < y → aw_J pic X pc' lv st w) : aw_J pic X pc lv (.int y :: .int x :: st) w := by
  obtain ⟨p, l0, e, R, s, m, args, below, meth, c, Q, nL, cz, sz, D, A⟩ := X
  subst hp
  intro H locs ls h1 h2 h3
  exact lv_icmp_lt O.1 O.2.1 hd ht (fun h => kt h H locs ls h1 h2 h3) (fun h => kf h H locs ls h1 h2 h3)
theorem aw_if_ge (O : aw_ok l L own cc fr lo X) {x : Int32} {off : Int} {tgt : Nat} (hd : decode cc pc = .ok (.ifCond .ge off, 3)) (ht : (pc : Int) + off = (tgt : Int)) (hp : pc + 3 = pc') (kt : 0 ≤ x → aw_J pic X tgt lv st w) (kf : ¬ 0 ≤ x → aw_J pic X pc' lv st w) : aw_J pic X pc lv (.int x :: st) w := by
  obtain ⟨p, l0, e, R, s, m, args, below, meth, c, Q, nL, cz, sz, D, A⟩ := X
  subst hp
  intro H locs ls h1 h2 h3
  exact lv_if_ge O.1 O.2.1 hd ht (fun h => kt h H locs ls h1 h2 h3) (fun h => kf h H locs ls h1 h2 h3)
theorem aw_icmp_ge (O : aw_ok l L own cc fr lo X) {x y : Int32} {off : Int} {tgt : Nat} (hd : decode cc pc = .ok (.if_icmp .ge off, 3)) (ht : (pc : Int) + off = (tgt : Int)) (hp : pc + 3 = pc') (kt : y ≤ x → aw_J pic X tgt lv st w) (kf : ¬ y ≤ x → aw_J pic X pc' lv st w) : aw_J pic X pc lv (.int y :: .int x :: st) w := by
  obtain ⟨p, l0, e, R, s, m, args, below, meth, c, Q, nL, cz, sz, D, A⟩ := X
  subst hp
  intro H locs ls h1 h2 h3
  exact lv_icmp_ge O.1 O.2.1 hd ht (fun h => kt h H locs ls h1 h2 h3) (fun h => kf h H locs ls h1 h2 h3)
theorem aw_if_gt (O : aw_ok l L own cc fr lo X) {x : Int32} {off : Int} {tgt : Nat} (hd : decode cc pc = .ok (.ifCond .gt off, 3)) (ht : (pc : Int) + off = (tgt : Int)) (hp : pc + 3 = pc') (kt : 0 < x → aw_J pic X tgt lv st w) (kf : ¬ 0 < x → aw_J pic X pc' lv st w) : aw_J pic X pc lv (.int x :: st) w := by
  obtain ⟨p, l0, e, R, s, m, args, below, meth, c, Q, nL, cz, sz, D, A⟩ := X
  subst hp
  intro H locs ls h1 h2 h3
  exact lv_if_gt O.1 O.2.1 hd ht (fun h => kt h H locs ls h1 h2 h3) (fun h => kf h H locs ls h1 h2 h3)
theorem aw_icmp_gt (O : aw_ok l L own cc fr lo X) {x y : Int32} {off : Int} {tgt : Nat} (hd : decode cc pc = .ok (.if_icmp .gt off, 3)) (ht : (pc : Int) + off = (tgt : Int)) (hp : pc + 3 = pc') (kt : y < x → aw_J pic X tgt lv st w) (kf : ¬ y < x → aw_J pic X pc' lv st w) : aw_J pic X pc lv (.int y :: .int x :: st) w := by
  obtain ⟨p, l0, e, R, s, m, args, below, meth, c, Q, nL, cz, sz, D, A⟩ := X
  subst hp
  intro H locs ls h1 h2 h3
  exact lv_icmp_gt O.1 O.2.1 hd ht (fun h => kt h H locs ls h1 h2 h3) (fun h => kf h H locs ls h1 h2 h3)
theorem aw_if_le (O : aw_ok l L own cc fr lo X) {x : Int32} {off : Int} {tgt : Nat} (hd : decode cc pc = .ok (.ifCond .le off, 3)) (ht : (pc : Int) + off = (tgt : Int)) (hp : pc + 3 = pc') (kt : x ≤ 0 → aw_J pic X tgt lv st w) (kf : ¬ x ≤ 0 → aw_J pic X pc' lv st w) : aw_J pic X pc lv (.int x :: st) w := by
  obtain ⟨p, l0, e, R, s, m, args, below, meth, c, Q, nL, cz, sz, D, A⟩ := X
  subst hp
  intro H locs ls h1 h2 h3
  exact lv_if_le O.1 O.2.1 hd ht (fun h => kt h H locs ls h1 h2 h3) (fun h => kf h H locs ls h1 h2 h3)
theorem aw_icmp_le (O : aw_ok l L own cc fr lo X) {x y : Int32} {off : Int} {tgt : Nat} (hd : decode cc pc = .ok (.if_icmp .le off, 3)) (ht : (pc : Int) + off = (tgt : Int)) (hp : pc + 3 = pc') (kt : x ≤ y → aw_J pic X tgt lv st w) (kf : ¬ x ≤ y → aw_J pic X pc' lv st w) : aw_J pic X pc lv (.int y :: .int x :: st) w := by
  obtain ⟨p, l0, e, R, s, m, args, below, meth, c, Q, nL, cz, sz, D, A⟩ := X
  subst hp
  intro H locs ls h1 h2 h3
  exact lv_icmp_le O.1 O.2.1 hd ht (fun h => kt h H locs ls h1 h2 h3) (fun h => kf h H locs ls h1 h2 h3)
theorem aw_icmpN_eq (O : aw_ok l L own cc fr lo X) {a b : Nat} {off : Int} {tgt : Nat} (ha : a < 2 ^ 31) (hb : b < 2 ^ 31) (hd : decode cc pc = .ok (.if_icmp .eq off, 3)) (ht : (pc : Int) + off = (tgt : Int)) (hp : pc + 3 = pc') (kt : a = b → aw_J pic X tgt lv st w) (kf : ¬ a = b → aw_J pic X pc' lv st w) : aw_J pic X pc lv (.int (nI b) :: .int (nI a) :: st) w := aw_icmp_eq O hd ht hp (fun h => kt ((nI_eq ha hb).mp h)) (fun h => kf (fun q => h ((nI_eq ha hb).mpr q)))
theorem aw_icmpN_ne (O : aw_ok l L own cc fr lo X) {a b : Nat} {off : Int} {tgt : Nat} (ha : a < 2 ^ 31) (hb : b < 2 ^ 31) (hd : decode cc pc = .ok (.if_icmp .ne off, 3)) (ht : (pc : Int) + off = (tgt : Int)) (hp : pc + 3 = pc') (kt : ¬ a = b → aw_J pic X tgt lv st w) (kf : a = b → aw_J pic X pc' lv st w) : aw_J pic X pc lv (.int (nI b) :: .int (nI a) :: st) w := aw_icmp_ne O hd ht hp (fun h => kt (fun q => h ((nI_eq ha hb).mpr q))) (fun h => kf ((nI_eq ha hb).mp h))
theorem aw_icmpN_lt (O : aw_ok l L own cc fr lo X) {a b : Nat} {off : Int} {tgt : Nat} (ha : a < 2 ^ 31) (hb : b < 2 ^ 31) (hd : decode cc pc = .ok (.if_icmp .lt off, 3)) (ht : (pc : Int) + off = (tgt : Int)) (hp : pc + 3 = pc') (kt : a < b → aw_J pic X tgt lv st w) (kf : b ≤ a → aw_J pic X pc' lv st w) : aw_J pic X pc lv (.int (nI b) :: .int (nI a) :: st) w := aw_icmp_lt O hd ht hp (fun h => kt ((nI_ltI ha hb).mp h)) (fun h => kf (Nat.not_lt.mp (fun q => h ((nI_ltI ha hb).mpr q))))
theorem aw_icmpN_ge (O : aw_ok l L own cc fr lo X) {a b : Nat} {off : Int} {tgt : Nat} (ha : a < 2 ^ 31) (hb : b < 2 ^ 31) (hd : decode cc pc = .ok (.if_icmp .ge off, 3)) (ht : (pc : Int) + off = (tgt : Int)) (hp : pc + 3 = pc') (kt : b ≤ a → aw_J pic X tgt lv st w) (kf : a < b → aw_J pic X pc' lv st w) : aw_J pic X pc lv (.int (nI b) :: .int (nI a) :: st) w := aw_icmp_ge O hd ht hp (fun h => kt ((nI_leI hb ha).mp h)) (fun h => kf (Nat.not_le.mp (fun q => h ((nI_leI hb ha).mpr q))))
theorem aw_icmpN_gt (O : aw_ok l L own cc fr lo X) {a b : Nat} {off : Int} {tgt : Nat} (ha : a < 2 ^ 31) (hb : b < 2 ^ 31) (hd : decode cc pc = .ok (.if_icmp .gt off, 3)) (ht : (pc : Int) + off = (tgt : Int)) (hp : pc + 3 = pc') (kt : b < a → aw_J pic X tgt lv st w) (kf : a ≤ b → aw_J pic X pc' lv st w) : aw_J pic X pc lv (.int (nI b) :: .int (nI a) :: st) w := aw_icmp_gt O hd ht hp (fun h => kt ((nI_ltI hb ha).mp h)) (fun h => kf (Nat.not_lt.mp (fun q => h ((nI_ltI hb ha).mpr q))))
theorem aw_icmpN_le (O : aw_ok l L own cc fr lo X) {a b : Nat} {off : Int} {tgt : Nat} (ha : a < 2 ^ 31) (hb : b < 2 ^ 31) (hd : decode cc pc = .ok (.if_icmp .le off, 3)) (ht : (pc : Int) + off = (tgt : Int)) (hp : pc + 3 = pc') (kt : a ≤ b → aw_J pic X tgt lv st w) (kf : b < a → aw_J pic X pc' lv st w) : aw_J pic X pc lv (.int (nI b) :: .int (nI a) :: st) w := aw_icmp_le O hd ht hp (fun h => kt ((nI_leI ha hb).mp h)) (fun h => kf (Nat.not_le.mp (fun q => h ((nI_leI ha hb).mpr q))))
/-- a truth as the machine has it -/
def bI (b : Bool) : Int32 := if b then 1 else 0
theorem bI_t : bI true = 1 := rfl
theorem bI_f : bI false = 0 := rfl
theorem bI_0 {b : Bool} : bI b = 0 ↔ b = false := by cases b <;> simp [bI]
theorem aw_ifB_eq (O : aw_ok l L own cc fr lo X) {b : Bool} {off : Int} {tgt : Nat} (hd : decode cc pc = .ok (.ifCond .eq off, 3)) (ht : (pc : Int) + off = (tgt : Int)) (hp : pc + 3 = pc') (kt : b = false → aw_J pic X tgt lv st w) (kf : b = true → aw_J pic X pc' lv st w) : aw_J pic X pc lv (.int (bI b) :: st) w := aw_if_eq O hd ht hp (fun h => kt (bI_0.mp h)) (fun h => kf (by cases b; exact absurd rfl h; rfl))
theorem aw_ifB_ne (O : aw_ok l L own cc fr lo X) {b : Bool} {off : Int} {tgt : Nat} (hd : decode cc pc = .ok (.ifCond .ne off, 3)) (ht : (pc : Int) + off = (tgt : Int)) (hp : pc + 3 = pc') (kt : b = true → aw_J pic X tgt lv st w) (kf : b = false → aw_J pic X pc' lv st w) : aw_J pic X pc lv (.int (bI b) :: st) w := aw_if_ne O hd ht hp (fun h => kt (by cases b; exact absurd rfl h; rfl)) (fun h => kf (bI_0.mp h))
theorem aw_goto (O : aw_ok l L own cc fr lo X) {off : Int} {tgt : Nat} (hd : decode cc pc = .ok (.goto off, 3)) (ht : (pc : Int) + off = (tgt : Int)) (K : aw_J pic X tgt lv st w) : aw_J pic X pc lv st w := by
  obtain ⟨p, l0, e, R, s, m, args, below, meth, c, Q, nL, cz, sz, D, A⟩ := X
  intro H locs ls h1 h2 h3
  exact lv_goto O.1 O.2.1 hd ht (K H locs ls h1 h2 h3)
/-- reading a field of the object o, which stands first in the picture -/
theorem aw_get (O : aw_ok l L own cc fr lo X) {C : String} {T : u_T} {N ci idx o : Nat} (hin : ∀ w ∈ u_ws C T N, w ∈ lw_all) {fs : List Value} (he : (pic w)[0]? = some (o, .inr (ci, fs))) (hc : vwCl[ci]? = some (C, T, N)) (k : Nat) (hk : k < N) (hlink : Cond.fieldLink own idx (T k).1 (T k).2.1 (T k).2.2.1 ∈ lw_all) {v : Value} (hv : fs[k]? = some v) (hd : decode cc pc = .ok (.getfield idx, 3)) (hp : pc + 3 = pc') (K : aw_J pic X pc' lv (v :: st) w) : aw_J pic X pc lv (.ref o :: st) w := by
  obtain ⟨p, l0, e, R, s, m, args, below, meth, c, Q, nL, cz, sz, D, A⟩ := X
  subst hp
  intro H locs ls h1 h2 h3
  exact va_get (D := D) O.1 O.2.1 O.2.2.2.2.1 hin O.2.2.2.1 O.2.2.2.2.2.1 h1 0 he hc k hk (O.2.2.2.2.1 _ hlink) (fun _ h => h) hv hd (K H locs ls h1 h2 h3)
theorem aw_put (O : aw_ok l L own cc fr lo X) {C : String} {T : u_T} {N ci idx o : Nat} (hin : ∀ w ∈ u_ws C T N, w ∈ lw_all) (ty0 : Nat → FieldType) (hty : ∀ k, k < N → parseFieldDescriptor (T k).2.2.1 = some (ty0 k)) (hnm : ∀ a, a < N → ∀ b, b < N → a ≠ b → (T a).2.1 ≠ (T b).2.1) {fs : List Value} (hD : va_D (aw_ax X) (pic w)) (he : (pic w)[0]? = some (o, .inr (ci, fs))) (hc : vwCl[ci]? = some (C, T, N)) (k : Nat) (hk : k < N) (hlink : Cond.fieldLink own idx (T k).1 (T k).2.1 (T k).2.2.1 ∈ lw_all) (hfin : (T k).2.2.2 = false) {v : Value} {ty : FieldType} (hde : parseFieldDescriptor (T k).2.2.1 = some ty) (hn : narrow ty v = v) (hfit : fits ty v = true) (hl : k < fs.length) (hd : decode cc pc = .ok (.putfield idx, 3)) (hp : pc + 3 = pc') {w' : σ} (hw : (pic w).set 0 (o, .inr (ci, fs.set k v)) = pic w') (K : aw_J pic X pc' lv st w') : aw_J pic X pc lv (v :: .ref o :: st) w := by
  obtain ⟨p, l0, e, R, s, m, args, below, meth, c, Q, nL, cz, sz, D, A⟩ := X
  subst hp
  intro H locs ls h1 h2 h3
  exact va_put (D := D) O.1 O.2.1 O.2.2.2.2.1 hin ty0 hty hnm O.2.2.2.1 O.2.2.2.2.2.1 h1 hD h2 0 he hc k hk (O.2.2.2.2.1 _ hlink) (fun _ h => h) hfin hde hn hfit hl hd (fun H1 locs1 a1 a2 a3 => K H1 locs1 ls (by rw [← hw]; exact a1) a3 h3)
theorem aw_iald (O : aw_ok l L own cc fr lo X) {q0 n a : Nat} {f : Nat → Int32} (ha : (pic w)[q0]? = some (a, .inl (L.2.1 0, n, .inl f))) {i : Int32} {j : Nat} (hi : i = nI j) (hj : j < n) (hn : n < 2 ^ 31) (hd : decode cc pc = .ok (.iaload, 1)) (hp : pc + 1 = pc') (K : aw_J pic X pc' lv (.int (f j) :: st) w) : aw_J pic X pc lv (.int i :: .ref a :: st) w := by
  obtain ⟨p, l0, e, R, s, m, args, below, meth, c, Q, nL, cz, sz, D, A⟩ := X
  subst hp; subst hi
  intro H locs ls h1 h2 h3
  have hk := K H locs ls h1 h2 h3
  refine va_iald O.1 O.2.1 O.2.2.2.2.2.1 h1 q0 0 ha rfl (vp_in_nI hj hn) hd ?_
  rw [nI_clamp (by omega)]
  exact hk
theorem aw_zald (O : aw_ok l L own cc fr lo X) {q0 n a : Nat} {f : Nat → Int32} (ha : (pic w)[q0]? = some (a, .inl (L.2.1 2, n, .inl f))) {i : Int32} {j : Nat} (hi : i = nI j) (hj : j < n) (hn : n < 2 ^ 31) (hd : decode cc pc = .ok (.baload, 1)) (hp : pc + 1 = pc') (K : aw_J pic X pc' lv (.int (f j) :: st) w) : aw_J pic X pc lv (.int i :: .ref a :: st) w := by
  obtain ⟨p, l0, e, R, s, m, args, below, meth, c, Q, nL, cz, sz, D, A⟩ := X
  subst hp; subst hi
  intro H locs ls h1 h2 h3
  have hk := K H locs ls h1 h2 h3
  refine va_zald O.1 O.2.1 O.2.2.2.2.2.1 h1 q0 2 ha rfl (vp_in_nI hj hn) hd ?_
  rw [nI_clamp (by omega)]
  exact hk
theorem aw_lald (O : aw_ok l L own cc fr lo X) {q0 n a : Nat} {f : Nat → Int64} (ha : (pic w)[q0]? = some (a, .inl (L.2.1 1, n, .inr (.inl f)))) {i : Int32} {j : Nat} (hi : i = nI j) (hj : j < n) (hn : n < 2 ^ 31) (hd : decode cc pc = .ok (.laload, 1)) (hp : pc + 1 = pc') (K : aw_J pic X pc' lv (.long (f j) :: st) w) : aw_J pic X pc lv (.int i :: .ref a :: st) w := by
  obtain ⟨p, l0, e, R, s, m, args, below, meth, c, Q, nL, cz, sz, D, A⟩ := X
  subst hp; subst hi
  intro H locs ls h1 h2 h3
  have hk := K H locs ls h1 h2 h3
  refine va_lald O.1 O.2.1 O.2.2.2.2.2.1 h1 q0 1 ha rfl (vp_in_nI hj hn) hd ?_
  rw [nI_clamp (by omega)]
  exact hk
theorem aw_iast (O : aw_ok l L own cc fr lo X) {q0 n a : Nat} {f : Nat → Int32} (hD : va_D (aw_ax X) (pic w)) (ha : (pic w)[q0]? = some (a, .inl (L.2.1 0, n, .inl f))) {i x : Int32} {j : Nat} (hi : i = nI j) (hj : j < n) (hn : n < 2 ^ 31) (hd : decode cc pc = .ok (.iastore, 1)) (hp : pc + 1 = pc') {w' : σ} (hw : (pic w).set q0 (a, .inl (L.2.1 0, n, .inl (upd f j x))) = pic w') (K : aw_J pic X pc' lv st w') : aw_J pic X pc lv (.int x :: .int i :: .ref a :: st) w := by
  obtain ⟨p, l0, e, R, s, m, args, below, meth, c, Q, nL, cz, sz, D, A⟩ := X
  subst hp; subst hi
  intro H locs ls h1 h2 h3
  refine va_iast O.1 O.2.1 O.2.2.2.2.2.1 h1 hD h2 q0 0 ha rfl (vp_in_nI hj hn) hd (fun H1 locs1 a1 a2 a3 => K H1 locs1 ls ?_ a3 h3)
  rw [nI_clamp (by omega)] at a1
  rw [← hw]; exact a1
theorem aw_zast (O : aw_ok l L own cc fr lo X) {q0 n a : Nat} {f : Nat → Int32} (hD : va_D (aw_ax X) (pic w)) (ha : (pic w)[q0]? = some (a, .inl (L.2.1 2, n, .inl f))) {i x : Int32} {j : Nat} (hi : i = nI j) (hj : j < n) (hn : n < 2 ^ 31) (hx : vp_nar .boolean x = x) (hd : decode cc pc = .ok (.bastore, 1)) (hp : pc + 1 = pc') {w' : σ} (hw : (pic w).set q0 (a, .inl (L.2.1 2, n, .inl (upd f j x))) = pic w') (K : aw_J pic X pc' lv st w') : aw_J pic X pc lv (.int x :: .int i :: .ref a :: st) w := by
  obtain ⟨p, l0, e, R, s, m, args, below, meth, c, Q, nL, cz, sz, D, A⟩ := X
  subst hp; subst hi
  intro H locs ls h1 h2 h3
  refine va_zast O.1 O.2.1 O.2.2.2.2.2.1 h1 hD h2 q0 2 ha rfl (vp_in_nI hj hn) hd (fun H1 locs1 a1 a2 a3 => K H1 locs1 ls ?_ a3 h3)
  rw [nI_clamp (by omega), hx] at a1
  rw [← hw]; exact a1
theorem aw_last (O : aw_ok l L own cc fr lo X) {q0 n a : Nat} {f : Nat → Int64} (hD : va_D (aw_ax X) (pic w)) (ha : (pic w)[q0]? = some (a, .inl (L.2.1 1, n, .inr (.inl f)))) {i : Int32} {x : Int64} {j : Nat} (hi : i = nI j) (hj : j < n) (hn : n < 2 ^ 31) (hd : decode cc pc = .ok (.lastore, 1)) (hp : pc + 1 = pc') {w' : σ} (hw : (pic w).set q0 (a, .inl (L.2.1 1, n, .inr (.inl (vp_updL f j x)))) = pic w') (K : aw_J pic X pc' lv st w') : aw_J pic X pc lv (.long x :: .int i :: .ref a :: st) w := by
  obtain ⟨p, l0, e, R, s, m, args, below, meth, c, Q, nL, cz, sz, D, A⟩ := X
  subst hp; subst hi
  intro H locs ls h1 h2 h3
  refine va_last O.1 O.2.1 O.2.2.2.2.2.1 h1 hD h2 q0 1 ha rfl (vp_in_nI hj hn) hd (fun H1 locs1 a1 a2 a3 => K H1 locs1 ls ?_ a3 h3)
  rw [nI_clamp (by omega)] at a1
  rw [← hw]; exact a1
end AWR
/-! contracts: int answer (or truth), no answer -/
abbrev aw_rm (fr lo : Nat) : Room := { frames := fr, cells := 0, slots := 0, locals := lo }
def aw_Pc (pic : aw_S → va_W) (L : aw_L) (av : List Value) (w : aw_S) : Array Value → State → Prop := va_Pc (.ref (L.2.2 20) :: av) (fun U => va_P L.1 vwCl (pic w) U.heap ∧ va_K L.1 vwCl (aw_tys L) U)
def aw_Mi (pic : aw_S → va_W) (l : Launch) (L : aw_L) (y : MethodName) (cc : ByteArray) (n : Nat) (ty : FieldType) (fr lo : Nat) (av : List Value) (w : aw_S) (post : Int32 → aw_S → Prop) : Prop :=
  Met l y (ws_ y cc n (some ty)) (aw_rm fr lo) (aw_Pc pic L av w) (va_Qi post (fun w' t => va_P L.1 vwCl (pic w') t.heap) (aw_A L)) 0 0 (aw_A L)
def aw_Mv (pic : aw_S → va_W) (l : Launch) (L : aw_L) (y : MethodName) (cc : ByteArray) (n : Nat) (fr lo : Nat) (av : List Value) (w : aw_S) (post : aw_S → Prop) : Prop :=
  Met l y (ws_ y cc n none) (aw_rm fr lo) (aw_Pc pic L av w) (va_Qv post (fun w' t => va_P L.1 vwCl (pic w') t.heap) (aw_A L)) 0 0 (aw_A L)
/-- what X asks at the end -/
def aw_ri (pic : aw_S → va_W) (ty : FieldType) (post : Int32 → aw_S → Prop) (X : aw_X) : Prop := match X with
  | (_, _, _, _, s, _, args, below, meth, _, Q, _, cz, sz, D, A) => meth.sig.returnType = some ty ∧ Q = MQ below (va_Qi post (fun w' t => va_P D vwCl (pic w') t.heap) A) args s cz sz A
def aw_rv (pic : aw_S → va_W) (post : aw_S → Prop) (X : aw_X) : Prop := match X with
  | (_, _, _, _, s, _, args, below, meth, _, Q, _, cz, sz, D, A) => meth.sig.returnType = none ∧ Q = MQ below (va_Qv post (fun w' t => va_P D vwCl (pic w') t.heap) A) args s cz sz A
/-- nL locals; the cells that may change are A, and the picture's are apart in it -/
def aw_fx (pic : aw_S → va_W) (n : Nat) (L : aw_L) (X : aw_X) : Prop := match X with
  | (_, _, _, _, _, _, _, _, _, _, _, nL, _, _, _, A) => nL = n ∧ (∀ w, va_D A (pic w)) ∧ A = aw_A L
theorem aw_fx.nL {pic : aw_S → va_W} {n : Nat} {L : aw_L} {X : aw_X} (h : aw_fx pic n L X) {k : Nat} (hk : k < n) : k < aw_nl X := by
  obtain ⟨p, l0, e, R, s, m, args, below, meth, c, Q, nL, cz, sz, D, A⟩ := X
  obtain ⟨h, -⟩ := h
  show k < nL
  omega
theorem aw_fx.D {pic : aw_S → va_W} {n : Nat} {L : aw_L} {X : aw_X} (h : aw_fx pic n L X) (w : aw_S) : va_D (aw_ax X) (pic w) := by
  obtain ⟨p, l0, e, R, s, m, args, below, meth, c, Q, nL, cz, sz, D, A⟩ := X
  exact h.2.1 w
section AWC
variable {pic : aw_S → va_W} {X : aw_X} {l : Launch} {L : aw_L} {own : String} {cc : ByteArray} {fr lo : Nat} {pc pc' : Nat} {lv lv' : List (Nat × Value)} {st : List Value} {w : aw_S}
theorem aw_ireturn (O : aw_ok l L own cc fr lo X) {ty : FieldType} {post : Int32 → aw_S → Prop} (hr : aw_ri pic ty post X) {v : Int32} (hn : narrow ty (.int v) = .int v) (hd : decode cc pc = .ok (.ireturn, 1)) (h : post v w) : aw_J pic X pc lv [.int v] w := by
  obtain ⟨p, l0, e, R, s, m, args, below, meth, c, Q, nL, cz, sz, D, A⟩ := X
  obtain ⟨hr1, hQ⟩ := hr
  intro H locs ls h1 h2 h3
  have hlocks : meth.locks = false := O.2.2.2.2.2.2.1
  rw [hQ]
  exact W.zret (v := v) O.1 O.2.1 hr1 hn (fun t ht hW => ⟨⟨v, w, rfl, h, by show va_P D vwCl (pic w) t.heap; rw [ht]; exact h1⟩, h2.F ht⟩) h2.2.2 hd hlocks
theorem aw_return (O : aw_ok l L own cc fr lo X) {post : aw_S → Prop} (hr : aw_rv pic post X) (hd : decode cc pc = .ok (.return_, 1)) (h : post w) : aw_J pic X pc lv [] w := by
  obtain ⟨p, l0, e, R, s, m, args, below, meth, c, Q, nL, cz, sz, D, A⟩ := X
  obtain ⟨hr1, hQ⟩ := hr
  intro H locs ls h1 h2 h3
  have hlocks : meth.locks = false := O.2.2.2.2.2.2.1
  rw [hQ]
  exact W.vret O.1 O.2.1 hr1 (fun t ht hW => ⟨⟨w, rfl, h, by show va_P D vwCl (pic w) t.heap; rw [ht]; exact h1⟩, h2.F ht⟩) h2.2.2 hd hlocks
/-- a contract out of a walk -/
theorem aw_of_i {y : MethodName} {n : Nat} {ty : FieldType} {av : List Value} {post : Int32 → aw_S → Prop} (hD : ∀ w, va_D (aw_A L) (pic w)) (hy : plainName y.cls = true) (ho : y.cls = own) (hlen : (lg_sl (.ref (L.2.2 20) :: av)).length ≤ n) (hlv : lv_args 0 (.ref (L.2.2 20) :: av) = lv) (body : ∀ X, aw_ok l L own cc fr lo X → aw_fx pic n L X → aw_ri pic ty post X → aw_J pic X 0 lv [] w) : aw_Mi pic l L y cc n ty fr lo av w post := by
  refine Met.ofW (cc := cc) (maxL := n) (ret := some ty) hy rfl ?_
  intro p e s m args below meth c s₁ B hml hv
  obtain ⟨rfl, hP, hK⟩ := hv
  have hts := atoms_spec (ws := ws_ y cc n (some ty)) B.pre
  have hts : ∀ w ∈ lw_all, w.before _ s = true := fun w h => hts w (List.mem_cons_of_mem _ h)
  have hown : s.vm.findClass own = some m.cls := by rw [← ho]; exact findClass_of_methodNamed B.named
  have hl := lv_entry (.ref (L.2.2 20) :: av) (n := n) hlen
  rw [lg_entry_eq]
  rw [hlv] at hl
  exact body (p, l, e, (headSpec (ws_ y cc n (some ty)) (aw_rm fr lo)).room, s, m, _, below, meth, c, _, n, 0, 0, L.1, aw_A L) ⟨B.exec, B.bytes, hml, hown, hts, hK, B.notSynchronized, Nat.le_refl _, Nat.le_refl _, Nat.zero_le _, Nat.zero_le _, rfl, rfl⟩ ⟨rfl, hD, rfl⟩ ⟨B.returns, rfl⟩ s.heap [] _ hP va_S.rf hl
theorem aw_of_v {y : MethodName} {n : Nat} {av : List Value} {post : aw_S → Prop} (hD : ∀ w, va_D (aw_A L) (pic w)) (hy : plainName y.cls = true) (ho : y.cls = own) (hlen : (lg_sl (.ref (L.2.2 20) :: av)).length ≤ n) (hlv : lv_args 0 (.ref (L.2.2 20) :: av) = lv) (body : ∀ X, aw_ok l L own cc fr lo X → aw_fx pic n L X → aw_rv pic post X → aw_J pic X 0 lv [] w) : aw_Mv pic l L y cc n fr lo av w post := by
  refine Met.ofW (cc := cc) (maxL := n) (ret := none) hy rfl ?_
  intro p e s m args below meth c s₁ B hml hv
  obtain ⟨rfl, hP, hK⟩ := hv
  have hts := atoms_spec (ws := ws_ y cc n none) B.pre
  have hts : ∀ w ∈ lw_all, w.before _ s = true := fun w h => hts w (List.mem_cons_of_mem _ h)
  have hown : s.vm.findClass own = some m.cls := by rw [← ho]; exact findClass_of_methodNamed B.named
  have hl := lv_entry (.ref (L.2.2 20) :: av) (n := n) hlen
  rw [lg_entry_eq]
  rw [hlv] at hl
  exact body (p, l, e, (headSpec (ws_ y cc n none) (aw_rm fr lo)).room, s, m, _, below, meth, c, _, n, 0, 0, L.1, aw_A L) ⟨B.exec, B.bytes, hml, hown, hts, hK, B.notSynchronized, Nat.le_refl _, Nat.le_refl _, Nat.zero_le _, Nat.zero_le _, rfl, rfl⟩ ⟨rfl, hD, rfl⟩ ⟨B.returns, rfl⟩ s.heap [] _ hP va_S.rf hl
theorem aw_Pc_blind {av : List Value} : FrameBlind (aw_Pc pic L av w) := fun a U g mk q => ⟨q.1, q.2.1, va_K.moved (u := U) (U := U.calling g mk a) (Vm.Alike.refl U.vm) q.2.2⟩
/-- a call of a method of the same object -/
theorem aw_calli (O : aw_ok l L own cc fr lo X) {nL : Nat} (F : aw_fx pic nL L X) {y : MethodName} {bytes : ByteArray} {maxL n idx ci fr1 lo1 : Nat} {ty : FieldType} {av rest : List Value} {C : String} {T : u_T} {N : Nat} {fs : List Value} {post : Int32 → aw_S → Prop} (hM : aw_Mi pic l L y bytes maxL ty fr1 lo1 av w post) (hv : GoodIn lw_all (wsV own idx C y (ws_ y bytes maxL (some ty)))) (hd0 : y.cls = C ∧ y.cls ≠ "java/lang/invoke/MethodHandle" ∧ y.cls ≠ "java/lang/invoke/VarHandle" ∧ (parseMethodDescriptor y.desc).map (fun d => d.parameters.length) = some n) (he : (pic w)[0]? = some (L.2.2 20, .inr (ci, fs))) (hc : vwCl[ci]? = some (C, T, N)) (hf : fr1 + 1 ≤ fr) (hlo : 8 + (maxL + 11) + lo1 ≤ lo) (hn : av.length = n) (hst : st = av.reverse ++ .ref (L.2.2 20) :: rest) (hW : (rest.map fun v => v.category).sum ≤ 8) (hd : decode cc pc = .ok (.invokevirtual idx, 3)) (hp : pc + 3 = pc') (K : ∀ r w', post r w' → aw_J pic X pc' lv (.int r :: rest) w') : aw_J pic X pc lv st w := by
  obtain ⟨p, l0, e, R, s, m, args, below, meth, c, Q, nL, cz, sz, D, A⟩ := X
  subst hp
  intro H locs ls h1 h2 h3
  obtain ⟨o1, o2, o3, o4, o5, o6, o7, o8, o9, o10, o11, rfl, rfl⟩ := O
  obtain ⟨f1, f2, rfl⟩ := F
  refine va_calli (va_runV (As := av) (rest := rest) (C := C) ⟨o1, o2, o3, o4, o5⟩ hM (cwV n o5 hv rfl rfl rfl hd0 ⟨Nat.le_trans hf o8, Nat.le_trans hlo o9⟩) ⟨aw_Pc_blind, va_recv o6 h1 hc he, fun U hU hW => ⟨rfl, by rw [hU]; exact h1, va_K.moved hW.alike o6⟩⟩ rfl hn h3.1 hst (lv_room hW) hd ⟨o10, o11⟩) h2 (fun q _ h => h) (fun q h => h) (fun r u t H1 locs1 ht hvm hw hB hz hk hS => ?_)
  rw [ht] at hB
  exact K r u hw H1 locs1 ls hB hS h3
theorem aw_callv (O : aw_ok l L own cc fr lo X) {nL : Nat} (F : aw_fx pic nL L X) {y : MethodName} {bytes : ByteArray} {maxL n idx ci fr1 lo1 : Nat} {av rest : List Value} {C : String} {T : u_T} {N : Nat} {fs : List Value} {post : aw_S → Prop} (hM : aw_Mv pic l L y bytes maxL fr1 lo1 av w post) (hv : GoodIn lw_all (wsV own idx C y (ws_ y bytes maxL none))) (hd0 : y.cls = C ∧ y.cls ≠ "java/lang/invoke/MethodHandle" ∧ y.cls ≠ "java/lang/invoke/VarHandle" ∧ (parseMethodDescriptor y.desc).map (fun d => d.parameters.length) = some n) (he : (pic w)[0]? = some (L.2.2 20, .inr (ci, fs))) (hc : vwCl[ci]? = some (C, T, N)) (hf : fr1 + 1 ≤ fr) (hlo : 8 + (maxL + 11) + lo1 ≤ lo) (hn : av.length = n) (hst : st = av.reverse ++ .ref (L.2.2 20) :: rest) (hW : (rest.map fun v => v.category).sum ≤ 8) (hd : decode cc pc = .ok (.invokevirtual idx, 3)) (hp : pc + 3 = pc') (K : ∀ w', post w' → aw_J pic X pc' lv rest w') : aw_J pic X pc lv st w := by
  obtain ⟨p, l0, e, R, s, m, args, below, meth, c, Q, nL, cz, sz, D, A⟩ := X
  subst hp
  intro H locs ls h1 h2 h3
  obtain ⟨o1, o2, o3, o4, o5, o6, o7, o8, o9, o10, o11, rfl, rfl⟩ := O
  obtain ⟨f1, f2, rfl⟩ := F
  refine va_callv (va_runV (As := av) (rest := rest) (C := C) ⟨o1, o2, o3, o4, o5⟩ hM (cwV n o5 hv rfl rfl rfl hd0 ⟨Nat.le_trans hf o8, Nat.le_trans hlo o9⟩) ⟨aw_Pc_blind, va_recv o6 h1 hc he, fun U hU hW => ⟨rfl, by rw [hU]; exact h1, va_K.moved hW.alike o6⟩⟩ rfl hn h3.1 hst (lv_room hW) hd ⟨o10, o11⟩) h2 (fun q _ h => h) (fun q h => h) (fun u t H1 locs1 ht hvm hw hB hz hk hS => ?_)
  rw [ht] at hB
  exact K u hw H1 locs1 ls hB hS h3
end AWC
end
section
set_option maxRecDepth 100000
/-! THE TWO CLASSES' PICTURES AND ROWS -/
def aw_sA (w : aw_S) (k j : Nat) (x : Int32) : aw_S := (va_up w.1 k (upd (w.1 k) j x), w.2)
def aw_sF (w : aw_S) (k : Nat) (x : Int32) : aw_S := (w.1, upd w.2.1 k x, w.2.2)
def aw_sL (w : aw_S) (j : Nat) (x : Int64) : aw_S := (w.1, w.2.1, vp_updL w.2.2 j x)
theorem aw_D_addr {A : Nat → Prop} {ws ws' : va_W} (h : va_D A ws) (e : ws'.map (fun q => q.1) = ws.map (fun q => q.1)) : va_D A ws' := by
  have key : ∀ (k : Nat) (q : Nat × va_E), ws'[k]? = some q → ∃ q0, ws[k]? = some q0 ∧ q0.1 = q.1 := by
    intro k q hk
    have h1 : (ws'.map (fun q => q.1))[k]? = some q.1 := by rw [List.getElem?_map, hk]; rfl
    rw [e, List.getElem?_map] at h1
    cases h2 : ws[k]? with
    | none => rw [h2] at h1; cases h1
    | some q0 => rw [h2] at h1; exact ⟨q0, rfl, Option.some.inj h1⟩
  refine ⟨fun i j x y hi hj hxy => ?_, fun k q hk => ?_⟩
  · obtain ⟨x0, a1, a2⟩ := key i x hi
    obtain ⟨y0, b1, b2⟩ := key j y hj
    exact h.1 i j x0 y0 a1 b1 (a2.trans (hxy.trans b2.symm))
  · obtain ⟨q0, a1, a2⟩ := key k q hk
    rw [← a2]
    exact h.2 k q0 a1
def aw_fs0 (L : aw_L) (w : aw_S) : List Value := [.int (w.2.1 0), .ref (L.2.2 1), .ref (L.2.2 2), .ref (L.2.2 3), .ref (L.2.2 4), .ref (L.2.2 5), .ref (L.2.2 6), .ref (L.2.2 7), .int (w.2.1 8), .ref (L.2.2 9), .ref (L.2.2 10), .ref (L.2.2 11), .ref (L.2.2 12), .ref (L.2.2 13), .int (w.2.1 14), .int (w.2.1 15), .ref (L.2.2 16), .ref (L.2.2 17), .int (w.2.1 18)]
def aw_pic0 (L : aw_L) (w : aw_S) : va_W := [(L.2.2 20, .inr (0, aw_fs0 L w)), (L.2.2 1, .inl (L.2.1 0, 64, .inl (w.1 1))), (L.2.2 2, .inl (L.2.1 0, 64, .inl (w.1 2))), (L.2.2 3, .inl (L.2.1 0, 64, .inl (w.1 3))), (L.2.2 4, .inl (L.2.1 0, 1536, .inl (w.1 4))), (L.2.2 5, .inl (L.2.1 0, 24, .inl (w.1 5))), (L.2.2 6, .inl (L.2.1 0, 24, .inl (w.1 6))), (L.2.2 7, .inl (L.2.1 0, 144, .inl (w.1 7))), (L.2.2 9, .inl (L.2.1 0, 8, .inl (w.1 9))), (L.2.2 10, .inl (L.2.1 0, 8, .inl (w.1 10))), (L.2.2 11, .inl (L.2.1 0, 8, .inl (w.1 11))), (L.2.2 12, .inl (L.2.1 0, 8, .inl (w.1 12))), (L.2.2 13, .inl (L.2.1 0, 8, .inl (w.1 13))), (L.2.2 16, .inl (L.2.1 0, 8, .inl (w.1 16))), (L.2.2 17, .inl (L.2.1 1, 8, .inr (.inl w.2.2)))]
theorem aw_pic0_D {L : aw_L} {A : Nat → Prop} {w0 : aw_S} (h : va_D A (aw_pic0 L w0)) : ∀ w, va_D A (aw_pic0 L w) := fun w => aw_D_addr h rfl
def aw_fs1 (L : aw_L) (w : aw_S) : List Value := [.ref (L.2.2 0), .ref (L.2.2 1), .ref (L.2.2 2), .ref (L.2.2 3), .ref (L.2.2 4), .ref (L.2.2 5), .ref (L.2.2 6), .ref (L.2.2 7), .ref (L.2.2 8), .int (w.2.1 9)]
def aw_pic1 (L : aw_L) (w : aw_S) : va_W := [(L.2.2 20, .inr (1, aw_fs1 L w)), (L.2.2 0, .inl (L.2.1 2, 24, .inl (w.1 0))), (L.2.2 1, .inl (L.2.1 0, 24, .inl (w.1 1))), (L.2.2 2, .inl (L.2.1 0, 144, .inl (w.1 2))), (L.2.2 3, .inl (L.2.1 0, 8, .inl (w.1 3))), (L.2.2 4, .inl (L.2.1 0, 8, .inl (w.1 4))), (L.2.2 5, .inl (L.2.1 0, 8, .inl (w.1 5))), (L.2.2 6, .inl (L.2.1 0, 8, .inl (w.1 6))), (L.2.2 7, .inl (L.2.1 0, 8, .inl (w.1 7))), (L.2.2 8, .inl (L.2.1 0, 8, .inl (w.1 8)))]
theorem aw_pic1_D {L : aw_L} {A : Nat → Prop} {w0 : aw_S} (h : va_D A (aw_pic1 L w0)) : ∀ w, va_D A (aw_pic1 L w) := fun w => aw_D_addr h rfl
section AWC0
variable {X : aw_X} {l : Launch} {L : aw_L} {cc : ByteArray} {fr lo nL : Nat} {pc pc' : Nat} {lv : List (Nat × Value)} {st : List Value} {w : aw_S}
theorem g0_0 (O : aw_ok l L RX0 cc fr lo X) (hd : decode cc pc = .ok (.getfield 53, 3)) (hp : pc + 3 = pc') (K : aw_J (aw_pic0 L) X pc' lv (.int (w.2.1 0) :: st) w) : aw_J (aw_pic0 L) X pc lv (.ref (L.2.2 20) :: st) w := aw_get O in_X0 (fs := aw_fs0 L w) rfl rfl 0 (by decide) q39 rfl hd hp K
theorem p0_0 (O : aw_ok l L RX0 cc fr lo X) (F : aw_fx (aw_pic0 L) nL L X) {x : Int32} (hd : decode cc pc = .ok (.putfield 53, 3)) (hp : pc + 3 = pc') (K : aw_J (aw_pic0 L) X pc' lv st (aw_sF w 0 x)) : aw_J (aw_pic0 L) X pc lv (.int x :: .ref (L.2.2 20) :: st) w := aw_put O in_X0 tyX0 tyX0_ok nmX0 (fs := aw_fs0 L w) (F.D w) rfl rfl 0 (by decide) q39 rfl (ty := .int) (by decide +kernel) rfl rfl (Nat.le_of_ble_eq_true rfl) hd hp (w' := aw_sF w 0 x) rfl K
theorem g0_1 (O : aw_ok l L RX0 cc fr lo X) (hd : decode cc pc = .ok (.getfield 7, 3)) (hp : pc + 3 = pc') (K : aw_J (aw_pic0 L) X pc' lv (.ref (L.2.2 1) :: st) w) : aw_J (aw_pic0 L) X pc lv (.ref (L.2.2 20) :: st) w := aw_get O in_X0 (fs := aw_fs0 L w) rfl rfl 1 (by decide) q40 rfl hd hp K
theorem g0_2 (O : aw_ok l L RX0 cc fr lo X) (hd : decode cc pc = .ok (.getfield 13, 3)) (hp : pc + 3 = pc') (K : aw_J (aw_pic0 L) X pc' lv (.ref (L.2.2 2) :: st) w) : aw_J (aw_pic0 L) X pc lv (.ref (L.2.2 20) :: st) w := aw_get O in_X0 (fs := aw_fs0 L w) rfl rfl 2 (by decide) q41 rfl hd hp K
theorem g0_3 (O : aw_ok l L RX0 cc fr lo X) (hd : decode cc pc = .ok (.getfield 16, 3)) (hp : pc + 3 = pc') (K : aw_J (aw_pic0 L) X pc' lv (.ref (L.2.2 3) :: st) w) : aw_J (aw_pic0 L) X pc lv (.ref (L.2.2 20) :: st) w := aw_get O in_X0 (fs := aw_fs0 L w) rfl rfl 3 (by decide) q42 rfl hd hp K
theorem g0_4 (O : aw_ok l L RX0 cc fr lo X) (hd : decode cc pc = .ok (.getfield 19, 3)) (hp : pc + 3 = pc') (K : aw_J (aw_pic0 L) X pc' lv (.ref (L.2.2 4) :: st) w) : aw_J (aw_pic0 L) X pc lv (.ref (L.2.2 20) :: st) w := aw_get O in_X0 (fs := aw_fs0 L w) rfl rfl 4 (by decide) q43 rfl hd hp K
theorem g0_5 (O : aw_ok l L RX0 cc fr lo X) (hd : decode cc pc = .ok (.getfield 22, 3)) (hp : pc + 3 = pc') (K : aw_J (aw_pic0 L) X pc' lv (.ref (L.2.2 5) :: st) w) : aw_J (aw_pic0 L) X pc lv (.ref (L.2.2 20) :: st) w := aw_get O in_X0 (fs := aw_fs0 L w) rfl rfl 5 (by decide) q44 rfl hd hp K
theorem g0_6 (O : aw_ok l L RX0 cc fr lo X) (hd : decode cc pc = .ok (.getfield 25, 3)) (hp : pc + 3 = pc') (K : aw_J (aw_pic0 L) X pc' lv (.ref (L.2.2 6) :: st) w) : aw_J (aw_pic0 L) X pc lv (.ref (L.2.2 20) :: st) w := aw_get O in_X0 (fs := aw_fs0 L w) rfl rfl 6 (by decide) q45 rfl hd hp K
theorem g0_7 (O : aw_ok l L RX0 cc fr lo X) (hd : decode cc pc = .ok (.getfield 28, 3)) (hp : pc + 3 = pc') (K : aw_J (aw_pic0 L) X pc' lv (.ref (L.2.2 7) :: st) w) : aw_J (aw_pic0 L) X pc lv (.ref (L.2.2 20) :: st) w := aw_get O in_X0 (fs := aw_fs0 L w) rfl rfl 7 (by decide) q46 rfl hd hp K
theorem g0_8 (O : aw_ok l L RX0 cc fr lo X) (hd : decode cc pc = .ok (.getfield 93, 3)) (hp : pc + 3 = pc') (K : aw_J (aw_pic0 L) X pc' lv (.int (w.2.1 8) :: st) w) : aw_J (aw_pic0 L) X pc lv (.ref (L.2.2 20) :: st) w := aw_get O in_X0 (fs := aw_fs0 L w) rfl rfl 8 (by decide) q47 rfl hd hp K
theorem p0_8 (O : aw_ok l L RX0 cc fr lo X) (F : aw_fx (aw_pic0 L) nL L X) {x : Int32} (hd : decode cc pc = .ok (.putfield 93, 3)) (hp : pc + 3 = pc') (K : aw_J (aw_pic0 L) X pc' lv st (aw_sF w 8 x)) : aw_J (aw_pic0 L) X pc lv (.int x :: .ref (L.2.2 20) :: st) w := aw_put O in_X0 tyX0 tyX0_ok nmX0 (fs := aw_fs0 L w) (F.D w) rfl rfl 8 (by decide) q47 rfl (ty := .int) (by decide +kernel) rfl rfl (Nat.le_of_ble_eq_true rfl) hd hp (w' := aw_sF w 8 x) rfl K
theorem g0_9 (O : aw_ok l L RX0 cc fr lo X) (hd : decode cc pc = .ok (.getfield 31, 3)) (hp : pc + 3 = pc') (K : aw_J (aw_pic0 L) X pc' lv (.ref (L.2.2 9) :: st) w) : aw_J (aw_pic0 L) X pc lv (.ref (L.2.2 20) :: st) w := aw_get O in_X0 (fs := aw_fs0 L w) rfl rfl 9 (by decide) q48 rfl hd hp K
theorem g0_10 (O : aw_ok l L RX0 cc fr lo X) (hd : decode cc pc = .ok (.getfield 34, 3)) (hp : pc + 3 = pc') (K : aw_J (aw_pic0 L) X pc' lv (.ref (L.2.2 10) :: st) w) : aw_J (aw_pic0 L) X pc lv (.ref (L.2.2 20) :: st) w := aw_get O in_X0 (fs := aw_fs0 L w) rfl rfl 10 (by decide) q49 rfl hd hp K
theorem g0_11 (O : aw_ok l L RX0 cc fr lo X) (hd : decode cc pc = .ok (.getfield 37, 3)) (hp : pc + 3 = pc') (K : aw_J (aw_pic0 L) X pc' lv (.ref (L.2.2 11) :: st) w) : aw_J (aw_pic0 L) X pc lv (.ref (L.2.2 20) :: st) w := aw_get O in_X0 (fs := aw_fs0 L w) rfl rfl 11 (by decide) q50 rfl hd hp K
theorem g0_12 (O : aw_ok l L RX0 cc fr lo X) (hd : decode cc pc = .ok (.getfield 40, 3)) (hp : pc + 3 = pc') (K : aw_J (aw_pic0 L) X pc' lv (.ref (L.2.2 12) :: st) w) : aw_J (aw_pic0 L) X pc lv (.ref (L.2.2 20) :: st) w := aw_get O in_X0 (fs := aw_fs0 L w) rfl rfl 12 (by decide) q51 rfl hd hp K
theorem g0_13 (O : aw_ok l L RX0 cc fr lo X) (hd : decode cc pc = .ok (.getfield 43, 3)) (hp : pc + 3 = pc') (K : aw_J (aw_pic0 L) X pc' lv (.ref (L.2.2 13) :: st) w) : aw_J (aw_pic0 L) X pc lv (.ref (L.2.2 20) :: st) w := aw_get O in_X0 (fs := aw_fs0 L w) rfl rfl 13 (by decide) q52 rfl hd hp K
theorem g0_14 (O : aw_ok l L RX0 cc fr lo X) (hd : decode cc pc = .ok (.getfield 96, 3)) (hp : pc + 3 = pc') (K : aw_J (aw_pic0 L) X pc' lv (.int (w.2.1 14) :: st) w) : aw_J (aw_pic0 L) X pc lv (.ref (L.2.2 20) :: st) w := aw_get O in_X0 (fs := aw_fs0 L w) rfl rfl 14 (by decide) q53 rfl hd hp K
theorem p0_14 (O : aw_ok l L RX0 cc fr lo X) (F : aw_fx (aw_pic0 L) nL L X) {x : Int32} (hn : narrow .boolean (.int x) = .int x) (hfit : fits .boolean (.int x) = true) (hd : decode cc pc = .ok (.putfield 96, 3)) (hp : pc + 3 = pc') (K : aw_J (aw_pic0 L) X pc' lv st (aw_sF w 14 x)) : aw_J (aw_pic0 L) X pc lv (.int x :: .ref (L.2.2 20) :: st) w := aw_put O in_X0 tyX0 tyX0_ok nmX0 (fs := aw_fs0 L w) (F.D w) rfl rfl 14 (by decide) q53 rfl (ty := .boolean) (by decide +kernel) hn hfit (Nat.le_of_ble_eq_true rfl) hd hp (w' := aw_sF w 14 x) rfl K
theorem g0_15 (O : aw_ok l L RX0 cc fr lo X) (hd : decode cc pc = .ok (.getfield 106, 3)) (hp : pc + 3 = pc') (K : aw_J (aw_pic0 L) X pc' lv (.int (w.2.1 15) :: st) w) : aw_J (aw_pic0 L) X pc lv (.ref (L.2.2 20) :: st) w := aw_get O in_X0 (fs := aw_fs0 L w) rfl rfl 15 (by decide) q54 rfl hd hp K
theorem p0_15 (O : aw_ok l L RX0 cc fr lo X) (F : aw_fx (aw_pic0 L) nL L X) {x : Int32} (hd : decode cc pc = .ok (.putfield 106, 3)) (hp : pc + 3 = pc') (K : aw_J (aw_pic0 L) X pc' lv st (aw_sF w 15 x)) : aw_J (aw_pic0 L) X pc lv (.int x :: .ref (L.2.2 20) :: st) w := aw_put O in_X0 tyX0 tyX0_ok nmX0 (fs := aw_fs0 L w) (F.D w) rfl rfl 15 (by decide) q54 rfl (ty := .int) (by decide +kernel) rfl rfl (Nat.le_of_ble_eq_true rfl) hd hp (w' := aw_sF w 15 x) rfl K
theorem g0_16 (O : aw_ok l L RX0 cc fr lo X) (hd : decode cc pc = .ok (.getfield 46, 3)) (hp : pc + 3 = pc') (K : aw_J (aw_pic0 L) X pc' lv (.ref (L.2.2 16) :: st) w) : aw_J (aw_pic0 L) X pc lv (.ref (L.2.2 20) :: st) w := aw_get O in_X0 (fs := aw_fs0 L w) rfl rfl 16 (by decide) q55 rfl hd hp K
theorem g0_17 (O : aw_ok l L RX0 cc fr lo X) (hd : decode cc pc = .ok (.getfield 49, 3)) (hp : pc + 3 = pc') (K : aw_J (aw_pic0 L) X pc' lv (.ref (L.2.2 17) :: st) w) : aw_J (aw_pic0 L) X pc lv (.ref (L.2.2 20) :: st) w := aw_get O in_X0 (fs := aw_fs0 L w) rfl rfl 17 (by decide) q56 rfl hd hp K
theorem g0_18 (O : aw_ok l L RX0 cc fr lo X) (hd : decode cc pc = .ok (.getfield 100, 3)) (hp : pc + 3 = pc') (K : aw_J (aw_pic0 L) X pc' lv (.int (w.2.1 18) :: st) w) : aw_J (aw_pic0 L) X pc lv (.ref (L.2.2 20) :: st) w := aw_get O in_X0 (fs := aw_fs0 L w) rfl rfl 18 (by decide) q57 rfl hd hp K
theorem p0_18 (O : aw_ok l L RX0 cc fr lo X) (F : aw_fx (aw_pic0 L) nL L X) {x : Int32} (hd : decode cc pc = .ok (.putfield 100, 3)) (hp : pc + 3 = pc') (K : aw_J (aw_pic0 L) X pc' lv st (aw_sF w 18 x)) : aw_J (aw_pic0 L) X pc lv (.int x :: .ref (L.2.2 20) :: st) w := aw_put O in_X0 tyX0 tyX0_ok nmX0 (fs := aw_fs0 L w) (F.D w) rfl rfl 18 (by decide) q57 rfl (ty := .int) (by decide +kernel) rfl rfl (Nat.le_of_ble_eq_true rfl) hd hp (w' := aw_sF w 18 x) rfl K
theorem ld0_1 (O : aw_ok l L RX0 cc fr lo X) {i : Int32} {j : Nat} (hi : i = nI j) (hj : j < 64) (hd : decode cc pc = .ok (.iaload, 1)) (hp : pc + 1 = pc') (K : aw_J (aw_pic0 L) X pc' lv (.int (w.1 1 j) :: st) w) : aw_J (aw_pic0 L) X pc lv (.int i :: .ref (L.2.2 1) :: st) w := aw_iald O (q0 := 1) (n := 64) rfl hi hj (by decide) hd hp K
theorem st0_1 (O : aw_ok l L RX0 cc fr lo X) (F : aw_fx (aw_pic0 L) nL L X) {i x : Int32} {j : Nat} (hi : i = nI j) (hj : j < 64) (hd : decode cc pc = .ok (.iastore, 1)) (hp : pc + 1 = pc') (K : aw_J (aw_pic0 L) X pc' lv st (aw_sA w 1 j x)) : aw_J (aw_pic0 L) X pc lv (.int x :: .int i :: .ref (L.2.2 1) :: st) w := aw_iast O (q0 := 1) (n := 64) (F.D w) rfl hi hj (by decide) hd hp (w' := aw_sA w 1 j x) rfl K
theorem ld0_2 (O : aw_ok l L RX0 cc fr lo X) {i : Int32} {j : Nat} (hi : i = nI j) (hj : j < 64) (hd : decode cc pc = .ok (.iaload, 1)) (hp : pc + 1 = pc') (K : aw_J (aw_pic0 L) X pc' lv (.int (w.1 2 j) :: st) w) : aw_J (aw_pic0 L) X pc lv (.int i :: .ref (L.2.2 2) :: st) w := aw_iald O (q0 := 2) (n := 64) rfl hi hj (by decide) hd hp K
theorem st0_2 (O : aw_ok l L RX0 cc fr lo X) (F : aw_fx (aw_pic0 L) nL L X) {i x : Int32} {j : Nat} (hi : i = nI j) (hj : j < 64) (hd : decode cc pc = .ok (.iastore, 1)) (hp : pc + 1 = pc') (K : aw_J (aw_pic0 L) X pc' lv st (aw_sA w 2 j x)) : aw_J (aw_pic0 L) X pc lv (.int x :: .int i :: .ref (L.2.2 2) :: st) w := aw_iast O (q0 := 2) (n := 64) (F.D w) rfl hi hj (by decide) hd hp (w' := aw_sA w 2 j x) rfl K
theorem ld0_3 (O : aw_ok l L RX0 cc fr lo X) {i : Int32} {j : Nat} (hi : i = nI j) (hj : j < 64) (hd : decode cc pc = .ok (.iaload, 1)) (hp : pc + 1 = pc') (K : aw_J (aw_pic0 L) X pc' lv (.int (w.1 3 j) :: st) w) : aw_J (aw_pic0 L) X pc lv (.int i :: .ref (L.2.2 3) :: st) w := aw_iald O (q0 := 3) (n := 64) rfl hi hj (by decide) hd hp K
theorem st0_3 (O : aw_ok l L RX0 cc fr lo X) (F : aw_fx (aw_pic0 L) nL L X) {i x : Int32} {j : Nat} (hi : i = nI j) (hj : j < 64) (hd : decode cc pc = .ok (.iastore, 1)) (hp : pc + 1 = pc') (K : aw_J (aw_pic0 L) X pc' lv st (aw_sA w 3 j x)) : aw_J (aw_pic0 L) X pc lv (.int x :: .int i :: .ref (L.2.2 3) :: st) w := aw_iast O (q0 := 3) (n := 64) (F.D w) rfl hi hj (by decide) hd hp (w' := aw_sA w 3 j x) rfl K
theorem ld0_4 (O : aw_ok l L RX0 cc fr lo X) {i : Int32} {j : Nat} (hi : i = nI j) (hj : j < 1536) (hd : decode cc pc = .ok (.iaload, 1)) (hp : pc + 1 = pc') (K : aw_J (aw_pic0 L) X pc' lv (.int (w.1 4 j) :: st) w) : aw_J (aw_pic0 L) X pc lv (.int i :: .ref (L.2.2 4) :: st) w := aw_iald O (q0 := 4) (n := 1536) rfl hi hj (by decide) hd hp K
theorem st0_4 (O : aw_ok l L RX0 cc fr lo X) (F : aw_fx (aw_pic0 L) nL L X) {i x : Int32} {j : Nat} (hi : i = nI j) (hj : j < 1536) (hd : decode cc pc = .ok (.iastore, 1)) (hp : pc + 1 = pc') (K : aw_J (aw_pic0 L) X pc' lv st (aw_sA w 4 j x)) : aw_J (aw_pic0 L) X pc lv (.int x :: .int i :: .ref (L.2.2 4) :: st) w := aw_iast O (q0 := 4) (n := 1536) (F.D w) rfl hi hj (by decide) hd hp (w' := aw_sA w 4 j x) rfl K
theorem ld0_5 (O : aw_ok l L RX0 cc fr lo X) {i : Int32} {j : Nat} (hi : i = nI j) (hj : j < 24) (hd : decode cc pc = .ok (.iaload, 1)) (hp : pc + 1 = pc') (K : aw_J (aw_pic0 L) X pc' lv (.int (w.1 5 j) :: st) w) : aw_J (aw_pic0 L) X pc lv (.int i :: .ref (L.2.2 5) :: st) w := aw_iald O (q0 := 5) (n := 24) rfl hi hj (by decide) hd hp K
theorem st0_5 (O : aw_ok l L RX0 cc fr lo X) (F : aw_fx (aw_pic0 L) nL L X) {i x : Int32} {j : Nat} (hi : i = nI j) (hj : j < 24) (hd : decode cc pc = .ok (.iastore, 1)) (hp : pc + 1 = pc') (K : aw_J (aw_pic0 L) X pc' lv st (aw_sA w 5 j x)) : aw_J (aw_pic0 L) X pc lv (.int x :: .int i :: .ref (L.2.2 5) :: st) w := aw_iast O (q0 := 5) (n := 24) (F.D w) rfl hi hj (by decide) hd hp (w' := aw_sA w 5 j x) rfl K
theorem ld0_6 (O : aw_ok l L RX0 cc fr lo X) {i : Int32} {j : Nat} (hi : i = nI j) (hj : j < 24) (hd : decode cc pc = .ok (.iaload, 1)) (hp : pc + 1 = pc') (K : aw_J (aw_pic0 L) X pc' lv (.int (w.1 6 j) :: st) w) : aw_J (aw_pic0 L) X pc lv (.int i :: .ref (L.2.2 6) :: st) w := aw_iald O (q0 := 6) (n := 24) rfl hi hj (by decide) hd hp K
theorem st0_6 (O : aw_ok l L RX0 cc fr lo X) (F : aw_fx (aw_pic0 L) nL L X) {i x : Int32} {j : Nat} (hi : i = nI j) (hj : j < 24) (hd : decode cc pc = .ok (.iastore, 1)) (hp : pc + 1 = pc') (K : aw_J (aw_pic0 L) X pc' lv st (aw_sA w 6 j x)) : aw_J (aw_pic0 L) X pc lv (.int x :: .int i :: .ref (L.2.2 6) :: st) w := aw_iast O (q0 := 6) (n := 24) (F.D w) rfl hi hj (by decide) hd hp (w' := aw_sA w 6 j x) rfl K
theorem ld0_7 (O : aw_ok l L RX0 cc fr lo X) {i : Int32} {j : Nat} (hi : i = nI j) (hj : j < 144) (hd : decode cc pc = .ok (.iaload, 1)) (hp : pc + 1 = pc') (K : aw_J (aw_pic0 L) X pc' lv (.int (w.1 7 j) :: st) w) : aw_J (aw_pic0 L) X pc lv (.int i :: .ref (L.2.2 7) :: st) w := aw_iald O (q0 := 7) (n := 144) rfl hi hj (by decide) hd hp K
theorem st0_7 (O : aw_ok l L RX0 cc fr lo X) (F : aw_fx (aw_pic0 L) nL L X) {i x : Int32} {j : Nat} (hi : i = nI j) (hj : j < 144) (hd : decode cc pc = .ok (.iastore, 1)) (hp : pc + 1 = pc') (K : aw_J (aw_pic0 L) X pc' lv st (aw_sA w 7 j x)) : aw_J (aw_pic0 L) X pc lv (.int x :: .int i :: .ref (L.2.2 7) :: st) w := aw_iast O (q0 := 7) (n := 144) (F.D w) rfl hi hj (by decide) hd hp (w' := aw_sA w 7 j x) rfl K
theorem ld0_9 (O : aw_ok l L RX0 cc fr lo X) {i : Int32} {j : Nat} (hi : i = nI j) (hj : j < 8) (hd : decode cc pc = .ok (.iaload, 1)) (hp : pc + 1 = pc') (K : aw_J (aw_pic0 L) X pc' lv (.int (w.1 9 j) :: st) w) : aw_J (aw_pic0 L) X pc lv (.int i :: .ref (L.2.2 9) :: st) w := aw_iald O (q0 := 8) (n := 8) rfl hi hj (by decide) hd hp K
theorem st0_9 (O : aw_ok l L RX0 cc fr lo X) (F : aw_fx (aw_pic0 L) nL L X) {i x : Int32} {j : Nat} (hi : i = nI j) (hj : j < 8) (hd : decode cc pc = .ok (.iastore, 1)) (hp : pc + 1 = pc') (K : aw_J (aw_pic0 L) X pc' lv st (aw_sA w 9 j x)) : aw_J (aw_pic0 L) X pc lv (.int x :: .int i :: .ref (L.2.2 9) :: st) w := aw_iast O (q0 := 8) (n := 8) (F.D w) rfl hi hj (by decide) hd hp (w' := aw_sA w 9 j x) rfl K
theorem ld0_10 (O : aw_ok l L RX0 cc fr lo X) {i : Int32} {j : Nat} (hi : i = nI j) (hj : j < 8) (hd : decode cc pc = .ok (.iaload, 1)) (hp : pc + 1 = pc') (K : aw_J (aw_pic0 L) X pc' lv (.int (w.1 10 j) :: st) w) : aw_J (aw_pic0 L) X pc lv (.int i :: .ref (L.2.2 10) :: st) w := aw_iald O (q0 := 9) (n := 8) rfl hi hj (by decide) hd hp K
theorem st0_10 (O : aw_ok l L RX0 cc fr lo X) (F : aw_fx (aw_pic0 L) nL L X) {i x : Int32} {j : Nat} (hi : i = nI j) (hj : j < 8) (hd : decode cc pc = .ok (.iastore, 1)) (hp : pc + 1 = pc') (K : aw_J (aw_pic0 L) X pc' lv st (aw_sA w 10 j x)) : aw_J (aw_pic0 L) X pc lv (.int x :: .int i :: .ref (L.2.2 10) :: st) w := aw_iast O (q0 := 9) (n := 8) (F.D w) rfl hi hj (by decide) hd hp (w' := aw_sA w 10 j x) rfl K
theorem ld0_11 (O : aw_ok l L RX0 cc fr lo X) {i : Int32} {j : Nat} (hi : i = nI j) (hj : j < 8) (hd : decode cc pc = .ok (.iaload, 1)) (hp : pc + 1 = pc') (K : aw_J (aw_pic0 L) X pc' lv (.int (w.1 11 j) :: st) w) : aw_J (aw_pic0 L) X pc lv (.int i :: .ref (L.2.2 11) :: st) w := aw_iald O (q0 := 10) (n := 8) rfl hi hj (by decide) hd hp K
theorem st0_11 (O : aw_ok l L RX0 cc fr lo X) (F : aw_fx (aw_pic0 L) nL L X) {i x : Int32} {j : Nat} (hi : i = nI j) (hj : j < 8) (hd : decode cc pc = .ok (.iastore, 1)) (hp : pc + 1 = pc') (K : aw_J (aw_pic0 L) X pc' lv st (aw_sA w 11 j x)) : aw_J (aw_pic0 L) X pc lv (.int x :: .int i :: .ref (L.2.2 11) :: st) w := aw_iast O (q0 := 10) (n := 8) (F.D w) rfl hi hj (by decide) hd hp (w' := aw_sA w 11 j x) rfl K
theorem ld0_12 (O : aw_ok l L RX0 cc fr lo X) {i : Int32} {j : Nat} (hi : i = nI j) (hj : j < 8) (hd : decode cc pc = .ok (.iaload, 1)) (hp : pc + 1 = pc') (K : aw_J (aw_pic0 L) X pc' lv (.int (w.1 12 j) :: st) w) : aw_J (aw_pic0 L) X pc lv (.int i :: .ref (L.2.2 12) :: st) w := aw_iald O (q0 := 11) (n := 8) rfl hi hj (by decide) hd hp K
theorem st0_12 (O : aw_ok l L RX0 cc fr lo X) (F : aw_fx (aw_pic0 L) nL L X) {i x : Int32} {j : Nat} (hi : i = nI j) (hj : j < 8) (hd : decode cc pc = .ok (.iastore, 1)) (hp : pc + 1 = pc') (K : aw_J (aw_pic0 L) X pc' lv st (aw_sA w 12 j x)) : aw_J (aw_pic0 L) X pc lv (.int x :: .int i :: .ref (L.2.2 12) :: st) w := aw_iast O (q0 := 11) (n := 8) (F.D w) rfl hi hj (by decide) hd hp (w' := aw_sA w 12 j x) rfl K
theorem ld0_13 (O : aw_ok l L RX0 cc fr lo X) {i : Int32} {j : Nat} (hi : i = nI j) (hj : j < 8) (hd : decode cc pc = .ok (.iaload, 1)) (hp : pc + 1 = pc') (K : aw_J (aw_pic0 L) X pc' lv (.int (w.1 13 j) :: st) w) : aw_J (aw_pic0 L) X pc lv (.int i :: .ref (L.2.2 13) :: st) w := aw_iald O (q0 := 12) (n := 8) rfl hi hj (by decide) hd hp K
theorem st0_13 (O : aw_ok l L RX0 cc fr lo X) (F : aw_fx (aw_pic0 L) nL L X) {i x : Int32} {j : Nat} (hi : i = nI j) (hj : j < 8) (hd : decode cc pc = .ok (.iastore, 1)) (hp : pc + 1 = pc') (K : aw_J (aw_pic0 L) X pc' lv st (aw_sA w 13 j x)) : aw_J (aw_pic0 L) X pc lv (.int x :: .int i :: .ref (L.2.2 13) :: st) w := aw_iast O (q0 := 12) (n := 8) (F.D w) rfl hi hj (by decide) hd hp (w' := aw_sA w 13 j x) rfl K
theorem ld0_16 (O : aw_ok l L RX0 cc fr lo X) {i : Int32} {j : Nat} (hi : i = nI j) (hj : j < 8) (hd : decode cc pc = .ok (.iaload, 1)) (hp : pc + 1 = pc') (K : aw_J (aw_pic0 L) X pc' lv (.int (w.1 16 j) :: st) w) : aw_J (aw_pic0 L) X pc lv (.int i :: .ref (L.2.2 16) :: st) w := aw_iald O (q0 := 13) (n := 8) rfl hi hj (by decide) hd hp K
theorem st0_16 (O : aw_ok l L RX0 cc fr lo X) (F : aw_fx (aw_pic0 L) nL L X) {i x : Int32} {j : Nat} (hi : i = nI j) (hj : j < 8) (hd : decode cc pc = .ok (.iastore, 1)) (hp : pc + 1 = pc') (K : aw_J (aw_pic0 L) X pc' lv st (aw_sA w 16 j x)) : aw_J (aw_pic0 L) X pc lv (.int x :: .int i :: .ref (L.2.2 16) :: st) w := aw_iast O (q0 := 13) (n := 8) (F.D w) rfl hi hj (by decide) hd hp (w' := aw_sA w 16 j x) rfl K
theorem ld0_17 (O : aw_ok l L RX0 cc fr lo X) {i : Int32} {j : Nat} (hi : i = nI j) (hj : j < 8) (hd : decode cc pc = .ok (.laload, 1)) (hp : pc + 1 = pc') (K : aw_J (aw_pic0 L) X pc' lv (.long (w.2.2 j) :: st) w) : aw_J (aw_pic0 L) X pc lv (.int i :: .ref (L.2.2 17) :: st) w := aw_lald O (q0 := 14) (n := 8) rfl hi hj (by decide) hd hp K
theorem st0_17 (O : aw_ok l L RX0 cc fr lo X) (F : aw_fx (aw_pic0 L) nL L X) {i : Int32} {x : Int64} {j : Nat} (hi : i = nI j) (hj : j < 8) (hd : decode cc pc = .ok (.lastore, 1)) (hp : pc + 1 = pc') (K : aw_J (aw_pic0 L) X pc' lv st (aw_sL w j x)) : aw_J (aw_pic0 L) X pc lv (.long x :: .int i :: .ref (L.2.2 17) :: st) w := aw_last O (q0 := 14) (n := 8) (F.D w) rfl hi hj (by decide) hd hp (w' := aw_sL w j x) rfl K
theorem v0_badSet : GoodIn lw_all (wsV RX0 69 RX0 yX0_badSet (ws_ yX0_badSet cX0_badSet 2 (some .boolean))) := lw_V q103 q105 qs0 q29 q106
theorem n0_badSet : yX0_badSet.cls = RX0 ∧ yX0_badSet.cls ≠ "java/lang/invoke/MethodHandle" ∧ yX0_badSet.cls ≠ "java/lang/invoke/VarHandle" ∧ (parseMethodDescriptor yX0_badSet.desc).map (fun d => d.parameters.length) = some 1 := by decide +kernel
theorem c0_badSet (O : aw_ok l L RX0 cc fr lo X) (F : aw_fx (aw_pic0 L) nL L X) {fr1 lo1 : Nat} {av rest : List Value} {post : Int32 → aw_S → Prop} (hM : aw_Mi (aw_pic0 L) l L yX0_badSet cX0_badSet 2 .boolean fr1 lo1 av w post) (hf : fr1 + 1 ≤ fr) (hlo : 8 + (2 + 11) + lo1 ≤ lo) (hst : st = av.reverse ++ .ref (L.2.2 20) :: rest) (hn : av.length = 1) (hW : (rest.map fun v => v.category).sum ≤ 8) (hd : decode cc pc = .ok (.invokevirtual 69, 3)) (hp : pc + 3 = pc') (K : ∀ r w', post r w' → aw_J (aw_pic0 L) X pc' lv (.int r :: rest) w') : aw_J (aw_pic0 L) X pc lv st w := aw_calli O F hM v0_badSet n0_badSet (fs := aw_fs0 L w) rfl rfl hf hlo hn hst hW hd hp K
theorem v0_tableFor : GoodIn lw_all (wsV RX0 57 RX0 yX0_tableFor (ws_ yX0_tableFor cX0_tableFor 2 (some .int))) := lw_V q107 q109 qs1 q29 q110
theorem n0_tableFor : yX0_tableFor.cls = RX0 ∧ yX0_tableFor.cls ≠ "java/lang/invoke/MethodHandle" ∧ yX0_tableFor.cls ≠ "java/lang/invoke/VarHandle" ∧ (parseMethodDescriptor yX0_tableFor.desc).map (fun d => d.parameters.length) = some 1 := by decide +kernel
theorem c0_tableFor (O : aw_ok l L RX0 cc fr lo X) (F : aw_fx (aw_pic0 L) nL L X) {fr1 lo1 : Nat} {av rest : List Value} {post : Int32 → aw_S → Prop} (hM : aw_Mi (aw_pic0 L) l L yX0_tableFor cX0_tableFor 2 .int fr1 lo1 av w post) (hf : fr1 + 1 ≤ fr) (hlo : 8 + (2 + 11) + lo1 ≤ lo) (hst : st = av.reverse ++ .ref (L.2.2 20) :: rest) (hn : av.length = 1) (hW : (rest.map fun v => v.category).sum ≤ 8) (hd : decode cc pc = .ok (.invokevirtual 57, 3)) (hp : pc + 3 = pc') (K : ∀ r w', post r w' → aw_J (aw_pic0 L) X pc' lv (.int r :: rest) w') : aw_J (aw_pic0 L) X pc lv st w := aw_calli O F hM v0_tableFor n0_tableFor (fs := aw_fs0 L w) rfl rfl hf hlo hn hst hW hd hp K
theorem v0_enter : GoodIn lw_all (wsV RX0 65 RX0 yX0_enter (ws_ yX0_enter cX0_enter 3 none)) := lw_V q111 q113 qs2 q29 q114
theorem n0_enter : yX0_enter.cls = RX0 ∧ yX0_enter.cls ≠ "java/lang/invoke/MethodHandle" ∧ yX0_enter.cls ≠ "java/lang/invoke/VarHandle" ∧ (parseMethodDescriptor yX0_enter.desc).map (fun d => d.parameters.length) = some 2 := by decide +kernel
theorem c0_enter (O : aw_ok l L RX0 cc fr lo X) (F : aw_fx (aw_pic0 L) nL L X) {fr1 lo1 : Nat} {av rest : List Value} {post : aw_S → Prop} (hM : aw_Mv (aw_pic0 L) l L yX0_enter cX0_enter 3 fr1 lo1 av w post) (hf : fr1 + 1 ≤ fr) (hlo : 8 + (3 + 11) + lo1 ≤ lo) (hst : st = av.reverse ++ .ref (L.2.2 20) :: rest) (hn : av.length = 2) (hW : (rest.map fun v => v.category).sum ≤ 8) (hd : decode cc pc = .ok (.invokevirtual 65, 3)) (hp : pc + 3 = pc') (K : ∀ w', post w' → aw_J (aw_pic0 L) X pc' lv rest w') : aw_J (aw_pic0 L) X pc lv st w := aw_callv O F hM v0_enter n0_enter (fs := aw_fs0 L w) rfl rfl hf hlo hn hst hW hd hp K
theorem v0_lives : GoodIn lw_all (wsV RX0 73 RX0 yX0_lives (ws_ yX0_lives cX0_lives 2 (some .boolean))) := lw_V q119 q121 qs3 q29 q122
theorem n0_lives : yX0_lives.cls = RX0 ∧ yX0_lives.cls ≠ "java/lang/invoke/MethodHandle" ∧ yX0_lives.cls ≠ "java/lang/invoke/VarHandle" ∧ (parseMethodDescriptor yX0_lives.desc).map (fun d => d.parameters.length) = some 1 := by decide +kernel
theorem c0_lives (O : aw_ok l L RX0 cc fr lo X) (F : aw_fx (aw_pic0 L) nL L X) {fr1 lo1 : Nat} {av rest : List Value} {post : Int32 → aw_S → Prop} (hM : aw_Mi (aw_pic0 L) l L yX0_lives cX0_lives 2 .boolean fr1 lo1 av w post) (hf : fr1 + 1 ≤ fr) (hlo : 8 + (2 + 11) + lo1 ≤ lo) (hst : st = av.reverse ++ .ref (L.2.2 20) :: rest) (hn : av.length = 1) (hW : (rest.map fun v => v.category).sum ≤ 8) (hd : decode cc pc = .ok (.invokevirtual 73, 3)) (hp : pc + 3 = pc') (K : ∀ r w', post r w' → aw_J (aw_pic0 L) X pc' lv (.int r :: rest) w') : aw_J (aw_pic0 L) X pc lv st w := aw_calli O F hM v0_lives n0_lives (fs := aw_fs0 L w) rfl rfl hf hlo hn hst hW hd hp K
theorem v0_setOf : GoodIn lw_all (wsV RX0 76 RX0 yX0_setOf (ws_ yX0_setOf cX0_setOf 2 (some .int))) := lw_V q123 q125 qs4 q29 q126
theorem n0_setOf : yX0_setOf.cls = RX0 ∧ yX0_setOf.cls ≠ "java/lang/invoke/MethodHandle" ∧ yX0_setOf.cls ≠ "java/lang/invoke/VarHandle" ∧ (parseMethodDescriptor yX0_setOf.desc).map (fun d => d.parameters.length) = some 1 := by decide +kernel
theorem c0_setOf (O : aw_ok l L RX0 cc fr lo X) (F : aw_fx (aw_pic0 L) nL L X) {fr1 lo1 : Nat} {av rest : List Value} {post : Int32 → aw_S → Prop} (hM : aw_Mi (aw_pic0 L) l L yX0_setOf cX0_setOf 2 .int fr1 lo1 av w post) (hf : fr1 + 1 ≤ fr) (hlo : 8 + (2 + 11) + lo1 ≤ lo) (hst : st = av.reverse ++ .ref (L.2.2 20) :: rest) (hn : av.length = 1) (hW : (rest.map fun v => v.category).sum ≤ 8) (hd : decode cc pc = .ok (.invokevirtual 76, 3)) (hp : pc + 3 = pc') (K : ∀ r w', post r w' → aw_J (aw_pic0 L) X pc' lv (.int r :: rest) w') : aw_J (aw_pic0 L) X pc lv st w := aw_calli O F hM v0_setOf n0_setOf (fs := aw_fs0 L w) rfl rfl hf hlo hn hst hW hd hp K
theorem v0_leave : GoodIn lw_all (wsV RX0 61 RX0 yX0_leave (ws_ yX0_leave cX0_leave 4 none)) := lw_V q127 q129 qs5 q29 q130
theorem n0_leave : yX0_leave.cls = RX0 ∧ yX0_leave.cls ≠ "java/lang/invoke/MethodHandle" ∧ yX0_leave.cls ≠ "java/lang/invoke/VarHandle" ∧ (parseMethodDescriptor yX0_leave.desc).map (fun d => d.parameters.length) = some 1 := by decide +kernel
theorem c0_leave (O : aw_ok l L RX0 cc fr lo X) (F : aw_fx (aw_pic0 L) nL L X) {fr1 lo1 : Nat} {av rest : List Value} {post : aw_S → Prop} (hM : aw_Mv (aw_pic0 L) l L yX0_leave cX0_leave 4 fr1 lo1 av w post) (hf : fr1 + 1 ≤ fr) (hlo : 8 + (4 + 11) + lo1 ≤ lo) (hst : st = av.reverse ++ .ref (L.2.2 20) :: rest) (hn : av.length = 1) (hW : (rest.map fun v => v.category).sum ≤ 8) (hd : decode cc pc = .ok (.invokevirtual 61, 3)) (hp : pc + 3 = pc') (K : ∀ w', post w' → aw_J (aw_pic0 L) X pc' lv rest w') : aw_J (aw_pic0 L) X pc lv st w := aw_callv O F hM v0_leave n0_leave (fs := aw_fs0 L w) rfl rfl hf hlo hn hst hW hd hp K
theorem v0_badPart : GoodIn lw_all (wsV RX0 79 RX0 yX0_badPart (ws_ yX0_badPart cX0_badPart 2 (some .boolean))) := lw_V q135 q137 qs6 q29 q138
theorem n0_badPart : yX0_badPart.cls = RX0 ∧ yX0_badPart.cls ≠ "java/lang/invoke/MethodHandle" ∧ yX0_badPart.cls ≠ "java/lang/invoke/VarHandle" ∧ (parseMethodDescriptor yX0_badPart.desc).map (fun d => d.parameters.length) = some 1 := by decide +kernel
theorem c0_badPart (O : aw_ok l L RX0 cc fr lo X) (F : aw_fx (aw_pic0 L) nL L X) {fr1 lo1 : Nat} {av rest : List Value} {post : Int32 → aw_S → Prop} (hM : aw_Mi (aw_pic0 L) l L yX0_badPart cX0_badPart 2 .boolean fr1 lo1 av w post) (hf : fr1 + 1 ≤ fr) (hlo : 8 + (2 + 11) + lo1 ≤ lo) (hst : st = av.reverse ++ .ref (L.2.2 20) :: rest) (hn : av.length = 1) (hW : (rest.map fun v => v.category).sum ≤ 8) (hd : decode cc pc = .ok (.invokevirtual 79, 3)) (hp : pc + 3 = pc') (K : ∀ r w', post r w' → aw_J (aw_pic0 L) X pc' lv (.int r :: rest) w') : aw_J (aw_pic0 L) X pc lv st w := aw_calli O F hM v0_badPart n0_badPart (fs := aw_fs0 L w) rfl rfl hf hlo hn hst hW hd hp K
theorem v0_change : GoodIn lw_all (wsV RX0 82 RX0 yX0_change (ws_ yX0_change cX0_change 4 none)) := lw_V q139 q141 qs7 q29 q142
theorem n0_change : yX0_change.cls = RX0 ∧ yX0_change.cls ≠ "java/lang/invoke/MethodHandle" ∧ yX0_change.cls ≠ "java/lang/invoke/VarHandle" ∧ (parseMethodDescriptor yX0_change.desc).map (fun d => d.parameters.length) = some 2 := by decide +kernel
theorem c0_change (O : aw_ok l L RX0 cc fr lo X) (F : aw_fx (aw_pic0 L) nL L X) {fr1 lo1 : Nat} {av rest : List Value} {post : aw_S → Prop} (hM : aw_Mv (aw_pic0 L) l L yX0_change cX0_change 4 fr1 lo1 av w post) (hf : fr1 + 1 ≤ fr) (hlo : 8 + (4 + 11) + lo1 ≤ lo) (hst : st = av.reverse ++ .ref (L.2.2 20) :: rest) (hn : av.length = 2) (hW : (rest.map fun v => v.category).sum ≤ 8) (hd : decode cc pc = .ok (.invokevirtual 82, 3)) (hp : pc + 3 = pc') (K : ∀ w', post w' → aw_J (aw_pic0 L) X pc' lv rest w') : aw_J (aw_pic0 L) X pc lv st w := aw_callv O F hM v0_change n0_change (fs := aw_fs0 L w) rfl rfl hf hlo hn hst hW hd hp K
theorem v0_fits : GoodIn lw_all (wsV RX0 85 RX0 yX0_fits (ws_ yX0_fits cX0_fits 4 (some .boolean))) := lw_V q163 q165 qs8 q29 q166
theorem n0_fits : yX0_fits.cls = RX0 ∧ yX0_fits.cls ≠ "java/lang/invoke/MethodHandle" ∧ yX0_fits.cls ≠ "java/lang/invoke/VarHandle" ∧ (parseMethodDescriptor yX0_fits.desc).map (fun d => d.parameters.length) = some 3 := by decide +kernel
theorem c0_fits (O : aw_ok l L RX0 cc fr lo X) (F : aw_fx (aw_pic0 L) nL L X) {fr1 lo1 : Nat} {av rest : List Value} {post : Int32 → aw_S → Prop} (hM : aw_Mi (aw_pic0 L) l L yX0_fits cX0_fits 4 .boolean fr1 lo1 av w post) (hf : fr1 + 1 ≤ fr) (hlo : 8 + (4 + 11) + lo1 ≤ lo) (hst : st = av.reverse ++ .ref (L.2.2 20) :: rest) (hn : av.length = 3) (hW : (rest.map fun v => v.category).sum ≤ 8) (hd : decode cc pc = .ok (.invokevirtual 85, 3)) (hp : pc + 3 = pc') (K : ∀ r w', post r w' → aw_J (aw_pic0 L) X pc' lv (.int r :: rest) w') : aw_J (aw_pic0 L) X pc lv st w := aw_calli O F hM v0_fits n0_fits (fs := aw_fs0 L w) rfl rfl hf hlo hn hst hW hd hp K
theorem v0_leastFrom : GoodIn lw_all (wsV RX0 89 RX0 yX0_leastFrom (ws_ yX0_leastFrom cX0_leastFrom 6 (some .int))) := lw_V q171 q173 qs9 q29 q174
theorem n0_leastFrom : yX0_leastFrom.cls = RX0 ∧ yX0_leastFrom.cls ≠ "java/lang/invoke/MethodHandle" ∧ yX0_leastFrom.cls ≠ "java/lang/invoke/VarHandle" ∧ (parseMethodDescriptor yX0_leastFrom.desc).map (fun d => d.parameters.length) = some 2 := by decide +kernel
theorem c0_leastFrom (O : aw_ok l L RX0 cc fr lo X) (F : aw_fx (aw_pic0 L) nL L X) {fr1 lo1 : Nat} {av rest : List Value} {post : Int32 → aw_S → Prop} (hM : aw_Mi (aw_pic0 L) l L yX0_leastFrom cX0_leastFrom 6 .int fr1 lo1 av w post) (hf : fr1 + 1 ≤ fr) (hlo : 8 + (6 + 11) + lo1 ≤ lo) (hst : st = av.reverse ++ .ref (L.2.2 20) :: rest) (hn : av.length = 2) (hW : (rest.map fun v => v.category).sum ≤ 8) (hd : decode cc pc = .ok (.invokevirtual 89, 3)) (hp : pc + 3 = pc') (K : ∀ r w', post r w' → aw_J (aw_pic0 L) X pc' lv (.int r :: rest) w') : aw_J (aw_pic0 L) X pc lv st w := aw_calli O F hM v0_leastFrom n0_leastFrom (fs := aw_fs0 L w) rfl rfl hf hlo hn hst hW hd hp K
theorem v0_layOut : GoodIn lw_all (wsV RX0 113 RX0 yX0_layOut (ws_ yX0_layOut cX0_layOut 3 none)) := lw_V q195 q197 qs10 q29 q198
theorem n0_layOut : yX0_layOut.cls = RX0 ∧ yX0_layOut.cls ≠ "java/lang/invoke/MethodHandle" ∧ yX0_layOut.cls ≠ "java/lang/invoke/VarHandle" ∧ (parseMethodDescriptor yX0_layOut.desc).map (fun d => d.parameters.length) = some 0 := by decide +kernel
theorem c0_layOut (O : aw_ok l L RX0 cc fr lo X) (F : aw_fx (aw_pic0 L) nL L X) {fr1 lo1 : Nat} {av rest : List Value} {post : aw_S → Prop} (hM : aw_Mv (aw_pic0 L) l L yX0_layOut cX0_layOut 3 fr1 lo1 av w post) (hf : fr1 + 1 ≤ fr) (hlo : 8 + (3 + 11) + lo1 ≤ lo) (hst : st = av.reverse ++ .ref (L.2.2 20) :: rest) (hn : av.length = 0) (hW : (rest.map fun v => v.category).sum ≤ 8) (hd : decode cc pc = .ok (.invokevirtual 113, 3)) (hp : pc + 3 = pc') (K : ∀ w', post w' → aw_J (aw_pic0 L) X pc' lv rest w') : aw_J (aw_pic0 L) X pc lv st w := aw_callv O F hM v0_layOut n0_layOut (fs := aw_fs0 L w) rfl rfl hf hlo hn hst hW hd hp K
theorem v0_conflict : GoodIn lw_all (wsV RX0 109 RX0 yX0_conflict (ws_ yX0_conflict cX0_conflict 3 (some .boolean))) := lw_V q199 q201 qs11 q29 q202
theorem n0_conflict : yX0_conflict.cls = RX0 ∧ yX0_conflict.cls ≠ "java/lang/invoke/MethodHandle" ∧ yX0_conflict.cls ≠ "java/lang/invoke/VarHandle" ∧ (parseMethodDescriptor yX0_conflict.desc).map (fun d => d.parameters.length) = some 2 := by decide +kernel
theorem c0_conflict (O : aw_ok l L RX0 cc fr lo X) (F : aw_fx (aw_pic0 L) nL L X) {fr1 lo1 : Nat} {av rest : List Value} {post : Int32 → aw_S → Prop} (hM : aw_Mi (aw_pic0 L) l L yX0_conflict cX0_conflict 3 .boolean fr1 lo1 av w post) (hf : fr1 + 1 ≤ fr) (hlo : 8 + (3 + 11) + lo1 ≤ lo) (hst : st = av.reverse ++ .ref (L.2.2 20) :: rest) (hn : av.length = 2) (hW : (rest.map fun v => v.category).sum ≤ 8) (hd : decode cc pc = .ok (.invokevirtual 109, 3)) (hp : pc + 3 = pc') (K : ∀ r w', post r w' → aw_J (aw_pic0 L) X pc' lv (.int r :: rest) w') : aw_J (aw_pic0 L) X pc lv st w := aw_calli O F hM v0_conflict n0_conflict (fs := aw_fs0 L w) rfl rfl hf hlo hn hst hW hd hp K
theorem v0_touched : GoodIn lw_all (wsV RX0 103 RX0 yX0_touched (ws_ yX0_touched cX0_touched 2 (some .int))) := lw_V q203 q205 qs12 q29 q206
theorem n0_touched : yX0_touched.cls = RX0 ∧ yX0_touched.cls ≠ "java/lang/invoke/MethodHandle" ∧ yX0_touched.cls ≠ "java/lang/invoke/VarHandle" ∧ (parseMethodDescriptor yX0_touched.desc).map (fun d => d.parameters.length) = some 1 := by decide +kernel
theorem c0_touched (O : aw_ok l L RX0 cc fr lo X) (F : aw_fx (aw_pic0 L) nL L X) {fr1 lo1 : Nat} {av rest : List Value} {post : Int32 → aw_S → Prop} (hM : aw_Mi (aw_pic0 L) l L yX0_touched cX0_touched 2 .int fr1 lo1 av w post) (hf : fr1 + 1 ≤ fr) (hlo : 8 + (2 + 11) + lo1 ≤ lo) (hst : st = av.reverse ++ .ref (L.2.2 20) :: rest) (hn : av.length = 1) (hW : (rest.map fun v => v.category).sum ≤ 8) (hd : decode cc pc = .ok (.invokevirtual 103, 3)) (hp : pc + 3 = pc') (K : ∀ r w', post r w' → aw_J (aw_pic0 L) X pc' lv (.int r :: rest) w') : aw_J (aw_pic0 L) X pc lv st w := aw_calli O F hM v0_touched n0_touched (fs := aw_fs0 L w) rfl rfl hf hlo hn hst hW hd hp K
theorem v0_matchTables : GoodIn lw_all (wsV RX0 126 RX0 yX0_matchTables (ws_ yX0_matchTables cX0_matchTables 3 none)) := lw_V q215 q217 qs13 q29 q218
theorem n0_matchTables : yX0_matchTables.cls = RX0 ∧ yX0_matchTables.cls ≠ "java/lang/invoke/MethodHandle" ∧ yX0_matchTables.cls ≠ "java/lang/invoke/VarHandle" ∧ (parseMethodDescriptor yX0_matchTables.desc).map (fun d => d.parameters.length) = some 0 := by decide +kernel
theorem c0_matchTables (O : aw_ok l L RX0 cc fr lo X) (F : aw_fx (aw_pic0 L) nL L X) {fr1 lo1 : Nat} {av rest : List Value} {post : aw_S → Prop} (hM : aw_Mv (aw_pic0 L) l L yX0_matchTables cX0_matchTables 3 fr1 lo1 av w post) (hf : fr1 + 1 ≤ fr) (hlo : 8 + (3 + 11) + lo1 ≤ lo) (hst : st = av.reverse ++ .ref (L.2.2 20) :: rest) (hn : av.length = 0) (hW : (rest.map fun v => v.category).sum ≤ 8) (hd : decode cc pc = .ok (.invokevirtual 126, 3)) (hp : pc + 3 = pc') (K : ∀ w', post w' → aw_J (aw_pic0 L) X pc' lv rest w') : aw_J (aw_pic0 L) X pc lv st w := aw_callv O F hM v0_matchTables n0_matchTables (fs := aw_fs0 L w) rfl rfl hf hlo hn hst hW hd hp K
theorem v0_runStage : GoodIn lw_all (wsV RX0 129 RX0 yX0_runStage (ws_ yX0_runStage cX0_runStage 5 (some .int))) := lw_V q219 q221 qs14 q29 q222
theorem n0_runStage : yX0_runStage.cls = RX0 ∧ yX0_runStage.cls ≠ "java/lang/invoke/MethodHandle" ∧ yX0_runStage.cls ≠ "java/lang/invoke/VarHandle" ∧ (parseMethodDescriptor yX0_runStage.desc).map (fun d => d.parameters.length) = some 1 := by decide +kernel
theorem c0_runStage (O : aw_ok l L RX0 cc fr lo X) (F : aw_fx (aw_pic0 L) nL L X) {fr1 lo1 : Nat} {av rest : List Value} {post : Int32 → aw_S → Prop} (hM : aw_Mi (aw_pic0 L) l L yX0_runStage cX0_runStage 5 .int fr1 lo1 av w post) (hf : fr1 + 1 ≤ fr) (hlo : 8 + (5 + 11) + lo1 ≤ lo) (hst : st = av.reverse ++ .ref (L.2.2 20) :: rest) (hn : av.length = 1) (hW : (rest.map fun v => v.category).sum ≤ 8) (hd : decode cc pc = .ok (.invokevirtual 129, 3)) (hp : pc + 3 = pc') (K : ∀ r w', post r w' → aw_J (aw_pic0 L) X pc' lv (.int r :: rest) w') : aw_J (aw_pic0 L) X pc lv st w := aw_calli O F hM v0_runStage n0_runStage (fs := aw_fs0 L w) rfl rfl hf hlo hn hst hW hd hp K
theorem v0_runSystem : GoodIn lw_all (wsV RX0 123 RX0 yX0_runSystem (ws_ yX0_runSystem cX0_runSystem 5 (some .int))) := lw_V q223 q225 qs15 q29 q226
theorem n0_runSystem : yX0_runSystem.cls = RX0 ∧ yX0_runSystem.cls ≠ "java/lang/invoke/MethodHandle" ∧ yX0_runSystem.cls ≠ "java/lang/invoke/VarHandle" ∧ (parseMethodDescriptor yX0_runSystem.desc).map (fun d => d.parameters.length) = some 1 := by decide +kernel
theorem c0_runSystem (O : aw_ok l L RX0 cc fr lo X) (F : aw_fx (aw_pic0 L) nL L X) {fr1 lo1 : Nat} {av rest : List Value} {post : Int32 → aw_S → Prop} (hM : aw_Mi (aw_pic0 L) l L yX0_runSystem cX0_runSystem 5 .int fr1 lo1 av w post) (hf : fr1 + 1 ≤ fr) (hlo : 8 + (5 + 11) + lo1 ≤ lo) (hst : st = av.reverse ++ .ref (L.2.2 20) :: rest) (hn : av.length = 1) (hW : (rest.map fun v => v.category).sum ≤ 8) (hd : decode cc pc = .ok (.invokevirtual 123, 3)) (hp : pc + 3 = pc') (K : ∀ r w', post r w' → aw_J (aw_pic0 L) X pc' lv (.int r :: rest) w') : aw_J (aw_pic0 L) X pc lv st w := aw_calli O F hM v0_runSystem n0_runSystem (fs := aw_fs0 L w) rfl rfl hf hlo hn hst hW hd hp K
theorem v0_runOver : GoodIn lw_all (wsV RX0 120 RX0 yX0_runOver (ws_ yX0_runOver cX0_runOver 7 (some .int))) := lw_V q227 q229 qs16 q29 q230
theorem n0_runOver : yX0_runOver.cls = RX0 ∧ yX0_runOver.cls ≠ "java/lang/invoke/MethodHandle" ∧ yX0_runOver.cls ≠ "java/lang/invoke/VarHandle" ∧ (parseMethodDescriptor yX0_runOver.desc).map (fun d => d.parameters.length) = some 2 := by decide +kernel
theorem c0_runOver (O : aw_ok l L RX0 cc fr lo X) (F : aw_fx (aw_pic0 L) nL L X) {fr1 lo1 : Nat} {av rest : List Value} {post : Int32 → aw_S → Prop} (hM : aw_Mi (aw_pic0 L) l L yX0_runOver cX0_runOver 7 .int fr1 lo1 av w post) (hf : fr1 + 1 ≤ fr) (hlo : 8 + (7 + 11) + lo1 ≤ lo) (hst : st = av.reverse ++ .ref (L.2.2 20) :: rest) (hn : av.length = 2) (hW : (rest.map fun v => v.category).sum ≤ 8) (hd : decode cc pc = .ok (.invokevirtual 120, 3)) (hp : pc + 3 = pc') (K : ∀ r w', post r w' → aw_J (aw_pic0 L) X pc' lv (.int r :: rest) w') : aw_J (aw_pic0 L) X pc lv st w := aw_calli O F hM v0_runOver n0_runOver (fs := aw_fs0 L w) rfl rfl hf hlo hn hst hW hd hp K
theorem v0_worked : GoodIn lw_all (wsV RX0 116 RX0 yX0_worked (ws_ yX0_worked cX0_worked 4 (some .int))) := lw_V q231 q233 qs17 q29 q234
theorem n0_worked : yX0_worked.cls = RX0 ∧ yX0_worked.cls ≠ "java/lang/invoke/MethodHandle" ∧ yX0_worked.cls ≠ "java/lang/invoke/VarHandle" ∧ (parseMethodDescriptor yX0_worked.desc).map (fun d => d.parameters.length) = some 3 := by decide +kernel
theorem c0_worked (O : aw_ok l L RX0 cc fr lo X) (F : aw_fx (aw_pic0 L) nL L X) {fr1 lo1 : Nat} {av rest : List Value} {post : Int32 → aw_S → Prop} (hM : aw_Mi (aw_pic0 L) l L yX0_worked cX0_worked 4 .int fr1 lo1 av w post) (hf : fr1 + 1 ≤ fr) (hlo : 8 + (4 + 11) + lo1 ≤ lo) (hst : st = av.reverse ++ .ref (L.2.2 20) :: rest) (hn : av.length = 3) (hW : (rest.map fun v => v.category).sum ≤ 8) (hd : decode cc pc = .ok (.invokevirtual 116, 3)) (hp : pc + 3 = pc') (K : ∀ r w', post r w' → aw_J (aw_pic0 L) X pc' lv (.int r :: rest) w') : aw_J (aw_pic0 L) X pc lv st w := aw_calli O F hM v0_worked n0_worked (fs := aw_fs0 L w) rfl rfl hf hlo hn hst hW hd hp K
end AWC0
section AWC1
variable {X : aw_X} {l : Launch} {L : aw_L} {cc : ByteArray} {fr lo nL : Nat} {pc pc' : Nat} {lv : List (Nat × Value)} {st : List Value} {w : aw_S}
theorem g1_0 (O : aw_ok l L RX1 cc fr lo X) (hd : decode cc pc = .ok (.getfield 7, 3)) (hp : pc + 3 = pc') (K : aw_J (aw_pic1 L) X pc' lv (.ref (L.2.2 0) :: st) w) : aw_J (aw_pic1 L) X pc lv (.ref (L.2.2 20) :: st) w := aw_get O in_X1 (fs := aw_fs1 L w) rfl rfl 0 (by decide) q245 rfl hd hp K
theorem g1_1 (O : aw_ok l L RX1 cc fr lo X) (hd : decode cc pc = .ok (.getfield 13, 3)) (hp : pc + 3 = pc') (K : aw_J (aw_pic1 L) X pc' lv (.ref (L.2.2 1) :: st) w) : aw_J (aw_pic1 L) X pc lv (.ref (L.2.2 20) :: st) w := aw_get O in_X1 (fs := aw_fs1 L w) rfl rfl 1 (by decide) q246 rfl hd hp K
theorem g1_2 (O : aw_ok l L RX1 cc fr lo X) (hd : decode cc pc = .ok (.getfield 17, 3)) (hp : pc + 3 = pc') (K : aw_J (aw_pic1 L) X pc' lv (.ref (L.2.2 2) :: st) w) : aw_J (aw_pic1 L) X pc lv (.ref (L.2.2 20) :: st) w := aw_get O in_X1 (fs := aw_fs1 L w) rfl rfl 2 (by decide) q247 rfl hd hp K
theorem g1_3 (O : aw_ok l L RX1 cc fr lo X) (hd : decode cc pc = .ok (.getfield 20, 3)) (hp : pc + 3 = pc') (K : aw_J (aw_pic1 L) X pc' lv (.ref (L.2.2 3) :: st) w) : aw_J (aw_pic1 L) X pc lv (.ref (L.2.2 20) :: st) w := aw_get O in_X1 (fs := aw_fs1 L w) rfl rfl 3 (by decide) q248 rfl hd hp K
theorem g1_4 (O : aw_ok l L RX1 cc fr lo X) (hd : decode cc pc = .ok (.getfield 23, 3)) (hp : pc + 3 = pc') (K : aw_J (aw_pic1 L) X pc' lv (.ref (L.2.2 4) :: st) w) : aw_J (aw_pic1 L) X pc lv (.ref (L.2.2 20) :: st) w := aw_get O in_X1 (fs := aw_fs1 L w) rfl rfl 4 (by decide) q249 rfl hd hp K
theorem g1_5 (O : aw_ok l L RX1 cc fr lo X) (hd : decode cc pc = .ok (.getfield 26, 3)) (hp : pc + 3 = pc') (K : aw_J (aw_pic1 L) X pc' lv (.ref (L.2.2 5) :: st) w) : aw_J (aw_pic1 L) X pc lv (.ref (L.2.2 20) :: st) w := aw_get O in_X1 (fs := aw_fs1 L w) rfl rfl 5 (by decide) q250 rfl hd hp K
theorem g1_6 (O : aw_ok l L RX1 cc fr lo X) (hd : decode cc pc = .ok (.getfield 29, 3)) (hp : pc + 3 = pc') (K : aw_J (aw_pic1 L) X pc' lv (.ref (L.2.2 6) :: st) w) : aw_J (aw_pic1 L) X pc lv (.ref (L.2.2 20) :: st) w := aw_get O in_X1 (fs := aw_fs1 L w) rfl rfl 6 (by decide) q251 rfl hd hp K
theorem g1_7 (O : aw_ok l L RX1 cc fr lo X) (hd : decode cc pc = .ok (.getfield 32, 3)) (hp : pc + 3 = pc') (K : aw_J (aw_pic1 L) X pc' lv (.ref (L.2.2 7) :: st) w) : aw_J (aw_pic1 L) X pc lv (.ref (L.2.2 20) :: st) w := aw_get O in_X1 (fs := aw_fs1 L w) rfl rfl 7 (by decide) q252 rfl hd hp K
theorem g1_8 (O : aw_ok l L RX1 cc fr lo X) (hd : decode cc pc = .ok (.getfield 35, 3)) (hp : pc + 3 = pc') (K : aw_J (aw_pic1 L) X pc' lv (.ref (L.2.2 8) :: st) w) : aw_J (aw_pic1 L) X pc lv (.ref (L.2.2 20) :: st) w := aw_get O in_X1 (fs := aw_fs1 L w) rfl rfl 8 (by decide) q253 rfl hd hp K
theorem g1_9 (O : aw_ok l L RX1 cc fr lo X) (hd : decode cc pc = .ok (.getfield 60, 3)) (hp : pc + 3 = pc') (K : aw_J (aw_pic1 L) X pc' lv (.int (w.2.1 9) :: st) w) : aw_J (aw_pic1 L) X pc lv (.ref (L.2.2 20) :: st) w := aw_get O in_X1 (fs := aw_fs1 L w) rfl rfl 9 (by decide) q254 rfl hd hp K
theorem p1_9 (O : aw_ok l L RX1 cc fr lo X) (F : aw_fx (aw_pic1 L) nL L X) {x : Int32} (hd : decode cc pc = .ok (.putfield 60, 3)) (hp : pc + 3 = pc') (K : aw_J (aw_pic1 L) X pc' lv st (aw_sF w 9 x)) : aw_J (aw_pic1 L) X pc lv (.int x :: .ref (L.2.2 20) :: st) w := aw_put O in_X1 tyX1 tyX1_ok nmX1 (fs := aw_fs1 L w) (F.D w) rfl rfl 9 (by decide) q254 rfl (ty := .int) (by decide +kernel) rfl rfl (Nat.le_of_ble_eq_true rfl) hd hp (w' := aw_sF w 9 x) rfl K
theorem ld1_0 (O : aw_ok l L RX1 cc fr lo X) {i : Int32} {j : Nat} (hi : i = nI j) (hj : j < 24) (hd : decode cc pc = .ok (.baload, 1)) (hp : pc + 1 = pc') (K : aw_J (aw_pic1 L) X pc' lv (.int (w.1 0 j) :: st) w) : aw_J (aw_pic1 L) X pc lv (.int i :: .ref (L.2.2 0) :: st) w := aw_zald O (q0 := 1) (n := 24) rfl hi hj (by decide) hd hp K
theorem st1_0 (O : aw_ok l L RX1 cc fr lo X) (F : aw_fx (aw_pic1 L) nL L X) {i x : Int32} {j : Nat} (hi : i = nI j) (hj : j < 24) (hx : vp_nar .boolean x = x) (hd : decode cc pc = .ok (.bastore, 1)) (hp : pc + 1 = pc') (K : aw_J (aw_pic1 L) X pc' lv st (aw_sA w 0 j x)) : aw_J (aw_pic1 L) X pc lv (.int x :: .int i :: .ref (L.2.2 0) :: st) w := aw_zast O (q0 := 1) (n := 24) (F.D w) rfl hi hj (by decide) hx hd hp (w' := aw_sA w 0 j x) rfl K
theorem ld1_1 (O : aw_ok l L RX1 cc fr lo X) {i : Int32} {j : Nat} (hi : i = nI j) (hj : j < 24) (hd : decode cc pc = .ok (.iaload, 1)) (hp : pc + 1 = pc') (K : aw_J (aw_pic1 L) X pc' lv (.int (w.1 1 j) :: st) w) : aw_J (aw_pic1 L) X pc lv (.int i :: .ref (L.2.2 1) :: st) w := aw_iald O (q0 := 2) (n := 24) rfl hi hj (by decide) hd hp K
theorem st1_1 (O : aw_ok l L RX1 cc fr lo X) (F : aw_fx (aw_pic1 L) nL L X) {i x : Int32} {j : Nat} (hi : i = nI j) (hj : j < 24) (hd : decode cc pc = .ok (.iastore, 1)) (hp : pc + 1 = pc') (K : aw_J (aw_pic1 L) X pc' lv st (aw_sA w 1 j x)) : aw_J (aw_pic1 L) X pc lv (.int x :: .int i :: .ref (L.2.2 1) :: st) w := aw_iast O (q0 := 2) (n := 24) (F.D w) rfl hi hj (by decide) hd hp (w' := aw_sA w 1 j x) rfl K
theorem ld1_2 (O : aw_ok l L RX1 cc fr lo X) {i : Int32} {j : Nat} (hi : i = nI j) (hj : j < 144) (hd : decode cc pc = .ok (.iaload, 1)) (hp : pc + 1 = pc') (K : aw_J (aw_pic1 L) X pc' lv (.int (w.1 2 j) :: st) w) : aw_J (aw_pic1 L) X pc lv (.int i :: .ref (L.2.2 2) :: st) w := aw_iald O (q0 := 3) (n := 144) rfl hi hj (by decide) hd hp K
theorem st1_2 (O : aw_ok l L RX1 cc fr lo X) (F : aw_fx (aw_pic1 L) nL L X) {i x : Int32} {j : Nat} (hi : i = nI j) (hj : j < 144) (hd : decode cc pc = .ok (.iastore, 1)) (hp : pc + 1 = pc') (K : aw_J (aw_pic1 L) X pc' lv st (aw_sA w 2 j x)) : aw_J (aw_pic1 L) X pc lv (.int x :: .int i :: .ref (L.2.2 2) :: st) w := aw_iast O (q0 := 3) (n := 144) (F.D w) rfl hi hj (by decide) hd hp (w' := aw_sA w 2 j x) rfl K
theorem ld1_3 (O : aw_ok l L RX1 cc fr lo X) {i : Int32} {j : Nat} (hi : i = nI j) (hj : j < 8) (hd : decode cc pc = .ok (.iaload, 1)) (hp : pc + 1 = pc') (K : aw_J (aw_pic1 L) X pc' lv (.int (w.1 3 j) :: st) w) : aw_J (aw_pic1 L) X pc lv (.int i :: .ref (L.2.2 3) :: st) w := aw_iald O (q0 := 4) (n := 8) rfl hi hj (by decide) hd hp K
theorem st1_3 (O : aw_ok l L RX1 cc fr lo X) (F : aw_fx (aw_pic1 L) nL L X) {i x : Int32} {j : Nat} (hi : i = nI j) (hj : j < 8) (hd : decode cc pc = .ok (.iastore, 1)) (hp : pc + 1 = pc') (K : aw_J (aw_pic1 L) X pc' lv st (aw_sA w 3 j x)) : aw_J (aw_pic1 L) X pc lv (.int x :: .int i :: .ref (L.2.2 3) :: st) w := aw_iast O (q0 := 4) (n := 8) (F.D w) rfl hi hj (by decide) hd hp (w' := aw_sA w 3 j x) rfl K
theorem ld1_4 (O : aw_ok l L RX1 cc fr lo X) {i : Int32} {j : Nat} (hi : i = nI j) (hj : j < 8) (hd : decode cc pc = .ok (.iaload, 1)) (hp : pc + 1 = pc') (K : aw_J (aw_pic1 L) X pc' lv (.int (w.1 4 j) :: st) w) : aw_J (aw_pic1 L) X pc lv (.int i :: .ref (L.2.2 4) :: st) w := aw_iald O (q0 := 5) (n := 8) rfl hi hj (by decide) hd hp K
theorem st1_4 (O : aw_ok l L RX1 cc fr lo X) (F : aw_fx (aw_pic1 L) nL L X) {i x : Int32} {j : Nat} (hi : i = nI j) (hj : j < 8) (hd : decode cc pc = .ok (.iastore, 1)) (hp : pc + 1 = pc') (K : aw_J (aw_pic1 L) X pc' lv st (aw_sA w 4 j x)) : aw_J (aw_pic1 L) X pc lv (.int x :: .int i :: .ref (L.2.2 4) :: st) w := aw_iast O (q0 := 5) (n := 8) (F.D w) rfl hi hj (by decide) hd hp (w' := aw_sA w 4 j x) rfl K
theorem ld1_5 (O : aw_ok l L RX1 cc fr lo X) {i : Int32} {j : Nat} (hi : i = nI j) (hj : j < 8) (hd : decode cc pc = .ok (.iaload, 1)) (hp : pc + 1 = pc') (K : aw_J (aw_pic1 L) X pc' lv (.int (w.1 5 j) :: st) w) : aw_J (aw_pic1 L) X pc lv (.int i :: .ref (L.2.2 5) :: st) w := aw_iald O (q0 := 6) (n := 8) rfl hi hj (by decide) hd hp K
theorem st1_5 (O : aw_ok l L RX1 cc fr lo X) (F : aw_fx (aw_pic1 L) nL L X) {i x : Int32} {j : Nat} (hi : i = nI j) (hj : j < 8) (hd : decode cc pc = .ok (.iastore, 1)) (hp : pc + 1 = pc') (K : aw_J (aw_pic1 L) X pc' lv st (aw_sA w 5 j x)) : aw_J (aw_pic1 L) X pc lv (.int x :: .int i :: .ref (L.2.2 5) :: st) w := aw_iast O (q0 := 6) (n := 8) (F.D w) rfl hi hj (by decide) hd hp (w' := aw_sA w 5 j x) rfl K
theorem ld1_6 (O : aw_ok l L RX1 cc fr lo X) {i : Int32} {j : Nat} (hi : i = nI j) (hj : j < 8) (hd : decode cc pc = .ok (.iaload, 1)) (hp : pc + 1 = pc') (K : aw_J (aw_pic1 L) X pc' lv (.int (w.1 6 j) :: st) w) : aw_J (aw_pic1 L) X pc lv (.int i :: .ref (L.2.2 6) :: st) w := aw_iald O (q0 := 7) (n := 8) rfl hi hj (by decide) hd hp K
theorem st1_6 (O : aw_ok l L RX1 cc fr lo X) (F : aw_fx (aw_pic1 L) nL L X) {i x : Int32} {j : Nat} (hi : i = nI j) (hj : j < 8) (hd : decode cc pc = .ok (.iastore, 1)) (hp : pc + 1 = pc') (K : aw_J (aw_pic1 L) X pc' lv st (aw_sA w 6 j x)) : aw_J (aw_pic1 L) X pc lv (.int x :: .int i :: .ref (L.2.2 6) :: st) w := aw_iast O (q0 := 7) (n := 8) (F.D w) rfl hi hj (by decide) hd hp (w' := aw_sA w 6 j x) rfl K
theorem ld1_7 (O : aw_ok l L RX1 cc fr lo X) {i : Int32} {j : Nat} (hi : i = nI j) (hj : j < 8) (hd : decode cc pc = .ok (.iaload, 1)) (hp : pc + 1 = pc') (K : aw_J (aw_pic1 L) X pc' lv (.int (w.1 7 j) :: st) w) : aw_J (aw_pic1 L) X pc lv (.int i :: .ref (L.2.2 7) :: st) w := aw_iald O (q0 := 8) (n := 8) rfl hi hj (by decide) hd hp K
theorem st1_7 (O : aw_ok l L RX1 cc fr lo X) (F : aw_fx (aw_pic1 L) nL L X) {i x : Int32} {j : Nat} (hi : i = nI j) (hj : j < 8) (hd : decode cc pc = .ok (.iastore, 1)) (hp : pc + 1 = pc') (K : aw_J (aw_pic1 L) X pc' lv st (aw_sA w 7 j x)) : aw_J (aw_pic1 L) X pc lv (.int x :: .int i :: .ref (L.2.2 7) :: st) w := aw_iast O (q0 := 8) (n := 8) (F.D w) rfl hi hj (by decide) hd hp (w' := aw_sA w 7 j x) rfl K
theorem ld1_8 (O : aw_ok l L RX1 cc fr lo X) {i : Int32} {j : Nat} (hi : i = nI j) (hj : j < 8) (hd : decode cc pc = .ok (.iaload, 1)) (hp : pc + 1 = pc') (K : aw_J (aw_pic1 L) X pc' lv (.int (w.1 8 j) :: st) w) : aw_J (aw_pic1 L) X pc lv (.int i :: .ref (L.2.2 8) :: st) w := aw_iald O (q0 := 9) (n := 8) rfl hi hj (by decide) hd hp K
theorem st1_8 (O : aw_ok l L RX1 cc fr lo X) (F : aw_fx (aw_pic1 L) nL L X) {i x : Int32} {j : Nat} (hi : i = nI j) (hj : j < 8) (hd : decode cc pc = .ok (.iastore, 1)) (hp : pc + 1 = pc') (K : aw_J (aw_pic1 L) X pc' lv st (aw_sA w 8 j x)) : aw_J (aw_pic1 L) X pc lv (.int x :: .int i :: .ref (L.2.2 8) :: st) w := aw_iast O (q0 := 9) (n := 8) (F.D w) rfl hi hj (by decide) hd hp (w' := aw_sA w 8 j x) rfl K
theorem v1_isSet : GoodIn lw_all (wsV RX1 38 RX1 yX1_isSet (ws_ yX1_isSet cX1_isSet 2 (some .boolean))) := lw_V q281 q283 qs18 q30 q284
theorem n1_isSet : yX1_isSet.cls = RX1 ∧ yX1_isSet.cls ≠ "java/lang/invoke/MethodHandle" ∧ yX1_isSet.cls ≠ "java/lang/invoke/VarHandle" ∧ (parseMethodDescriptor yX1_isSet.desc).map (fun d => d.parameters.length) = some 1 := by decide +kernel
theorem c1_isSet (O : aw_ok l L RX1 cc fr lo X) (F : aw_fx (aw_pic1 L) nL L X) {fr1 lo1 : Nat} {av rest : List Value} {post : Int32 → aw_S → Prop} (hM : aw_Mi (aw_pic1 L) l L yX1_isSet cX1_isSet 2 .boolean fr1 lo1 av w post) (hf : fr1 + 1 ≤ fr) (hlo : 8 + (2 + 11) + lo1 ≤ lo) (hst : st = av.reverse ++ .ref (L.2.2 20) :: rest) (hn : av.length = 1) (hW : (rest.map fun v => v.category).sum ≤ 8) (hd : decode cc pc = .ok (.invokevirtual 38, 3)) (hp : pc + 3 = pc') (K : ∀ r w', post r w' → aw_J (aw_pic1 L) X pc' lv (.int r :: rest) w') : aw_J (aw_pic1 L) X pc lv st w := aw_calli O F hM v1_isSet n1_isSet (fs := aw_fs1 L w) rfl rfl hf hlo hn hst hW hd hp K
theorem v1_isAlive : GoodIn lw_all (wsV RX1 42 RX1 yX1_isAlive (ws_ yX1_isAlive cX1_isAlive 2 (some .boolean))) := lw_V q289 q291 qs19 q30 q292
theorem n1_isAlive : yX1_isAlive.cls = RX1 ∧ yX1_isAlive.cls ≠ "java/lang/invoke/MethodHandle" ∧ yX1_isAlive.cls ≠ "java/lang/invoke/VarHandle" ∧ (parseMethodDescriptor yX1_isAlive.desc).map (fun d => d.parameters.length) = some 1 := by decide +kernel
theorem c1_isAlive (O : aw_ok l L RX1 cc fr lo X) (F : aw_fx (aw_pic1 L) nL L X) {fr1 lo1 : Nat} {av rest : List Value} {post : Int32 → aw_S → Prop} (hM : aw_Mi (aw_pic1 L) l L yX1_isAlive cX1_isAlive 2 .boolean fr1 lo1 av w post) (hf : fr1 + 1 ≤ fr) (hlo : 8 + (2 + 11) + lo1 ≤ lo) (hst : st = av.reverse ++ .ref (L.2.2 20) :: rest) (hn : av.length = 1) (hW : (rest.map fun v => v.category).sum ≤ 8) (hd : decode cc pc = .ok (.invokevirtual 42, 3)) (hp : pc + 3 = pc') (K : ∀ r w', post r w' → aw_J (aw_pic1 L) X pc' lv (.int r :: rest) w') : aw_J (aw_pic1 L) X pc lv st w := aw_calli O F hM v1_isAlive n1_isAlive (fs := aw_fs1 L w) rfl rfl hf hlo hn hst hW hd hp K
theorem v1_isComponent : GoodIn lw_all (wsV RX1 45 RX1 yX1_isComponent (ws_ yX1_isComponent cX1_isComponent 2 (some .boolean))) := lw_V q297 q299 qs20 q30 q300
theorem n1_isComponent : yX1_isComponent.cls = RX1 ∧ yX1_isComponent.cls ≠ "java/lang/invoke/MethodHandle" ∧ yX1_isComponent.cls ≠ "java/lang/invoke/VarHandle" ∧ (parseMethodDescriptor yX1_isComponent.desc).map (fun d => d.parameters.length) = some 1 := by decide +kernel
theorem c1_isComponent (O : aw_ok l L RX1 cc fr lo X) (F : aw_fx (aw_pic1 L) nL L X) {fr1 lo1 : Nat} {av rest : List Value} {post : Int32 → aw_S → Prop} (hM : aw_Mi (aw_pic1 L) l L yX1_isComponent cX1_isComponent 2 .boolean fr1 lo1 av w post) (hf : fr1 + 1 ≤ fr) (hlo : 8 + (2 + 11) + lo1 ≤ lo) (hst : st = av.reverse ++ .ref (L.2.2 20) :: rest) (hn : av.length = 1) (hW : (rest.map fun v => v.category).sum ≤ 8) (hd : decode cc pc = .ok (.invokevirtual 45, 3)) (hp : pc + 3 = pc') (K : ∀ r w', post r w' → aw_J (aw_pic1 L) X pc' lv (.int r :: rest) w') : aw_J (aw_pic1 L) X pc lv st w := aw_calli O F hM v1_isComponent n1_isComponent (fs := aw_fs1 L w) rfl rfl hf hlo hn hst hW hd hp K
theorem v1_get : GoodIn lw_all (wsV RX1 82 RX1 yX1_get (ws_ yX1_get cX1_get 3 (some .int))) := lw_V q386 q306 q307 q30 q308
theorem n1_get : yX1_get.cls = RX1 ∧ yX1_get.cls ≠ "java/lang/invoke/MethodHandle" ∧ yX1_get.cls ≠ "java/lang/invoke/VarHandle" ∧ (parseMethodDescriptor yX1_get.desc).map (fun d => d.parameters.length) = some 2 := by decide +kernel
theorem c1_get (O : aw_ok l L RX1 cc fr lo X) (F : aw_fx (aw_pic1 L) nL L X) {fr1 lo1 : Nat} {av rest : List Value} {post : Int32 → aw_S → Prop} (hM : aw_Mi (aw_pic1 L) l L yX1_get cX1_get 3 .int fr1 lo1 av w post) (hf : fr1 + 1 ≤ fr) (hlo : 8 + (3 + 11) + lo1 ≤ lo) (hst : st = av.reverse ++ .ref (L.2.2 20) :: rest) (hn : av.length = 2) (hW : (rest.map fun v => v.category).sum ≤ 8) (hd : decode cc pc = .ok (.invokevirtual 82, 3)) (hp : pc + 3 = pc') (K : ∀ r w', post r w' → aw_J (aw_pic1 L) X pc' lv (.int r :: rest) w') : aw_J (aw_pic1 L) X pc lv st w := aw_calli O F hM v1_get n1_get (fs := aw_fs1 L w) rfl rfl hf hlo hn hst hW hd hp K
theorem v1_has : GoodIn lw_all (wsV RX1 48 RX1 yX1_has (ws_ yX1_has cX1_has 3 (some .boolean))) := lw_V q309 q311 qs21 q30 q312
theorem n1_has : yX1_has.cls = RX1 ∧ yX1_has.cls ≠ "java/lang/invoke/MethodHandle" ∧ yX1_has.cls ≠ "java/lang/invoke/VarHandle" ∧ (parseMethodDescriptor yX1_has.desc).map (fun d => d.parameters.length) = some 2 := by decide +kernel
theorem c1_has (O : aw_ok l L RX1 cc fr lo X) (F : aw_fx (aw_pic1 L) nL L X) {fr1 lo1 : Nat} {av rest : List Value} {post : Int32 → aw_S → Prop} (hM : aw_Mi (aw_pic1 L) l L yX1_has cX1_has 3 .boolean fr1 lo1 av w post) (hf : fr1 + 1 ≤ fr) (hlo : 8 + (3 + 11) + lo1 ≤ lo) (hst : st = av.reverse ++ .ref (L.2.2 20) :: rest) (hn : av.length = 2) (hW : (rest.map fun v => v.category).sum ≤ 8) (hd : decode cc pc = .ok (.invokevirtual 48, 3)) (hp : pc + 3 = pc') (K : ∀ r w', post r w' → aw_J (aw_pic1 L) X pc' lv (.int r :: rest) w') : aw_J (aw_pic1 L) X pc lv st w := aw_calli O F hM v1_has n1_has (fs := aw_fs1 L w) rfl rfl hf hlo hn hst hW hd hp K
theorem v1_count : GoodIn lw_all (wsV RX1 52 RX1 yX1_count (ws_ yX1_count cX1_count 5 (some .int))) := lw_V q321 q322 q323 q30 q324
theorem n1_count : yX1_count.cls = RX1 ∧ yX1_count.cls ≠ "java/lang/invoke/MethodHandle" ∧ yX1_count.cls ≠ "java/lang/invoke/VarHandle" ∧ (parseMethodDescriptor yX1_count.desc).map (fun d => d.parameters.length) = some 2 := by decide +kernel
theorem c1_count (O : aw_ok l L RX1 cc fr lo X) (F : aw_fx (aw_pic1 L) nL L X) {fr1 lo1 : Nat} {av rest : List Value} {post : Int32 → aw_S → Prop} (hM : aw_Mi (aw_pic1 L) l L yX1_count cX1_count 5 .int fr1 lo1 av w post) (hf : fr1 + 1 ≤ fr) (hlo : 8 + (5 + 11) + lo1 ≤ lo) (hst : st = av.reverse ++ .ref (L.2.2 20) :: rest) (hn : av.length = 2) (hW : (rest.map fun v => v.category).sum ≤ 8) (hd : decode cc pc = .ok (.invokevirtual 52, 3)) (hp : pc + 3 = pc') (K : ∀ r w', post r w' → aw_J (aw_pic1 L) X pc' lv (.int r :: rest) w') : aw_J (aw_pic1 L) X pc lv st w := aw_calli O F hM v1_count n1_count (fs := aw_fs1 L w) rfl rfl hf hlo hn hst hW hd hp K
theorem v1_fits : GoodIn lw_all (wsV RX1 56 RX1 yX1_fits (ws_ yX1_fits cX1_fits 4 (some .boolean))) := lw_V q325 q327 qs22 q30 q328
theorem n1_fits : yX1_fits.cls = RX1 ∧ yX1_fits.cls ≠ "java/lang/invoke/MethodHandle" ∧ yX1_fits.cls ≠ "java/lang/invoke/VarHandle" ∧ (parseMethodDescriptor yX1_fits.desc).map (fun d => d.parameters.length) = some 3 := by decide +kernel
theorem c1_fits (O : aw_ok l L RX1 cc fr lo X) (F : aw_fx (aw_pic1 L) nL L X) {fr1 lo1 : Nat} {av rest : List Value} {post : Int32 → aw_S → Prop} (hM : aw_Mi (aw_pic1 L) l L yX1_fits cX1_fits 4 .boolean fr1 lo1 av w post) (hf : fr1 + 1 ≤ fr) (hlo : 8 + (4 + 11) + lo1 ≤ lo) (hst : st = av.reverse ++ .ref (L.2.2 20) :: rest) (hn : av.length = 3) (hW : (rest.map fun v => v.category).sum ≤ 8) (hd : decode cc pc = .ok (.invokevirtual 56, 3)) (hp : pc + 3 = pc') (K : ∀ r w', post r w' → aw_J (aw_pic1 L) X pc' lv (.int r :: rest) w') : aw_J (aw_pic1 L) X pc lv st w := aw_calli O F hM v1_fits n1_fits (fs := aw_fs1 L w) rfl rfl hf hlo hn hst hW hd hp K
theorem v1_layStages : GoodIn lw_all (wsV RX1 67 RX1 yX1_layStages (ws_ yX1_layStages cX1_layStages 3 none)) := lw_V q354 q356 qs23 q30 q357
theorem n1_layStages : yX1_layStages.cls = RX1 ∧ yX1_layStages.cls ≠ "java/lang/invoke/MethodHandle" ∧ yX1_layStages.cls ≠ "java/lang/invoke/VarHandle" ∧ (parseMethodDescriptor yX1_layStages.desc).map (fun d => d.parameters.length) = some 0 := by decide +kernel
theorem c1_layStages (O : aw_ok l L RX1 cc fr lo X) (F : aw_fx (aw_pic1 L) nL L X) {fr1 lo1 : Nat} {av rest : List Value} {post : aw_S → Prop} (hM : aw_Mv (aw_pic1 L) l L yX1_layStages cX1_layStages 3 fr1 lo1 av w post) (hf : fr1 + 1 ≤ fr) (hlo : 8 + (3 + 11) + lo1 ≤ lo) (hst : st = av.reverse ++ .ref (L.2.2 20) :: rest) (hn : av.length = 0) (hW : (rest.map fun v => v.category).sum ≤ 8) (hd : decode cc pc = .ok (.invokevirtual 67, 3)) (hp : pc + 3 = pc') (K : ∀ w', post w' → aw_J (aw_pic1 L) X pc' lv rest w') : aw_J (aw_pic1 L) X pc lv st w := aw_callv O F hM v1_layStages n1_layStages (fs := aw_fs1 L w) rfl rfl hf hlo hn hst hW hd hp K
theorem v1_disturbs : GoodIn lw_all (wsV RX1 64 RX1 yX1_disturbs (ws_ yX1_disturbs cX1_disturbs 3 (some .boolean))) := lw_V q358 q360 qs24 q30 q361
theorem n1_disturbs : yX1_disturbs.cls = RX1 ∧ yX1_disturbs.cls ≠ "java/lang/invoke/MethodHandle" ∧ yX1_disturbs.cls ≠ "java/lang/invoke/VarHandle" ∧ (parseMethodDescriptor yX1_disturbs.desc).map (fun d => d.parameters.length) = some 2 := by decide +kernel
theorem c1_disturbs (O : aw_ok l L RX1 cc fr lo X) (F : aw_fx (aw_pic1 L) nL L X) {fr1 lo1 : Nat} {av rest : List Value} {post : Int32 → aw_S → Prop} (hM : aw_Mi (aw_pic1 L) l L yX1_disturbs cX1_disturbs 3 .boolean fr1 lo1 av w post) (hf : fr1 + 1 ≤ fr) (hlo : 8 + (3 + 11) + lo1 ≤ lo) (hst : st = av.reverse ++ .ref (L.2.2 20) :: rest) (hn : av.length = 2) (hW : (rest.map fun v => v.category).sum ≤ 8) (hd : decode cc pc = .ok (.invokevirtual 64, 3)) (hp : pc + 3 = pc') (K : ∀ r w', post r w' → aw_J (aw_pic1 L) X pc' lv (.int r :: rest) w') : aw_J (aw_pic1 L) X pc lv st w := aw_calli O F hM v1_disturbs n1_disturbs (fs := aw_fs1 L w) rfl rfl hf hlo hn hst hW hd hp K
theorem v1_runFrame : GoodIn lw_all (wsV RX1 78 RX1 yX1_runFrame (ws_ yX1_runFrame cX1_runFrame 4 (some .int))) := lw_V q370 q372 qs25 q30 q373
theorem n1_runFrame : yX1_runFrame.cls = RX1 ∧ yX1_runFrame.cls ≠ "java/lang/invoke/MethodHandle" ∧ yX1_runFrame.cls ≠ "java/lang/invoke/VarHandle" ∧ (parseMethodDescriptor yX1_runFrame.desc).map (fun d => d.parameters.length) = some 0 := by decide +kernel
theorem c1_runFrame (O : aw_ok l L RX1 cc fr lo X) (F : aw_fx (aw_pic1 L) nL L X) {fr1 lo1 : Nat} {av rest : List Value} {post : Int32 → aw_S → Prop} (hM : aw_Mi (aw_pic1 L) l L yX1_runFrame cX1_runFrame 4 .int fr1 lo1 av w post) (hf : fr1 + 1 ≤ fr) (hlo : 8 + (4 + 11) + lo1 ≤ lo) (hst : st = av.reverse ++ .ref (L.2.2 20) :: rest) (hn : av.length = 0) (hW : (rest.map fun v => v.category).sum ≤ 8) (hd : decode cc pc = .ok (.invokevirtual 78, 3)) (hp : pc + 3 = pc') (K : ∀ r w', post r w' → aw_J (aw_pic1 L) X pc' lv (.int r :: rest) w') : aw_J (aw_pic1 L) X pc lv st w := aw_calli O F hM v1_runFrame n1_runFrame (fs := aw_fs1 L w) rfl rfl hf hlo hn hst hW hd hp K
theorem v1_runSystem : GoodIn lw_all (wsV RX1 74 RX1 yX1_runSystem (ws_ yX1_runSystem cX1_runSystem 4 (some .int))) := lw_V q374 q376 qs26 q30 q377
theorem n1_runSystem : yX1_runSystem.cls = RX1 ∧ yX1_runSystem.cls ≠ "java/lang/invoke/MethodHandle" ∧ yX1_runSystem.cls ≠ "java/lang/invoke/VarHandle" ∧ (parseMethodDescriptor yX1_runSystem.desc).map (fun d => d.parameters.length) = some 1 := by decide +kernel
theorem c1_runSystem (O : aw_ok l L RX1 cc fr lo X) (F : aw_fx (aw_pic1 L) nL L X) {fr1 lo1 : Nat} {av rest : List Value} {post : Int32 → aw_S → Prop} (hM : aw_Mi (aw_pic1 L) l L yX1_runSystem cX1_runSystem 4 .int fr1 lo1 av w post) (hf : fr1 + 1 ≤ fr) (hlo : 8 + (4 + 11) + lo1 ≤ lo) (hst : st = av.reverse ++ .ref (L.2.2 20) :: rest) (hn : av.length = 1) (hW : (rest.map fun v => v.category).sum ≤ 8) (hd : decode cc pc = .ok (.invokevirtual 74, 3)) (hp : pc + 3 = pc') (K : ∀ r w', post r w' → aw_J (aw_pic1 L) X pc' lv (.int r :: rest) w') : aw_J (aw_pic1 L) X pc lv st w := aw_calli O F hM v1_runSystem n1_runSystem (fs := aw_fs1 L w) rfl rfl hf hlo hn hst hW hd hp K
theorem v1_work : GoodIn lw_all (wsV RX1 70 RX1 yX1_work (ws_ yX1_work cX1_work 6 none)) := lw_V q378 q380 qs27 q30 q381
theorem n1_work : yX1_work.cls = RX1 ∧ yX1_work.cls ≠ "java/lang/invoke/MethodHandle" ∧ yX1_work.cls ≠ "java/lang/invoke/VarHandle" ∧ (parseMethodDescriptor yX1_work.desc).map (fun d => d.parameters.length) = some 2 := by decide +kernel
theorem c1_work (O : aw_ok l L RX1 cc fr lo X) (F : aw_fx (aw_pic1 L) nL L X) {fr1 lo1 : Nat} {av rest : List Value} {post : aw_S → Prop} (hM : aw_Mv (aw_pic1 L) l L yX1_work cX1_work 6 fr1 lo1 av w post) (hf : fr1 + 1 ≤ fr) (hlo : 8 + (6 + 11) + lo1 ≤ lo) (hst : st = av.reverse ++ .ref (L.2.2 20) :: rest) (hn : av.length = 2) (hW : (rest.map fun v => v.category).sum ≤ 8) (hd : decode cc pc = .ok (.invokevirtual 70, 3)) (hp : pc + 3 = pc') (K : ∀ w', post w' → aw_J (aw_pic1 L) X pc' lv rest w') : aw_J (aw_pic1 L) X pc lv st w := aw_callv O F hM v1_work n1_work (fs := aw_fs1 L w) rfl rfl hf hlo hn hst hW hd hp K
end AWC1
end
section
set_option maxRecDepth 100000
/-! PLAIN COUNTS AND SUMS -/
/-- how many i < n have p -/
def cn (p : Nat → Bool) : Nat → Nat
  | 0 => 0
  | n + 1 => cn p n + (if p n then 1 else 0)
/-- the sum of f i, i < n -/
def sm (f : Nat → Int32) : Nat → Int32
  | 0 => 0
  | n + 1 => sm f n + f n
/-- is there an i < n with p -/
def anyN (p : Nat → Bool) : Nat → Bool
  | 0 => false
  | n + 1 => anyN p n || p n
/-- the least i < n without p, or n -/
def ff (p : Nat → Bool) : Nat → Nat
  | 0 => 0
  | n + 1 => if ff p n < n then ff p n else if p n then n + 1 else n
theorem cn_le (p : Nat → Bool) : ∀ n, cn p n ≤ n
  | 0 => Nat.le_refl _
  | n + 1 => by
    have := cn_le p n
    simp only [cn]
    split <;> omega
theorem cn_congr {p q : Nat → Bool} : ∀ {n : Nat}, (∀ i, i < n → p i = q i) → cn p n = cn q n
  | 0, _ => rfl
  | n + 1, h => by
    simp only [cn]
    rw [cn_congr (n := n) (fun i hi => h i (by omega)), h n (by omega)]
theorem cn_lt {p : Nat → Bool} : ∀ {n i : Nat}, i < n → p i = false → cn p n < n
  | 0, _, h, _ => absurd h (Nat.not_lt_zero _)
  | n + 1, i, h, hp => by
    have h1 := cn_le p n
    simp only [cn]
    by_cases e : i = n
    · subst e
      rw [hp]
      simp
      omega
    · have := cn_lt (n := n) (i := i) (by omega) hp
      split <;> omega
theorem cn_pos {p : Nat → Bool} : ∀ {n i : Nat}, i < n → p i = true → 0 < cn p n
  | 0, _, h, _ => absurd h (Nat.not_lt_zero _)
  | n + 1, i, h, hp => by
    simp only [cn]
    by_cases e : i = n
    · subst e
      rw [hp]
      simp
    · have := cn_pos (n := n) (i := i) (by omega) hp
      omega
theorem cn_ex {p : Nat → Bool} : ∀ {n : Nat}, 0 < cn p n → ∃ i, i < n ∧ p i = true
  | 0, h => absurd h (Nat.not_lt_zero _)
  | n + 1, h => by
    simp only [cn] at h
    by_cases e : p n = true
    · exact ⟨n, by omega, e⟩
    · rw [if_neg e] at h
      obtain ⟨i, h1, h2⟩ := cn_ex (n := n) h
      exact ⟨i, by omega, h2⟩
/-- one more -/
theorem cn_add {p q : Nat → Bool} : ∀ {n i : Nat}, i < n → p i = false → q i = true → (∀ j, j < n → j ≠ i → q j = p j) → cn q n = cn p n + 1
  | 0, _, h, _, _, _ => absurd h (Nat.not_lt_zero _)
  | n + 1, i, h, h1, h2, h3 => by
    simp only [cn]
    by_cases e : i = n
    · subst e
      rw [h1, h2, cn_congr (p := q) (q := p) (fun j hj => h3 j (by omega) (by omega))]
      simp
    · rw [cn_add (n := n) (i := i) (by omega) h1 h2 (fun j hj hn => h3 j (by omega) hn), h3 n (by omega) (fun z => e z.symm)]
      omega
theorem sm_congr {f g : Nat → Int32} : ∀ {n : Nat}, (∀ i, i < n → f i = g i) → sm f n = sm g n
  | 0, _ => rfl
  | n + 1, h => by
    simp only [sm]
    rw [sm_congr (n := n) (fun i hi => h i (by omega)), h n (by omega)]
/-- one summand more -/
theorem sm_add {f g : Nat → Int32} {d : Int32} : ∀ {n i : Nat}, i < n → g i = f i + d → (∀ j, j < n → j ≠ i → g j = f j) → sm g n = sm f n + d
  | 0, _, h, _, _ => absurd h (Nat.not_lt_zero _)
  | n + 1, i, h, h1, h3 => by
    simp only [sm]
    by_cases e : i = n
    · subst e
      rw [h1, sm_congr (f := g) (g := f) (fun j hj => h3 j (by omega) (by omega))]
      grind
    · rw [sm_add (n := n) (i := i) (by omega) h1 (fun j hj hn => h3 j (by omega) hn), h3 n (by omega) (fun z => e z.symm)]
      grind
theorem sm_zero : ∀ {n : Nat}, sm (fun _ => 0) n = 0
  | 0 => rfl
  | n + 1 => by
    simp only [sm]
    rw [sm_zero]
    rfl
theorem sm_cn {p : Nat → Bool} : ∀ {n : Nat}, sm (fun i => if p i then 1 else 0) n = nI (cn p n)
  | 0 => rfl
  | n + 1 => by
    simp only [sm, cn]
    rw [sm_cn]
    cases p n
    · simp
    · simp only [if_true]
      exact nI_1 _
theorem sm_two {f g : Nat → Int32} : ∀ {n : Nat}, sm (fun i => f i + g i) n = sm f n + sm g n
  | 0 => rfl
  | n + 1 => by
    simp only [sm]
    rw [sm_two]
    grind
theorem any_t {p : Nat → Bool} : ∀ {n : Nat}, anyN p n = true ↔ ∃ i, i < n ∧ p i = true
  | 0 => ⟨fun h => by simp [anyN] at h, fun ⟨i, h, _⟩ => absurd h (Nat.not_lt_zero _)⟩
  | n + 1 => by
    simp only [anyN, Bool.or_eq_true]
    rw [any_t]
    constructor
    · rintro (⟨i, h1, h2⟩ | h)
      · exact ⟨i, by omega, h2⟩
      · exact ⟨n, by omega, h⟩
    · rintro ⟨i, h1, h2⟩
      by_cases e : i = n
      · subst e
        exact Or.inr h2
      · exact Or.inl ⟨i, by omega, h2⟩
theorem ff_spec (p : Nat → Bool) : ∀ n, ff p n ≤ n ∧ (∀ i, i < ff p n → p i = true) ∧ (ff p n < n → p (ff p n) = false)
  | 0 => ⟨Nat.le_refl _, fun i h => absurd h (Nat.not_lt_zero _), fun h => absurd h (Nat.not_lt_zero _)⟩
  | n + 1 => by
    obtain ⟨h1, h2, h3⟩ := ff_spec p n
    simp only [ff]
    by_cases a : ff p n < n
    · rw [if_pos a]
      exact ⟨by omega, h2, fun _ => h3 a⟩
    · rw [if_neg a]
      have e : ff p n = n := by omega
      rw [e] at h2
      by_cases b : p n = true
      · rw [if_pos b]
        refine ⟨Nat.le_refl _, fun i hi => ?_, fun h => absurd h (Nat.lt_irrefl _)⟩
        by_cases c : i = n
        · subst c; exact b
        · exact h2 i (by omega)
      · rw [if_neg b]
        exact ⟨by omega, h2, fun _ => by simpa using b⟩
theorem ff_eq {p : Nat → Bool} {n e : Nat} (h1 : e < n) (h2 : ∀ i, i < e → p i = true) (h3 : p e = false) : ff p n = e := by
  obtain ⟨a1, a2, a3⟩ := ff_spec p n
  rcases Nat.lt_trichotomy (ff p n) e with h | h | h
  · have := h2 _ h
    rw [a3 (by omega)] at this
    cases this
  · exact h
  · rw [a2 e h] at h3
    cases h3
theorem ff_all {p : Nat → Bool} {n : Nat} (h2 : ∀ i, i < n → p i = true) : ff p n = n := by
  obtain ⟨a1, a2, a3⟩ := ff_spec p n
  rcases Nat.lt_or_ge (ff p n) n with h | h
  · rw [h2 _ h] at a3
    exact absurd (a3 h) (by decide)
  · omega
/-! sets of parts: numbers under 64 -/
def fitB (s a b : Nat) : Bool := (s &&& a == a) && (s &&& b == 0)
def btB (s c : Nat) : Bool := s / 2 ^ c % 2 == 1
theorem nI_inj {a b : Nat} (ha : a < 2 ^ 31) (hb : b < 2 ^ 31) (h : nI a = nI b) : a = b := (nI_eq ha hb).mp h
theorem nI_ne4 {a : Nat} (ha : a < 2 ^ 31) : nI a ≠ -4 := fun h => by
  have h1 := nI_toInt ha
  rw [h] at h1
  have : (-4 : Int32).toInt = -4 := by decide
  omega
theorem aw_nx_and (a b : Nat) : nI a &&& nI b = nI (a &&& b) := by
  apply Int32.toBitVec_inj.mp
  show BitVec.ofNat 32 a &&& BitVec.ofNat 32 b = BitVec.ofNat 32 (a &&& b)
  apply BitVec.eq_of_toNat_eq
  simp [BitVec.toNat_and, BitVec.toNat_ofNat, Nat.and_mod_two_pow]
theorem aw_nx_or (a b : Nat) : nI a ||| nI b = nI (a ||| b) := by
  apply Int32.toBitVec_inj.mp
  show BitVec.ofNat 32 a ||| BitVec.ofNat 32 b = BitVec.ofNat 32 (a ||| b)
  apply BitVec.eq_of_toNat_eq
  simp [BitVec.toNat_or, BitVec.toNat_ofNat, Nat.or_mod_two_pow]
theorem aw_sl : ∀ n, n < 32 → ((nI n &&& 31).toBitVec.smod 32).toNat = n := by decide +kernel
theorem aw_shr {n c : Nat} (h : n < 2 ^ 31) (hc : c < 32) : nI n >>> (nI c &&& 31) = nI (n / 2 ^ c) := pk_shrN h _ c (aw_sl c hc)
theorem aw_bit {n c : Nat} (h : n < 2 ^ 31) (hc : c < 32) : (nI n >>> (nI c &&& 31)) &&& nI 1 = nI (n / 2 ^ c % 2) := by
  rw [aw_shr h hc]
  have h2 : n / 2 ^ c ≤ n := Nat.div_le_self _ _
  exact pk_andN (by omega) 1 (by decide)
theorem aw_bitB {n c : Nat} (h : n < 2 ^ 31) (hc : c < 32) : (nI n >>> (nI c &&& 31)) &&& nI 1 = bI (btB n c) := by
  rw [aw_bit h hc]
  unfold btB
  have : n / 2 ^ c % 2 = 0 ∨ n / 2 ^ c % 2 = 1 := by omega
  rcases this with e | e <;> rw [e] <;> rfl
theorem aw_shl1 : ∀ c, c < 31 → nI 1 <<< (nI c &&& 31) = nI (2 ^ c) := by decide +kernel
theorem aw_not : ∀ c, c < 6 → ∀ s, s < 64 → nI s &&& ((nI 1 <<< (nI c &&& 31)) ^^^ (-1)) = nI (s &&& (63 - 2 ^ c)) := by decide +kernel
theorem aw_or64 : ∀ c, c < 6 → ∀ s, s < 64 → s ||| 2 ^ c < 64 := by decide +kernel
theorem aw_and64 (s a : Nat) (h : s < 64) : s &&& a < 64 := Nat.lt_of_le_of_lt Nat.and_le_left h
theorem fit_or : ∀ c, c < 6 → ∀ s, s < 64 → ∀ a, a < 64 → (s &&& (a ||| 2 ^ c) == (a ||| 2 ^ c)) = ((s &&& a == a) && btB s c) := by decide +kernel
end
section
set_option maxRecDepth 100000
/-! SMALL ROWS FOR THE WALKS: constants, known answers, the ranges of arguments -/
theorem ki_0 : Int32.ofInt 0 = nI 0 := by decide +kernel
theorem ki_1 : Int32.ofInt 1 = nI 1 := by decide +kernel
theorem ki_2 : Int32.ofInt 2 = nI 2 := by decide +kernel
theorem ki_3 : Int32.ofInt 3 = nI 3 := by decide +kernel
theorem ki_4 : Int32.ofInt 4 = nI 4 := by decide +kernel
theorem ki_5 : Int32.ofInt 5 = nI 5 := by decide +kernel
theorem ki_m1 : Int32.ofInt (-1) = (-1) := by decide +kernel
theorem kb_6 : (Int8.ofInt 6).toInt32 = nI 6 := by decide +kernel
theorem kb_7 : (Int8.ofInt 7).toInt32 = nI 7 := by decide +kernel
theorem kb_8 : (Int8.ofInt 8).toInt32 = nI 8 := by decide +kernel
theorem kb_10 : (Int8.ofInt 10).toInt32 = nI 10 := by decide +kernel
theorem kb_23 : (Int8.ofInt 23).toInt32 = nI 23 := by decide +kernel
theorem kb_24 : (Int8.ofInt 24).toInt32 = nI 24 := by decide +kernel
theorem kb_31 : (Int8.ofInt 31).toInt32 = nI 31 := by decide +kernel
theorem kb_63 : (Int8.ofInt 63).toInt32 = nI 63 := by decide +kernel
theorem kb_64 : (Int8.ofInt 64).toInt32 = nI 64 := by decide +kernel
theorem kb_m4 : (Int8.ofInt (-4)).toInt32 = (-4) := by decide +kernel
theorem kb_m2 : (Int8.ofInt (-2)).toInt32 = (-2) := by decide +kernel
theorem ks_144 : (Int16.ofInt 144).toInt32 = nI 144 := by decide +kernel
theorem ks_1536 : (Int16.ofInt 1536).toInt32 = nI 1536 := by decide +kernel
theorem ks_4095 : (Int16.ofInt 4095).toInt32 = nI 4095 := by decide +kernel
section AWD
variable {σ : Type} {pic : σ → va_W} {X : aw_X} {pc : Nat} {lv : List (Nat × Value)} {st : List Value}
theorem aw_deti {v : Int32} {w2 : σ} (K : aw_J pic X pc lv (.int v :: st) w2) : ∀ (r : Int32) (w' : σ), (r = v ∧ w' = w2) → aw_J pic X pc lv (.int r :: st) w' := fun r w' h => by
  rw [h.1, h.2]
  exact K
theorem aw_detv {w2 : σ} (K : aw_J pic X pc lv st w2) : ∀ (w' : σ), (w' = w2) → aw_J pic X pc lv st w' := fun w' h => by
  rw [h]
  exact K
end AWD
/-- is x in 0 .. n-1 -/
def rB (n : Nat) (x : Int32) : Bool := decide (¬ x < 0 ∧ x < nI n)
theorem rB_lo {n : Nat} {x : Int32} (h : x < 0) : rB n x = false := by simp [rB, h]
theorem rB_hi {n : Nat} {x : Int32} (h : ¬ x < nI n) : rB n x = false := by simp [rB, h]
theorem rB_ok {n : Nat} {x : Int32} (h : ¬ x < 0) (h2 : x < nI n) : rB n x = true := by simp [rB, h, h2]
theorem rB_n {n j : Nat} (h : j < n) (hn : n < 2 ^ 31) : rB n (nI j) = true := rB_ok (nI_pos (by omega)) (nI_lt h hn)
theorem rB_ex {n : Nat} {x : Int32} (hn : n < 2 ^ 31) (h : rB n x = true) : ∃ j, j < n ∧ x = nI j := by
  simp only [rB, decide_eq_true_eq] at h
  obtain ⟨h1, h2⟩ := h
  rcases pk_ix x hn with q | q | q
  · exact absurd q h1
  · exfalso
    rw [Int32.lt_iff_toInt_lt] at h2
    rw [Int32.le_iff_toInt_le] at q
    omega
  · exact q
theorem i_nlt {x y : Int32} (h : y ≤ x) : ¬ x < y := by
  rw [Int32.lt_iff_toInt_lt]
  rw [Int32.le_iff_toInt_le] at h
  omega
theorem i_le {x y : Int32} (h : ¬ x < y) : y ≤ x := by
  rw [Int32.lt_iff_toInt_lt] at h
  rw [Int32.le_iff_toInt_le]
  omega
theorem i_lt {x y : Int32} (h : ¬ y ≤ x) : x < y := by
  rw [Int32.lt_iff_toInt_lt]
  rw [Int32.le_iff_toInt_le] at h
  omega
theorem i_nle {x y : Int32} (h : x < y) : ¬ y ≤ x := by
  rw [Int32.lt_iff_toInt_lt] at h
  rw [Int32.le_iff_toInt_le]
  omega
/-- x ≤ n is x < n + 1 -/
theorem i_gt {x : Int32} {n : Nat} (hn : n + 1 < 2 ^ 31) (h : nI n < x) : ¬ x < nI (n + 1) := by
  rw [Int32.lt_iff_toInt_lt] at h ⊢
  rw [nI_toInt (by omega)] at h ⊢
  omega
theorem i_ngt {x : Int32} {n : Nat} (hn : n + 1 < 2 ^ 31) (h : ¬ nI n < x) : x < nI (n + 1) := by
  rw [Int32.lt_iff_toInt_lt] at h ⊢
  rw [nI_toInt (by omega)] at h ⊢
  omega
/-- is e alive, e any int -/
def aB (lv : Nat → Bool) (e : Int32) : Bool := rB 24 e && lv e.toNatClampNeg
theorem aB_n {lv : Nat → Bool} {j : Nat} (h : j < 24) : aB lv (nI j) = lv j := by
  unfold aB
  rw [rB_n h (by decide), nI_clamp (by omega)]
  rfl
theorem aB_ex {lv : Nat → Bool} {e : Int32} (h : aB lv e = true) : ∃ j, j < 24 ∧ e = nI j ∧ lv j = true := by
  have h0 := h
  unfold aB at h
  rw [Bool.and_eq_true] at h
  obtain ⟨j, h1, h2⟩ := rB_ex (by decide) h.1
  refine ⟨j, h1, h2, ?_⟩
  rw [h2, aB_n h1] at h0
  exact h0
theorem aB_out {lv : Nat → Bool} {e : Int32} (h : rB 24 e = false) : aB lv e = false := by
  unfold aB
  rw [h]
  rfl
end
section
set_option maxRecDepth 100000
set_option maxHeartbeats 4000000 in
set_option maxRecDepth 100000 in
theorem met0_badPart (l : Launch) (L : aw_L) (hD : ∀ w, va_D (aw_A L) (aw_pic0 L w)) (w : aw_S) (x : Int32) : aw_Mi (aw_pic0 L) l L yX0_badPart cX0_badPart 2 .boolean 0 0 [.int x] w (fun r w' => r = bI (!rB 6 x) ∧ w' = w) := by
  refine aw_of_i (lv := [(0, .ref (L.2.2 20)), (1, .int x)]) (own := RX0) hD (by decide) rfl (Nat.le_of_ble_eq_true rfl) rfl (fun X O F hr => ?_)
  refine aw_iload_n (pc' := 1) O dX0_badPart_0 rfl rfl ?_
  refine aw_if_lt (pc' := 4) (tgt := 10) O dX0_badPart_1 (by decide) rfl (fun h1 => ?_) (fun h1 => ?_)
  · refine aw_iconst (pc' := 11) O dX0_badPart_10 ki_1 rfl ?_
    refine aw_goto (tgt := 15) O dX0_badPart_11 (by decide) ?_
    exact aw_ireturn O hr rfl dX0_badPart_15 (⟨by rw [rB_lo h1]; decide, rfl⟩)
  · refine aw_iload_n (pc' := 5) O dX0_badPart_4 rfl rfl ?_
    refine aw_bipush (pc' := 7) O dX0_badPart_5 kb_6 rfl ?_
    refine aw_icmp_lt (pc' := 10) (tgt := 14) O dX0_badPart_7 (by decide) rfl (fun h2 => ?_) (fun h2 => ?_)
    · refine aw_iconst (pc' := 15) O dX0_badPart_14 ki_0 rfl ?_
      exact aw_ireturn O hr rfl dX0_badPart_15 (⟨by rw [rB_ok h1 h2]; decide, rfl⟩)
    · refine aw_iconst (pc' := 11) O dX0_badPart_10 ki_1 rfl ?_
      refine aw_goto (tgt := 15) O dX0_badPart_11 (by decide) ?_
      exact aw_ireturn O hr rfl dX0_badPart_15 (⟨by rw [rB_hi h2]; decide, rfl⟩)
set_option maxHeartbeats 4000000 in
set_option maxRecDepth 100000 in
theorem met0_badSet (l : Launch) (L : aw_L) (hD : ∀ w, va_D (aw_A L) (aw_pic0 L w)) (w : aw_S) (x : Int32) : aw_Mi (aw_pic0 L) l L yX0_badSet cX0_badSet 2 .boolean 0 0 [.int x] w (fun r w' => r = bI (!rB 64 x) ∧ w' = w) := by
  refine aw_of_i (lv := [(0, .ref (L.2.2 20)), (1, .int x)]) (own := RX0) hD (by decide) rfl (Nat.le_of_ble_eq_true rfl) rfl (fun X O F hr => ?_)
  refine aw_iload_n (pc' := 1) O dX0_badSet_0 rfl rfl ?_
  refine aw_if_lt (pc' := 4) (tgt := 10) O dX0_badSet_1 (by decide) rfl (fun h1 => ?_) (fun h1 => ?_)
  · refine aw_iconst (pc' := 11) O dX0_badSet_10 ki_1 rfl ?_
    refine aw_goto (tgt := 15) O dX0_badSet_11 (by decide) ?_
    exact aw_ireturn O hr rfl dX0_badSet_15 (⟨by rw [rB_lo h1]; decide, rfl⟩)
  · refine aw_iload_n (pc' := 5) O dX0_badSet_4 rfl rfl ?_
    refine aw_bipush (pc' := 7) O dX0_badSet_5 kb_64 rfl ?_
    refine aw_icmp_lt (pc' := 10) (tgt := 14) O dX0_badSet_7 (by decide) rfl (fun h2 => ?_) (fun h2 => ?_)
    · refine aw_iconst (pc' := 15) O dX0_badSet_14 ki_0 rfl ?_
      exact aw_ireturn O hr rfl dX0_badSet_15 (⟨by rw [rB_ok h1 h2]; decide, rfl⟩)
    · refine aw_iconst (pc' := 11) O dX0_badSet_10 ki_1 rfl ?_
      refine aw_goto (tgt := 15) O dX0_badSet_11 (by decide) ?_
      exact aw_ireturn O hr rfl dX0_badSet_15 (⟨by rw [rB_hi h2]; decide, rfl⟩)
set_option maxHeartbeats 4000000 in
set_option maxRecDepth 100000 in
theorem met0_fits (l : Launch) (L : aw_L) (hD : ∀ w, va_D (aw_A L) (aw_pic0 L w)) (w : aw_S) (s a b : Nat) (hs : s < 64) (ha : a < 64) (hb : b < 64) : aw_Mi (aw_pic0 L) l L yX0_fits cX0_fits 4 .boolean 0 0 [.int (nI s), .int (nI a), .int (nI b)] w (fun r w' => r = bI (fitB s a b) ∧ w' = w) := by
  have hsa := aw_and64 s a hs
  have hsb := aw_and64 s b hs
  refine aw_of_i (lv := [(0, .ref (L.2.2 20)), (1, .int (nI s)), (2, .int (nI a)), (3, .int (nI b))]) (own := RX0) hD (by decide) rfl (Nat.le_of_ble_eq_true rfl) rfl (fun X O F hr => ?_)
  refine aw_iload_n (pc' := 1) O dX0_fits_0 rfl rfl ?_
  refine aw_iload_n (pc' := 2) O dX0_fits_1 rfl rfl ?_
  refine aw_iand (pc' := 3) O dX0_fits_2 rfl ?_
  refine aw_top (y := nI (s &&& a)) (aw_nx_and s a) ?_
  refine aw_iload_n (pc' := 4) O dX0_fits_3 rfl rfl ?_
  refine aw_icmpN_ne (pc' := 7) (tgt := 17) O (by omega) (by omega) dX0_fits_4 (by decide) rfl (fun h1 => ?_) (fun h1 => ?_)
  · refine aw_iconst (pc' := 18) O dX0_fits_17 ki_0 rfl ?_
    exact aw_ireturn O hr rfl dX0_fits_18 (⟨by simp [fitB, h1, bI]; rfl, rfl⟩)
  · refine aw_iload_n (pc' := 8) O dX0_fits_7 rfl rfl ?_
    refine aw_iload_n (pc' := 9) O dX0_fits_8 rfl rfl ?_
    refine aw_iand (pc' := 10) O dX0_fits_9 rfl ?_
    refine aw_top (y := nI (s &&& b)) (aw_nx_and s b) ?_
    have e0 : nI 0 = 0 := rfl
    refine aw_if_ne (pc' := 13) (tgt := 17) O dX0_fits_10 (by decide) rfl (fun h2 => ?_) (fun h2 => ?_)
    · refine aw_iconst (pc' := 18) O dX0_fits_17 ki_0 rfl ?_
      have q2 : ¬ (s &&& b) = 0 := fun q => h2 (by rw [q]; rfl)
      exact aw_ireturn O hr rfl dX0_fits_18 (⟨by simp [fitB, h1, q2, bI]; rfl, rfl⟩)
    · refine aw_iconst (pc' := 14) O dX0_fits_13 ki_1 rfl ?_
      refine aw_goto (tgt := 18) O dX0_fits_14 (by decide) ?_
      have q2 : (s &&& b) = 0 := nI_inj (by omega) (by decide) h2
      exact aw_ireturn O hr rfl dX0_fits_18 (⟨by simp [fitB, h1, q2, bI]; rfl, rfl⟩)
end
section
set_option maxRecDepth 100000
/-! THE WORLD'S TABLES. w.1 k: array of field k (1 tableSet, 2 tableOf, 3 rows, 4 rowAt, 5 table, 6 place, 7 column, 9 with, 10 without, 11 kind, 12 target, 13 source, 16 stage), w.2.1 k: field k (0 tables, 8 systems, 14 laid, 15 stageCount, 18 matched), w.2.2: match -/
/-- how many entities stand in table t -/
def rc (w : aw_S) (t : Nat) : Nat := cn (fun e => decide (w.1 5 e = nI t)) 24
/-- T tables; lv: who lives; st: the sets of the living -/
def TR (w : aw_S) (T : Nat) (lv : Nat → Bool) (st : Nat → Nat) : Prop :=
  (w.2.1 0 = nI T ∧ T ≤ 64) ∧
  (∀ t, t < T → ∃ s, s < 64 ∧ w.1 1 t = nI s ∧ w.1 2 s = nI t) ∧
  (∀ s, s < 64 → w.1 2 s = -4 ∨ ∃ t, t < T ∧ w.1 2 s = nI t ∧ w.1 1 t = nI s) ∧
  T = cn (fun s => !decide (w.1 2 s = -4)) 64 ∧
  (∀ t, t < T → w.1 3 t = nI (rc w t)) ∧
  (∀ e, e < 24 → lv e = false → w.1 5 e = -4) ∧
  (∀ e, e < 24 → lv e = true → ∃ t, t < T ∧ w.1 5 e = nI t ∧ w.1 1 t = nI (st e) ∧ st e < 64 ∧ ∃ k, k < rc w t ∧ w.1 6 e = nI k ∧ w.1 4 (t * 24 + k) = nI e) ∧
  (∀ t, t < T → ∀ k, k < rc w t → ∃ e, e < 24 ∧ w.1 4 (t * 24 + k) = nI e ∧ w.1 5 e = nI t ∧ w.1 6 e = nI k)
theorem cn_zero {p : Nat → Bool} {n : Nat} (h : ∀ i, i < n → p i = false) : cn p n = 0 := by
  rcases Nat.eq_zero_or_pos (cn p n) with e | e
  · exact e
  · obtain ⟨i, h1, h2⟩ := cn_ex e
    rw [h i h1] at h2
    cases h2
theorem rc_le (w : aw_S) (t : Nat) : rc w t ≤ 24 := cn_le _ _
theorem TR.lt24 {w : aw_S} {T : Nat} {lv : Nat → Bool} {st : Nat → Nat} (h : TR w T lv st) {e : Nat} (he : e < 24) (hl : lv e = false) {t : Nat} (ht : t < 64) : rc w t < 24 := by
  refine cn_lt he ?_
  have h5 := h.2.2.2.2.2.1 e he hl
  have : ¬ w.1 5 e = nI t := fun q => nI_ne4 (a := t) (by omega) (by rw [← q, h5])
  simpa using this
theorem TR.lt64 {w : aw_S} {T : Nat} {lv : Nat → Bool} {st : Nat → Nat} (h : TR w T lv st) {s : Nat} (hs : s < 64) (hn : w.1 2 s = -4) : T < 64 := by
  rw [h.2.2.2.1]
  exact cn_lt hs (by simp [hn])
theorem TR.pos {w : aw_S} {T : Nat} {lv : Nat → Bool} {st : Nat → Nat} (h : TR w T lv st) {e : Nat} (he : e < 24) {t : Nat} (ht : w.1 5 e = nI t) : 0 < rc w t := cn_pos he (by simpa using ht)
/-- an entity's table is a table -/
theorem TR.dead {w : aw_S} {T : Nat} {lv : Nat → Bool} {st : Nat → Nat} (h : TR w T lv st) {e t : Nat} (he : e < 24) (ht : t < 64) (h5 : w.1 5 e = nI t) : lv e = true ∧ t < T := by
  by_cases hl : lv e = true
  · obtain ⟨t', a1, a2, -⟩ := h.2.2.2.2.2.2.1 e he hl
    have : t' = t := nI_inj (by have := h.1.2; omega) (by omega) (by rw [← a2, h5])
    subst this
    exact ⟨hl, a1⟩
  · have h6 := h.2.2.2.2.2.1 e he (by simpa using hl)
    exact absurd (by rw [← h5, h6]) (nI_ne4 (a := t) (by omega))
/-- an entity enters table t -/
theorem TR_enter {w w' : aw_S} {T : Nat} {lv : Nat → Bool} {st : Nat → Nat} {e t s : Nat} (h : TR w T lv st) (he : e < 24) (hl : lv e = false) (ht : t < T) (hs : w.1 1 t = nI s) (hs64 : s < 64)
    (h0 : w'.2.1 0 = w.2.1 0) (h1 : w'.1 1 = w.1 1) (h2 : w'.1 2 = w.1 2) (h3 : ∀ x, w'.1 3 x = if x = t then nI (rc w t + 1) else w.1 3 x) (h4 : ∀ x, w'.1 4 x = if x = t * 24 + rc w t then nI e else w.1 4 x)
    (h5 : ∀ x, w'.1 5 x = if x = e then nI t else w.1 5 x) (h6 : ∀ x, w'.1 6 x = if x = e then nI (rc w t) else w.1 6 x) : TR w' T (va_up lv e true) (va_up st e s) := by
  have hT := h.1.2
  have hr24 := h.lt24 he hl (t := t) (by omega)
  have he4 := h.2.2.2.2.2.1 e he hl
  have hrc : ∀ t', t' < T → rc w' t' = if t' = t then rc w t + 1 else rc w t' := by
    intro t' ht'
    by_cases q : t' = t
    · subst q
      rw [if_pos rfl]
      refine cn_add he ?_ ?_ ?_
      · simp only [decide_eq_false_iff_not]
        intro q
        exact nI_ne4 (a := t') (by omega) (by rw [← q, he4])
      · simp [h5]
      · intro j _ hj
        simp [h5, hj]
    · rw [if_neg q]
      refine cn_congr (fun x hx => ?_)
      by_cases hxe : x = e
      · subst hxe
        have a1 : ¬ w'.1 5 x = nI t' := by
          rw [h5, if_pos rfl]
          exact fun z => q (nI_inj (by omega) (by omega) z).symm
        have a2 : ¬ w.1 5 x = nI t' := by
          rw [he4]
          exact fun z => nI_ne4 (a := t') (by omega) z.symm
        simp [a1, a2]
      · simp [h5, hxe]
  obtain ⟨g0, g1, g2, g3, g4, g5, g6, g7⟩ := h
  refine ⟨⟨by rw [h0]; exact g0.1, g0.2⟩, by rw [h1, h2]; exact g1, by rw [h1, h2]; exact g2, by rw [h2]; exact g3, ?_, ?_, ?_, ?_⟩
  · intro t' ht'
    rw [h3, hrc t' ht']
    by_cases q : t' = t
    · rw [if_pos q, if_pos q]
    · rw [if_neg q, if_neg q]
      exact g4 t' ht'
  · intro e' he' hl'
    by_cases q : e' = e
    · subst q
      rw [va_up_self] at hl'
      cases hl'
    · rw [va_up_ne _ _ q] at hl'
      rw [h5, if_neg q]
      exact g5 e' he' hl'
  · intro e' he' hl'
    by_cases q : e' = e
    · subst q
      refine ⟨t, ht, by rw [h5, if_pos rfl], by rw [h1, va_up_self]; exact hs, by rw [va_up_self]; exact hs64, rc w t, ?_, by rw [h6, if_pos rfl], by rw [h4, if_pos rfl]⟩
      rw [hrc t ht, if_pos rfl]
      omega
    · rw [va_up_ne _ _ q] at hl' ⊢
      obtain ⟨t', a1, a2, a3, a4, k, a5, a6, a7⟩ := g6 e' he' hl'
      refine ⟨t', a1, by rw [h5, if_neg q]; exact a2, by rw [h1]; exact a3, a4, k, ?_, by rw [h6, if_neg q]; exact a6, ?_⟩
      · rw [hrc t' a1]
        by_cases z : t' = t
        · subst z
          rw [if_pos rfl]
          omega
        · rw [if_neg z]
          exact a5
      · have := rc_le w t'
        rw [h4, if_neg]
        · exact a7
        · intro z
          have : t' = t := by omega
          subst this
          omega
  · intro t' ht' k hk
    rw [hrc t' ht'] at hk
    by_cases z : t' = t ∧ k = rc w t
    · obtain ⟨z1, z2⟩ := z
      subst z1
      subst z2
      exact ⟨e, he, by rw [h4, if_pos rfl], by rw [h5, if_pos rfl], by rw [h6, if_pos rfl]⟩
    · have hk2 : k < rc w t' := by
        by_cases y : t' = t
        · subst y
          rw [if_pos rfl] at hk
          have : k ≠ rc w t' := fun q => z ⟨rfl, q⟩
          omega
        · rw [if_neg y] at hk
          exact hk
      obtain ⟨e', a1, a2, a3, a4⟩ := g7 t' ht' k hk2
      have hne : e' ≠ e := by
        intro q
        subst q
        rw [he4] at a3
        exact nI_ne4 (a := t') (by omega) a3.symm
      have := rc_le w t'
      refine ⟨e', a1, ?_, by rw [h5, if_neg hne]; exact a3, by rw [h6, if_neg hne]; exact a4⟩
      rw [h4, if_neg]
      · exact a2
      · intro y
        have : t' = t := by omega
        subst this
        omega
/-- an entity leaves its table; the last one takes its place -/
theorem TR_leave {w w' : aw_S} {T : Nat} {lv : Nat → Bool} {st : Nat → Nat} {e t k0 z : Nat} (h : TR w T lv st) (he : e < 24) (hl : lv e = true) (ht : t < T) (h5e : w.1 5 e = nI t) (h6e : w.1 6 e = nI k0) (hk0 : k0 < 24)
    (hz : z < 24) (h4z : w.1 4 (t * 24 + (rc w t - 1)) = nI z)
    (h0 : w'.2.1 0 = w.2.1 0) (h1 : w'.1 1 = w.1 1) (h2 : w'.1 2 = w.1 2) (h3 : ∀ x, w'.1 3 x = if x = t then nI (rc w t - 1) else w.1 3 x) (h4 : ∀ x, w'.1 4 x = if x = t * 24 + k0 then nI z else w.1 4 x)
    (h5 : ∀ x, w'.1 5 x = if x = e then -4 else w.1 5 x) (h6 : ∀ x, w'.1 6 x = if x = z then nI k0 else w.1 6 x) : TR w' T (va_up lv e false) st := by
  have hT := h.1.2
  have hpos := h.pos he h5e
  have hr24 := rc_le w t
  have hrc : ∀ t', t' < T → rc w' t' = if t' = t then rc w t - 1 else rc w t' := by
    intro t' ht'
    by_cases q : t' = t
    · subst q
      rw [if_pos rfl]
      have : rc w t' = rc w' t' + 1 := by
        refine cn_add he ?_ ?_ ?_
        · simp only [decide_eq_false_iff_not]
          rw [h5, if_pos rfl]
          exact fun q => nI_ne4 (a := t') (by omega) q.symm
        · simpa using h5e
        · intro j _ hj
          simp [h5, hj]
      omega
    · rw [if_neg q]
      refine cn_congr (fun x hx => ?_)
      by_cases hxe : x = e
      · subst hxe
        have a1 : ¬ w'.1 5 x = nI t' := by
          rw [h5, if_pos rfl]
          exact fun z => nI_ne4 (a := t') (by omega) z.symm
        have a2 : ¬ w.1 5 x = nI t' := by
          rw [h5e]
          exact fun z => q (nI_inj (by omega) (by omega) z).symm
        simp [a1, a2]
      · simp [h5, hxe]
  obtain ⟨g0, g1, g2, g3, g4, g5, g6, g7⟩ := h
  -- e's own place
  have hek : k0 < rc w t ∧ w.1 4 (t * 24 + k0) = nI e := by
    obtain ⟨t', a1, a2, a3, a4, k, a5, a6, a7⟩ := g6 e he hl
    have e1 : t' = t := nI_inj (by omega) (by omega) (by rw [← a2, h5e])
    subst e1
    have := rc_le w t'
    have e2 : k = k0 := nI_inj (by omega) (by omega) (by rw [← a6, h6e])
    subst e2
    exact ⟨a5, a7⟩
  -- the last one
  have hzl : w.1 5 z = nI t ∧ w.1 6 z = nI (rc w t - 1) := by
    obtain ⟨z', a1, a2, a3, a4⟩ := g7 t ht (rc w t - 1) (by omega)
    have : z' = z := nI_inj (by omega) (by omega) (by rw [← a2, h4z])
    subst this
    exact ⟨a3, a4⟩
  refine ⟨⟨by rw [h0]; exact g0.1, g0.2⟩, by rw [h1, h2]; exact g1, by rw [h1, h2]; exact g2, by rw [h2]; exact g3, ?_, ?_, ?_, ?_⟩
  · intro t' ht'
    rw [h3, hrc t' ht']
    by_cases q : t' = t
    · rw [if_pos q, if_pos q]
    · rw [if_neg q, if_neg q]
      exact g4 t' ht'
  · intro e' he' hl'
    by_cases q : e' = e
    · rw [h5, if_pos q]
    · rw [va_up_ne _ _ q] at hl'
      rw [h5, if_neg q]
      exact g5 e' he' hl'
  · intro e' he' hl'
    by_cases q : e' = e
    · subst q
      rw [va_up_self] at hl'
      cases hl'
    · rw [va_up_ne _ _ q] at hl'
      obtain ⟨t', a1, a2, a3, a4, k, a5, a6, a7⟩ := g6 e' he' hl'
      have hb := rc_le w t'
      by_cases y : e' = z
      · subst y
        have e1 : t' = t := nI_inj (by omega) (by omega) (by rw [← a2, hzl.1])
        subst e1
        have e2 : k = rc w t' - 1 := nI_inj (by omega) (by omega) (by rw [← a6, hzl.2])
        subst e2
        have hk : k0 ≠ rc w t' - 1 := by
          intro y
          subst y
          exact q (nI_inj (by omega) (by omega) (by rw [← h4z, hek.2]))
        refine ⟨t', a1, by rw [h5, if_neg q]; exact a2, by rw [h1]; exact a3, a4, k0, ?_, by rw [h6, if_pos rfl], by rw [h4, if_pos rfl]⟩
        rw [hrc t' a1, if_pos rfl]
        omega
      · refine ⟨t', a1, by rw [h5, if_neg q]; exact a2, by rw [h1]; exact a3, a4, k, ?_, by rw [h6, if_neg y]; exact a6, ?_⟩
        · rw [hrc t' a1]
          by_cases x : t' = t
          · subst x
            rw [if_pos rfl]
            have : k ≠ rc w t' - 1 := by
              intro x
              subst x
              exact y (nI_inj (by omega) (by omega) (by rw [← a7, h4z]))
            omega
          · rw [if_neg x]
            exact a5
        · rw [h4, if_neg]
          · exact a7
          · intro x
            have e1 : t' = t := by omega
            subst e1
            have e2 : k = k0 := by omega
            subst e2
            exact q (nI_inj (by omega) (by omega) (by rw [← a7, hek.2]))
  · intro t' ht' k hk
    rw [hrc t' ht'] at hk
    by_cases x : t' = t
    · subst x
      rw [if_pos rfl] at hk
      by_cases y : k = k0
      · subst y
        have hze : z ≠ e := by
          intro q
          subst q
          have := nI_inj (by omega) (by omega) (hzl.2.symm.trans h6e)
          omega
        exact ⟨z, hz, by rw [h4, if_pos rfl], by rw [h5, if_neg hze]; exact hzl.1, by rw [h6, if_pos rfl]⟩
      · obtain ⟨e', a1, a2, a3, a4⟩ := g7 t' ht' k (by omega)
        have n1 : e' ≠ e := by
          intro q
          subst q
          exact y (nI_inj (by omega) (by omega) (by rw [← a4, h6e]))
        have n2 : e' ≠ z := by
          intro q
          subst q
          have := nI_inj (by omega) (by omega) (a4.symm.trans hzl.2)
          omega
        exact ⟨e', a1, by rw [h4, if_neg (by omega)]; exact a2, by rw [h5, if_neg n1]; exact a3, by rw [h6, if_neg n2]; exact a4⟩
    · rw [if_neg x] at hk
      obtain ⟨e', a1, a2, a3, a4⟩ := g7 t' ht' k hk
      have hb := rc_le w t'
      have n1 : e' ≠ e := by
        intro q
        subst q
        exact x (nI_inj (by omega) (by omega) (by rw [← a3, h5e]))
      have n2 : e' ≠ z := by
        intro q
        subst q
        exact x (nI_inj (by omega) (by omega) (by rw [← a3, hzl.1]))
      exact ⟨e', a1, by rw [h4, if_neg (by omega)]; exact a2, by rw [h5, if_neg n1]; exact a3, by rw [h6, if_neg n2]; exact a4⟩
/-- a new table for the set s -/
theorem TR_new {w w' : aw_S} {T : Nat} {lv : Nat → Bool} {st : Nat → Nat} {s : Nat} (h : TR w T lv st) (hs : s < 64) (hn : w.1 2 s = -4)
    (h0 : w'.2.1 0 = nI (T + 1)) (h1 : ∀ x, w'.1 1 x = if x = T then nI s else w.1 1 x) (h2 : ∀ x, w'.1 2 x = if x = s then nI T else w.1 2 x) (h3 : ∀ x, w'.1 3 x = if x = T then nI 0 else w.1 3 x)
    (h4 : w'.1 4 = w.1 4) (h5 : w'.1 5 = w.1 5) (h6 : w'.1 6 = w.1 6) : TR w' (T + 1) lv st := by
  have hT := h.lt64 hs hn
  have hrc : ∀ t, rc w' t = rc w t := fun t => by unfold rc; rw [h5]
  have hrT : rc w T = 0 := by
    refine cn_zero (fun e he => ?_)
    simp only [decide_eq_false_iff_not]
    intro q
    exact Nat.lt_irrefl _ (h.dead he (by omega) q).2
  obtain ⟨g0, g1, g2, g3, g4, g5, g6, g7⟩ := h
  refine ⟨⟨h0, by omega⟩, ?_, ?_, ?_, ?_, by rw [h5]; exact g5, ?_, ?_⟩
  · intro t ht
    by_cases q : t = T
    · subst q
      exact ⟨s, hs, by rw [h1, if_pos rfl], by rw [h2, if_pos rfl]⟩
    · obtain ⟨s', a1, a2, a3⟩ := g1 t (by omega)
      have : s' ≠ s := by
        intro y
        subst y
        rw [hn] at a3
        exact nI_ne4 (a := t) (by omega) a3.symm
      exact ⟨s', a1, by rw [h1, if_neg q]; exact a2, by rw [h2, if_neg this]; exact a3⟩
  · intro s' hs'
    by_cases q : s' = s
    · subst q
      exact Or.inr ⟨T, by omega, by rw [h2, if_pos rfl], by rw [h1, if_pos rfl]⟩
    · rcases g2 s' hs' with a | ⟨t, a1, a2, a3⟩
      · exact Or.inl (by rw [h2, if_neg q]; exact a)
      · exact Or.inr ⟨t, by omega, by rw [h2, if_neg q]; exact a2, by rw [h1, if_neg (by omega)]; exact a3⟩
  · have : cn (fun s => !decide (w'.1 2 s = -4)) 64 = cn (fun s => !decide (w.1 2 s = -4)) 64 + 1 := by
      refine cn_add hs (by simp [hn]) ?_ ?_
      · have : ¬ w'.1 2 s = -4 := by
          rw [h2, if_pos rfl]
          exact nI_ne4 (by omega)
        simp [this]
      · intro j _ hj
        simp [h2, hj]
    rw [this, ← g3]
  · intro t ht
    rw [h3, hrc]
    by_cases q : t = T
    · subst q
      rw [if_pos rfl, hrT]
    · rw [if_neg q]
      exact g4 t (by omega)
  · intro e he hl
    obtain ⟨t, a1, a2, a3, a4, k, a5, a6, a7⟩ := g6 e he hl
    exact ⟨t, by omega, by rw [h5]; exact a2, by rw [h1, if_neg (by omega)]; exact a3, a4, k, by rw [hrc]; exact a5, by rw [h6]; exact a6, by rw [h4]; exact a7⟩
  · intro t ht k hk
    rw [hrc] at hk
    by_cases q : t = T
    · subst q
      omega
    · obtain ⟨e, a1, a2, a3, a4⟩ := g7 t (by omega) k hk
      exact ⟨e, a1, by rw [h4]; exact a2, by rw [h5]; exact a3, by rw [h6]; exact a4⟩
/-- nothing of the tables touched -/
theorem TR.same {w w' : aw_S} {T : Nat} {lv : Nat → Bool} {st : Nat → Nat} (h : TR w T lv st) (h0 : w'.2.1 0 = w.2.1 0) (h1 : w'.1 1 = w.1 1) (h2 : w'.1 2 = w.1 2) (h3 : w'.1 3 = w.1 3) (h4 : w'.1 4 = w.1 4) (h5 : w'.1 5 = w.1 5) (h6 : w'.1 6 = w.1 6) : TR w' T lv st := by
  have hrc : ∀ t, rc w' t = rc w t := fun t => by unfold rc; rw [h5]
  unfold TR
  simp only [hrc, h0, h1, h2, h3, h4, h5, h6]
  exact h
end
section
set_option maxRecDepth 100000
/-! ONE MATHEMATICAL VALUE FOR BOTH SIDES: who lives, their sets, all values, how many systems, the systems (0 with, 1 without, 2 kind, 3 target, 4 source) -/
abbrev aw_AS : Type := (Nat → Bool) × (Nat → Nat) × (Nat → Nat → Int32) × Nat × (Nat → Nat → Nat)
/-- a system's stage, over the stages f of those before it -/
def stIn (f : Nat → Nat) (cf : Nat → Bool) : Nat → Nat
  | 0 => 0
  | r + 1 => if cf r && decide (stIn f cf r ≤ f r) then f r + 1 else stIn f cf r
/-- do two systems disturb each other -/
def cfB (sy : Nat → Nat → Nat) (s r : Nat) : Bool := (sy 3 s == sy 3 r || sy 3 s == sy 4 r) || (sy 3 r == sy 3 s || sy 3 r == sy 4 s)
def stT (sy : Nat → Nat → Nat) : Nat → Nat → Nat
  | 0 => fun _ => 0
  | n + 1 => fun i => if i = n then stIn (stT sy n) (cfB sy n) n else stT sy n i
def stg (sy : Nat → Nat → Nat) (i : Nat) : Nat := stT sy (i + 1) i
/-- how many stages -/
def stN (sy : Nat → Nat → Nat) : Nat → Nat
  | 0 => 0
  | n + 1 => if stN sy n ≤ stg sy n then stg sy n + 1 else stN sy n
def ts (w : aw_S) (t : Nat) : Nat := (w.1 1 t).toNatClampNeg
/-- the systems' side of the World -/
def SR (w : aw_S) (T ns : Nat) (sy : Nat → Nat → Nat) : Prop :=
  (w.2.1 8 = nI ns ∧ ns ≤ 8) ∧
  (∀ i, i < ns → (w.1 9 i = nI (sy 0 i) ∧ w.1 10 i = nI (sy 1 i) ∧ w.1 11 i = nI (sy 2 i) ∧ w.1 12 i = nI (sy 3 i) ∧ w.1 13 i = nI (sy 4 i)) ∧ sy 0 i < 64 ∧ sy 1 i < 64 ∧ sy 2 i < 5 ∧ sy 3 i < 6 ∧ sy 4 i < 6) ∧
  (w.2.1 14 = 0 ∨ (w.2.1 14 = 1 ∧ (∀ i, i < ns → w.1 16 i = nI (stg sy i)) ∧ w.2.1 15 = nI (stN sy ns))) ∧
  ∃ M, M ≤ T ∧ w.2.1 18 = nI M ∧ (M = 0 ∨ ∀ i, i < ns → ∀ t, t < 64 → (w.2.2 i).toBitVec.getLsbD t = (decide (t < M) && fitB (ts w t) (sy 0 i) (sy 1 i)))
/-- the World w stands for a -/
def R0 (w : aw_S) (a : aw_AS) : Prop := ∃ T, TR w T a.1 a.2.1 ∧ (∀ e, e < 24 → ∀ c, c < 6 → w.1 7 (c * 24 + e) = a.2.2.1 e c) ∧ SR w T a.2.2.2.1 a.2.2.2.2
/-- the Model m stands for a (arrays: 0 lives, 1 sets, 2 values, 3 withs, 4 withouts, 5 kinds, 6 firsts, 7 seconds, 8 stages; field 9 systems) -/
def R1 (m : aw_S) (a : aw_AS) : Prop :=
  (∀ e, e < 24 → m.1 0 e = bI (a.1 e)) ∧ (∀ e, e < 24 → m.1 1 e = nI (a.2.1 e) ∧ a.2.1 e < 64) ∧ (∀ e, e < 24 → ∀ c, c < 6 → m.1 2 (6 * e + c) = a.2.2.1 e c) ∧ (m.2.1 9 = nI a.2.2.2.1 ∧ a.2.2.2.1 ≤ 8) ∧
  (∀ i, i < a.2.2.2.1 → (m.1 3 i = nI (a.2.2.2.2 0 i) ∧ m.1 4 i = nI (a.2.2.2.2 1 i) ∧ m.1 5 i = nI (a.2.2.2.2 2 i) ∧ m.1 6 i = nI (a.2.2.2.2 3 i) ∧ m.1 7 i = nI (a.2.2.2.2 4 i)) ∧ a.2.2.2.2 0 i < 64 ∧ a.2.2.2.2 1 i < 64 ∧ a.2.2.2.2 2 i < 5 ∧ a.2.2.2.2 3 i < 6 ∧ a.2.2.2.2 4 i < 6)
/-! what each call answers, and what becomes of the value -/
def spawnA (a : aw_AS) (s v : Int32) : Int32 × aw_AS := if rB 64 s then (if ff a.1 24 < 24 then (nI (ff a.1 24), (va_up a.1 (ff a.1 24) true, va_up a.2.1 (ff a.1 24) s.toNatClampNeg, va_up a.2.2.1 (ff a.1 24) (fun _ => v), a.2.2.2)) else (-2, a)) else (-1, a)
def killA (a : aw_AS) (e : Int32) : Int32 × aw_AS := if aB a.1 e then (nI (a.2.1 e.toNatClampNeg), (va_up a.1 e.toNatClampNeg false, a.2)) else (-4, a)
def putA (a : aw_AS) (e c v : Int32) : Int32 × aw_AS := if aB a.1 e then (if rB 6 c then (bI (btB (a.2.1 e.toNatClampNeg) c.toNatClampNeg), (a.1, va_up a.2.1 e.toNatClampNeg (a.2.1 e.toNatClampNeg ||| 2 ^ c.toNatClampNeg), va_up a.2.2.1 e.toNatClampNeg (va_up (a.2.2.1 e.toNatClampNeg) c.toNatClampNeg v), a.2.2.2)) else (-1, a)) else (-4, a)
def dropA (a : aw_AS) (e c : Int32) : Int32 × aw_AS := if aB a.1 e then (if rB 6 c then (bI (btB (a.2.1 e.toNatClampNeg) c.toNatClampNeg), (a.1, va_up a.2.1 e.toNatClampNeg (a.2.1 e.toNatClampNeg &&& (63 - 2 ^ c.toNatClampNeg)), a.2.2)) else (-1, a)) else (-4, a)
def getN (a : aw_AS) (e c : Nat) : Int32 := if a.1 e && btB (a.2.1 e) c then a.2.2.1 e c else 0
def getA (a : aw_AS) (e c : Int32) : Int32 := if aB a.1 e && rB 6 c then getN a e.toNatClampNeg c.toNatClampNeg else 0
def partsA (a : aw_AS) (e : Int32) : Int32 := if aB a.1 e then nI (a.2.1 e.toNatClampNeg) else -4
def liveFit (a : aw_AS) (wi wo e : Nat) : Bool := a.1 e && fitB (a.2.1 e) wi wo
def countN (a : aw_AS) (wi wo : Nat) : Int32 := nI (cn (liveFit a wi wo) 24)
def countA (a : aw_AS) (wi wo : Int32) : Int32 := if rB 64 wi && rB 64 wo then countN a wi.toNatClampNeg wo.toNatClampNeg else -1
def nextN (a : aw_AS) (wi wo : Nat) (from_ : Int32) : Int32 := if ff (fun e => !(liveFit a wi wo e && decide (from_ ≤ nI e))) 24 < 24 then nI (ff (fun e => !(liveFit a wi wo e && decide (from_ ≤ nI e))) 24) else -4
def nextA (a : aw_AS) (wi wo from_ : Int32) : Int32 := if rB 64 wi && rB 64 wo then nextN a wi.toNatClampNeg wo.toNatClampNeg from_ else -1
def sumN (a : aw_AS) (wi wo c : Nat) : Int32 := sm (fun e => if liveFit a wi wo e && btB (a.2.1 e) c then a.2.2.1 e c else 0) 24
def sumA (a : aw_AS) (wi wo c : Int32) : Int32 := if rB 64 wi && rB 64 wo && rB 6 c then sumN a wi.toNatClampNeg wo.toNatClampNeg c.toNatClampNeg else 0
def kindsA (a : aw_AS) : Int32 := nI (cn (fun s => anyN (fun e => a.1 e && decide (a.2.1 e = s)) 24) 64)
/-- is a system's description good: n sets, k work -/
def sysOk (n k : Nat) : Bool := decide (k % 8 ≤ 4) && decide (k / 8 % 8 ≤ 5) && decide (k / 64 ≤ 5) && btB n (k / 8 % 8) && btB n (k / 64)
def sysNew (n k : Nat) : Nat → Nat := fun f => if f = 0 then n % 64 else if f = 1 then n / 64 else if f = 2 then k % 8 else if f = 3 then k / 8 % 8 else k / 64
def systemA (a : aw_AS) (x y : Int32) : Int32 × aw_AS := if rB 4096 x && !decide (y < 0) && sysOk x.toNatClampNeg y.toNatClampNeg then (if a.2.2.2.1 = 8 then (-2, a) else (nI a.2.2.2.1, (a.1, a.2.1, a.2.2.1, a.2.2.2.1 + 1, fun f => va_up (a.2.2.2.2 f) a.2.2.2.1 (sysNew x.toNatClampNeg y.toNatClampNeg f)))) else (-1, a)
def unsystemA (a : aw_AS) : Int32 × aw_AS := if a.2.2.2.1 = 0 then (-4, a) else (nI (a.2.2.2.1 - 1), (a.1, a.2.1, a.2.2.1, a.2.2.2.1 - 1, a.2.2.2.2))
def stageA (a : aw_AS) (s : Int32) : Int32 := if rB a.2.2.2.1 s then nI (stg a.2.2.2.2 s.toNatClampNeg) else -4
def stagesA (a : aw_AS) : Int32 := nI (stN a.2.2.2.2 a.2.2.2.1)
def digestA (a : aw_AS) : Int32 := sm (fun i => nI (i + 1) * getN a (i / 6) (i % 6)) 144
/-! frames -/
def workF (k : Nat) (x y : Int32) : Int32 := if k = 0 then x + y else if k = 1 then x - y else if k = 2 then y else if k = 3 then x * y else if y < 0 then 0 else x
/-- system i over all that fit -/
def run1 (a : aw_AS) (i : Nat) (v : Nat → Nat → Int32) : Nat → Nat → Int32 := fun e c => if liveFit a (a.2.2.2.2 0 i) (a.2.2.2.2 1 i) e && decide (c = a.2.2.2.2 3 i) then workF (a.2.2.2.2 2 i) (v e (a.2.2.2.2 3 i)) (v e (a.2.2.2.2 4 i)) else v e c
def runAsc (a : aw_AS) (g : Nat) (v : Nat → Nat → Int32) : Nat → Nat → Nat → Int32
  | 0 => v
  | i + 1 => if stg a.2.2.2.2 i = g then run1 a i (runAsc a g v i) else runAsc a g v i
def runG (a : aw_AS) (v : Nat → Nat → Int32) : Nat → Nat → Nat → Int32
  | 0 => v
  | g + 1 => runAsc a g (runG a v g) a.2.2.2.1
def runK (a : aw_AS) (v : Nat → Nat → Int32) : Nat → Nat → Nat → Int32
  | 0 => v
  | k + 1 => runG a (runK a v k) 8
def cntG (a : aw_AS) (g : Nat) : Int32 := sm (fun i => if stg a.2.2.2.2 i = g then countN a (a.2.2.2.2 0 i) (a.2.2.2.2 1 i) else 0) a.2.2.2.1
def cntF (a : aw_AS) : Int32 := sm (cntG a) 8
def itN (n : Int32) : Nat := min n.toNatClampNeg 10
def frameA (a : aw_AS) (n : Int32) : Int32 × aw_AS := (sm (fun _ => cntF a) (itN n), (a.1, a.2.1, runK a a.2.2.1 (itN n), a.2.2.2))
/-! the World's frame: what the tables' methods leave alone -/
def FK (w w' : aw_S) (T : Nat) : Prop := (∀ x, x < T → w'.1 1 x = w.1 1 x) ∧ (∀ k, 8 ≤ k → w'.1 k = w.1 k) ∧ (∀ k, 1 ≤ k → w'.2.1 k = w.2.1 k) ∧ w'.2.2 = w.2.2
theorem FK.rf {w : aw_S} {T : Nat} : FK w w T := ⟨fun _ _ => rfl, fun _ _ => rfl, fun _ _ => rfl, rfl⟩
theorem FK.trans {w w' w2 : aw_S} {T T' : Nat} (h : FK w w' T) (h2 : FK w' w2 T') (hT : T ≤ T') : FK w w2 T := ⟨fun x hx => (h2.1 x (by omega)).trans (h.1 x hx), fun k hk => (h2.2.1 k hk).trans (h.2.1 k hk), fun k hk => (h2.2.2.1 k hk).trans (h.2.2.1 k hk), h2.2.2.2.trans h.2.2.2⟩
theorem SR.keep {w w' : aw_S} {T T' ns : Nat} {sy : Nat → Nat → Nat} (h : SR w T ns sy) (f : FK w w' T) (hT : T ≤ T') : SR w' T' ns sy := by
  obtain ⟨f1, f2, f3, f4⟩ := f
  obtain ⟨h1, h2, h3, M, h4, h5, h6⟩ := h
  refine ⟨?_, ?_, ?_, M, by omega, by rw [f3 18 (by decide)]; exact h5, ?_⟩
  · rw [f3 8 (by decide)]; exact h1
  · rw [f2 9 (by decide), f2 10 (by decide), f2 11 (by decide), f2 12 (by decide), f2 13 (by decide)]; exact h2
  · rw [f3 14 (by decide), f2 16 (by decide), f3 15 (by decide)]; exact h3
  · rcases h6 with h6 | h6
    · exact Or.inl h6
    · refine Or.inr (fun i hi t ht => ?_)
      rw [f4, h6 i hi t ht]
      by_cases q : t < M
      · have : ts w' t = ts w t := by unfold ts; rw [f1 t (by omega)]
        rw [this]
      · simp [q]
end
section
set_option maxRecDepth 100000
theorem TR.liveI {w : aw_S} {T : Nat} {lv : Nat → Bool} {st : Nat → Nat} (h : TR w T lv st) {e : Nat} (he : e < 24) : (w.1 5 e < 0 → lv e = false) ∧ (¬ w.1 5 e < 0 → lv e = true) := by
  constructor
  · intro q
    by_cases hl : lv e = true
    · obtain ⟨t, a1, a2, -⟩ := h.2.2.2.2.2.2.1 e he hl
      have := h.1.2
      rw [a2] at q
      exact absurd q (nI_pos (by omega))
    · simpa using hl
  · intro q
    by_cases hl : lv e = true
    · exact hl
    · rw [h.2.2.2.2.2.1 e he (by simpa using hl)] at q
      exact absurd (by decide) q
theorem TR.live {w : aw_S} {T : Nat} {lv : Nat → Bool} {st : Nat → Nat} (h : TR w T lv st) {e : Nat} (he : e < 24) (hl : lv e = true) : ∃ t, t < T ∧ w.1 5 e = nI t ∧ w.1 1 t = nI (st e) ∧ st e < 64 ∧ ∃ k, k < rc w t ∧ w.1 6 e = nI k ∧ w.1 4 (t * 24 + k) = nI e := h.2.2.2.2.2.2.1 e he hl
set_option maxHeartbeats 4000000 in
set_option maxRecDepth 100000 in
theorem met0_lives (l : Launch) (L : aw_L) (hD : ∀ w, va_D (aw_A L) (aw_pic0 L w)) (w : aw_S) {T : Nat} {lv : Nat → Bool} {st : Nat → Nat} (h : TR w T lv st) (x : Int32) : aw_Mi (aw_pic0 L) l L yX0_lives cX0_lives 2 .boolean 0 0 [.int x] w (fun r w' => r = bI (aB lv x) ∧ w' = w) := by
  refine aw_of_i (lv := [(0, .ref (L.2.2 20)), (1, .int x)]) (own := RX0) hD (by decide) rfl (Nat.le_of_ble_eq_true rfl) rfl (fun X O F hr => ?_)
  refine aw_iload_n (pc' := 1) O dX0_lives_0 rfl rfl ?_
  refine aw_if_lt (pc' := 4) (tgt := 23) O dX0_lives_1 (by decide) rfl (fun h1 => ?_) (fun h1 => ?_)
  · refine aw_iconst (pc' := 24) O dX0_lives_23 ki_0 rfl ?_
    exact aw_ireturn O hr rfl dX0_lives_24 (⟨by rw [aB_out (rB_lo h1)]; decide, rfl⟩)
  · refine aw_iload_n (pc' := 5) O dX0_lives_4 rfl rfl ?_
    refine aw_bipush (pc' := 7) O dX0_lives_5 kb_24 rfl ?_
    refine aw_icmp_ge (pc' := 10) (tgt := 23) O dX0_lives_7 (by decide) rfl (fun h2 => ?_) (fun h2 => ?_)
    · refine aw_iconst (pc' := 24) O dX0_lives_23 ki_0 rfl ?_
      exact aw_ireturn O hr rfl dX0_lives_24 (⟨by rw [aB_out (rB_hi (i_nlt h2))]; decide, rfl⟩)
    · obtain ⟨j, hj, rfl⟩ := rB_ex (n := 24) (by decide) (rB_ok h1 (i_lt h2))
      refine aw_aload_n (pc' := 11) O dX0_lives_10 rfl rfl ?_
      refine g0_5 (pc' := 14) O dX0_lives_11 rfl ?_
      refine aw_iload_n (pc' := 15) O dX0_lives_14 rfl rfl ?_
      refine ld0_5 (pc' := 16) (j := j) O rfl (by omega) dX0_lives_15 rfl ?_
      refine aw_if_lt (pc' := 19) (tgt := 23) O dX0_lives_16 (by decide) rfl (fun h3 => ?_) (fun h3 => ?_)
      · refine aw_iconst (pc' := 24) O dX0_lives_23 ki_0 rfl ?_
        exact aw_ireturn O hr rfl dX0_lives_24 (⟨by rw [aB_n hj, (h.liveI hj).1 h3]; decide, rfl⟩)
      · refine aw_iconst (pc' := 20) O dX0_lives_19 ki_1 rfl ?_
        refine aw_goto (tgt := 24) O dX0_lives_20 (by decide) ?_
        exact aw_ireturn O hr rfl dX0_lives_24 (⟨by rw [aB_n hj, (h.liveI hj).2 h3]; decide, rfl⟩)
set_option maxHeartbeats 4000000 in
set_option maxRecDepth 100000 in
theorem met0_setOf (l : Launch) (L : aw_L) (hD : ∀ w, va_D (aw_A L) (aw_pic0 L w)) (w : aw_S) {T : Nat} {lv : Nat → Bool} {st : Nat → Nat} (h : TR w T lv st) (e : Nat) (he : e < 24) (hl : lv e = true) : aw_Mi (aw_pic0 L) l L yX0_setOf cX0_setOf 2 .int 0 0 [.int (nI e)] w (fun r w' => r = nI (st e) ∧ w' = w) := by
  obtain ⟨t, g1, g2, g3, g4, kk, g5, g6, g7⟩ := h.live he hl
  have hT := h.1.2
  refine aw_of_i (lv := [(0, .ref (L.2.2 20)), (1, .int (nI e))]) (own := RX0) hD (by decide) rfl (Nat.le_of_ble_eq_true rfl) rfl (fun X O F hr => ?_)
  refine aw_aload_n (pc' := 1) O dX0_setOf_0 rfl rfl ?_
  refine g0_1 (pc' := 4) O dX0_setOf_1 rfl ?_
  refine aw_aload_n (pc' := 5) O dX0_setOf_4 rfl rfl ?_
  refine g0_5 (pc' := 8) O dX0_setOf_5 rfl ?_
  refine aw_iload_n (pc' := 9) O dX0_setOf_8 rfl rfl ?_
  refine ld0_5 (pc' := 10) (j := e) O rfl (by omega) dX0_setOf_9 rfl ?_
  refine aw_top (y := nI t) g2 ?_
  refine ld0_1 (pc' := 11) (j := t) O rfl (by omega) dX0_setOf_10 rfl ?_
  refine aw_top (y := nI (st e)) g3 ?_
  exact aw_ireturn O hr rfl dX0_setOf_11 (⟨rfl, rfl⟩)
/-- what tableFor leaves: a table of that set; all else as it was -/
def tfP (w : aw_S) (T : Nat) (lv : Nat → Bool) (st : Nat → Nat) (s : Nat) (r : Int32) (w' : aw_S) : Prop := ∃ T' t, r = nI t ∧ t < T' ∧ T ≤ T' ∧ TR w' T' lv st ∧ w'.1 1 t = nI s ∧ FK w w' T ∧ w'.1 5 = w.1 5 ∧ w'.1 7 = w.1 7
set_option maxHeartbeats 4000000 in
set_option maxRecDepth 100000 in
theorem met0_tableFor (l : Launch) (L : aw_L) (hD : ∀ w, va_D (aw_A L) (aw_pic0 L w)) (w : aw_S) {T : Nat} {lv : Nat → Bool} {st : Nat → Nat} (h : TR w T lv st) (s : Nat) (hs : s < 64) : aw_Mi (aw_pic0 L) l L yX0_tableFor cX0_tableFor 2 .int 0 0 [.int (nI s)] w (fun r w' => tfP w T lv st s r w') := by
  have hT := h.1.2
  refine aw_of_i (lv := [(0, .ref (L.2.2 20)), (1, .int (nI s))]) (own := RX0) hD (by decide) rfl (Nat.le_of_ble_eq_true rfl) rfl (fun X O F hr => ?_)
  refine aw_aload_n (pc' := 1) O dX0_tableFor_0 rfl rfl ?_
  refine g0_2 (pc' := 4) O dX0_tableFor_1 rfl ?_
  refine aw_iload_n (pc' := 5) O dX0_tableFor_4 rfl rfl ?_
  refine ld0_2 (pc' := 6) (j := s) O rfl (by omega) dX0_tableFor_5 rfl ?_
  refine aw_if_ge (pc' := 9) (tgt := 49) O dX0_tableFor_6 (by decide) rfl (fun h1 => ?_) (fun h1 => ?_)
  · obtain ⟨t, a1, a2, a3⟩ : ∃ t, t < T ∧ w.1 2 s = nI t ∧ w.1 1 t = nI s := by
      rcases h.2.2.1 s hs with q | q
      · rw [q] at h1
        exact absurd h1 (by decide)
      · exact q
    refine aw_aload_n (pc' := 50) O dX0_tableFor_49 rfl rfl ?_
    refine g0_2 (pc' := 53) O dX0_tableFor_50 rfl ?_
    refine aw_iload_n (pc' := 54) O dX0_tableFor_53 rfl rfl ?_
    refine ld0_2 (pc' := 55) (j := s) O rfl (by omega) dX0_tableFor_54 rfl ?_
    refine aw_top (y := nI t) a2 ?_
    exact aw_ireturn O hr rfl dX0_tableFor_55 (⟨T, t, rfl, a1, Nat.le_refl _, h, a3, FK.rf, rfl, rfl⟩)
  · have hn : w.1 2 s = -4 := by
      rcases h.2.2.1 s hs with q | ⟨t, a1, a2, a3⟩
      · exact q
      · rw [a2] at h1
        exact absurd (nI_pos' (by omega)) h1
    have hT2 := h.lt64 hs hn
    refine aw_aload_n (pc' := 10) O dX0_tableFor_9 rfl rfl ?_
    refine g0_1 (pc' := 13) O dX0_tableFor_10 rfl ?_
    refine aw_aload_n (pc' := 14) O dX0_tableFor_13 rfl rfl ?_
    refine g0_0 (pc' := 17) O dX0_tableFor_14 rfl ?_
    refine aw_top (y := nI T) (h.1.1) ?_
    refine aw_iload_n (pc' := 18) O dX0_tableFor_17 rfl rfl ?_
    refine st0_1 (pc' := 19) (j := T) O F rfl (by omega) dX0_tableFor_18 rfl ?_
    refine aw_aload_n (pc' := 20) O dX0_tableFor_19 rfl rfl ?_
    refine g0_2 (pc' := 23) O dX0_tableFor_20 rfl ?_
    refine aw_iload_n (pc' := 24) O dX0_tableFor_23 rfl rfl ?_
    refine aw_aload_n (pc' := 25) O dX0_tableFor_24 rfl rfl ?_
    refine g0_0 (pc' := 28) O dX0_tableFor_25 rfl ?_
    refine aw_top (y := nI T) (h.1.1) ?_
    refine st0_2 (pc' := 29) (j := s) O F rfl (by omega) dX0_tableFor_28 rfl ?_
    refine aw_aload_n (pc' := 30) O dX0_tableFor_29 rfl rfl ?_
    refine g0_3 (pc' := 33) O dX0_tableFor_30 rfl ?_
    refine aw_aload_n (pc' := 34) O dX0_tableFor_33 rfl rfl ?_
    refine g0_0 (pc' := 37) O dX0_tableFor_34 rfl ?_
    refine aw_top (y := nI T) (h.1.1) ?_
    refine aw_iconst (pc' := 38) O dX0_tableFor_37 ki_0 rfl ?_
    refine st0_3 (pc' := 39) (j := T) O F rfl (by omega) dX0_tableFor_38 rfl ?_
    refine aw_aload_n (pc' := 40) O dX0_tableFor_39 rfl rfl ?_
    refine aw_dup (pc' := 41) O dX0_tableFor_40 rfl rfl ?_
    refine g0_0 (pc' := 44) O dX0_tableFor_41 rfl ?_
    refine aw_top (y := nI T) (h.1.1) ?_
    refine aw_iconst (pc' := 45) O dX0_tableFor_44 ki_1 rfl ?_
    refine aw_iaddN (pc' := 46) O dX0_tableFor_45 rfl ?_
    refine p0_0 (pc' := 49) O F dX0_tableFor_46 rfl ?_
    refine aw_aload_n (pc' := 50) O dX0_tableFor_49 rfl rfl ?_
    refine g0_2 (pc' := 53) O dX0_tableFor_50 rfl ?_
    refine aw_iload_n (pc' := 54) O dX0_tableFor_53 rfl rfl ?_
    refine ld0_2 (pc' := 55) (j := s) O rfl (by omega) dX0_tableFor_54 rfl ?_
    refine aw_top (y := nI T) (by simp [aw_sA, aw_sF, va_up, upd]) ?_
    exact aw_ireturn O hr rfl dX0_tableFor_55 (⟨T + 1, T, rfl, by omega, by omega, TR_new h hs hn rfl (fun _ => rfl) (fun _ => rfl) (fun _ => rfl) rfl rfl rfl, by simp [aw_sA, aw_sF, va_up, upd], ⟨fun x hx => by simp [aw_sA, aw_sF, va_up, upd, Nat.ne_of_lt hx], fun k hk => by simp [aw_sA, aw_sF, va_up, show k ≠ 1 by omega, show k ≠ 2 by omega, show k ≠ 3 by omega], fun k hk => by simp [aw_sA, aw_sF, upd, show k ≠ 0 by omega], rfl⟩, rfl, rfl⟩)
set_option maxHeartbeats 4000000 in
set_option maxRecDepth 100000 in
theorem met0_enter (l : Launch) (L : aw_L) (hD : ∀ w, va_D (aw_A L) (aw_pic0 L w)) (w : aw_S) {T : Nat} {lv : Nat → Bool} {st : Nat → Nat} (h : TR w T lv st) (e t s : Nat) (he : e < 24) (hl : lv e = false) (ht : t < T) (hs : w.1 1 t = nI s) (hs64 : s < 64) : aw_Mv (aw_pic0 L) l L yX0_enter cX0_enter 3 0 0 [.int (nI e), .int (nI t)] w (fun w' => TR w' T (va_up lv e true) (va_up st e s) ∧ FK w w' T ∧ w'.1 7 = w.1 7 ∧ w'.1 1 = w.1 1) := by
  have hT := h.1.2
  have hr24 := h.lt24 he hl (t := t) (by omega)
  have h3 := h.2.2.2.2.1 t ht
  refine aw_of_v (lv := [(0, .ref (L.2.2 20)), (1, .int (nI e)), (2, .int (nI t))]) (own := RX0) hD (by decide) rfl (Nat.le_of_ble_eq_true rfl) rfl (fun X O F hr => ?_)
  refine aw_aload_n (pc' := 1) O dX0_enter_0 rfl rfl ?_
  refine g0_5 (pc' := 4) O dX0_enter_1 rfl ?_
  refine aw_iload_n (pc' := 5) O dX0_enter_4 rfl rfl ?_
  refine aw_iload_n (pc' := 6) O dX0_enter_5 rfl rfl ?_
  refine st0_5 (pc' := 7) (j := e) O F rfl (by omega) dX0_enter_6 rfl ?_
  refine aw_aload_n (pc' := 8) O dX0_enter_7 rfl rfl ?_
  refine g0_6 (pc' := 11) O dX0_enter_8 rfl ?_
  refine aw_iload_n (pc' := 12) O dX0_enter_11 rfl rfl ?_
  refine aw_aload_n (pc' := 13) O dX0_enter_12 rfl rfl ?_
  refine g0_3 (pc' := 16) O dX0_enter_13 rfl ?_
  refine aw_iload_n (pc' := 17) O dX0_enter_16 rfl rfl ?_
  refine ld0_3 (pc' := 18) (j := t) O rfl (by omega) dX0_enter_17 rfl ?_
  refine aw_top (y := nI (rc w t)) h3 ?_
  refine st0_6 (pc' := 19) (j := e) O F rfl (by omega) dX0_enter_18 rfl ?_
  refine aw_aload_n (pc' := 20) O dX0_enter_19 rfl rfl ?_
  refine g0_4 (pc' := 23) O dX0_enter_20 rfl ?_
  refine aw_iload_n (pc' := 24) O dX0_enter_23 rfl rfl ?_
  refine aw_bipush (pc' := 26) O dX0_enter_24 kb_24 rfl ?_
  refine aw_imulN (pc' := 27) O dX0_enter_26 rfl ?_
  refine aw_aload_n (pc' := 28) O dX0_enter_27 rfl rfl ?_
  refine g0_3 (pc' := 31) O dX0_enter_28 rfl ?_
  refine aw_iload_n (pc' := 32) O dX0_enter_31 rfl rfl ?_
  refine ld0_3 (pc' := 33) (j := t) O rfl (by omega) dX0_enter_32 rfl ?_
  refine aw_top (y := nI (rc w t)) h3 ?_
  refine aw_iaddN (pc' := 34) O dX0_enter_33 rfl ?_
  refine aw_iload_n (pc' := 35) O dX0_enter_34 rfl rfl ?_
  refine st0_4 (pc' := 36) (j := (t * 24) + (rc w t)) O F rfl (by omega) dX0_enter_35 rfl ?_
  refine aw_aload_n (pc' := 37) O dX0_enter_36 rfl rfl ?_
  refine g0_3 (pc' := 40) O dX0_enter_37 rfl ?_
  refine aw_iload_n (pc' := 41) O dX0_enter_40 rfl rfl ?_
  refine aw_aload_n (pc' := 42) O dX0_enter_41 rfl rfl ?_
  refine g0_3 (pc' := 45) O dX0_enter_42 rfl ?_
  refine aw_iload_n (pc' := 46) O dX0_enter_45 rfl rfl ?_
  refine ld0_3 (pc' := 47) (j := t) O rfl (by omega) dX0_enter_46 rfl ?_
  refine aw_top (y := nI (rc w t)) h3 ?_
  refine aw_iconst (pc' := 48) O dX0_enter_47 ki_1 rfl ?_
  refine aw_iaddN (pc' := 49) O dX0_enter_48 rfl ?_
  refine st0_3 (pc' := 50) (j := t) O F rfl (by omega) dX0_enter_49 rfl ?_
  exact aw_return O hr dX0_enter_50 (⟨TR_enter h he hl ht hs hs64 rfl rfl rfl (fun _ => rfl) (fun _ => rfl) (fun _ => rfl) (fun _ => rfl), ⟨fun _ _ => rfl, fun k hk => by simp [aw_sA, va_up, show k ≠ 3 by omega, show k ≠ 4 by omega, show k ≠ 5 by omega, show k ≠ 6 by omega], fun _ _ => rfl, rfl⟩, rfl, rfl⟩)
set_option maxHeartbeats 4000000 in
set_option maxRecDepth 100000 in
theorem met0_leave (l : Launch) (L : aw_L) (hD : ∀ w, va_D (aw_A L) (aw_pic0 L w)) (w : aw_S) {T : Nat} {lv : Nat → Bool} {st : Nat → Nat} (h : TR w T lv st) (e : Nat) (he : e < 24) (hl : lv e = true) : aw_Mv (aw_pic0 L) l L yX0_leave cX0_leave 4 0 0 [.int (nI e)] w (fun w' => TR w' T (va_up lv e false) st ∧ FK w w' T ∧ w'.1 7 = w.1 7 ∧ w'.1 1 = w.1 1) := by
  have hT := h.1.2
  obtain ⟨t, g1, g2, g3, g4, k0, g5, g6, g7⟩ := h.live he hl
  have hb := rc_le w t
  have h3 := h.2.2.2.2.1 t g1
  obtain ⟨z, b1, b2, b3, b4⟩ := h.2.2.2.2.2.2.2 t g1 (rc w t - 1) (by omega)
  refine aw_of_v (lv := [(0, .ref (L.2.2 20)), (1, .int (nI e))]) (own := RX0) hD (by decide) rfl (Nat.le_of_ble_eq_true rfl) rfl (fun X O F hr => ?_)
  refine aw_aload_n (pc' := 1) O dX0_leave_0 rfl rfl ?_
  refine g0_5 (pc' := 4) O dX0_leave_1 rfl ?_
  refine aw_iload_n (pc' := 5) O dX0_leave_4 rfl rfl ?_
  refine ld0_5 (pc' := 6) (j := e) O rfl (by omega) dX0_leave_5 rfl ?_
  refine aw_top (y := nI t) g2 ?_
  refine aw_istore_n (pc' := 7) (lv' := [(0, .ref (L.2.2 20)), (1, .int (nI e)), (2, .int (nI t))]) O dX0_leave_6 (F.nL (by decide)) rfl rfl rfl ?_
  refine aw_aload_n (pc' := 8) O dX0_leave_7 rfl rfl ?_
  refine g0_3 (pc' := 11) O dX0_leave_8 rfl ?_
  refine aw_iload_n (pc' := 12) O dX0_leave_11 rfl rfl ?_
  refine aw_aload_n (pc' := 13) O dX0_leave_12 rfl rfl ?_
  refine g0_3 (pc' := 16) O dX0_leave_13 rfl ?_
  refine aw_iload_n (pc' := 17) O dX0_leave_16 rfl rfl ?_
  refine ld0_3 (pc' := 18) (j := t) O rfl (by omega) dX0_leave_17 rfl ?_
  refine aw_top (y := nI (rc w t)) h3 ?_
  refine aw_iconst (pc' := 19) O dX0_leave_18 ki_1 rfl ?_
  refine aw_isubN (pc' := 20) O (by omega) dX0_leave_19 rfl ?_
  refine st0_3 (pc' := 21) (j := t) O F rfl (by omega) dX0_leave_20 rfl ?_
  refine aw_aload_n (pc' := 22) O dX0_leave_21 rfl rfl ?_
  refine g0_4 (pc' := 25) O dX0_leave_22 rfl ?_
  refine aw_iload_n (pc' := 26) O dX0_leave_25 rfl rfl ?_
  refine aw_bipush (pc' := 28) O dX0_leave_26 kb_24 rfl ?_
  refine aw_imulN (pc' := 29) O dX0_leave_28 rfl ?_
  refine aw_aload_n (pc' := 30) O dX0_leave_29 rfl rfl ?_
  refine g0_3 (pc' := 33) O dX0_leave_30 rfl ?_
  refine aw_iload_n (pc' := 34) O dX0_leave_33 rfl rfl ?_
  refine ld0_3 (pc' := 35) (j := t) O rfl (by omega) dX0_leave_34 rfl ?_
  refine aw_top (y := nI (rc w t - 1)) (by simp [aw_sA, va_up, upd]) ?_
  refine aw_iaddN (pc' := 36) O dX0_leave_35 rfl ?_
  refine ld0_4 (pc' := 37) (j := (t * 24) + (rc w t - 1)) O rfl (by omega) dX0_leave_36 rfl ?_
  refine aw_top (y := nI z) b2 ?_
  refine aw_istore_n (pc' := 38) (lv' := [(0, .ref (L.2.2 20)), (1, .int (nI e)), (2, .int (nI t)), (3, .int (nI z))]) O dX0_leave_37 (F.nL (by decide)) rfl rfl rfl ?_
  refine aw_aload_n (pc' := 39) O dX0_leave_38 rfl rfl ?_
  refine g0_4 (pc' := 42) O dX0_leave_39 rfl ?_
  refine aw_iload_n (pc' := 43) O dX0_leave_42 rfl rfl ?_
  refine aw_bipush (pc' := 45) O dX0_leave_43 kb_24 rfl ?_
  refine aw_imulN (pc' := 46) O dX0_leave_45 rfl ?_
  refine aw_aload_n (pc' := 47) O dX0_leave_46 rfl rfl ?_
  refine g0_6 (pc' := 50) O dX0_leave_47 rfl ?_
  refine aw_iload_n (pc' := 51) O dX0_leave_50 rfl rfl ?_
  refine ld0_6 (pc' := 52) (j := e) O rfl (by omega) dX0_leave_51 rfl ?_
  refine aw_top (y := nI k0) g6 ?_
  refine aw_iaddN (pc' := 53) O dX0_leave_52 rfl ?_
  refine aw_iload_n (pc' := 54) O dX0_leave_53 rfl rfl ?_
  refine st0_4 (pc' := 55) (j := (t * 24) + k0) O F rfl (by omega) dX0_leave_54 rfl ?_
  refine aw_aload_n (pc' := 56) O dX0_leave_55 rfl rfl ?_
  refine g0_6 (pc' := 59) O dX0_leave_56 rfl ?_
  refine aw_iload_n (pc' := 60) O dX0_leave_59 rfl rfl ?_
  refine aw_aload_n (pc' := 61) O dX0_leave_60 rfl rfl ?_
  refine g0_6 (pc' := 64) O dX0_leave_61 rfl ?_
  refine aw_iload_n (pc' := 65) O dX0_leave_64 rfl rfl ?_
  refine ld0_6 (pc' := 66) (j := e) O rfl (by omega) dX0_leave_65 rfl ?_
  refine aw_top (y := nI k0) g6 ?_
  refine st0_6 (pc' := 67) (j := z) O F rfl (by omega) dX0_leave_66 rfl ?_
  refine aw_aload_n (pc' := 68) O dX0_leave_67 rfl rfl ?_
  refine g0_5 (pc' := 71) O dX0_leave_68 rfl ?_
  refine aw_iload_n (pc' := 72) O dX0_leave_71 rfl rfl ?_
  refine aw_bipush (pc' := 74) O dX0_leave_72 kb_m4 rfl ?_
  refine st0_5 (pc' := 75) (j := e) O F rfl (by omega) dX0_leave_74 rfl ?_
  exact aw_return O hr dX0_leave_75 (⟨TR_leave (k0 := k0) h he hl g1 g2 g6 (by omega) b1 b2 rfl rfl rfl (fun _ => rfl) (fun _ => rfl) (fun _ => rfl) (fun _ => rfl), ⟨fun _ _ => rfl, fun k hk => by simp [aw_sA, va_up, show k ≠ 3 by omega, show k ≠ 4 by omega, show k ≠ 5 by omega, show k ≠ 6 by omega], fun _ _ => rfl, rfl⟩, rfl, rfl⟩)
set_option maxHeartbeats 4000000 in
set_option maxRecDepth 100000 in
theorem met0_change (l : Launch) (L : aw_L) (hD : ∀ w, va_D (aw_A L) (aw_pic0 L w)) (w : aw_S) {T : Nat} {lv : Nat → Bool} {st : Nat → Nat} (h : TR w T lv st) (e s : Nat) (he : e < 24) (hl : lv e = true) (hs : s < 64) : aw_Mv (aw_pic0 L) l L yX0_change cX0_change 4 1 23 [.int (nI e), .int (nI s)] w (fun w' => ∃ T', TR w' T' lv (va_up st e s) ∧ T ≤ T' ∧ FK w w' T ∧ w'.1 7 = w.1 7) := by
  have hT := h.1.2
  obtain ⟨t, g1, g2, g3, g4, k0, g5, g6, g7⟩ := h.live he hl
  refine aw_of_v (lv := [(0, .ref (L.2.2 20)), (1, .int (nI e)), (2, .int (nI s))]) (own := RX0) hD (by decide) rfl (Nat.le_of_ble_eq_true rfl) rfl (fun X O F hr => ?_)
  refine aw_aload_n (pc' := 1) O dX0_change_0 rfl rfl ?_
  refine aw_iload_n (pc' := 2) O dX0_change_1 rfl rfl ?_
  refine c0_tableFor (pc' := 5) (rest := []) O F (met0_tableFor l L hD w h s hs) (by decide) (by decide) rfl rfl (Nat.le_of_ble_eq_true rfl) dX0_change_2 rfl (fun r w1 hr1 => ?_)
  obtain ⟨T', t', rfl, c1, c2, c3, c4, c5, c6, c7⟩ := hr1
  have hT' := c3.1.2
  refine aw_istore_n (pc' := 6) (lv' := [(0, .ref (L.2.2 20)), (1, .int (nI e)), (2, .int (nI s)), (3, .int (nI t'))]) O dX0_change_5 (F.nL (by decide)) rfl rfl rfl ?_
  refine aw_iload_n (pc' := 7) O dX0_change_6 rfl rfl ?_
  refine aw_aload_n (pc' := 8) O dX0_change_7 rfl rfl ?_
  refine g0_5 (pc' := 11) O dX0_change_8 rfl ?_
  refine aw_iload_n (pc' := 12) O dX0_change_11 rfl rfl ?_
  refine ld0_5 (pc' := 13) (j := e) O rfl (by omega) dX0_change_12 rfl ?_
  refine aw_top (y := nI t) (by rw [c6]; exact g2) ?_
  refine aw_icmpN_eq (pc' := 16) (tgt := 27) O (by omega) (by omega) dX0_change_13 (by decide) rfl (fun h1 => ?_) (fun h1 => ?_)
  · subst h1
    have hse : st e = s := nI_inj (by omega) (by omega) (by rw [← c4, c5.1 _ g1, g3])
    have hst : va_up st e s = st := by
      funext x
      by_cases q : x = e
      · subst q
        rw [va_up_self, hse]
      · rw [va_up_ne _ _ q]
    exact aw_return O hr dX0_change_27 (⟨T', by rw [hst]; exact c3, c2, c5, c7⟩)
  · refine aw_aload_n (pc' := 17) O dX0_change_16 rfl rfl ?_
    refine aw_iload_n (pc' := 18) O dX0_change_17 rfl rfl ?_
    refine c0_leave (pc' := 21) (rest := []) O F (met0_leave l L hD w1 c3 e he hl) (by decide) (by decide) rfl rfl (Nat.le_of_ble_eq_true rfl) dX0_change_18 rfl (fun w2 hr2 => ?_)
    obtain ⟨d1, d2, d3, d4⟩ := hr2
    refine aw_aload_n (pc' := 22) O dX0_change_21 rfl rfl ?_
    refine aw_iload_n (pc' := 23) O dX0_change_22 rfl rfl ?_
    refine aw_iload_n (pc' := 24) O dX0_change_23 rfl rfl ?_
    refine c0_enter (pc' := 27) (rest := []) O F (met0_enter l L hD w2 d1 e t' s he (va_up_self _ _ _) c1 (by rw [d4]; exact c4) hs) (by decide) (by decide) rfl rfl (Nat.le_of_ble_eq_true rfl) dX0_change_24 rfl (fun w3 hr3 => ?_)
    obtain ⟨f1, f2, f3, f4⟩ := hr3
    have hlv : va_up (va_up lv e false) e true = lv := by
      funext x
      by_cases q : x = e
      · subst q
        rw [va_up_self, hl]
      · rw [va_up_ne _ _ q, va_up_ne _ _ q]
    rw [hlv] at f1
    exact aw_return O hr dX0_change_27 (⟨T', f1, c2, (c5.trans d2 c2).trans f2 c2, by rw [f3, d3, c7]⟩)
end
section
set_option maxRecDepth 100000
/-! PLAIN LAWS FOR THE WORLD'S LOOPS OVER TABLES -/
theorem cn_disj {p r q : Nat → Bool} : ∀ {n : Nat}, (∀ i, i < n → q i = (p i || r i)) → (∀ i, i < n → p i = true → r i = false) → cn q n = cn p n + cn r n
  | 0, _, _ => rfl
  | n + 1, h1, h2 => by
    simp only [cn]
    rw [cn_disj (n := n) (fun i hi => h1 i (by omega)) (fun i hi => h2 i (by omega)), h1 n (by omega)]
    have := h2 n (by omega)
    cases hp : p n
    · cases hr : r n <;> simp <;> omega
    · rw [this hp]
      simp
      omega
/-- does e stand in a table before t -/
def dn (w : aw_S) (t e : Nat) : Bool := decide (0 ≤ w.1 5 e ∧ w.1 5 e < nI t)
/-- .. or in t, at a place before k -/
def dk (w : aw_S) (t k e : Nat) : Bool := dn w t e || (decide (w.1 5 e = nI t) && decide (w.1 6 e < nI k))
section DN
variable {w : aw_S} {T : Nat} {lv : Nat → Bool} {st : Nat → Nat}
theorem dn_n {t t' e : Nat} (h5 : w.1 5 e = nI t') (ht : t < 2 ^ 31) (ht' : t' < 2 ^ 31) : dn w t e = decide (t' < t) := by
  unfold dn
  rw [h5]
  have h1 := nI_pos' ht'
  have h2 := nI_ltI ht' ht
  simp [h1, h2]
theorem dn_4 {t e : Nat} (h5 : w.1 5 e = -4) : dn w t e = false := by
  unfold dn
  rw [h5]
  have : ¬ (0 : Int32) ≤ -4 := by decide
  simp [this]
/-- before the first table: nobody; behind the last: who lives -/
theorem TR.dn0 (h : TR w T lv st) {e : Nat} (he : e < 24) : dn w 0 e = false := by
  have hT := h.1.2
  by_cases hl : lv e = true
  · obtain ⟨t, a1, a2, -⟩ := h.2.2.2.2.2.2.1 e he hl
    rw [dn_n a2 (by decide) (by omega)]
    simp
  · exact dn_4 (h.2.2.2.2.2.1 e he (by simpa using hl))
theorem TR.dnT (h : TR w T lv st) {e : Nat} (he : e < 24) : dn w T e = lv e := by
  have hT := h.1.2
  by_cases hl : lv e = true
  · obtain ⟨t, a1, a2, -⟩ := h.2.2.2.2.2.2.1 e he hl
    rw [dn_n a2 (by omega) (by omega), hl]
    simpa using a1
  · rw [dn_4 (h.2.2.2.2.2.1 e he (by simpa using hl))]
    simpa using hl
theorem TR.dns (h : TR w T lv st) {t e : Nat} (ht : t < T) (he : e < 24) : dn w (t + 1) e = (dn w t e || decide (w.1 5 e = nI t)) := by
  have hT := h.1.2
  by_cases hl : lv e = true
  · obtain ⟨t', a1, a2, -⟩ := h.2.2.2.2.2.2.1 e he hl
    rw [dn_n a2 (by omega) (by omega), dn_n a2 (by omega) (by omega), a2]
    have := nI_eq (a := t') (b := t) (by omega) (by omega)
    simp only [this]
    by_cases q : t' = t
    · simp [q]
    · by_cases q2 : t' < t
      · simp [q2]; omega
      · simp [q, q2]; omega
  · have h4 := h.2.2.2.2.2.1 e he (by simpa using hl)
    rw [dn_4 h4, dn_4 h4, h4]
    have : ¬ (-4 : Int32) = nI t := fun z => nI_ne4 (a := t) (by omega) z.symm
    simp [this]
theorem TR.dnx (h : TR w T lv st) {t e : Nat} (ht : t < T) (he : e < 24) (hd : dn w t e = true) : ¬ w.1 5 e = nI t := by
  intro q
  have hT := h.1.2
  rw [dn_n q (by omega) (by omega)] at hd
  simp at hd
/-- the set of a table's entities -/
theorem TR.set (h : TR w T lv st) {t e s : Nat} (ht : t < T) (he : e < 24) (h5 : w.1 5 e = nI t) (hs : w.1 1 t = nI s) (hs64 : s < 64) : lv e = true ∧ st e = s := by
  have hT := h.1.2
  obtain ⟨hl, -⟩ := h.dead he (by omega) h5
  obtain ⟨t', a1, a2, a3, a4, -⟩ := h.2.2.2.2.2.2.1 e he hl
  have e1 : t' = t := nI_inj (by omega) (by omega) (by rw [← a2, h5])
  subst e1
  exact ⟨hl, nI_inj (by omega) (by omega) (by rw [← a3, hs])⟩
/-- counting, a table more -/
theorem TR.cnt (h : TR w T lv st) {t s : Nat} (ht : t < T) (hs : w.1 1 t = nI s) (hs64 : s < 64) (q : Nat → Bool) : cn (fun e => dn w (t + 1) e && q (st e)) 24 = cn (fun e => dn w t e && q (st e)) 24 + (if q s then rc w t else 0) := by
  have key : cn (fun e => dn w (t + 1) e && q (st e)) 24 = cn (fun e => dn w t e && q (st e)) 24 + cn (fun e => decide (w.1 5 e = nI t) && q (st e)) 24 := by
    refine cn_disj (fun e he => ?_) (fun e he hd => ?_)
    · rw [h.dns ht he]
      cases dn w t e <;> cases decide (w.1 5 e = nI t) <;> cases q (st e) <;> rfl
    · rw [Bool.and_eq_true] at hd
      have := h.dnx ht he hd.1
      simp [this]
  rw [key]
  by_cases qs : q s = true
  · rw [if_pos qs]
    congr 1
    refine cn_congr (fun e he => ?_)
    by_cases h5 : w.1 5 e = nI t
    · rw [(h.set ht he h5 hs hs64).2, qs]
      simp
    · simp [h5]
  · rw [if_neg qs]
    congr 1
    refine cn_zero (fun e he => ?_)
    by_cases h5 : w.1 5 e = nI t
    · rw [(h.set ht he h5 hs hs64).2]
      simpa [h5] using qs
    · simp [h5]
theorem TR.cnt0 (h : TR w T lv st) (q : Nat → Bool) : cn (fun e => dn w 0 e && q (st e)) 24 = 0 := cn_zero (fun e he => by rw [h.dn0 he]; rfl)
theorem TR.cntT (h : TR w T lv st) (q : Nat → Bool) : cn (fun e => dn w T e && q (st e)) 24 = cn (fun e => lv e && q (st e)) 24 := cn_congr (fun e he => by rw [h.dnT he])
theorem dk_0 {t e : Nat} (h6 : ¬ w.1 6 e < 0 ∨ ¬ w.1 5 e = nI t) : dk w t 0 e = dn w t e := by
  unfold dk
  have : nI 0 = 0 := rfl
  rw [this]
  rcases h6 with q | q <;> simp [q]
theorem TR.dk0 (h : TR w T lv st) {t e : Nat} (ht : t < T) (he : e < 24) : dk w t 0 e = dn w t e := by
  have hT := h.1.2
  by_cases h5 : w.1 5 e = nI t
  · obtain ⟨hl, -⟩ := h.dead he (by omega) h5
    obtain ⟨t', a1, a2, a3, a4, k, a5, a6, a7⟩ := h.2.2.2.2.2.2.1 e he hl
    have := rc_le w t'
    exact dk_0 (Or.inl (by rw [a6]; exact nI_pos (by omega)))
  · exact dk_0 (Or.inr h5)
theorem TR.dkr (h : TR w T lv st) {t e : Nat} (ht : t < T) (he : e < 24) : dk w t (rc w t) e = dn w (t + 1) e := by
  have hT := h.1.2
  rw [h.dns ht he]
  unfold dk
  by_cases h5 : w.1 5 e = nI t
  · obtain ⟨hl, -⟩ := h.dead he (by omega) h5
    obtain ⟨t', a1, a2, a3, a4, k, a5, a6, a7⟩ := h.2.2.2.2.2.2.1 e he hl
    have e1 : t' = t := nI_inj (by omega) (by omega) (by rw [← a2, h5])
    subst e1
    have := rc_le w t'
    have h6 : w.1 6 e < nI (rc w t') := by rw [a6]; exact nI_lt a5 (by omega)
    simp [h5, h6]
  · simp [h5]
/-- the entity at place k of table t: one more -/
theorem TR.dks (h : TR w T lv st) {t k z : Nat} (ht : t < T) (hk : k < rc w t) (hz : z < 24) (h4 : w.1 4 (t * 24 + k) = nI z) (h5 : w.1 5 z = nI t) (h6 : w.1 6 z = nI k) {e : Nat} (he : e < 24) : dk w t (k + 1) e = (dk w t k e || decide (e = z)) ∧ (e = z → dk w t k e = false) := by
  have hT := h.1.2
  have hb := rc_le w t
  by_cases h5e : w.1 5 e = nI t
  · obtain ⟨hl, -⟩ := h.dead he (by omega) h5e
    obtain ⟨t', a1, a2, a3, a4, k', a5, a6, a7⟩ := h.2.2.2.2.2.2.1 e he hl
    have e1 : t' = t := nI_inj (by omega) (by omega) (by rw [← a2, h5e])
    subst e1
    have hez : e = z ↔ k' = k := by
      constructor
      · intro q
        subst q
        exact nI_inj (by omega) (by omega) (by rw [← a6, h6])
      · intro q
        subst q
        exact nI_inj (by omega) (by omega) (by rw [← a7, h4])
    unfold dk
    rw [dn_n h5e (by omega) (by omega), a6]
    have l1 := nI_ltI (a := k') (b := k + 1) (by omega) (by omega)
    have l2 := nI_ltI (a := k') (b := k) (by omega) (by omega)
    simp only [h5e, l1, l2, hez, Nat.lt_irrefl, decide_false, Bool.false_or, decide_true, Bool.true_and]
    constructor
    · by_cases q : k' = k
      · simp [q]
      · by_cases q2 : k' < k
        · simp [q2]; omega
        · simp [q, q2]; omega
    · intro q
      simp [q]
  · have hez : e ≠ z := fun q => h5e (by rw [q]; exact h5)
    unfold dk
    simp [h5e, hez]
end DN
/-! the least, as the code has it: -4 when there is none -/
def LB (P : Nat → Bool) (b : Int32) : Prop := (b = -4 ∧ ∀ e, e < 24 → P e = false) ∨ ∃ e, e < 24 ∧ b = nI e ∧ P e = true ∧ ∀ e', e' < e → P e' = false
theorem LB.val {P : Nat → Bool} {b : Int32} (h : LB P b) : b = if ff (fun e => !P e) 24 < 24 then nI (ff (fun e => !P e) 24) else -4 := by
  rcases h with ⟨h1, h2⟩ | ⟨e, h1, h2, h3, h4⟩
  · rw [ff_all (fun i hi => by rw [h2 i hi]; rfl), if_neg (by decide)]
    exact h1
  · rw [ff_eq h1 (fun i hi => by rw [h4 i hi]; rfl) (by rw [h3]; rfl), if_pos h1]
    exact h2
theorem LB.congr {P Q : Nat → Bool} {b : Int32} (h : LB P b) (hq : ∀ e, e < 24 → Q e = P e) : LB Q b := by
  rcases h with ⟨h1, h2⟩ | ⟨e, h1, h2, h3, h4⟩
  · exact Or.inl ⟨h1, fun e he => by rw [hq e he]; exact h2 e he⟩
  · exact Or.inr ⟨e, h1, h2, by rw [hq e h1]; exact h3, fun e' he' => by rw [hq e' (by omega)]; exact h4 e' he'⟩
theorem LB.one {z : Nat} (hz : z < 24) : LB (fun e => decide (e = z)) (nI z) := Or.inr ⟨z, hz, rfl, by simp, fun e' he' => by simp; omega⟩
/-- the lesser of two leasts -/
theorem LB.or {P Q : Nat → Bool} {b h : Int32} (hb : LB P b) (hh : LB Q h) : (h < 0 → LB (fun e => P e || Q e) b) ∧ (¬ h < 0 → b < 0 → LB (fun e => P e || Q e) h) ∧ (¬ h < 0 → ¬ b < 0 → h < b → LB (fun e => P e || Q e) h) ∧ (¬ h < 0 → ¬ b < 0 → ¬ h < b → LB (fun e => P e || Q e) b) := by
  have m4 : (-4 : Int32) < 0 := by decide
  rcases hh with ⟨h1, h2⟩ | ⟨y, h1, h2, h3, h4⟩
  · subst h1
    refine ⟨fun _ => hb.congr (fun e he => by rw [h2 e he, Bool.or_false]), fun q => absurd m4 q, fun q => absurd m4 q, fun q => absurd m4 q⟩
  · have hy : ¬ h < 0 := by rw [h2]; exact nI_pos (by omega)
    refine ⟨fun q => absurd q hy, fun _ hbn => ?_, fun _ hbn hlt => ?_, fun _ hbn hlt => ?_⟩
    · rcases hb with ⟨b1, b2⟩ | ⟨x, b1, b2, b3, b4⟩
      · exact Or.inr ⟨y, h1, h2, by simp [h3], fun e' he' => by simp [b2 e' (by omega), h4 e' he']⟩
      · rw [b2] at hbn
        exact absurd hbn (nI_pos (by omega))
    · rcases hb with ⟨b1, b2⟩ | ⟨x, b1, b2, b3, b4⟩
      · rw [b1] at hbn
        exact absurd m4 hbn
      · rw [b2, h2] at hlt
        have := (nI_ltI (by omega) (by omega)).mp hlt
        exact Or.inr ⟨y, h1, h2, by simp [h3], fun e' he' => by simp [b4 e' (by omega), h4 e' he']⟩
    · rcases hb with ⟨b1, b2⟩ | ⟨x, b1, b2, b3, b4⟩
      · rw [b1] at hbn
        exact absurd m4 hbn
      · rw [b2, h2] at hlt
        have : ¬ y < x := fun q => hlt ((nI_ltI (by omega) (by omega)).mpr q)
        exact Or.inr ⟨x, b1, b2, by simp [b3], fun e' he' => by simp [b4 e' he', h4 e' (by omega)]⟩
end
section
set_option maxRecDepth 100000
/-! MORE PLAIN LAWS, AND TWO ROWS -/
section AWE
variable {σ : Type} {pic : σ → va_W} {X : aw_X} {pc : Nat} {lv lv' : List (Nat × Value)} {st : List Value} {w : σ}
/-- fewer locals, by their places -/
theorem aw_less (ks : List Nat) (hl : lv_pick lv ks = lv') (K : aw_J pic X pc lv' st w) : aw_J pic X pc lv st w := by
  obtain ⟨p, l0, e, R, s, m, args, below, meth, c, Q, nL, cz, sz, D, A⟩ := X
  intro H locs ls h1 h2 h3
  exact K H locs ls h1 h2 (lv_sub h3 ks hl)
end AWE
/-- in table t, at a place before k -/
def tk (w : aw_S) (t k e : Nat) : Bool := decide (w.1 5 e = nI t) && decide (w.1 6 e < nI k)
section TK
variable {w : aw_S} {T : Nat} {lv : Nat → Bool} {st : Nat → Nat}
theorem TR.tk0 (h : TR w T lv st) {t e : Nat} (ht : t < T) (he : e < 24) : tk w t 0 e = false := by
  have hT := h.1.2
  unfold tk
  by_cases h5 : w.1 5 e = nI t
  · obtain ⟨hl, -⟩ := h.dead he (by omega) h5
    obtain ⟨t', a1, a2, a3, a4, k, a5, a6, a7⟩ := h.2.2.2.2.2.2.1 e he hl
    have := rc_le w t'
    have h6 : ¬ w.1 6 e < nI 0 := by rw [a6]; exact nI_nlt (Nat.zero_le _) (by omega)
    simp [h6]
  · simp [h5]
theorem TR.tkr (h : TR w T lv st) {t e : Nat} (ht : t < T) (he : e < 24) : tk w t (rc w t) e = decide (w.1 5 e = nI t) := by
  have hT := h.1.2
  unfold tk
  by_cases h5 : w.1 5 e = nI t
  · obtain ⟨hl, -⟩ := h.dead he (by omega) h5
    obtain ⟨t', a1, a2, a3, a4, k, a5, a6, a7⟩ := h.2.2.2.2.2.2.1 e he hl
    have e1 : t' = t := nI_inj (by omega) (by omega) (by rw [← a2, h5])
    subst e1
    have := rc_le w t'
    have h6 : w.1 6 e < nI (rc w t') := by rw [a6]; exact nI_lt a5 (by omega)
    simp [h5, h6]
  · simp [h5]
theorem TR.tks (h : TR w T lv st) {t k z : Nat} (ht : t < T) (hk : k < rc w t) (hz : z < 24) (h4 : w.1 4 (t * 24 + k) = nI z) (h5 : w.1 5 z = nI t) (h6 : w.1 6 z = nI k) {e : Nat} (he : e < 24) : tk w t (k + 1) e = (tk w t k e || decide (e = z)) := by
  have hT := h.1.2
  have hb := rc_le w t
  by_cases h5e : w.1 5 e = nI t
  · obtain ⟨hl, -⟩ := h.dead he (by omega) h5e
    obtain ⟨t', a1, a2, a3, a4, k', a5, a6, a7⟩ := h.2.2.2.2.2.2.1 e he hl
    have e1 : t' = t := nI_inj (by omega) (by omega) (by rw [← a2, h5e])
    subst e1
    have hez : e = z ↔ k' = k := by
      constructor
      · intro q
        subst q
        exact nI_inj (by omega) (by omega) (by rw [← a6, h6])
      · intro q
        subst q
        exact nI_inj (by omega) (by omega) (by rw [← a7, h4])
    unfold tk
    rw [a6]
    have l1 := nI_ltI (a := k') (b := k + 1) (by omega) (by omega)
    have l2 := nI_ltI (a := k') (b := k) (by omega) (by omega)
    simp only [h5e, l1, l2, hez, decide_true, Bool.true_and]
    by_cases q : k' = k
    · simp [q]
    · by_cases q2 : k' < k
      · simp [q2]; omega
      · simp [q, q2]; omega
  · have hez : e ≠ z := fun q => h5e (by rw [q]; exact h5)
    unfold tk
    simp [h5e, hez]
end TK
theorem fitB_or {c s p : Nat} (hc : c < 6) (hs : s < 64) (hp : p < 64) (q : Nat) : fitB s (p ||| 2 ^ c) q = (fitB s p q && btB s c) := by
  unfold fitB
  rw [fit_or c hc s hs p hp]
  cases (s &&& p == p) <;> cases btB s c <;> cases (s &&& q == 0) <;> rfl
theorem fitB_00 (s : Nat) : fitB s 0 0 = true := by simp [fitB]
/-- columns -/
theorem col_put {f : Nat → Int32} {vl : Nat → Nat → Int32} {e c : Nat} {v : Int32} (he : e < 24) (h : ∀ e, e < 24 → ∀ c, c < 6 → f (c * 24 + e) = vl e c) : ∀ e', e' < 24 → ∀ c', c' < 6 → upd f (c * 24 + e) v (c' * 24 + e') = va_up vl e (va_up (vl e) c v) e' c' := by
  intro e' he' c' hc'
  unfold upd
  by_cases q : c' * 24 + e' = c * 24 + e
  · have e1 : e' = e := by omega
    have e2 : c' = c := by omega
    subst e1
    subst e2
    rw [if_pos rfl, va_up_self, va_up_self]
  · rw [if_neg q, h e' he' c' hc']
    by_cases q1 : e' = e
    · subst q1
      have : c' ≠ c := fun z => q (by rw [z])
      rw [va_up_self, va_up_ne _ _ this]
    · rw [va_up_ne _ _ q1]
theorem FK_7 {w : aw_S} {T j : Nat} {x : Int32} : FK w (aw_sA w 7 j x) T := ⟨fun _ _ => rfl, fun k hk => by simp [aw_sA, va_up, show k ≠ 7 by omega], fun _ _ => rfl, rfl⟩
/-- six values of one entity written, up to part c -/
def CW (w w' : aw_S) (e c : Nat) (v : Int32) : Prop := (∀ c', c' < c → w'.1 7 (c' * 24 + e) = v) ∧ (∀ e', e' < 24 → ∀ c', c' < 6 → (e' ≠ e ∨ c ≤ c') → w'.1 7 (c' * 24 + e') = w.1 7 (c' * 24 + e')) ∧ (∀ k, k ≠ 7 → w'.1 k = w.1 k) ∧ w'.2 = w.2
theorem CW.rf {w : aw_S} {e : Nat} {v : Int32} : CW w w e 0 v := ⟨fun c' h => absurd h (Nat.not_lt_zero _), fun _ _ _ _ _ => rfl, fun _ _ => rfl, rfl⟩
theorem CW.step {w w' : aw_S} {e c : Nat} {v : Int32} (h : CW w w' e c v) (he : e < 24) (hc : c < 6) : CW w (aw_sA w' 7 (c * 24 + e) v) e (c + 1) v := by
  obtain ⟨h1, h2, h3, h4⟩ := h
  refine ⟨fun c' hc' => ?_, fun e' he' c' hc' hx => ?_, fun k hk => ?_, h4⟩
  · show upd (w'.1 7) (c * 24 + e) v (c' * 24 + e) = v
    unfold upd
    by_cases q : c' = c
    · subst q
      rw [if_pos rfl]
    · rw [if_neg (by omega)]
      exact h1 c' (by omega)
  · show upd (w'.1 7) (c * 24 + e) v (c' * 24 + e') = _
    unfold upd
    rw [if_neg (by omega)]
    exact h2 e' he' c' hc' (by omega)
  · rw [← h3 k hk]
    simp [aw_sA, va_up, hk]
theorem CW.fk {w w' : aw_S} {e c T : Nat} {v : Int32} (h : CW w w' e c v) : FK w w' T := ⟨fun x _ => by rw [h.2.2.1 1 (by decide)], fun k hk => h.2.2.1 k (by omega), fun k _ => by rw [h.2.2.2], by rw [h.2.2.2]⟩
theorem CW.tr {w w' : aw_S} {e c T : Nat} {v : Int32} {lv : Nat → Bool} {st : Nat → Nat} (h : CW w w' e c v) (ht : TR w T lv st) : TR w' T lv st := ht.same (by rw [h.2.2.2]) (h.2.2.1 1 (by decide)) (h.2.2.1 2 (by decide)) (h.2.2.1 3 (by decide)) (h.2.2.1 4 (by decide)) (h.2.2.1 5 (by decide)) (h.2.2.1 6 (by decide))
/-- a sum over the entities, a table's place more -/
theorem sm_dk {w : aw_S} {T : Nat} {lv : Nat → Bool} {st : Nat → Nat} (h : TR w T lv st) {t k z : Nat} (ht : t < T) (hk : k < rc w t) (hz : z < 24) (h4 : w.1 4 (t * 24 + k) = nI z) (h5 : w.1 5 z = nI t) (h6 : w.1 6 z = nI k) {G : Nat → Bool} (hG : G z = true) (f : Nat → Int32) : sm (fun e => if dk w t (k + 1) e && G e then f e else 0) 24 = sm (fun e => if dk w t k e && G e then f e else 0) 24 + f z := by
  refine sm_add hz ?_ ?_
  · obtain ⟨a1, a2⟩ := h.dks ht hk hz h4 h5 h6 hz
    rw [a1, a2 rfl, hG]
    simp
  · intro e he hez
    obtain ⟨a1, -⟩ := h.dks ht hk hz h4 h5 h6 he
    rw [a1]
    simp [hez]
theorem sm_dkr {w : aw_S} {T : Nat} {lv : Nat → Bool} {st : Nat → Nat} (h : TR w T lv st) {t : Nat} (ht : t < T) {G : Nat → Bool} (f : Nat → Int32) : sm (fun e => if dk w t (rc w t) e && G e then f e else 0) 24 = sm (fun e => if dn w (t + 1) e && G e then f e else 0) 24 := sm_congr (fun e he => by rw [h.dkr ht he])
theorem sm_dk0 {w : aw_S} {T : Nat} {lv : Nat → Bool} {st : Nat → Nat} (h : TR w T lv st) {t : Nat} (ht : t < T) {G : Nat → Bool} (f : Nat → Int32) : sm (fun e => if dk w t 0 e && G e then f e else 0) 24 = sm (fun e => if dn w t e && G e then f e else 0) 24 := sm_congr (fun e he => by rw [h.dk0 ht he])
/-- a table that doesn't count -/
theorem sm_skip {w : aw_S} {T : Nat} {lv : Nat → Bool} {st : Nat → Nat} (h : TR w T lv st) {t s : Nat} (ht : t < T) (hs : w.1 1 t = nI s) (hs64 : s < 64) {g : Nat → Bool} (hg : g s = false) (f : Nat → Int32) : sm (fun e => if dn w (t + 1) e && g (st e) then f e else 0) 24 = sm (fun e => if dn w t e && g (st e) then f e else 0) 24 := by
  refine sm_congr (fun e he => ?_)
  rw [h.dns ht he]
  by_cases h5 : w.1 5 e = nI t
  · rw [(h.set ht he h5 hs hs64).2, hg]
    simp
  · simp [h5]
/-! kinds -/
def kd (w : aw_S) (t s : Nat) : Bool := decide (0 ≤ w.1 2 s ∧ w.1 2 s < nI t)
theorem kd_n {w : aw_S} {t t' s : Nat} (h : w.1 2 s = nI t') (ht : t < 2 ^ 31) (ht' : t' < 2 ^ 31) : kd w t s = decide (t' < t) := by
  unfold kd
  rw [h]
  have h1 := nI_pos' ht'
  have h2 := nI_ltI ht' ht
  simp [h1, h2]
theorem kd_4 {w : aw_S} {t s : Nat} (h : w.1 2 s = -4) : kd w t s = false := by
  unfold kd
  rw [h]
  have : ¬ (0 : Int32) ≤ -4 := by decide
  simp [this]
section KD
variable {w : aw_S} {T : Nat} {lv : Nat → Bool} {st : Nat → Nat}
theorem TR.some (h : TR w T lv st) {t s : Nat} (ht : t < T) (hs : w.1 1 t = nI s) (hs64 : s < 64) : anyN (fun e => lv e && decide (st e = s)) 24 = decide (0 < rc w t) := by
  have hT := h.1.2
  by_cases q : 0 < rc w t
  · obtain ⟨e, he, h5⟩ := cn_ex q
    have h5 : w.1 5 e = nI t := by simpa using h5
    obtain ⟨a1, a2⟩ := h.set ht he h5 hs hs64
    simp only [q, decide_true]
    exact any_t.mpr ⟨e, he, by simp [a1, a2]⟩
  · have : ¬ anyN (fun e => lv e && decide (st e = s)) 24 = true := by
      intro y
      obtain ⟨e, he, z⟩ := any_t.mp y
      simp only [Bool.and_eq_true, decide_eq_true_eq] at z
      obtain ⟨t', a1, a2, a3, a4, -⟩ := h.2.2.2.2.2.2.1 e he z.1
      obtain ⟨s', b1, b2, b3⟩ := h.2.1 t' a1
      obtain ⟨s2, c1, c2, c3⟩ := h.2.1 t ht
      have e1 : s' = s := by
        have : s' = st e := nI_inj (by omega) (by omega) (by rw [← b2, a3])
        omega
      have e2 : s2 = s := nI_inj (by omega) (by omega) (by rw [← c2, hs])
      subst e1
      subst e2
      have e3 : t' = t := nI_inj (by omega) (by omega) (by rw [← b3, c3])
      subst e3
      exact q (h.pos he a2)
    have z : anyN (fun e => lv e && decide (st e = s)) 24 = false := by simpa using this
    rw [z]
    simpa using q
theorem TR.kds (h : TR w T lv st) {t s0 s : Nat} (ht : t < T) (h1 : w.1 1 t = nI s0) (h2 : w.1 2 s0 = nI t) (hs0 : s0 < 64) (hs : s < 64) : kd w (t + 1) s = (kd w t s || decide (s = s0)) ∧ kd w t s0 = false := by
  have hT := h.1.2
  refine ⟨?_, by rw [kd_n h2 (by omega) (by omega)]; simp⟩
  rcases h.2.2.1 s hs with q | ⟨t', a1, a2, a3⟩
  · have : s ≠ s0 := by
      intro z
      subst z
      rw [h2] at q
      exact nI_ne4 (a := t) (by omega) q
    rw [kd_4 q, kd_4 q]
    simp [this]
  · rw [kd_n a2 (by omega) (by omega), kd_n a2 (by omega) (by omega)]
    have : s = s0 ↔ t' = t := by
      constructor
      · intro z
        subst z
        exact nI_inj (by omega) (by omega) (by rw [← a2, h2])
      · intro z
        subst z
        exact nI_inj (by omega) (by omega) (by rw [← a3, h1])
    simp only [this]
    by_cases q : t' = t
    · simp [q]
    · by_cases q2 : t' < t
      · simp [q2]; omega
      · simp [q, q2]; omega
theorem TR.knd (h : TR w T lv st) {t : Nat} (ht : t < T) : cn (fun s => kd w (t + 1) s && anyN (fun e => lv e && decide (st e = s)) 24) 64 = cn (fun s => kd w t s && anyN (fun e => lv e && decide (st e = s)) 24) 64 + (if 0 < rc w t then 1 else 0) := by
  obtain ⟨s0, a1, a2, a3⟩ := h.2.1 t ht
  have hso := h.some ht a2 a1
  by_cases q : 0 < rc w t
  · rw [if_pos q]
    refine cn_add a1 ?_ ?_ ?_
    · rw [(h.kds ht a2 a3 a1 a1).2]
      rfl
    · rw [(h.kds ht a2 a3 a1 a1).1, hso]
      simp [q]
    · intro s hs hne
      rw [(h.kds ht a2 a3 a1 hs).1]
      simp [hne]
  · rw [if_neg q]
    have key : ∀ s, s < 64 → (kd w (t + 1) s && anyN (fun e => lv e && decide (st e = s)) 24) = (kd w t s && anyN (fun e => lv e && decide (st e = s)) 24) := ?_
    · exact (cn_congr key).trans (Nat.add_zero _).symm
    intro s hs
    rw [(h.kds ht a2 a3 a1 hs).1]
    by_cases z : s = s0
    · subst z
      rw [hso]
      simp [q]
    · simp [z]
theorem TR.kn0 (h : TR w T lv st) (p : Nat → Bool) : cn (fun s => kd w 0 s && p s) 64 = 0 := by
  have hT := h.1.2
  refine cn_zero (fun s hs => ?_)
  rcases h.2.2.1 s hs with q | ⟨t', a1, a2, a3⟩
  · rw [kd_4 q]; rfl
  · rw [kd_n a2 (by omega) (by omega)]
    simp
theorem TR.knT (h : TR w T lv st) : cn (fun s => kd w T s && anyN (fun e => lv e && decide (st e = s)) 24) 64 = cn (fun s => anyN (fun e => lv e && decide (st e = s)) 24) 64 := by
  have hT := h.1.2
  refine cn_congr (fun s hs => ?_)
  rcases h.2.2.1 s hs with q | ⟨t', a1, a2, a3⟩
  · rw [kd_4 q]
    have : ¬ anyN (fun e => lv e && decide (st e = s)) 24 = true := by
      intro y
      obtain ⟨e, he, z⟩ := any_t.mp y
      simp only [Bool.and_eq_true, decide_eq_true_eq] at z
      obtain ⟨t', a1, a2, a3, a4, -⟩ := h.2.2.2.2.2.2.1 e he z.1
      obtain ⟨s', b1, b2, b3⟩ := h.2.1 t' a1
      have : s' = s := by
        have : s' = st e := nI_inj (by omega) (by omega) (by rw [← b2, a3])
        omega
      subst this
      rw [q] at b3
      exact nI_ne4 (a := t') (by omega) b3.symm
    simpa using this
  · rw [kd_n a2 (by omega) (by omega)]
    simp [a1]
end KD
/-! digest -/
theorem sm_six (f : Nat → Int32) (e : Nat) (h : ∀ c, c < 6 → f (6 * e + c) = 0) : sm f (6 * (e + 1)) = sm f (6 * e) := by
  have e1 : 6 * (e + 1) = 6 * e + 1 + 1 + 1 + 1 + 1 + 1 := by omega
  rw [e1]
  simp only [sm]
  have h0 := h 0 (by decide)
  have h1 := h 1 (by decide)
  have h2 := h 2 (by decide)
  have h3 := h 3 (by decide)
  have h4 := h 4 (by decide)
  have h5 := h 5 (by decide)
  rw [show f (6 * e) = 0 from h0, show f (6 * e + 1) = 0 from h1, show f (6 * e + 1 + 1) = 0 from h2, show f (6 * e + 1 + 1 + 1) = 0 from h3, show f (6 * e + 1 + 1 + 1 + 1) = 0 from h4, show f (6 * e + 1 + 1 + 1 + 1 + 1) = 0 from h5]
  simp
theorem dg_step (a : aw_AS) (e c : Nat) (hc : c < 6) (hl : a.1 e = true) (acc : Int32) (h : acc = sm (fun i => nI (i + 1) * getN a (i / 6) (i % 6)) (6 * e + c)) : acc + bI (btB (a.2.1 e) c) * nI (6 * e + c + 1) * a.2.2.1 e c = sm (fun i => nI (i + 1) * getN a (i / 6) (i % 6)) (6 * e + (c + 1)) := by
  have e1 : 6 * e + (c + 1) = 6 * e + c + 1 := by omega
  rw [e1]
  simp only [sm]
  rw [h]
  congr 1
  have e2 : (6 * e + c) / 6 = e := by omega
  have e3 : (6 * e + c) % 6 = c := by omega
  rw [e2, e3]
  unfold getN
  rw [hl]
  cases btB (a.2.1 e) c
  · simp [bI]
  · simp [bI]
theorem dg_dead (a : aw_AS) (e : Nat) (hl : a.1 e = false) : sm (fun i => nI (i + 1) * getN a (i / 6) (i % 6)) (6 * (e + 1)) = sm (fun i => nI (i + 1) * getN a (i / 6) (i % 6)) (6 * e) := by
  refine sm_six _ e (fun c hc => ?_)
  have e2 : (6 * e + c) / 6 = e := by omega
  simp only [e2]
  unfold getN
  rw [hl]
  simp
end
section
set_option maxRecDepth 100000
set_option maxHeartbeats 4000000 in
set_option maxRecDepth 100000 in
theorem met0_kill (l : Launch) (L : aw_L) (hD : ∀ w, va_D (aw_A L) (aw_pic0 L w)) (w : aw_S) (a : aw_AS) (h : R0 w a) (x : Int32) : aw_Mi (aw_pic0 L) l L yX0_kill cX0_kill 3 .int 1 23 [.int x] w (fun r w' => r = (killA a x).1 ∧ R0 w' (killA a x).2) := by
  obtain ⟨T, hTR, hV, hS⟩ := h
  have hT := hTR.1.2
  refine aw_of_i (lv := [(0, .ref (L.2.2 20)), (1, .int x)]) (own := RX0) hD (by decide) rfl (Nat.le_of_ble_eq_true rfl) rfl (fun X O F hr => ?_)
  refine aw_aload_n (pc' := 1) O dX0_kill_0 rfl rfl ?_
  refine aw_iload_n (pc' := 2) O dX0_kill_1 rfl rfl ?_
  refine c0_lives (pc' := 5) (rest := []) O F (met0_lives l L hD w hTR x) (by decide) (by decide) rfl rfl (Nat.le_of_ble_eq_true rfl) dX0_kill_2 rfl (aw_deti ?_)
  refine aw_ifB_ne (pc' := 8) (tgt := 11) O dX0_kill_5 (by decide) rfl (fun h1 => ?_) (fun h1 => ?_)
  · obtain ⟨e, he, rfl, hl⟩ := aB_ex h1
    refine aw_aload_n (pc' := 12) O dX0_kill_11 rfl rfl ?_
    refine aw_iload_n (pc' := 13) O dX0_kill_12 rfl rfl ?_
    refine c0_setOf (pc' := 16) (rest := []) O F (met0_setOf l L hD w hTR e he hl) (by decide) (by decide) rfl rfl (Nat.le_of_ble_eq_true rfl) dX0_kill_13 rfl (aw_deti ?_)
    refine aw_istore_n (pc' := 17) (lv' := [(0, .ref (L.2.2 20)), (1, .int (nI e)), (2, .int (nI (a.2.1 e)))]) O dX0_kill_16 (F.nL (by decide)) rfl rfl rfl ?_
    refine aw_aload_n (pc' := 18) O dX0_kill_17 rfl rfl ?_
    refine aw_iload_n (pc' := 19) O dX0_kill_18 rfl rfl ?_
    refine c0_leave (pc' := 22) (rest := []) O F (met0_leave l L hD w hTR e he hl) (by decide) (by decide) rfl rfl (Nat.le_of_ble_eq_true rfl) dX0_kill_19 rfl (fun w1 hr1 => ?_)
    obtain ⟨d1, d2, d3, d4⟩ := hr1
    refine aw_iload_n (pc' := 23) O dX0_kill_22 rfl rfl ?_
    have hk : killA a (nI e) = (nI (a.2.1 e), (va_up a.1 e false, a.2)) := by simp [killA, aB_n he, hl, nI_clamp (n := e) (by omega)]
    exact aw_ireturn O hr rfl dX0_kill_23 (by rw [hk]; exact ⟨rfl, T, d1, fun e' he' c hc => by rw [d3]; exact hV e' he' c hc, hS.keep d2 (Nat.le_refl _)⟩)
  · refine aw_bipush (pc' := 10) O dX0_kill_8 kb_m4 rfl ?_
    exact aw_ireturn O hr rfl dX0_kill_10 (by simp [killA, h1]; exact ⟨T, hTR, hV, hS⟩)
set_option maxHeartbeats 4000000 in
set_option maxRecDepth 100000 in
theorem met0_put (l : Launch) (L : aw_L) (hD : ∀ w, va_D (aw_A L) (aw_pic0 L w)) (w : aw_S) (a : aw_AS) (h : R0 w a) (x y v : Int32) : aw_Mi (aw_pic0 L) l L yX0_put cX0_put 5 .int 2 46 [.int x, .int y, .int v] w (fun r w' => r = (putA a x y v).1 ∧ R0 w' (putA a x y v).2) := by
  obtain ⟨T, hTR, hV, hS⟩ := h
  have hT := hTR.1.2
  refine aw_of_i (lv := [(0, .ref (L.2.2 20)), (1, .int x), (2, .int y), (3, .int v)]) (own := RX0) hD (by decide) rfl (Nat.le_of_ble_eq_true rfl) rfl (fun X O F hr => ?_)
  refine aw_aload_n (pc' := 1) O dX0_put_0 rfl rfl ?_
  refine aw_iload_n (pc' := 2) O dX0_put_1 rfl rfl ?_
  refine c0_lives (pc' := 5) (rest := []) O F (met0_lives l L hD w hTR x) (by decide) (by decide) rfl rfl (Nat.le_of_ble_eq_true rfl) dX0_put_2 rfl (aw_deti ?_)
  refine aw_ifB_ne (pc' := 8) (tgt := 11) O dX0_put_5 (by decide) rfl (fun h1 => ?_) (fun h1 => ?_)
  · obtain ⟨e, he, rfl, hl⟩ := aB_ex h1
    refine aw_aload_n (pc' := 12) O dX0_put_11 rfl rfl ?_
    refine aw_iload_n (pc' := 13) O dX0_put_12 rfl rfl ?_
    refine c0_badPart (pc' := 16) (rest := []) O F (met0_badPart l L hD w y) (by decide) (by decide) rfl rfl (Nat.le_of_ble_eq_true rfl) dX0_put_13 rfl (aw_deti ?_)
    refine aw_ifB_eq (pc' := 19) (tgt := 21) O dX0_put_16 (by decide) rfl (fun h2 => ?_) (fun h2 => ?_)
    · obtain ⟨c, hc, rfl⟩ := rB_ex (n := 6) (by decide) (show rB 6 y = true by simpa using h2)
      obtain ⟨t, g1, g2, g3, g4, -⟩ := hTR.live he hl
      refine aw_aload_n (pc' := 22) O dX0_put_21 rfl rfl ?_
      refine aw_iload_n (pc' := 23) O dX0_put_22 rfl rfl ?_
      refine c0_setOf (pc' := 26) (rest := []) O F (met0_setOf l L hD w hTR e he hl) (by decide) (by decide) rfl rfl (Nat.le_of_ble_eq_true rfl) dX0_put_23 rfl (aw_deti ?_)
      refine aw_istore (pc' := 28) (lv' := [(0, .ref (L.2.2 20)), (1, .int (nI e)), (2, .int (nI c)), (3, .int v), (4, .int (nI (a.2.1 e)))]) O dX0_put_26 (F.nL (by decide)) rfl rfl rfl ?_
      refine aw_aload_n (pc' := 29) O dX0_put_28 rfl rfl ?_
      refine aw_iload_n (pc' := 30) O dX0_put_29 rfl rfl ?_
      refine aw_iload (pc' := 32) O dX0_put_30 rfl rfl ?_
      refine aw_iconst (pc' := 33) O dX0_put_32 ki_1 rfl ?_
      refine aw_iload_n (pc' := 34) O dX0_put_33 rfl rfl ?_
      refine aw_ishl (pc' := 35) O dX0_put_34 rfl ?_
      refine aw_top (y := nI (2 ^ c)) (aw_shl1 c (by omega)) ?_
      refine aw_ior (pc' := 36) O dX0_put_35 rfl ?_
      refine aw_top (y := nI (a.2.1 e ||| 2 ^ c)) (aw_nx_or _ _) ?_
      refine c0_change (pc' := 39) (rest := []) O F (met0_change l L hD w hTR e (a.2.1 e ||| 2 ^ c) he hl (aw_or64 c hc _ g4)) (by decide) (by decide) rfl rfl (Nat.le_of_ble_eq_true rfl) dX0_put_36 rfl (fun w1 hr1 => ?_)
      obtain ⟨T', d1, d2, d3, d4⟩ := hr1
      refine aw_aload_n (pc' := 40) O dX0_put_39 rfl rfl ?_
      refine g0_7 (pc' := 43) O dX0_put_40 rfl ?_
      refine aw_iload_n (pc' := 44) O dX0_put_43 rfl rfl ?_
      refine aw_bipush (pc' := 46) O dX0_put_44 kb_24 rfl ?_
      refine aw_imulN (pc' := 47) O dX0_put_46 rfl ?_
      refine aw_iload_n (pc' := 48) O dX0_put_47 rfl rfl ?_
      refine aw_iaddN (pc' := 49) O dX0_put_48 rfl ?_
      refine aw_iload_n (pc' := 50) O dX0_put_49 rfl rfl ?_
      refine st0_7 (pc' := 51) (j := (c * 24) + e) O F rfl (by omega) dX0_put_50 rfl ?_
      refine aw_iload (pc' := 53) O dX0_put_51 rfl rfl ?_
      refine aw_iload_n (pc' := 54) O dX0_put_53 rfl rfl ?_
      refine aw_ishr (pc' := 55) O dX0_put_54 rfl ?_
      refine aw_iconst (pc' := 56) O dX0_put_55 ki_1 rfl ?_
      refine aw_iand (pc' := 57) O dX0_put_56 rfl ?_
      refine aw_top (y := bI (btB (a.2.1 e) c)) (aw_bitB (by omega) (by omega)) ?_
      have hk : putA a (nI e) (nI c) v = (bI (btB (a.2.1 e) c), (a.1, va_up a.2.1 e (a.2.1 e ||| 2 ^ c), va_up a.2.2.1 e (va_up (a.2.2.1 e) c v), a.2.2.2)) := by simp [putA, aB_n he, hl, rB_n hc, nI_clamp (n := e) (by omega), nI_clamp (n := c) (by omega)]
      exact aw_ireturn O hr rfl dX0_put_57 (by rw [hk]; exact ⟨rfl, T', d1.same rfl rfl rfl rfl rfl rfl rfl, col_put he (by rw [d4]; exact hV), hS.keep (d3.trans (FK_7 (T := T')) d2) d2⟩)
    · refine aw_iconst (pc' := 20) O dX0_put_19 ki_m1 rfl ?_
      have h3 : rB 6 y = false := by simpa using h2
      exact aw_ireturn O hr rfl dX0_put_20 (by simp [putA, h1, h3]; exact ⟨T, hTR, hV, hS⟩)
  · refine aw_bipush (pc' := 10) O dX0_put_8 kb_m4 rfl ?_
    exact aw_ireturn O hr rfl dX0_put_10 (by simp [putA, h1]; exact ⟨T, hTR, hV, hS⟩)
set_option maxHeartbeats 4000000 in
set_option maxRecDepth 100000 in
theorem met0_drop (l : Launch) (L : aw_L) (hD : ∀ w, va_D (aw_A L) (aw_pic0 L w)) (w : aw_S) (a : aw_AS) (h : R0 w a) (x y : Int32) : aw_Mi (aw_pic0 L) l L yX0_drop cX0_drop 4 .int 2 46 [.int x, .int y] w (fun r w' => r = (dropA a x y).1 ∧ R0 w' (dropA a x y).2) := by
  obtain ⟨T, hTR, hV, hS⟩ := h
  have hT := hTR.1.2
  refine aw_of_i (lv := [(0, .ref (L.2.2 20)), (1, .int x), (2, .int y)]) (own := RX0) hD (by decide) rfl (Nat.le_of_ble_eq_true rfl) rfl (fun X O F hr => ?_)
  refine aw_aload_n (pc' := 1) O dX0_drop_0 rfl rfl ?_
  refine aw_iload_n (pc' := 2) O dX0_drop_1 rfl rfl ?_
  refine c0_lives (pc' := 5) (rest := []) O F (met0_lives l L hD w hTR x) (by decide) (by decide) rfl rfl (Nat.le_of_ble_eq_true rfl) dX0_drop_2 rfl (aw_deti ?_)
  refine aw_ifB_ne (pc' := 8) (tgt := 11) O dX0_drop_5 (by decide) rfl (fun h1 => ?_) (fun h1 => ?_)
  · obtain ⟨e, he, rfl, hl⟩ := aB_ex h1
    refine aw_aload_n (pc' := 12) O dX0_drop_11 rfl rfl ?_
    refine aw_iload_n (pc' := 13) O dX0_drop_12 rfl rfl ?_
    refine c0_badPart (pc' := 16) (rest := []) O F (met0_badPart l L hD w y) (by decide) (by decide) rfl rfl (Nat.le_of_ble_eq_true rfl) dX0_drop_13 rfl (aw_deti ?_)
    refine aw_ifB_eq (pc' := 19) (tgt := 21) O dX0_drop_16 (by decide) rfl (fun h2 => ?_) (fun h2 => ?_)
    · obtain ⟨c, hc, rfl⟩ := rB_ex (n := 6) (by decide) (show rB 6 y = true by simpa using h2)
      obtain ⟨t, g1, g2, g3, g4, -⟩ := hTR.live he hl
      refine aw_aload_n (pc' := 22) O dX0_drop_21 rfl rfl ?_
      refine aw_iload_n (pc' := 23) O dX0_drop_22 rfl rfl ?_
      refine c0_setOf (pc' := 26) (rest := []) O F (met0_setOf l L hD w hTR e he hl) (by decide) (by decide) rfl rfl (Nat.le_of_ble_eq_true rfl) dX0_drop_23 rfl (aw_deti ?_)
      refine aw_istore_n (pc' := 27) (lv' := [(0, .ref (L.2.2 20)), (1, .int (nI e)), (2, .int (nI c)), (3, .int (nI (a.2.1 e)))]) O dX0_drop_26 (F.nL (by decide)) rfl rfl rfl ?_
      refine aw_aload_n (pc' := 28) O dX0_drop_27 rfl rfl ?_
      refine aw_iload_n (pc' := 29) O dX0_drop_28 rfl rfl ?_
      refine aw_iload_n (pc' := 30) O dX0_drop_29 rfl rfl ?_
      refine aw_iconst (pc' := 31) O dX0_drop_30 ki_1 rfl ?_
      refine aw_iload_n (pc' := 32) O dX0_drop_31 rfl rfl ?_
      refine aw_ishl (pc' := 33) O dX0_drop_32 rfl ?_
      refine aw_iconst (pc' := 34) O dX0_drop_33 ki_m1 rfl ?_
      refine aw_ixor (pc' := 35) O dX0_drop_34 rfl ?_
      refine aw_iand (pc' := 36) O dX0_drop_35 rfl ?_
      refine aw_top (y := nI (a.2.1 e &&& (63 - 2 ^ c))) (aw_not c hc _ g4) ?_
      refine c0_change (pc' := 39) (rest := []) O F (met0_change l L hD w hTR e (a.2.1 e &&& (63 - 2 ^ c)) he hl (aw_and64 _ _ g4)) (by decide) (by decide) rfl rfl (Nat.le_of_ble_eq_true rfl) dX0_drop_36 rfl (fun w1 hr1 => ?_)
      obtain ⟨T', d1, d2, d3, d4⟩ := hr1
      refine aw_iload_n (pc' := 40) O dX0_drop_39 rfl rfl ?_
      refine aw_iload_n (pc' := 41) O dX0_drop_40 rfl rfl ?_
      refine aw_ishr (pc' := 42) O dX0_drop_41 rfl ?_
      refine aw_iconst (pc' := 43) O dX0_drop_42 ki_1 rfl ?_
      refine aw_iand (pc' := 44) O dX0_drop_43 rfl ?_
      refine aw_top (y := bI (btB (a.2.1 e) c)) (aw_bitB (by omega) (by omega)) ?_
      have hk : dropA a (nI e) (nI c) = (bI (btB (a.2.1 e) c), (a.1, va_up a.2.1 e (a.2.1 e &&& (63 - 2 ^ c)), a.2.2)) := by simp [dropA, aB_n he, hl, rB_n hc, nI_clamp (n := e) (by omega), nI_clamp (n := c) (by omega)]
      exact aw_ireturn O hr rfl dX0_drop_44 (by rw [hk]; exact ⟨rfl, T', d1, by rw [d4]; exact hV, hS.keep d3 d2⟩)
    · refine aw_iconst (pc' := 20) O dX0_drop_19 ki_m1 rfl ?_
      have h3 : rB 6 y = false := by simpa using h2
      exact aw_ireturn O hr rfl dX0_drop_20 (by simp [dropA, h1, h3]; exact ⟨T, hTR, hV, hS⟩)
  · refine aw_bipush (pc' := 10) O dX0_drop_8 kb_m4 rfl ?_
    exact aw_ireturn O hr rfl dX0_drop_10 (by simp [dropA, h1]; exact ⟨T, hTR, hV, hS⟩)
set_option maxHeartbeats 4000000 in
set_option maxRecDepth 100000 in
theorem met0_get (l : Launch) (L : aw_L) (hD : ∀ w, va_D (aw_A L) (aw_pic0 L w)) (w : aw_S) (a : aw_AS) (h : R0 w a) (x y : Int32) : aw_Mi (aw_pic0 L) l L yX0_get cX0_get 3 .int 1 21 [.int x, .int y] w (fun r w' => r = getA a x y ∧ w' = w) := by
  obtain ⟨T, hTR, hV, hS⟩ := h
  have hT := hTR.1.2
  refine aw_of_i (lv := [(0, .ref (L.2.2 20)), (1, .int x), (2, .int y)]) (own := RX0) hD (by decide) rfl (Nat.le_of_ble_eq_true rfl) rfl (fun X O F hr => ?_)
  refine aw_aload_n (pc' := 1) O dX0_get_0 rfl rfl ?_
  refine aw_iload_n (pc' := 2) O dX0_get_1 rfl rfl ?_
  refine c0_lives (pc' := 5) (rest := []) O F (met0_lives l L hD w hTR x) (by decide) (by decide) rfl rfl (Nat.le_of_ble_eq_true rfl) dX0_get_2 rfl (aw_deti ?_)
  refine aw_ifB_eq (pc' := 8) (tgt := 28) O dX0_get_5 (by decide) rfl (fun h1 => ?_) (fun h1 => ?_)
  · refine aw_iconst (pc' := 29) O dX0_get_28 ki_0 rfl ?_
    exact aw_ireturn O hr rfl dX0_get_29 (⟨by simp [getA, h1]; rfl, rfl⟩)
  · obtain ⟨e, he, rfl, hl⟩ := aB_ex h1
    refine aw_aload_n (pc' := 9) O dX0_get_8 rfl rfl ?_
    refine aw_iload_n (pc' := 10) O dX0_get_9 rfl rfl ?_
    refine c0_badPart (pc' := 13) (rest := []) O F (met0_badPart l L hD w y) (by decide) (by decide) rfl rfl (Nat.le_of_ble_eq_true rfl) dX0_get_10 rfl (aw_deti ?_)
    refine aw_ifB_ne (pc' := 16) (tgt := 28) O dX0_get_13 (by decide) rfl (fun h2 => ?_) (fun h2 => ?_)
    · have h3 : rB 6 y = false := by simpa using h2
      refine aw_iconst (pc' := 29) O dX0_get_28 ki_0 rfl ?_
      exact aw_ireturn O hr rfl dX0_get_29 (⟨by simp [getA, h3]; rfl, rfl⟩)
    · obtain ⟨c, hc, rfl⟩ := rB_ex (n := 6) (by decide) (show rB 6 y = true by simpa using h2)
      obtain ⟨t, g1, g2, g3, g4, -⟩ := hTR.live he hl
      have hg : getA a (nI e) (nI c) = if btB (a.2.1 e) c then a.2.2.1 e c else 0 := by simp [getA, getN, aB_n he, hl, rB_n hc, nI_clamp (n := e) (by omega), nI_clamp (n := c) (by omega)]
      refine aw_aload_n (pc' := 17) O dX0_get_16 rfl rfl ?_
      refine aw_iload_n (pc' := 18) O dX0_get_17 rfl rfl ?_
      refine c0_setOf (pc' := 21) (rest := []) O F (met0_setOf l L hD w hTR e he hl) (by decide) (by decide) rfl rfl (Nat.le_of_ble_eq_true rfl) dX0_get_18 rfl (aw_deti ?_)
      refine aw_iload_n (pc' := 22) O dX0_get_21 rfl rfl ?_
      refine aw_ishr (pc' := 23) O dX0_get_22 rfl ?_
      refine aw_iconst (pc' := 24) O dX0_get_23 ki_1 rfl ?_
      refine aw_iand (pc' := 25) O dX0_get_24 rfl ?_
      refine aw_top (y := bI (btB (a.2.1 e) c)) (aw_bitB (by omega) (by omega)) ?_
      refine aw_ifB_ne (pc' := 28) (tgt := 30) O dX0_get_25 (by decide) rfl (fun h3 => ?_) (fun h3 => ?_)
      · refine aw_aload_n (pc' := 31) O dX0_get_30 rfl rfl ?_
        refine g0_7 (pc' := 34) O dX0_get_31 rfl ?_
        refine aw_iload_n (pc' := 35) O dX0_get_34 rfl rfl ?_
        refine aw_bipush (pc' := 37) O dX0_get_35 kb_24 rfl ?_
        refine aw_imulN (pc' := 38) O dX0_get_37 rfl ?_
        refine aw_iload_n (pc' := 39) O dX0_get_38 rfl rfl ?_
        refine aw_iaddN (pc' := 40) O dX0_get_39 rfl ?_
        refine ld0_7 (pc' := 41) (j := (c * 24) + e) O rfl (by omega) dX0_get_40 rfl ?_
        refine aw_top (y := a.2.2.1 e c) (hV e he c hc) ?_
        exact aw_ireturn O hr rfl dX0_get_41 (⟨by rw [hg, h3]; rfl, rfl⟩)
      · refine aw_iconst (pc' := 29) O dX0_get_28 ki_0 rfl ?_
        exact aw_ireturn O hr rfl dX0_get_29 (⟨by rw [hg, h3]; rfl, rfl⟩)
set_option maxHeartbeats 4000000 in
set_option maxRecDepth 100000 in
theorem met0_parts (l : Launch) (L : aw_L) (hD : ∀ w, va_D (aw_A L) (aw_pic0 L w)) (w : aw_S) (a : aw_AS) (h : R0 w a) (x : Int32) : aw_Mi (aw_pic0 L) l L yX0_parts cX0_parts 2 .int 1 21 [.int x] w (fun r w' => r = partsA a x ∧ w' = w) := by
  obtain ⟨T, hTR, hV, hS⟩ := h
  have hT := hTR.1.2
  refine aw_of_i (lv := [(0, .ref (L.2.2 20)), (1, .int x)]) (own := RX0) hD (by decide) rfl (Nat.le_of_ble_eq_true rfl) rfl (fun X O F hr => ?_)
  refine aw_aload_n (pc' := 1) O dX0_parts_0 rfl rfl ?_
  refine aw_iload_n (pc' := 2) O dX0_parts_1 rfl rfl ?_
  refine c0_lives (pc' := 5) (rest := []) O F (met0_lives l L hD w hTR x) (by decide) (by decide) rfl rfl (Nat.le_of_ble_eq_true rfl) dX0_parts_2 rfl (aw_deti ?_)
  refine aw_ifB_eq (pc' := 8) (tgt := 16) O dX0_parts_5 (by decide) rfl (fun h1 => ?_) (fun h1 => ?_)
  · refine aw_bipush (pc' := 18) O dX0_parts_16 kb_m4 rfl ?_
    exact aw_ireturn O hr rfl dX0_parts_18 (⟨by simp [partsA, h1], rfl⟩)
  · obtain ⟨e, he, rfl, hl⟩ := aB_ex h1
    refine aw_aload_n (pc' := 9) O dX0_parts_8 rfl rfl ?_
    refine aw_iload_n (pc' := 10) O dX0_parts_9 rfl rfl ?_
    refine c0_setOf (pc' := 13) (rest := []) O F (met0_setOf l L hD w hTR e he hl) (by decide) (by decide) rfl rfl (Nat.le_of_ble_eq_true rfl) dX0_parts_10 rfl (aw_deti ?_)
    refine aw_goto (tgt := 18) O dX0_parts_13 (by decide) ?_
    exact aw_ireturn O hr rfl dX0_parts_18 (⟨by simp [partsA, aB_n he, hl, nI_clamp (n := e) (by omega)], rfl⟩)
set_option maxHeartbeats 4000000 in
set_option maxRecDepth 100000 in
theorem met0_spawn (l : Launch) (L : aw_L) (hD : ∀ w, va_D (aw_A L) (aw_pic0 L w)) (w : aw_S) (a : aw_AS) (h : R0 w a) (x v : Int32) : aw_Mi (aw_pic0 L) l L yX0_spawn cX0_spawn 6 .int 1 22 [.int x, .int v] w (fun r w' => r = (spawnA a x v).1 ∧ R0 w' (spawnA a x v).2) := by
  obtain ⟨T, hTR, hV, hS⟩ := h
  have hT := hTR.1.2
  refine aw_of_i (lv := [(0, .ref (L.2.2 20)), (1, .int x), (2, .int v)]) (own := RX0) hD (by decide) rfl (Nat.le_of_ble_eq_true rfl) rfl (fun X O F hr => ?_)
  refine aw_aload_n (pc' := 1) O dX0_spawn_0 rfl rfl ?_
  refine aw_iload_n (pc' := 2) O dX0_spawn_1 rfl rfl ?_
  refine c0_badSet (pc' := 5) (rest := []) O F (met0_badSet l L hD w x) (by decide) (by decide) rfl rfl (Nat.le_of_ble_eq_true rfl) dX0_spawn_2 rfl (aw_deti ?_)
  refine aw_ifB_eq (pc' := 8) (tgt := 10) O dX0_spawn_5 (by decide) rfl (fun h1 => ?_) (fun h1 => ?_)
  · obtain ⟨s, hs, rfl⟩ := rB_ex (n := 64) (by decide) (show rB 64 x = true by simpa using h1)
    have lp : ∀ (n : Nat) (e : Nat), e ≤ 24 → 24 - e < n → (∀ i, i < e → a.1 i = true) → aw_J (aw_pic0 L) X 12 [(0, .ref (L.2.2 20)), (1, .int (nI s)), (2, .int v), (3, .int (nI e))] [] w := by
      intro n
      induction n with
      | zero =>
        intro e he hm hi
        exact absurd hm (Nat.not_lt_zero _)
      | succ n ih =>
        intro e he hm hi
        refine aw_iload_n (pc' := 13) O dX0_spawn_12 rfl rfl ?_
        refine aw_bipush (pc' := 15) O dX0_spawn_13 kb_24 rfl ?_
        refine aw_icmpN_ge (pc' := 18) (tgt := 78) O (by omega) (by omega) dX0_spawn_15 (by decide) rfl (fun h2 => ?_) (fun h2 => ?_)
        · refine aw_bipush (pc' := 80) O dX0_spawn_78 kb_m2 rfl ?_
          have hff : ff a.1 24 = 24 := ff_all (fun i hi2 => hi i (by omega))
          exact aw_ireturn O hr rfl dX0_spawn_80 (by simp [spawnA, rB_n hs, hff]; exact ⟨T, hTR, hV, hS⟩)
        · refine aw_aload_n (pc' := 19) O dX0_spawn_18 rfl rfl ?_
          refine g0_5 (pc' := 22) O dX0_spawn_19 rfl ?_
          refine aw_iload_n (pc' := 23) O dX0_spawn_22 rfl rfl ?_
          refine ld0_5 (pc' := 24) (j := e) O rfl (by omega) dX0_spawn_23 rfl ?_
          refine aw_if_ge (pc' := 27) (tgt := 72) O dX0_spawn_24 (by decide) rfl (fun h3 => ?_) (fun h3 => ?_)
          · have hle : a.1 e = true := (hTR.liveI h2).2 (i_nlt h3)
            refine aw_iinc (pc' := 75) (v := nI (e + 1)) (lv' := [(0, .ref (L.2.2 20)), (1, .int (nI s)), (2, .int v), (3, .int (nI (e + 1)))]) O dX0_spawn_72 (F.nL (by decide)) rfl (nI_1 _) rfl rfl rfl ?_
            refine aw_goto (tgt := 12) O dX0_spawn_75 (by decide) ?_
            exact ih (e + 1) (by omega) (by omega) (fun i hi2 => by
              by_cases q : i = e
              · rw [q]; exact hle
              · exact hi i (by omega))
          · have hle : a.1 e = false := (hTR.liveI h2).1 (i_lt h3)
            refine aw_aload_n (pc' := 28) O dX0_spawn_27 rfl rfl ?_
            refine aw_iload_n (pc' := 29) O dX0_spawn_28 rfl rfl ?_
            refine c0_tableFor (pc' := 32) (rest := []) O F (met0_tableFor l L hD w hTR s hs) (by decide) (by decide) rfl rfl (Nat.le_of_ble_eq_true rfl) dX0_spawn_29 rfl (fun r w1 hr1 => ?_)
            obtain ⟨T', t, rfl, c1, c2, c3, c4, c5, c6, c7⟩ := hr1
            have hT' := c3.1.2
            refine aw_istore (pc' := 34) (lv' := [(0, .ref (L.2.2 20)), (1, .int (nI s)), (2, .int v), (3, .int (nI e)), (4, .int (nI t))]) O dX0_spawn_32 (F.nL (by decide)) rfl rfl rfl ?_
            refine aw_aload_n (pc' := 35) O dX0_spawn_34 rfl rfl ?_
            refine aw_iload_n (pc' := 36) O dX0_spawn_35 rfl rfl ?_
            refine aw_iload (pc' := 38) O dX0_spawn_36 rfl rfl ?_
            refine c0_enter (pc' := 41) (rest := []) O F (met0_enter l L hD w1 c3 e t s h2 hle c1 c4 hs) (by decide) (by decide) rfl rfl (Nat.le_of_ble_eq_true rfl) dX0_spawn_38 rfl (fun w2 hr2 => ?_)
            obtain ⟨d1, d2, d3, d4⟩ := hr2
            have lp2 : ∀ (n : Nat) (c : Nat) (w3 : aw_S), c ≤ 6 → 6 - c < n → CW w2 w3 e c v → aw_J (aw_pic0 L) X 44 [(0, .ref (L.2.2 20)), (1, .int (nI s)), (2, .int v), (3, .int (nI e)), (4, .int (nI t)), (5, .int (nI c))] [] w3 := by
              intro n
              induction n with
              | zero =>
                intro c w3 hc hm hcw
                exact absurd hm (Nat.not_lt_zero _)
              | succ n ih =>
                intro c w3 hc hm hcw
                refine aw_iload (pc' := 46) O dX0_spawn_44 rfl rfl ?_
                refine aw_bipush (pc' := 48) O dX0_spawn_46 kb_6 rfl ?_
                refine aw_icmpN_ge (pc' := 51) (tgt := 70) O (by omega) (by omega) dX0_spawn_48 (by decide) rfl (fun h4 => ?_) (fun h4 => ?_)
                · refine aw_iload_n (pc' := 71) O dX0_spawn_70 rfl rfl ?_
                  have hc6 : c = 6 := by omega
                  subst hc6
                  have hff : ff a.1 24 = e := ff_eq h2 hi hle
                  have hk : spawnA a (nI s) v = (nI e, (va_up a.1 e true, va_up a.2.1 e s, va_up a.2.2.1 e (fun _ => v), a.2.2.2)) := by simp [spawnA, rB_n hs, hff, h2, nI_clamp (n := s) (by omega)]
                  have hcol : ∀ e', e' < 24 → ∀ c, c < 6 → w3.1 7 (c * 24 + e') = va_up a.2.2.1 e (fun _ => v) e' c := by
                    intro e' he' c hc
                    by_cases q : e' = e
                    · subst q
                      rw [va_up_self]
                      exact hcw.1 c hc
                    · rw [va_up_ne _ _ q, hcw.2.1 e' he' c hc (Or.inl q), d3, c7]
                      exact hV e' he' c hc
                  exact aw_ireturn O hr rfl dX0_spawn_71 (by rw [hk]; exact ⟨rfl, T', hcw.tr d1, hcol, hS.keep ((c5.trans d2 c2).trans (hcw.fk (T := T')) c2) c2⟩)
                · refine aw_aload_n (pc' := 52) O dX0_spawn_51 rfl rfl ?_
                  refine g0_7 (pc' := 55) O dX0_spawn_52 rfl ?_
                  refine aw_iload (pc' := 57) O dX0_spawn_55 rfl rfl ?_
                  refine aw_bipush (pc' := 59) O dX0_spawn_57 kb_24 rfl ?_
                  refine aw_imulN (pc' := 60) O dX0_spawn_59 rfl ?_
                  refine aw_iload_n (pc' := 61) O dX0_spawn_60 rfl rfl ?_
                  refine aw_iaddN (pc' := 62) O dX0_spawn_61 rfl ?_
                  refine aw_iload_n (pc' := 63) O dX0_spawn_62 rfl rfl ?_
                  refine st0_7 (pc' := 64) (j := (c * 24) + e) O F rfl (by omega) dX0_spawn_63 rfl ?_
                  refine aw_iinc (pc' := 67) (v := nI (c + 1)) (lv' := [(0, .ref (L.2.2 20)), (1, .int (nI s)), (2, .int v), (3, .int (nI e)), (4, .int (nI t)), (5, .int (nI (c + 1)))]) O dX0_spawn_64 (F.nL (by decide)) rfl (nI_1 _) rfl rfl rfl ?_
                  refine aw_goto (tgt := 44) O dX0_spawn_67 (by decide) ?_
                  exact ih (c + 1) _ (by omega) (by omega) (hcw.step h2 h4)
            refine aw_iconst (pc' := 42) O dX0_spawn_41 ki_0 rfl ?_
            refine aw_istore (pc' := 44) (lv' := [(0, .ref (L.2.2 20)), (1, .int (nI s)), (2, .int v), (3, .int (nI e)), (4, .int (nI t)), (5, .int (nI 0))]) O dX0_spawn_42 (F.nL (by decide)) rfl rfl rfl ?_
            exact lp2 7 0 w2 (by decide) (by decide) CW.rf
    refine aw_iconst (pc' := 11) O dX0_spawn_10 ki_0 rfl ?_
    refine aw_istore_n (pc' := 12) (lv' := [(0, .ref (L.2.2 20)), (1, .int (nI s)), (2, .int v), (3, .int (nI 0))]) O dX0_spawn_11 (F.nL (by decide)) rfl rfl rfl ?_
    exact lp 25 0 (by decide) (by decide) (fun i hi => absurd hi (Nat.not_lt_zero _))
  · refine aw_iconst (pc' := 9) O dX0_spawn_8 ki_m1 rfl ?_
    have h3 : rB 64 x = false := by simpa using h1
    exact aw_ireturn O hr rfl dX0_spawn_9 (by simp [spawnA, h3]; exact ⟨T, hTR, hV, hS⟩)
set_option maxHeartbeats 4000000 in
set_option maxRecDepth 100000 in
theorem met0_living (l : Launch) (L : aw_L) (hD : ∀ w, va_D (aw_A L) (aw_pic0 L w)) (w : aw_S) (a : aw_AS) (h : R0 w a) : aw_Mi (aw_pic0 L) l L yX0_living cX0_living 3 .int 0 0 [] w (fun r w' => r = countN a 0 0 ∧ w' = w) := by
  obtain ⟨T, hTR, hV, hS⟩ := h
  have hT := hTR.1.2
  refine aw_of_i (lv := [(0, .ref (L.2.2 20))]) (own := RX0) hD (by decide) rfl (Nat.le_of_ble_eq_true rfl) rfl (fun X O F hr => ?_)
  have lp : ∀ (n : Nat) (t : Nat) (acc : Int32), t ≤ T → T - t < n → acc = nI (cn (fun e => dn w t e && fitB (a.2.1 e) 0 0) 24) → aw_J (aw_pic0 L) X 4 [(0, .ref (L.2.2 20)), (1, .int acc), (2, .int (nI t))] [] w := by
    intro n
    induction n with
    | zero =>
      intro t acc ht hm hacc
      exact absurd hm (Nat.not_lt_zero _)
    | succ n ih =>
      intro t acc ht hm hacc
      refine aw_iload_n (pc' := 5) O dX0_living_4 rfl rfl ?_
      refine aw_aload_n (pc' := 6) O dX0_living_5 rfl rfl ?_
      refine g0_0 (pc' := 9) O dX0_living_6 rfl ?_
      refine aw_top (y := nI T) (hTR.1.1) ?_
      refine aw_icmpN_ge (pc' := 12) (tgt := 27) O (by omega) (by omega) dX0_living_9 (by decide) rfl (fun h2 => ?_) (fun h2 => ?_)
      · refine aw_iload_n (pc' := 28) O dX0_living_27 rfl rfl ?_
        have e1 : t = T := by omega
        subst e1
        exact aw_ireturn O hr rfl dX0_living_28 (⟨by rw [hacc, hTR.cntT (fun s => fitB s 0 0)]; rfl, rfl⟩)
      · obtain ⟨s, s1, s2, s3⟩ := hTR.2.1 t h2
        refine aw_iload_n (pc' := 13) O dX0_living_12 rfl rfl ?_
        refine aw_aload_n (pc' := 14) O dX0_living_13 rfl rfl ?_
        refine g0_3 (pc' := 17) O dX0_living_14 rfl ?_
        refine aw_iload_n (pc' := 18) O dX0_living_17 rfl rfl ?_
        refine ld0_3 (pc' := 19) (j := t) O rfl (by omega) dX0_living_18 rfl ?_
        refine aw_top (y := nI (rc w t)) (hTR.2.2.2.2.1 t h2) ?_
        refine aw_iadd (pc' := 20) O dX0_living_19 rfl ?_
        refine aw_istore_n (pc' := 21) (lv' := [(0, .ref (L.2.2 20)), (1, .int (acc + (nI (rc w t)))), (2, .int (nI t))]) O dX0_living_20 (F.nL (by decide)) rfl rfl rfl ?_
        refine aw_iinc (pc' := 24) (v := nI (t + 1)) (lv' := [(0, .ref (L.2.2 20)), (1, .int (acc + (nI (rc w t)))), (2, .int (nI (t + 1)))]) O dX0_living_21 (F.nL (by decide)) rfl (nI_1 _) rfl rfl rfl ?_
        refine aw_goto (tgt := 4) O dX0_living_24 (by decide) ?_
        exact ih (t + 1) _ (by omega) (by omega) (by rw [hacc, nI_add, hTR.cnt h2 s2 s1 (fun s => fitB s 0 0), if_pos (fitB_00 s)])
  refine aw_iconst (pc' := 1) O dX0_living_0 ki_0 rfl ?_
  refine aw_istore_n (pc' := 2) (lv' := [(0, .ref (L.2.2 20)), (1, .int (nI 0))]) O dX0_living_1 (F.nL (by decide)) rfl rfl rfl ?_
  refine aw_iconst (pc' := 3) O dX0_living_2 ki_0 rfl ?_
  refine aw_istore_n (pc' := 4) (lv' := [(0, .ref (L.2.2 20)), (1, .int (nI 0)), (2, .int (nI 0))]) O dX0_living_3 (F.nL (by decide)) rfl rfl rfl ?_
  exact lp (T + 1) 0 _ (Nat.zero_le _) (by omega) (by rw [hTR.cnt0 (fun s => fitB s 0 0)])
end
section
set_option maxRecDepth 100000
set_option maxHeartbeats 4000000 in
set_option maxRecDepth 100000 in
theorem met0_count (l : Launch) (L : aw_L) (hD : ∀ w, va_D (aw_A L) (aw_pic0 L w)) (w : aw_S) (a : aw_AS) (h : R0 w a) (x y : Int32) : aw_Mi (aw_pic0 L) l L yX0_count cX0_count 5 .int 1 23 [.int x, .int y] w (fun r w' => r = countA a x y ∧ w' = w) := by
  obtain ⟨T, hTR, hV, hS⟩ := h
  have hT := hTR.1.2
  refine aw_of_i (lv := [(0, .ref (L.2.2 20)), (1, .int x), (2, .int y)]) (own := RX0) hD (by decide) rfl (Nat.le_of_ble_eq_true rfl) rfl (fun X O F hr => ?_)
  refine aw_aload_n (pc' := 1) O dX0_count_0 rfl rfl ?_
  refine aw_iload_n (pc' := 2) O dX0_count_1 rfl rfl ?_
  refine c0_badSet (pc' := 5) (rest := []) O F (met0_badSet l L hD w x) (by decide) (by decide) rfl rfl (Nat.le_of_ble_eq_true rfl) dX0_count_2 rfl (aw_deti ?_)
  refine aw_ifB_ne (pc' := 8) (tgt := 16) O dX0_count_5 (by decide) rfl (fun h1 => ?_) (fun h1 => ?_)
  · have h3 : rB 64 x = false := by simpa using h1
    refine aw_iconst (pc' := 17) O dX0_count_16 ki_m1 rfl ?_
    exact aw_ireturn O hr rfl dX0_count_17 (⟨by simp [countA, h3], rfl⟩)
  · refine aw_aload_n (pc' := 9) O dX0_count_8 rfl rfl ?_
    refine aw_iload_n (pc' := 10) O dX0_count_9 rfl rfl ?_
    refine c0_badSet (pc' := 13) (rest := []) O F (met0_badSet l L hD w y) (by decide) (by decide) rfl rfl (Nat.le_of_ble_eq_true rfl) dX0_count_10 rfl (aw_deti ?_)
    refine aw_ifB_eq (pc' := 16) (tgt := 18) O dX0_count_13 (by decide) rfl (fun h2 => ?_) (fun h2 => ?_)
    · obtain ⟨p, hp, rfl⟩ := rB_ex (n := 64) (by decide) (show rB 64 x = true by simpa using h1)
      obtain ⟨q, hq, rfl⟩ := rB_ex (n := 64) (by decide) (show rB 64 y = true by simpa using h2)
      have hc : countA a (nI p) (nI q) = countN a p q := by simp [countA, rB_n hp, rB_n hq, nI_clamp (n := p) (by omega), nI_clamp (n := q) (by omega)]
      have lp : ∀ (n : Nat) (t : Nat) (acc : Int32), t ≤ T → T - t < n → acc = nI (cn (fun e => dn w t e && fitB (a.2.1 e) p q) 24) → aw_J (aw_pic0 L) X 23 [(0, .ref (L.2.2 20)), (1, .int (nI p)), (2, .int (nI q)), (3, .int acc), (4, .int (nI t))] [] w := by
        intro n
        induction n with
        | zero =>
          intro t acc ht hm hacc
          exact absurd hm (Nat.not_lt_zero _)
        | succ n ih =>
          intro t acc ht hm hacc
          refine aw_iload (pc' := 25) O dX0_count_23 rfl rfl ?_
          refine aw_aload_n (pc' := 26) O dX0_count_25 rfl rfl ?_
          refine g0_0 (pc' := 29) O dX0_count_26 rfl ?_
          refine aw_top (y := nI T) (hTR.1.1) ?_
          refine aw_icmpN_ge (pc' := 32) (tgt := 64) O (by omega) (by omega) dX0_count_29 (by decide) rfl (fun h3 => ?_) (fun h3 => ?_)
          · refine aw_iload_n (pc' := 65) O dX0_count_64 rfl rfl ?_
            have e1 : t = T := by omega
            subst e1
            exact aw_ireturn O hr rfl dX0_count_65 (⟨by rw [hc, hacc, hTR.cntT (fun s => fitB s p q)]; rfl, rfl⟩)
          · obtain ⟨s, s1, s2, s3⟩ := hTR.2.1 t h3
            refine aw_aload_n (pc' := 33) O dX0_count_32 rfl rfl ?_
            refine aw_aload_n (pc' := 34) O dX0_count_33 rfl rfl ?_
            refine g0_1 (pc' := 37) O dX0_count_34 rfl ?_
            refine aw_iload (pc' := 39) O dX0_count_37 rfl rfl ?_
            refine ld0_1 (pc' := 40) (j := t) O rfl (by omega) dX0_count_39 rfl ?_
            refine aw_top (y := nI s) s2 ?_
            refine aw_iload_n (pc' := 41) O dX0_count_40 rfl rfl ?_
            refine aw_iload_n (pc' := 42) O dX0_count_41 rfl rfl ?_
            refine c0_fits (pc' := 45) (rest := []) O F (met0_fits l L hD w s p q s1 hp hq) (by decide) (by decide) rfl rfl (Nat.le_of_ble_eq_true rfl) dX0_count_42 rfl (aw_deti ?_)
            refine aw_ifB_eq (pc' := 48) (tgt := 58) O dX0_count_45 (by decide) rfl (fun h4 => ?_) (fun h4 => ?_)
            · refine aw_iinc (pc' := 61) (v := nI (t + 1)) (lv' := [(0, .ref (L.2.2 20)), (1, .int (nI p)), (2, .int (nI q)), (3, .int acc), (4, .int (nI (t + 1)))]) O dX0_count_58 (F.nL (by decide)) rfl (nI_1 _) rfl rfl rfl ?_
              refine aw_goto (tgt := 23) O dX0_count_61 (by decide) ?_
              exact ih (t + 1) _ (by omega) (by omega) (by rw [hacc, hTR.cnt h3 s2 s1 (fun s => fitB s p q)]; simp only [h4]; rfl)
            · refine aw_iload_n (pc' := 49) O dX0_count_48 rfl rfl ?_
              refine aw_aload_n (pc' := 50) O dX0_count_49 rfl rfl ?_
              refine g0_3 (pc' := 53) O dX0_count_50 rfl ?_
              refine aw_iload (pc' := 55) O dX0_count_53 rfl rfl ?_
              refine ld0_3 (pc' := 56) (j := t) O rfl (by omega) dX0_count_55 rfl ?_
              refine aw_top (y := nI (rc w t)) (hTR.2.2.2.2.1 t h3) ?_
              refine aw_iadd (pc' := 57) O dX0_count_56 rfl ?_
              refine aw_istore_n (pc' := 58) (lv' := [(0, .ref (L.2.2 20)), (1, .int (nI p)), (2, .int (nI q)), (3, .int (acc + (nI (rc w t)))), (4, .int (nI t))]) O dX0_count_57 (F.nL (by decide)) rfl rfl rfl ?_
              refine aw_iinc (pc' := 61) (v := nI (t + 1)) (lv' := [(0, .ref (L.2.2 20)), (1, .int (nI p)), (2, .int (nI q)), (3, .int (acc + (nI (rc w t)))), (4, .int (nI (t + 1)))]) O dX0_count_58 (F.nL (by decide)) rfl (nI_1 _) rfl rfl rfl ?_
              refine aw_goto (tgt := 23) O dX0_count_61 (by decide) ?_
              exact ih (t + 1) _ (by omega) (by omega) (by rw [hacc, nI_add, hTR.cnt h3 s2 s1 (fun s => fitB s p q), if_pos h4])
      refine aw_iconst (pc' := 19) O dX0_count_18 ki_0 rfl ?_
      refine aw_istore_n (pc' := 20) (lv' := [(0, .ref (L.2.2 20)), (1, .int (nI p)), (2, .int (nI q)), (3, .int (nI 0))]) O dX0_count_19 (F.nL (by decide)) rfl rfl rfl ?_
      refine aw_iconst (pc' := 21) O dX0_count_20 ki_0 rfl ?_
      refine aw_istore (pc' := 23) (lv' := [(0, .ref (L.2.2 20)), (1, .int (nI p)), (2, .int (nI q)), (3, .int (nI 0)), (4, .int (nI 0))]) O dX0_count_21 (F.nL (by decide)) rfl rfl rfl ?_
      exact lp (T + 1) 0 _ (Nat.zero_le _) (by omega) (by rw [hTR.cnt0 (fun s => fitB s p q)])
    · have h3 : rB 64 y = false := by simpa using h2
      refine aw_iconst (pc' := 17) O dX0_count_16 ki_m1 rfl ?_
      exact aw_ireturn O hr rfl dX0_count_17 (⟨by simp [countA, h3], rfl⟩)
set_option maxHeartbeats 4000000 in
set_option maxRecDepth 100000 in
theorem met0_leastFrom (l : Launch) (L : aw_L) (hD : ∀ w, va_D (aw_A L) (aw_pic0 L w)) (w : aw_S) {T : Nat} {lv : Nat → Bool} {st : Nat → Nat} (hTR : TR w T lv st) (t : Nat) (ht : t < T) (y : Int32) : aw_Mi (aw_pic0 L) l L yX0_leastFrom cX0_leastFrom 6 .int 0 0 [.int (nI t), .int y] w (fun r w' => LB (fun e => decide (w.1 5 e = nI t) && decide (y ≤ nI e)) r ∧ w' = w) := by
  have hT := hTR.1.2
  have hb := rc_le w t
  refine aw_of_i (lv := [(0, .ref (L.2.2 20)), (1, .int (nI t)), (2, .int y)]) (own := RX0) hD (by decide) rfl (Nat.le_of_ble_eq_true rfl) rfl (fun X O F hr => ?_)
  have lp : ∀ (n : Nat) (k : Nat) (best : Int32), k ≤ rc w t → rc w t - k < n → LB (fun e => tk w t k e && decide (y ≤ nI e)) best → aw_J (aw_pic0 L) X 6 [(0, .ref (L.2.2 20)), (1, .int (nI t)), (2, .int y), (3, .int best), (4, .int (nI k))] [] w := by
    intro n
    induction n with
    | zero =>
      intro k best hk hm hb2
      exact absurd hm (Nat.not_lt_zero _)
    | succ n ih =>
      intro k best hk hm hb2
      refine aw_iload (pc' := 8) O dX0_leastFrom_6 rfl rfl ?_
      refine aw_aload_n (pc' := 9) O dX0_leastFrom_8 rfl rfl ?_
      refine g0_3 (pc' := 12) O dX0_leastFrom_9 rfl ?_
      refine aw_iload_n (pc' := 13) O dX0_leastFrom_12 rfl rfl ?_
      refine ld0_3 (pc' := 14) (j := t) O rfl (by omega) dX0_leastFrom_13 rfl ?_
      refine aw_top (y := nI (rc w t)) (hTR.2.2.2.2.1 t ht) ?_
      refine aw_icmpN_ge (pc' := 17) (tgt := 56) O (by omega) (by omega) dX0_leastFrom_14 (by decide) rfl (fun h2 => ?_) (fun h2 => ?_)
      · refine aw_iload_n (pc' := 57) O dX0_leastFrom_56 rfl rfl ?_
        have e1 : k = rc w t := by omega
        subst e1
        exact aw_ireturn O hr rfl dX0_leastFrom_57 (⟨hb2.congr (fun e he => by rw [hTR.tkr ht he]), rfl⟩)
      · obtain ⟨z, z1, z2, z3, z4⟩ := hTR.2.2.2.2.2.2.2 t ht k h2
        have hst : ∀ e, e < 24 → tk w t (k + 1) e = (tk w t k e || decide (e = z)) := fun e he => hTR.tks ht h2 z1 z2 z3 z4 he
        have hz0 : ¬ nI z < 0 := nI_pos (by omega)
        refine aw_aload_n (pc' := 18) O dX0_leastFrom_17 rfl rfl ?_
        refine g0_4 (pc' := 21) O dX0_leastFrom_18 rfl ?_
        refine aw_iload_n (pc' := 22) O dX0_leastFrom_21 rfl rfl ?_
        refine aw_bipush (pc' := 24) O dX0_leastFrom_22 kb_24 rfl ?_
        refine aw_imulN (pc' := 25) O dX0_leastFrom_24 rfl ?_
        refine aw_iload (pc' := 27) O dX0_leastFrom_25 rfl rfl ?_
        refine aw_iaddN (pc' := 28) O dX0_leastFrom_27 rfl ?_
        refine ld0_4 (pc' := 29) (j := (t * 24) + k) O rfl (by omega) dX0_leastFrom_28 rfl ?_
        refine aw_top (y := nI z) z2 ?_
        refine aw_istore (pc' := 31) (lv' := [(0, .ref (L.2.2 20)), (1, .int (nI t)), (2, .int y), (3, .int best), (4, .int (nI k)), (5, .int (nI z))]) O dX0_leastFrom_29 (F.nL (by decide)) rfl rfl rfl ?_
        refine aw_iload (pc' := 33) O dX0_leastFrom_31 rfl rfl ?_
        refine aw_iload_n (pc' := 34) O dX0_leastFrom_33 rfl rfl ?_
        refine aw_icmp_lt (pc' := 37) (tgt := 50) O dX0_leastFrom_34 (by decide) rfl (fun h3 => ?_) (fun h3 => ?_)
        · have hcg : ∀ e, e < 24 → (tk w t (k + 1) e && decide (y ≤ nI e)) = (tk w t k e && decide (y ≤ nI e)) := by
            intro e he
            rw [hst e he]
            by_cases q : e = z
            · rw [q]; simp [i_nle h3]
            · simp [q]
          refine aw_iinc (pc' := 53) (v := nI (k + 1)) (lv' := [(0, .ref (L.2.2 20)), (1, .int (nI t)), (2, .int y), (3, .int best), (4, .int (nI (k + 1))), (5, .int (nI z))]) O dX0_leastFrom_50 (F.nL (by decide)) rfl (nI_1 _) rfl rfl rfl ?_
          refine aw_goto (tgt := 6) O dX0_leastFrom_53 (by decide) ?_
          refine aw_less [0, 1, 2, 3, 4] rfl ?_
          exact ih (k + 1) _ (by omega) (by omega) (hb2.congr hcg)
        · have hor := hb2.or (LB.one z1)
          have hle : y ≤ nI z := i_le h3
          have hcg : ∀ e, e < 24 → (tk w t (k + 1) e && decide (y ≤ nI e)) = ((tk w t k e && decide (y ≤ nI e)) || decide (e = z)) := by
            intro e he
            rw [hst e he]
            by_cases q : e = z
            · rw [q]; simp [hle]
            · simp [q]
          refine aw_iload_n (pc' := 38) O dX0_leastFrom_37 rfl rfl ?_
          refine aw_if_lt (pc' := 41) (tgt := 47) O dX0_leastFrom_38 (by decide) rfl (fun h4 => ?_) (fun h4 => ?_)
          · refine aw_iload (pc' := 49) O dX0_leastFrom_47 rfl rfl ?_
            refine aw_istore_n (pc' := 50) (lv' := [(0, .ref (L.2.2 20)), (1, .int (nI t)), (2, .int y), (3, .int (nI z)), (4, .int (nI k)), (5, .int (nI z))]) O dX0_leastFrom_49 (F.nL (by decide)) rfl rfl rfl ?_
            refine aw_iinc (pc' := 53) (v := nI (k + 1)) (lv' := [(0, .ref (L.2.2 20)), (1, .int (nI t)), (2, .int y), (3, .int (nI z)), (4, .int (nI (k + 1))), (5, .int (nI z))]) O dX0_leastFrom_50 (F.nL (by decide)) rfl (nI_1 _) rfl rfl rfl ?_
            refine aw_goto (tgt := 6) O dX0_leastFrom_53 (by decide) ?_
            refine aw_less [0, 1, 2, 3, 4] rfl ?_
            exact ih (k + 1) _ (by omega) (by omega) ((hor.2.1 hz0 h4).congr hcg)
          · refine aw_iload (pc' := 43) O dX0_leastFrom_41 rfl rfl ?_
            refine aw_iload_n (pc' := 44) O dX0_leastFrom_43 rfl rfl ?_
            refine aw_icmp_ge (pc' := 47) (tgt := 50) O dX0_leastFrom_44 (by decide) rfl (fun h5 => ?_) (fun h5 => ?_)
            · refine aw_iinc (pc' := 53) (v := nI (k + 1)) (lv' := [(0, .ref (L.2.2 20)), (1, .int (nI t)), (2, .int y), (3, .int best), (4, .int (nI (k + 1))), (5, .int (nI z))]) O dX0_leastFrom_50 (F.nL (by decide)) rfl (nI_1 _) rfl rfl rfl ?_
              refine aw_goto (tgt := 6) O dX0_leastFrom_53 (by decide) ?_
              refine aw_less [0, 1, 2, 3, 4] rfl ?_
              exact ih (k + 1) _ (by omega) (by omega) ((hor.2.2.2 hz0 h4 (i_nlt h5)).congr hcg)
            · refine aw_iload (pc' := 49) O dX0_leastFrom_47 rfl rfl ?_
              refine aw_istore_n (pc' := 50) (lv' := [(0, .ref (L.2.2 20)), (1, .int (nI t)), (2, .int y), (3, .int (nI z)), (4, .int (nI k)), (5, .int (nI z))]) O dX0_leastFrom_49 (F.nL (by decide)) rfl rfl rfl ?_
              refine aw_iinc (pc' := 53) (v := nI (k + 1)) (lv' := [(0, .ref (L.2.2 20)), (1, .int (nI t)), (2, .int y), (3, .int (nI z)), (4, .int (nI (k + 1))), (5, .int (nI z))]) O dX0_leastFrom_50 (F.nL (by decide)) rfl (nI_1 _) rfl rfl rfl ?_
              refine aw_goto (tgt := 6) O dX0_leastFrom_53 (by decide) ?_
              refine aw_less [0, 1, 2, 3, 4] rfl ?_
              exact ih (k + 1) _ (by omega) (by omega) ((hor.2.2.1 hz0 h4 (i_lt h5)).congr hcg)
  refine aw_bipush (pc' := 2) O dX0_leastFrom_0 kb_m4 rfl ?_
  refine aw_istore_n (pc' := 3) (lv' := [(0, .ref (L.2.2 20)), (1, .int (nI t)), (2, .int y), (3, .int (-4))]) O dX0_leastFrom_2 (F.nL (by decide)) rfl rfl rfl ?_
  refine aw_iconst (pc' := 4) O dX0_leastFrom_3 ki_0 rfl ?_
  refine aw_istore (pc' := 6) (lv' := [(0, .ref (L.2.2 20)), (1, .int (nI t)), (2, .int y), (3, .int (-4)), (4, .int (nI 0))]) O dX0_leastFrom_4 (F.nL (by decide)) rfl rfl rfl ?_
  exact lp (rc w t + 1) 0 _ (Nat.zero_le _) (by omega) (Or.inl ⟨rfl, fun e he => by simp [hTR.tk0 ht he]⟩)
set_option maxHeartbeats 4000000 in
set_option maxRecDepth 100000 in
theorem met0_next (l : Launch) (L : aw_L) (hD : ∀ w, va_D (aw_A L) (aw_pic0 L w)) (w : aw_S) (a : aw_AS) (h : R0 w a) (x y v : Int32) : aw_Mi (aw_pic0 L) l L yX0_next cX0_next 7 .int 1 25 [.int x, .int y, .int v] w (fun r w' => r = nextA a x y v ∧ w' = w) := by
  obtain ⟨T, hTR, hV, hS⟩ := h
  have hT := hTR.1.2
  refine aw_of_i (lv := [(0, .ref (L.2.2 20)), (1, .int x), (2, .int y), (3, .int v)]) (own := RX0) hD (by decide) rfl (Nat.le_of_ble_eq_true rfl) rfl (fun X O F hr => ?_)
  refine aw_aload_n (pc' := 1) O dX0_next_0 rfl rfl ?_
  refine aw_iload_n (pc' := 2) O dX0_next_1 rfl rfl ?_
  refine c0_badSet (pc' := 5) (rest := []) O F (met0_badSet l L hD w x) (by decide) (by decide) rfl rfl (Nat.le_of_ble_eq_true rfl) dX0_next_2 rfl (aw_deti ?_)
  refine aw_ifB_ne (pc' := 8) (tgt := 16) O dX0_next_5 (by decide) rfl (fun h1 => ?_) (fun h1 => ?_)
  · have h3 : rB 64 x = false := by simpa using h1
    refine aw_iconst (pc' := 17) O dX0_next_16 ki_m1 rfl ?_
    exact aw_ireturn O hr rfl dX0_next_17 (⟨by simp [nextA, h3], rfl⟩)
  · refine aw_aload_n (pc' := 9) O dX0_next_8 rfl rfl ?_
    refine aw_iload_n (pc' := 10) O dX0_next_9 rfl rfl ?_
    refine c0_badSet (pc' := 13) (rest := []) O F (met0_badSet l L hD w y) (by decide) (by decide) rfl rfl (Nat.le_of_ble_eq_true rfl) dX0_next_10 rfl (aw_deti ?_)
    refine aw_ifB_eq (pc' := 16) (tgt := 18) O dX0_next_13 (by decide) rfl (fun h2 => ?_) (fun h2 => ?_)
    · obtain ⟨p, hp, rfl⟩ := rB_ex (n := 64) (by decide) (show rB 64 x = true by simpa using h1)
      obtain ⟨q, hq, rfl⟩ := rB_ex (n := 64) (by decide) (show rB 64 y = true by simpa using h2)
      have hc : nextA a (nI p) (nI q) v = nextN a p q v := by simp [nextA, rB_n hp, rB_n hq, nI_clamp (n := p) (by omega), nI_clamp (n := q) (by omega)]
      have lp : ∀ (n : Nat) (t : Nat) (best : Int32), t ≤ T → T - t < n → LB (fun e => (dn w t e && fitB (a.2.1 e) p q) && decide (v ≤ nI e)) best → aw_J (aw_pic0 L) X 25 [(0, .ref (L.2.2 20)), (1, .int (nI p)), (2, .int (nI q)), (3, .int v), (4, .int best), (5, .int (nI t))] [] w := by
        intro n
        induction n with
        | zero =>
          intro t best ht hm hb2
          exact absurd hm (Nat.not_lt_zero _)
        | succ n ih =>
          intro t best ht hm hb2
          refine aw_iload (pc' := 27) O dX0_next_25 rfl rfl ?_
          refine aw_aload_n (pc' := 28) O dX0_next_27 rfl rfl ?_
          refine g0_0 (pc' := 31) O dX0_next_28 rfl ?_
          refine aw_top (y := nI T) (hTR.1.1) ?_
          refine aw_icmpN_ge (pc' := 34) (tgt := 86) O (by omega) (by omega) dX0_next_31 (by decide) rfl (fun h3 => ?_) (fun h3 => ?_)
          · refine aw_iload (pc' := 88) O dX0_next_86 rfl rfl ?_
            have e1 : t = T := by omega
            subst e1
            exact aw_ireturn O hr rfl dX0_next_88 (⟨by rw [hc]; exact (hb2.congr (Q := fun e => liveFit a p q e && decide (v ≤ nI e)) (fun e he => by rw [hTR.dnT he]; rfl)).val, rfl⟩)
          · obtain ⟨s, s1, s2, s3⟩ := hTR.2.1 t h3
            refine aw_aload_n (pc' := 35) O dX0_next_34 rfl rfl ?_
            refine aw_aload_n (pc' := 36) O dX0_next_35 rfl rfl ?_
            refine g0_1 (pc' := 39) O dX0_next_36 rfl ?_
            refine aw_iload (pc' := 41) O dX0_next_39 rfl rfl ?_
            refine ld0_1 (pc' := 42) (j := t) O rfl (by omega) dX0_next_41 rfl ?_
            refine aw_top (y := nI s) s2 ?_
            refine aw_iload_n (pc' := 43) O dX0_next_42 rfl rfl ?_
            refine aw_iload_n (pc' := 44) O dX0_next_43 rfl rfl ?_
            refine c0_fits (pc' := 47) (rest := []) O F (met0_fits l L hD w s p q s1 hp hq) (by decide) (by decide) rfl rfl (Nat.le_of_ble_eq_true rfl) dX0_next_44 rfl (aw_deti ?_)
            refine aw_ifB_eq (pc' := 50) (tgt := 80) O dX0_next_47 (by decide) rfl (fun h4 => ?_) (fun h4 => ?_)
            · have hcg : ∀ e, e < 24 → ((dn w (t + 1) e && fitB (a.2.1 e) p q) && decide (v ≤ nI e)) = ((dn w t e && fitB (a.2.1 e) p q) && decide (v ≤ nI e)) := by
                intro e he
                rw [hTR.dns h3 he]
                by_cases h5 : w.1 5 e = nI t
                · rw [(hTR.set h3 he h5 s2 s1).2, h4]
                  simp
                · simp [h5]
              refine aw_iinc (pc' := 83) (v := nI (t + 1)) (lv' := [(0, .ref (L.2.2 20)), (1, .int (nI p)), (2, .int (nI q)), (3, .int v), (4, .int best), (5, .int (nI (t + 1)))]) O dX0_next_80 (F.nL (by decide)) rfl (nI_1 _) rfl rfl rfl ?_
              refine aw_goto (tgt := 25) O dX0_next_83 (by decide) ?_
              refine aw_less [0, 1, 2, 3, 4, 5] rfl ?_
              exact ih (t + 1) _ (by omega) (by omega) (hb2.congr hcg)
            · refine aw_aload_n (pc' := 51) O dX0_next_50 rfl rfl ?_
              refine aw_iload (pc' := 53) O dX0_next_51 rfl rfl ?_
              refine aw_iload_n (pc' := 54) O dX0_next_53 rfl rfl ?_
              refine c0_leastFrom (pc' := 57) (rest := []) O F (met0_leastFrom l L hD w hTR t h3 v) (by decide) (by decide) rfl rfl (Nat.le_of_ble_eq_true rfl) dX0_next_54 rfl (fun r w1 hr1 => ?_)
              obtain ⟨hlb, hw1⟩ := hr1
              subst w1
              have hor := hb2.or hlb
              have hcg : ∀ e, e < 24 → ((dn w (t + 1) e && fitB (a.2.1 e) p q) && decide (v ≤ nI e)) = (((dn w t e && fitB (a.2.1 e) p q) && decide (v ≤ nI e)) || (decide (w.1 5 e = nI t) && decide (v ≤ nI e))) := by
                intro e he
                rw [hTR.dns h3 he]
                by_cases h5 : w.1 5 e = nI t
                · rw [(hTR.set h3 he h5 s2 s1).2, h4]
                  simp [h5]
                · simp [h5]
              refine aw_istore (pc' := 59) (lv' := [(0, .ref (L.2.2 20)), (1, .int (nI p)), (2, .int (nI q)), (3, .int v), (4, .int best), (5, .int (nI t)), (6, .int r)]) O dX0_next_57 (F.nL (by decide)) rfl rfl rfl ?_
              refine aw_iload (pc' := 61) O dX0_next_59 rfl rfl ?_
              refine aw_if_lt (pc' := 64) (tgt := 80) O dX0_next_61 (by decide) rfl (fun h5 => ?_) (fun h5 => ?_)
              · refine aw_iinc (pc' := 83) (v := nI (t + 1)) (lv' := [(0, .ref (L.2.2 20)), (1, .int (nI p)), (2, .int (nI q)), (3, .int v), (4, .int best), (5, .int (nI (t + 1))), (6, .int r)]) O dX0_next_80 (F.nL (by decide)) rfl (nI_1 _) rfl rfl rfl ?_
                refine aw_goto (tgt := 25) O dX0_next_83 (by decide) ?_
                refine aw_less [0, 1, 2, 3, 4, 5] rfl ?_
                exact ih (t + 1) _ (by omega) (by omega) ((hor.1 h5).congr hcg)
              · refine aw_iload (pc' := 66) O dX0_next_64 rfl rfl ?_
                refine aw_if_lt (pc' := 69) (tgt := 76) O dX0_next_66 (by decide) rfl (fun h6 => ?_) (fun h6 => ?_)
                · refine aw_iload (pc' := 78) O dX0_next_76 rfl rfl ?_
                  refine aw_istore (pc' := 80) (lv' := [(0, .ref (L.2.2 20)), (1, .int (nI p)), (2, .int (nI q)), (3, .int v), (4, .int r), (5, .int (nI t)), (6, .int r)]) O dX0_next_78 (F.nL (by decide)) rfl rfl rfl ?_
                  refine aw_iinc (pc' := 83) (v := nI (t + 1)) (lv' := [(0, .ref (L.2.2 20)), (1, .int (nI p)), (2, .int (nI q)), (3, .int v), (4, .int r), (5, .int (nI (t + 1))), (6, .int r)]) O dX0_next_80 (F.nL (by decide)) rfl (nI_1 _) rfl rfl rfl ?_
                  refine aw_goto (tgt := 25) O dX0_next_83 (by decide) ?_
                  refine aw_less [0, 1, 2, 3, 4, 5] rfl ?_
                  exact ih (t + 1) _ (by omega) (by omega) ((hor.2.1 h5 h6).congr hcg)
                · refine aw_iload (pc' := 71) O dX0_next_69 rfl rfl ?_
                  refine aw_iload (pc' := 73) O dX0_next_71 rfl rfl ?_
                  refine aw_icmp_ge (pc' := 76) (tgt := 80) O dX0_next_73 (by decide) rfl (fun h7 => ?_) (fun h7 => ?_)
                  · refine aw_iinc (pc' := 83) (v := nI (t + 1)) (lv' := [(0, .ref (L.2.2 20)), (1, .int (nI p)), (2, .int (nI q)), (3, .int v), (4, .int best), (5, .int (nI (t + 1))), (6, .int r)]) O dX0_next_80 (F.nL (by decide)) rfl (nI_1 _) rfl rfl rfl ?_
                    refine aw_goto (tgt := 25) O dX0_next_83 (by decide) ?_
                    refine aw_less [0, 1, 2, 3, 4, 5] rfl ?_
                    exact ih (t + 1) _ (by omega) (by omega) ((hor.2.2.2 h5 h6 (i_nlt h7)).congr hcg)
                  · refine aw_iload (pc' := 78) O dX0_next_76 rfl rfl ?_
                    refine aw_istore (pc' := 80) (lv' := [(0, .ref (L.2.2 20)), (1, .int (nI p)), (2, .int (nI q)), (3, .int v), (4, .int r), (5, .int (nI t)), (6, .int r)]) O dX0_next_78 (F.nL (by decide)) rfl rfl rfl ?_
                    refine aw_iinc (pc' := 83) (v := nI (t + 1)) (lv' := [(0, .ref (L.2.2 20)), (1, .int (nI p)), (2, .int (nI q)), (3, .int v), (4, .int r), (5, .int (nI (t + 1))), (6, .int r)]) O dX0_next_80 (F.nL (by decide)) rfl (nI_1 _) rfl rfl rfl ?_
                    refine aw_goto (tgt := 25) O dX0_next_83 (by decide) ?_
                    refine aw_less [0, 1, 2, 3, 4, 5] rfl ?_
                    exact ih (t + 1) _ (by omega) (by omega) ((hor.2.2.1 h5 h6 (i_lt h7)).congr hcg)
      refine aw_bipush (pc' := 20) O dX0_next_18 kb_m4 rfl ?_
      refine aw_istore (pc' := 22) (lv' := [(0, .ref (L.2.2 20)), (1, .int (nI p)), (2, .int (nI q)), (3, .int v), (4, .int (-4))]) O dX0_next_20 (F.nL (by decide)) rfl rfl rfl ?_
      refine aw_iconst (pc' := 23) O dX0_next_22 ki_0 rfl ?_
      refine aw_istore (pc' := 25) (lv' := [(0, .ref (L.2.2 20)), (1, .int (nI p)), (2, .int (nI q)), (3, .int v), (4, .int (-4)), (5, .int (nI 0))]) O dX0_next_23 (F.nL (by decide)) rfl rfl rfl ?_
      exact lp (T + 1) 0 _ (Nat.zero_le _) (by omega) (Or.inl ⟨rfl, fun e he => by simp [hTR.dn0 he]⟩)
    · have h3 : rB 64 y = false := by simpa using h2
      refine aw_iconst (pc' := 17) O dX0_next_16 ki_m1 rfl ?_
      exact aw_ireturn O hr rfl dX0_next_17 (⟨by simp [nextA, h3], rfl⟩)
set_option maxHeartbeats 4000000 in
set_option maxRecDepth 100000 in
theorem met0_sum (l : Launch) (L : aw_L) (hD : ∀ w, va_D (aw_A L) (aw_pic0 L w)) (w : aw_S) (a : aw_AS) (h : R0 w a) (x y v : Int32) : aw_Mi (aw_pic0 L) l L yX0_sum cX0_sum 8 .int 1 23 [.int x, .int y, .int v] w (fun r w' => r = sumA a x y v ∧ w' = w) := by
  obtain ⟨T, hTR, hV, hS⟩ := h
  have hT := hTR.1.2
  refine aw_of_i (lv := [(0, .ref (L.2.2 20)), (1, .int x), (2, .int y), (3, .int v)]) (own := RX0) hD (by decide) rfl (Nat.le_of_ble_eq_true rfl) rfl (fun X O F hr => ?_)
  refine aw_aload_n (pc' := 1) O dX0_sum_0 rfl rfl ?_
  refine aw_iload_n (pc' := 2) O dX0_sum_1 rfl rfl ?_
  refine c0_badSet (pc' := 5) (rest := []) O F (met0_badSet l L hD w x) (by decide) (by decide) rfl rfl (Nat.le_of_ble_eq_true rfl) dX0_sum_2 rfl (aw_deti ?_)
  refine aw_ifB_ne (pc' := 8) (tgt := 24) O dX0_sum_5 (by decide) rfl (fun h1 => ?_) (fun h1 => ?_)
  · have h3 : rB 64 x = false := by simpa using h1
    refine aw_iconst (pc' := 25) O dX0_sum_24 ki_0 rfl ?_
    exact aw_ireturn O hr rfl dX0_sum_25 (⟨by simp [sumA, h3]; rfl, rfl⟩)
  · refine aw_aload_n (pc' := 9) O dX0_sum_8 rfl rfl ?_
    refine aw_iload_n (pc' := 10) O dX0_sum_9 rfl rfl ?_
    refine c0_badSet (pc' := 13) (rest := []) O F (met0_badSet l L hD w y) (by decide) (by decide) rfl rfl (Nat.le_of_ble_eq_true rfl) dX0_sum_10 rfl (aw_deti ?_)
    refine aw_ifB_ne (pc' := 16) (tgt := 24) O dX0_sum_13 (by decide) rfl (fun h2 => ?_) (fun h2 => ?_)
    · have h3 : rB 64 y = false := by simpa using h2
      refine aw_iconst (pc' := 25) O dX0_sum_24 ki_0 rfl ?_
      exact aw_ireturn O hr rfl dX0_sum_25 (⟨by simp [sumA, h3]; rfl, rfl⟩)
    · refine aw_aload_n (pc' := 17) O dX0_sum_16 rfl rfl ?_
      refine aw_iload_n (pc' := 18) O dX0_sum_17 rfl rfl ?_
      refine c0_badPart (pc' := 21) (rest := []) O F (met0_badPart l L hD w v) (by decide) (by decide) rfl rfl (Nat.le_of_ble_eq_true rfl) dX0_sum_18 rfl (aw_deti ?_)
      refine aw_ifB_eq (pc' := 24) (tgt := 26) O dX0_sum_21 (by decide) rfl (fun h3 => ?_) (fun h3 => ?_)
      · obtain ⟨p, hp, rfl⟩ := rB_ex (n := 64) (by decide) (show rB 64 x = true by simpa using h1)
        obtain ⟨q, hq, rfl⟩ := rB_ex (n := 64) (by decide) (show rB 64 y = true by simpa using h2)
        obtain ⟨c, hc, rfl⟩ := rB_ex (n := 6) (by decide) (show rB 6 v = true by simpa using h3)
        have hs0 : sumA a (nI p) (nI q) (nI c) = sumN a p q c := by simp [sumA, rB_n hp, rB_n hq, rB_n hc, nI_clamp (n := p) (by omega), nI_clamp (n := q) (by omega), nI_clamp (n := c) (by omega)]
        have hpc : p ||| 2 ^ c < 64 := aw_or64 c hc p hp
        obtain ⟨g, hg⟩ : ∃ g : Nat → Bool, g = fun s => fitB s p q && btB s c := ⟨_, rfl⟩
        have lp : ∀ (n : Nat) (t : Nat) (acc : Int32), t ≤ T → T - t < n → acc = sm (fun e => if dn w t e && g (a.2.1 e) then a.2.2.1 e c else 0) 24 → aw_J (aw_pic0 L) X 39 [(0, .ref (L.2.2 20)), (1, .int (nI p)), (2, .int (nI q)), (3, .int (nI c)), (4, .int acc), (5, .int (nI (p ||| 2 ^ c))), (6, .int (nI t))] [] w := by
          intro n
          induction n with
          | zero =>
            intro t acc ht hm hacc
            exact absurd hm (Nat.not_lt_zero _)
          | succ n ih =>
            intro t acc ht hm hacc
            refine aw_iload (pc' := 41) O dX0_sum_39 rfl rfl ?_
            refine aw_aload_n (pc' := 42) O dX0_sum_41 rfl rfl ?_
            refine g0_0 (pc' := 45) O dX0_sum_42 rfl ?_
            refine aw_top (y := nI T) (hTR.1.1) ?_
            refine aw_icmpN_ge (pc' := 48) (tgt := 120) O (by omega) (by omega) dX0_sum_45 (by decide) rfl (fun h4 => ?_) (fun h4 => ?_)
            · refine aw_iload (pc' := 122) O dX0_sum_120 rfl rfl ?_
              have e1 : t = T := by omega
              subst e1
              exact aw_ireturn O hr rfl dX0_sum_122 (⟨by
      rw [hs0, hacc]
      refine sm_congr (fun e he => ?_)
      rw [hTR.dnT he, hg]
      simp only [liveFit, Bool.and_assoc], rfl⟩)
            · obtain ⟨s, s1, s2, s3⟩ := hTR.2.1 t h4
              have hgs : fitB s (p ||| 2 ^ c) q = g s := by rw [hg]; exact fitB_or hc s1 hp q
              refine aw_aload_n (pc' := 49) O dX0_sum_48 rfl rfl ?_
              refine aw_aload_n (pc' := 50) O dX0_sum_49 rfl rfl ?_
              refine g0_1 (pc' := 53) O dX0_sum_50 rfl ?_
              refine aw_iload (pc' := 55) O dX0_sum_53 rfl rfl ?_
              refine ld0_1 (pc' := 56) (j := t) O rfl (by omega) dX0_sum_55 rfl ?_
              refine aw_top (y := nI s) s2 ?_
              refine aw_iload (pc' := 58) O dX0_sum_56 rfl rfl ?_
              refine aw_iload_n (pc' := 59) O dX0_sum_58 rfl rfl ?_
              refine c0_fits (pc' := 62) (rest := []) O F (met0_fits l L hD w s (p ||| 2 ^ c) q s1 hpc hq) (by decide) (by decide) rfl rfl (Nat.le_of_ble_eq_true rfl) dX0_sum_59 rfl (aw_deti ?_)
              refine aw_ifB_eq (pc' := 65) (tgt := 114) O dX0_sum_62 (by decide) rfl (fun h5 => ?_) (fun h5 => ?_)
              · refine aw_iinc (pc' := 117) (v := nI (t + 1)) (lv' := [(0, .ref (L.2.2 20)), (1, .int (nI p)), (2, .int (nI q)), (3, .int (nI c)), (4, .int acc), (5, .int (nI (p ||| 2 ^ c))), (6, .int (nI (t + 1)))]) O dX0_sum_114 (F.nL (by decide)) rfl (nI_1 _) rfl rfl rfl ?_
                refine aw_goto (tgt := 39) O dX0_sum_117 (by decide) ?_
                exact ih (t + 1) _ (by omega) (by omega) (by rw [hacc]; exact (sm_skip hTR h4 s2 s1 (by rw [← hgs]; exact h5) _).symm)
              · have hb := rc_le w t
                have ih0 := ih
                have lp2 : ∀ (n : Nat) (k : Nat) (acc : Int32), k ≤ rc w t → rc w t - k < n → acc = sm (fun e => if dk w t k e && g (a.2.1 e) then a.2.2.1 e c else 0) 24 → aw_J (aw_pic0 L) X 68 [(0, .ref (L.2.2 20)), (1, .int (nI p)), (2, .int (nI q)), (3, .int (nI c)), (4, .int acc), (5, .int (nI (p ||| 2 ^ c))), (6, .int (nI t)), (7, .int (nI k))] [] w := by
                  intro n
                  induction n with
                  | zero =>
                    intro k acc hk hm hacc
                    exact absurd hm (Nat.not_lt_zero _)
                  | succ n ih =>
                    intro k acc hk hm hacc
                    refine aw_iload (pc' := 70) O dX0_sum_68 rfl rfl ?_
                    refine aw_aload_n (pc' := 71) O dX0_sum_70 rfl rfl ?_
                    refine g0_3 (pc' := 74) O dX0_sum_71 rfl ?_
                    refine aw_iload (pc' := 76) O dX0_sum_74 rfl rfl ?_
                    refine ld0_3 (pc' := 77) (j := t) O rfl (by omega) dX0_sum_76 rfl ?_
                    refine aw_top (y := nI (rc w t)) (hTR.2.2.2.2.1 t h4) ?_
                    refine aw_icmpN_ge (pc' := 80) (tgt := 114) O (by omega) (by omega) dX0_sum_77 (by decide) rfl (fun h6 => ?_) (fun h6 => ?_)
                    · have e1 : k = rc w t := by omega
                      subst e1
                      refine aw_iinc (pc' := 117) (v := nI (t + 1)) (lv' := [(0, .ref (L.2.2 20)), (1, .int (nI p)), (2, .int (nI q)), (3, .int (nI c)), (4, .int acc), (5, .int (nI (p ||| 2 ^ c))), (6, .int (nI (t + 1))), (7, .int (nI (rc w t)))]) O dX0_sum_114 (F.nL (by decide)) rfl (nI_1 _) rfl rfl rfl ?_
                      refine aw_goto (tgt := 39) O dX0_sum_117 (by decide) ?_
                      refine aw_less [0, 1, 2, 3, 4, 5, 6] rfl ?_
                      exact ih0 (t + 1) _ (by omega) (by omega) (by rw [hacc]; exact sm_dkr hTR h4 _)
                    · obtain ⟨z, z1, z2, z3, z4⟩ := hTR.2.2.2.2.2.2.2 t h4 k h6
                      have hgz : g (a.2.1 z) = true := by rw [(hTR.set h4 z1 z3 s2 s1).2, ← hgs]; exact h5
                      refine aw_iload (pc' := 82) O dX0_sum_80 rfl rfl ?_
                      refine aw_aload_n (pc' := 83) O dX0_sum_82 rfl rfl ?_
                      refine g0_7 (pc' := 86) O dX0_sum_83 rfl ?_
                      refine aw_iload_n (pc' := 87) O dX0_sum_86 rfl rfl ?_
                      refine aw_bipush (pc' := 89) O dX0_sum_87 kb_24 rfl ?_
                      refine aw_imulN (pc' := 90) O dX0_sum_89 rfl ?_
                      refine aw_aload_n (pc' := 91) O dX0_sum_90 rfl rfl ?_
                      refine g0_4 (pc' := 94) O dX0_sum_91 rfl ?_
                      refine aw_iload (pc' := 96) O dX0_sum_94 rfl rfl ?_
                      refine aw_bipush (pc' := 98) O dX0_sum_96 kb_24 rfl ?_
                      refine aw_imulN (pc' := 99) O dX0_sum_98 rfl ?_
                      refine aw_iload (pc' := 101) O dX0_sum_99 rfl rfl ?_
                      refine aw_iaddN (pc' := 102) O dX0_sum_101 rfl ?_
                      refine ld0_4 (pc' := 103) (j := (t * 24) + k) O rfl (by omega) dX0_sum_102 rfl ?_
                      refine aw_top (y := nI z) z2 ?_
                      refine aw_iaddN (pc' := 104) O dX0_sum_103 rfl ?_
                      refine ld0_7 (pc' := 105) (j := (c * 24) + z) O rfl (by omega) dX0_sum_104 rfl ?_
                      refine aw_top (y := a.2.2.1 z c) (hV z z1 c hc) ?_
                      refine aw_iadd (pc' := 106) O dX0_sum_105 rfl ?_
                      refine aw_istore (pc' := 108) (lv' := [(0, .ref (L.2.2 20)), (1, .int (nI p)), (2, .int (nI q)), (3, .int (nI c)), (4, .int (acc + (a.2.2.1 z c))), (5, .int (nI (p ||| 2 ^ c))), (6, .int (nI t)), (7, .int (nI k))]) O dX0_sum_106 (F.nL (by decide)) rfl rfl rfl ?_
                      refine aw_iinc (pc' := 111) (v := nI (k + 1)) (lv' := [(0, .ref (L.2.2 20)), (1, .int (nI p)), (2, .int (nI q)), (3, .int (nI c)), (4, .int (acc + (a.2.2.1 z c))), (5, .int (nI (p ||| 2 ^ c))), (6, .int (nI t)), (7, .int (nI (k + 1)))]) O dX0_sum_108 (F.nL (by decide)) rfl (nI_1 _) rfl rfl rfl ?_
                      refine aw_goto (tgt := 68) O dX0_sum_111 (by decide) ?_
                      exact ih (k + 1) _ (by omega) (by omega) (by rw [hacc]; exact (sm_dk hTR h4 h6 z1 z2 z3 z4 (G := fun e => g (a.2.1 e)) hgz _).symm)
                refine aw_iconst (pc' := 66) O dX0_sum_65 ki_0 rfl ?_
                refine aw_istore (pc' := 68) (lv' := [(0, .ref (L.2.2 20)), (1, .int (nI p)), (2, .int (nI q)), (3, .int (nI c)), (4, .int acc), (5, .int (nI (p ||| 2 ^ c))), (6, .int (nI t)), (7, .int (nI 0))]) O dX0_sum_66 (F.nL (by decide)) rfl rfl rfl ?_
                exact lp2 (rc w t + 1) 0 _ (Nat.zero_le _) (by omega) (by rw [hacc]; exact (sm_dk0 hTR h4 _).symm)
        refine aw_iconst (pc' := 27) O dX0_sum_26 ki_0 rfl ?_
        refine aw_istore (pc' := 29) (lv' := [(0, .ref (L.2.2 20)), (1, .int (nI p)), (2, .int (nI q)), (3, .int (nI c)), (4, .int (nI 0))]) O dX0_sum_27 (F.nL (by decide)) rfl rfl rfl ?_
        refine aw_iload_n (pc' := 30) O dX0_sum_29 rfl rfl ?_
        refine aw_iconst (pc' := 31) O dX0_sum_30 ki_1 rfl ?_
        refine aw_iload_n (pc' := 32) O dX0_sum_31 rfl rfl ?_
        refine aw_ishl (pc' := 33) O dX0_sum_32 rfl ?_
        refine aw_top (y := nI (2 ^ c)) (aw_shl1 c (by omega)) ?_
        refine aw_ior (pc' := 34) O dX0_sum_33 rfl ?_
        refine aw_top (y := nI (p ||| 2 ^ c)) (aw_nx_or _ _) ?_
        refine aw_istore (pc' := 36) (lv' := [(0, .ref (L.2.2 20)), (1, .int (nI p)), (2, .int (nI q)), (3, .int (nI c)), (4, .int (nI 0)), (5, .int (nI (p ||| 2 ^ c)))]) O dX0_sum_34 (F.nL (by decide)) rfl rfl rfl ?_
        refine aw_iconst (pc' := 37) O dX0_sum_36 ki_0 rfl ?_
        refine aw_istore (pc' := 39) (lv' := [(0, .ref (L.2.2 20)), (1, .int (nI p)), (2, .int (nI q)), (3, .int (nI c)), (4, .int (nI 0)), (5, .int (nI (p ||| 2 ^ c))), (6, .int (nI 0))]) O dX0_sum_37 (F.nL (by decide)) rfl rfl rfl ?_
        exact lp (T + 1) 0 _ (Nat.zero_le _) (by omega) ((sm_zero (n := 24)).symm.trans (sm_congr (fun e he => by rw [hTR.dn0 he]; rfl)))
      · have h4 : rB 6 v = false := by simpa using h3
        refine aw_iconst (pc' := 25) O dX0_sum_24 ki_0 rfl ?_
        exact aw_ireturn O hr rfl dX0_sum_25 (⟨by simp [sumA, h4]; rfl, rfl⟩)
set_option maxHeartbeats 4000000 in
set_option maxRecDepth 100000 in
theorem met0_kinds (l : Launch) (L : aw_L) (hD : ∀ w, va_D (aw_A L) (aw_pic0 L w)) (w : aw_S) (a : aw_AS) (h : R0 w a) : aw_Mi (aw_pic0 L) l L yX0_kinds cX0_kinds 3 .int 0 0 [] w (fun r w' => r = kindsA a ∧ w' = w) := by
  obtain ⟨T, hTR, hV, hS⟩ := h
  have hT := hTR.1.2
  refine aw_of_i (lv := [(0, .ref (L.2.2 20))]) (own := RX0) hD (by decide) rfl (Nat.le_of_ble_eq_true rfl) rfl (fun X O F hr => ?_)
  have lp : ∀ (n : Nat) (t : Nat) (acc : Int32), t ≤ T → T - t < n → acc = nI (cn (fun s => kd w t s && anyN (fun e => a.1 e && decide (a.2.1 e = s)) 24) 64) → aw_J (aw_pic0 L) X 4 [(0, .ref (L.2.2 20)), (1, .int acc), (2, .int (nI t))] [] w := by
    intro n
    induction n with
    | zero =>
      intro t acc ht hm hacc
      exact absurd hm (Nat.not_lt_zero _)
    | succ n ih =>
      intro t acc ht hm hacc
      refine aw_iload_n (pc' := 5) O dX0_kinds_4 rfl rfl ?_
      refine aw_aload_n (pc' := 6) O dX0_kinds_5 rfl rfl ?_
      refine g0_0 (pc' := 9) O dX0_kinds_6 rfl ?_
      refine aw_top (y := nI T) (hTR.1.1) ?_
      refine aw_icmpN_ge (pc' := 12) (tgt := 30) O (by omega) (by omega) dX0_kinds_9 (by decide) rfl (fun h2 => ?_) (fun h2 => ?_)
      · refine aw_iload_n (pc' := 31) O dX0_kinds_30 rfl rfl ?_
        have e1 : t = T := by omega
        subst e1
        exact aw_ireturn O hr rfl dX0_kinds_31 (⟨by rw [hacc, hTR.knT]; rfl, rfl⟩)
      · have hb := rc_le w t
        refine aw_aload_n (pc' := 13) O dX0_kinds_12 rfl rfl ?_
        refine g0_3 (pc' := 16) O dX0_kinds_13 rfl ?_
        refine aw_iload_n (pc' := 17) O dX0_kinds_16 rfl rfl ?_
        refine ld0_3 (pc' := 18) (j := t) O rfl (by omega) dX0_kinds_17 rfl ?_
        refine aw_top (y := nI (rc w t)) (hTR.2.2.2.2.1 t h2) ?_
        refine aw_if_le (pc' := 21) (tgt := 24) O dX0_kinds_18 (by decide) rfl (fun h3 => ?_) (fun h3 => ?_)
        · refine aw_iinc (pc' := 27) (v := nI (t + 1)) (lv' := [(0, .ref (L.2.2 20)), (1, .int acc), (2, .int (nI (t + 1)))]) O dX0_kinds_24 (F.nL (by decide)) rfl (nI_1 _) rfl rfl rfl ?_
          refine aw_goto (tgt := 4) O dX0_kinds_27 (by decide) ?_
          exact ih (t + 1) _ (by omega) (by omega) (by rw [hacc, hTR.knd h2, if_neg (fun q => nI_nle q (by omega) h3)]; rfl)
        · refine aw_iinc (pc' := 24) (v := acc + 1) (lv' := [(0, .ref (L.2.2 20)), (1, .int (acc + 1)), (2, .int (nI t))]) O dX0_kinds_21 (F.nL (by decide)) rfl rfl rfl rfl rfl ?_
          refine aw_iinc (pc' := 27) (v := nI (t + 1)) (lv' := [(0, .ref (L.2.2 20)), (1, .int (acc + 1)), (2, .int (nI (t + 1)))]) O dX0_kinds_24 (F.nL (by decide)) rfl (nI_1 _) rfl rfl rfl ?_
          refine aw_goto (tgt := 4) O dX0_kinds_27 (by decide) ?_
          exact ih (t + 1) _ (by omega) (by omega) (by rw [hacc, hTR.knd h2, if_pos (by rcases Nat.eq_zero_or_pos (rc w t) with q | q; exact absurd (by rw [q]; decide) h3; exact q)]; exact nI_1 _)
  refine aw_iconst (pc' := 1) O dX0_kinds_0 ki_0 rfl ?_
  refine aw_istore_n (pc' := 2) (lv' := [(0, .ref (L.2.2 20)), (1, .int (nI 0))]) O dX0_kinds_1 (F.nL (by decide)) rfl rfl rfl ?_
  refine aw_iconst (pc' := 3) O dX0_kinds_2 ki_0 rfl ?_
  refine aw_istore_n (pc' := 4) (lv' := [(0, .ref (L.2.2 20)), (1, .int (nI 0)), (2, .int (nI 0))]) O dX0_kinds_3 (F.nL (by decide)) rfl rfl rfl ?_
  exact lp (T + 1) 0 _ (Nat.zero_le _) (by omega) (by rw [hTR.kn0])
set_option maxHeartbeats 4000000 in
set_option maxRecDepth 100000 in
theorem met0_digest (l : Launch) (L : aw_L) (hD : ∀ w, va_D (aw_A L) (aw_pic0 L w)) (w : aw_S) (a : aw_AS) (h : R0 w a) : aw_Mi (aw_pic0 L) l L yX0_digest cX0_digest 5 .int 1 21 [] w (fun r w' => r = digestA a ∧ w' = w) := by
  obtain ⟨T, hTR, hV, hS⟩ := h
  have hT := hTR.1.2
  refine aw_of_i (lv := [(0, .ref (L.2.2 20))]) (own := RX0) hD (by decide) rfl (Nat.le_of_ble_eq_true rfl) rfl (fun X O F hr => ?_)
  have lp : ∀ (n : Nat) (e : Nat) (acc : Int32), e ≤ 24 → 24 - e < n → acc = sm (fun i => nI (i + 1) * getN a (i / 6) (i % 6)) (6 * e) → aw_J (aw_pic0 L) X 4 [(0, .ref (L.2.2 20)), (1, .int acc), (2, .int (nI e))] [] w := by
    intro n
    induction n with
    | zero =>
      intro e acc he hm hacc
      exact absurd hm (Nat.not_lt_zero _)
    | succ n ih =>
      intro e acc he hm hacc
      refine aw_iload_n (pc' := 5) O dX0_digest_4 rfl rfl ?_
      refine aw_bipush (pc' := 7) O dX0_digest_5 kb_24 rfl ?_
      refine aw_icmpN_ge (pc' := 10) (tgt := 79) O (by omega) (by omega) dX0_digest_7 (by decide) rfl (fun h2 => ?_) (fun h2 => ?_)
      · refine aw_iload_n (pc' := 80) O dX0_digest_79 rfl rfl ?_
        have e1 : e = 24 := by omega
        subst e1
        exact aw_ireturn O hr rfl dX0_digest_80 (⟨hacc, rfl⟩)
      · refine aw_aload_n (pc' := 11) O dX0_digest_10 rfl rfl ?_
        refine g0_5 (pc' := 14) O dX0_digest_11 rfl ?_
        refine aw_iload_n (pc' := 15) O dX0_digest_14 rfl rfl ?_
        refine ld0_5 (pc' := 16) (j := e) O rfl (by omega) dX0_digest_15 rfl ?_
        refine aw_if_lt (pc' := 19) (tgt := 73) O dX0_digest_16 (by decide) rfl (fun h3 => ?_) (fun h3 => ?_)
        · have hl : a.1 e = false := (hTR.liveI h2).1 h3
          refine aw_iinc (pc' := 76) (v := nI (e + 1)) (lv' := [(0, .ref (L.2.2 20)), (1, .int acc), (2, .int (nI (e + 1)))]) O dX0_digest_73 (F.nL (by decide)) rfl (nI_1 _) rfl rfl rfl ?_
          refine aw_goto (tgt := 4) O dX0_digest_76 (by decide) ?_
          exact ih (e + 1) _ (by omega) (by omega) (by rw [hacc]; exact (dg_dead a e hl).symm)
        · have hl : a.1 e = true := (hTR.liveI h2).2 h3
          obtain ⟨t, g1, g2, g3, g4, -⟩ := hTR.live h2 hl
          have ih0 := ih
          refine aw_aload_n (pc' := 20) O dX0_digest_19 rfl rfl ?_
          refine aw_iload_n (pc' := 21) O dX0_digest_20 rfl rfl ?_
          refine c0_setOf (pc' := 24) (rest := []) O F (met0_setOf l L hD w hTR e h2 hl) (by decide) (by decide) rfl rfl (Nat.le_of_ble_eq_true rfl) dX0_digest_21 rfl (aw_deti ?_)
          have lp2 : ∀ (n : Nat) (c : Nat) (acc : Int32), c ≤ 6 → 6 - c < n → acc = sm (fun i => nI (i + 1) * getN a (i / 6) (i % 6)) (6 * e + c) → aw_J (aw_pic0 L) X 28 [(0, .ref (L.2.2 20)), (1, .int acc), (2, .int (nI e)), (3, .int (nI (a.2.1 e))), (4, .int (nI c))] [] w := by
            intro n
            induction n with
            | zero =>
              intro c acc hc hm hacc
              exact absurd hm (Nat.not_lt_zero _)
            | succ n ih =>
              intro c acc hc hm hacc
              refine aw_iload (pc' := 30) O dX0_digest_28 rfl rfl ?_
              refine aw_bipush (pc' := 32) O dX0_digest_30 kb_6 rfl ?_
              refine aw_icmpN_ge (pc' := 35) (tgt := 73) O (by omega) (by omega) dX0_digest_32 (by decide) rfl (fun h4 => ?_) (fun h4 => ?_)
              · have e1 : c = 6 := by omega
                subst e1
                refine aw_iinc (pc' := 76) (v := nI (e + 1)) (lv' := [(0, .ref (L.2.2 20)), (1, .int acc), (2, .int (nI (e + 1))), (3, .int (nI (a.2.1 e))), (4, .int (nI 6))]) O dX0_digest_73 (F.nL (by decide)) rfl (nI_1 _) rfl rfl rfl ?_
                refine aw_goto (tgt := 4) O dX0_digest_76 (by decide) ?_
                refine aw_less [0, 1, 2] rfl ?_
                exact ih0 (e + 1) _ (by omega) (by omega) (by rw [hacc]; rfl)
              · refine aw_iload_n (pc' := 36) O dX0_digest_35 rfl rfl ?_
                refine aw_iload_n (pc' := 37) O dX0_digest_36 rfl rfl ?_
                refine aw_iload (pc' := 39) O dX0_digest_37 rfl rfl ?_
                refine aw_ishr (pc' := 40) O dX0_digest_39 rfl ?_
                refine aw_iconst (pc' := 41) O dX0_digest_40 ki_1 rfl ?_
                refine aw_iand (pc' := 42) O dX0_digest_41 rfl ?_
                refine aw_top (y := bI (btB (a.2.1 e) c)) (aw_bitB (by omega) (by omega)) ?_
                refine aw_bipush (pc' := 44) O dX0_digest_42 kb_6 rfl ?_
                refine aw_iload_n (pc' := 45) O dX0_digest_44 rfl rfl ?_
                refine aw_imulN (pc' := 46) O dX0_digest_45 rfl ?_
                refine aw_iload (pc' := 48) O dX0_digest_46 rfl rfl ?_
                refine aw_iaddN (pc' := 49) O dX0_digest_48 rfl ?_
                refine aw_iconst (pc' := 50) O dX0_digest_49 ki_1 rfl ?_
                refine aw_iaddN (pc' := 51) O dX0_digest_50 rfl ?_
                refine aw_imul (pc' := 52) O dX0_digest_51 rfl ?_
                refine aw_aload_n (pc' := 53) O dX0_digest_52 rfl rfl ?_
                refine g0_7 (pc' := 56) O dX0_digest_53 rfl ?_
                refine aw_iload (pc' := 58) O dX0_digest_56 rfl rfl ?_
                refine aw_bipush (pc' := 60) O dX0_digest_58 kb_24 rfl ?_
                refine aw_imulN (pc' := 61) O dX0_digest_60 rfl ?_
                refine aw_iload_n (pc' := 62) O dX0_digest_61 rfl rfl ?_
                refine aw_iaddN (pc' := 63) O dX0_digest_62 rfl ?_
                refine ld0_7 (pc' := 64) (j := (c * 24) + e) O rfl (by omega) dX0_digest_63 rfl ?_
                refine aw_top (y := a.2.2.1 e c) (hV e h2 c h4) ?_
                refine aw_imul (pc' := 65) O dX0_digest_64 rfl ?_
                refine aw_iadd (pc' := 66) O dX0_digest_65 rfl ?_
                refine aw_istore_n (pc' := 67) (lv' := [(0, .ref (L.2.2 20)), (1, .int (acc + (((bI (btB (a.2.1 e) c)) * (nI (((6 * e) + c) + 1))) * (a.2.2.1 e c)))), (2, .int (nI e)), (3, .int (nI (a.2.1 e))), (4, .int (nI c))]) O dX0_digest_66 (F.nL (by decide)) rfl rfl rfl ?_
                refine aw_iinc (pc' := 70) (v := nI (c + 1)) (lv' := [(0, .ref (L.2.2 20)), (1, .int (acc + (((bI (btB (a.2.1 e) c)) * (nI (((6 * e) + c) + 1))) * (a.2.2.1 e c)))), (2, .int (nI e)), (3, .int (nI (a.2.1 e))), (4, .int (nI (c + 1)))]) O dX0_digest_67 (F.nL (by decide)) rfl (nI_1 _) rfl rfl rfl ?_
                refine aw_goto (tgt := 28) O dX0_digest_70 (by decide) ?_
                exact ih (c + 1) _ (by omega) (by omega) (dg_step a e c h4 hl _ hacc)
          refine aw_istore_n (pc' := 25) (lv' := [(0, .ref (L.2.2 20)), (1, .int acc), (2, .int (nI e)), (3, .int (nI (a.2.1 e)))]) O dX0_digest_24 (F.nL (by decide)) rfl rfl rfl ?_
          refine aw_iconst (pc' := 26) O dX0_digest_25 ki_0 rfl ?_
          refine aw_istore (pc' := 28) (lv' := [(0, .ref (L.2.2 20)), (1, .int acc), (2, .int (nI e)), (3, .int (nI (a.2.1 e))), (4, .int (nI 0))]) O dX0_digest_26 (F.nL (by decide)) rfl rfl rfl ?_
          exact lp2 7 0 _ (by decide) (by decide) hacc
  refine aw_iconst (pc' := 1) O dX0_digest_0 ki_0 rfl ?_
  refine aw_istore_n (pc' := 2) (lv' := [(0, .ref (L.2.2 20)), (1, .int (nI 0))]) O dX0_digest_1 (F.nL (by decide)) rfl rfl rfl ?_
  refine aw_iconst (pc' := 3) O dX0_digest_2 ki_0 rfl ?_
  refine aw_istore_n (pc' := 4) (lv' := [(0, .ref (L.2.2 20)), (1, .int (nI 0)), (2, .int (nI 0))]) O dX0_digest_3 (F.nL (by decide)) rfl rfl rfl ?_
  exact lp 25 0 _ (by decide) (by decide) rfl
end
section
set_option maxRecDepth 100000
/-! STAGES AND FRAMES, PLAIN -/
theorem stT_lt {sy : Nat → Nat → Nat} : ∀ {n i : Nat}, i < n → stT sy n i = stg sy i
  | 0, _, h => absurd h (Nat.not_lt_zero _)
  | n + 1, i, h => by
    by_cases e : i = n
    · subst e
      rfl
    · simp only [stT]
      rw [if_neg e]
      exact stT_lt (n := n) (by omega)
theorem stIn_congr {f g : Nat → Nat} {cf : Nat → Bool} : ∀ {n : Nat}, (∀ r, r < n → f r = g r) → stIn f cf n = stIn g cf n
  | 0, _ => rfl
  | n + 1, h => by
    simp only [stIn]
    rw [stIn_congr (n := n) (fun r hr => h r (by omega)), h n (by omega)]
theorem stg_eq (sy : Nat → Nat → Nat) (n : Nat) : stg sy n = stIn (stg sy) (cfB sy n) n := by
  have : stg sy n = stIn (stT sy n) (cfB sy n) n := by
    unfold stg
    simp only [stT, if_true]
  rw [this]
  exact stIn_congr (fun r hr => stT_lt hr)
theorem stIn_le {f : Nat → Nat} {cf : Nat → Bool} : ∀ {n : Nat}, (∀ r, r < n → f r ≤ r) → stIn f cf n ≤ n
  | 0, _ => Nat.le_refl _
  | n + 1, h => by
    have h1 := stIn_le (n := n) (cf := cf) (fun r hr => h r (by omega))
    have h2 := h n (by omega)
    simp only [stIn]
    split <;> omega
theorem stg_le (sy : Nat → Nat → Nat) (n : Nat) : stg sy n ≤ n := by
  induction n using Nat.strongRecOn with
  | _ n ih =>
    rw [stg_eq]
    exact stIn_le (fun r hr => ih r hr)
theorem stIn_gt {f : Nat → Nat} {cf : Nat → Bool} : ∀ {n r : Nat}, r < n → cf r = true → f r < stIn f cf n
  | 0, _, h, _ => absurd h (Nat.not_lt_zero _)
  | n + 1, r, h, hc => by
    simp only [stIn]
    by_cases e : r = n
    · subst e
      rw [hc]
      by_cases q : stIn f cf r ≤ f r
      · simp [q]
      · simp [q]
        omega
    · have := stIn_gt (n := n) (r := r) (f := f) (by omega) hc
      by_cases q : (cf n && decide (stIn f cf n ≤ f n)) = true
      · rw [if_pos q]
        simp at q
        omega
      · rw [if_neg q]
        exact this
theorem stg_gt {sy : Nat → Nat → Nat} {s r : Nat} (h : r < s) (hc : cfB sy s r = true) : stg sy r < stg sy s := by
  rw [stg_eq sy s]
  exact stIn_gt h hc
theorem stN_gt {sy : Nat → Nat → Nat} : ∀ {n i : Nat}, i < n → stg sy i < stN sy n
  | 0, _, h => absurd h (Nat.not_lt_zero _)
  | n + 1, i, h => by
    simp only [stN]
    by_cases e : i = n
    · subst e
      split <;> omega
    · have := stN_gt (sy := sy) (n := n) (i := i) (by omega)
      split <;> omega
theorem stN_le (sy : Nat → Nat → Nat) : ∀ n, stN sy n ≤ n
  | 0 => Nat.le_refl _
  | n + 1 => by
    have h1 := stN_le sy n
    have h2 := stg_le sy n
    simp only [stN]
    split <;> omega
theorem cfB_sym (sy : Nat → Nat → Nat) (s r : Nat) : cfB sy s r = cfB sy r s := by
  unfold cfB
  cases (sy 3 s == sy 3 r || sy 3 s == sy 4 r) <;> cases (sy 3 r == sy 3 s || sy 3 r == sy 4 s) <;> rfl
/-- two systems that don't disturb each other may change places -/
theorem run1_comm (a : aw_AS) (s r : Nat) (h : cfB a.2.2.2.2 s r = false) (v : Nat → Nat → Int32) : run1 a s (run1 a r v) = run1 a r (run1 a s v) := by
  unfold cfB at h
  simp only [Bool.or_eq_false_iff, beq_eq_false_iff_ne, ne_eq] at h
  obtain ⟨⟨h1, h2⟩, h3, h4⟩ := h
  funext e c
  unfold run1
  have n1 : ¬ a.2.2.2.2 4 s = a.2.2.2.2 3 r := fun q => h4 q.symm
  have n2 : ¬ a.2.2.2.2 4 r = a.2.2.2.2 3 s := fun q => h2 q.symm
  by_cases q1 : c = a.2.2.2.2 3 s
  · have q2 : ¬ c = a.2.2.2.2 3 r := fun q => h1 (q1.symm.trans q)
    simp [q1, h1, h3, n1, n2]
  · by_cases q2 : c = a.2.2.2.2 3 r
    · simp [q2, h1, h3, n1, n2]
    · simp [q1, q2]
def runDesc (a : aw_AS) (g : Nat) : Nat → (Nat → Nat → Int32) → Nat → Nat → Int32
  | 0, v => v
  | i + 1, v => runDesc a g i (if stg a.2.2.2.2 i = g then run1 a i v else v)
theorem run1_desc (a : aw_AS) (g s : Nat) (hs : stg a.2.2.2.2 s = g) : ∀ (n : Nat) (v : Nat → Nat → Int32), n ≤ s → run1 a s (runDesc a g n v) = runDesc a g n (run1 a s v)
  | 0, v, _ => rfl
  | n + 1, v, h => by
    simp only [runDesc]
    rw [run1_desc a g s hs n _ (by omega)]
    by_cases q : stg a.2.2.2.2 n = g
    · rw [if_pos q, if_pos q]
      have : cfB a.2.2.2.2 s n = false := by
        by_cases y : cfB a.2.2.2.2 s n = true
        · have := stg_gt (show n < s by omega) y
          omega
        · simpa using y
      rw [run1_comm a s n this]
    · rw [if_neg q, if_neg q]
theorem runDesc_asc (a : aw_AS) (g : Nat) : ∀ (n : Nat) (v : Nat → Nat → Int32), runDesc a g n v = runAsc a g v n
  | 0, v => rfl
  | n + 1, v => by
    simp only [runDesc, runAsc]
    by_cases q : stg a.2.2.2.2 n = g
    · rw [if_pos q, if_pos q, ← runDesc_asc a g n v, run1_desc a g n q n v (Nat.le_refl _)]
    · rw [if_neg q, if_neg q]
      exact runDesc_asc a g n v
theorem runAsc_none (a : aw_AS) (g : Nat) (v : Nat → Nat → Int32) : ∀ (n : Nat), (∀ i, i < n → stg a.2.2.2.2 i ≠ g) → runAsc a g v n = v
  | 0, _ => rfl
  | n + 1, h => by
    simp only [runAsc]
    rw [if_neg (h n (by omega))]
    exact runAsc_none a g v n (fun i hi => h i (by omega))
theorem runG_stop (a : aw_AS) (v : Nat → Nat → Int32) (k : Nat) : runG a v (stN a.2.2.2.2 a.2.2.2.1 + k) = runG a v (stN a.2.2.2.2 a.2.2.2.1) := by
  induction k with
  | zero => rfl
  | succ k ih =>
    show runAsc a (stN a.2.2.2.2 a.2.2.2.1 + k) (runG a v (stN a.2.2.2.2 a.2.2.2.1 + k)) a.2.2.2.1 = _
    rw [ih]
    refine runAsc_none a _ _ _ (fun i hi q => ?_)
    have := stN_gt (sy := a.2.2.2.2) hi
    omega
theorem cntG_none (a : aw_AS) (g : Nat) (h : ∀ i, i < a.2.2.2.1 → stg a.2.2.2.2 i ≠ g) : cntG a g = 0 := by
  unfold cntG
  refine (sm_congr (g := fun _ => 0) (fun i hi => ?_)).trans sm_zero
  rw [if_neg (h i hi)]
theorem cntF_stop (a : aw_AS) (k : Nat) : sm (cntG a) (stN a.2.2.2.2 a.2.2.2.1 + k) = sm (cntG a) (stN a.2.2.2.2 a.2.2.2.1) := by
  induction k with
  | zero => rfl
  | succ k ih =>
    show sm (cntG a) (stN a.2.2.2.2 a.2.2.2.1 + k) + cntG a (stN a.2.2.2.2 a.2.2.2.1 + k) = _
    rw [ih, cntG_none]
    · simp
    · intro i hi q
      have := stN_gt (sy := a.2.2.2.2) hi
      omega
theorem runG_8 (a : aw_AS) (v : Nat → Nat → Int32) (h : a.2.2.2.1 ≤ 8) : runG a v (stN a.2.2.2.2 a.2.2.2.1) = runG a v 8 := by
  have h1 := stN_le a.2.2.2.2 a.2.2.2.1
  have := runG_stop a v (8 - stN a.2.2.2.2 a.2.2.2.1)
  rw [show stN a.2.2.2.2 a.2.2.2.1 + (8 - stN a.2.2.2.2 a.2.2.2.1) = 8 by omega] at this
  exact this.symm
theorem cntF_8 (a : aw_AS) (h : a.2.2.2.1 ≤ 8) : sm (cntG a) (stN a.2.2.2.2 a.2.2.2.1) = cntF a := by
  have h1 := stN_le a.2.2.2.2 a.2.2.2.1
  have := cntF_stop a (8 - stN a.2.2.2.2 a.2.2.2.1)
  rw [show stN a.2.2.2.2 a.2.2.2.1 + (8 - stN a.2.2.2.2 a.2.2.2.1) = 8 by omega] at this
  exact this.symm
/-! bits of the match -/
theorem cf_bits : ∀ a, a < 6 → ∀ b, b < 6 → ∀ c, c < 6 → (decide (nI (2 ^ a) &&& nI (2 ^ b ||| 2 ^ c) = 0)) = !(a == b || a == c) := by decide +kernel
theorem lsh1 : ∀ t, t < 64 → ((1 : Int64) <<< ((nI t).toInt64 &&& 63)).toBitVec = BitVec.twoPow 64 t := by decide +kernel
theorem or_bit {x : Int64} {t : Nat} (ht : t < 64) (u : Nat) (hu : u < 64) : (x ||| ((1 : Int64) <<< ((nI t).toInt64 &&& 63))).toBitVec.getLsbD u = (x.toBitVec.getLsbD u || decide (u = t)) := by
  have h1 : (x ||| ((1 : Int64) <<< ((nI t).toInt64 &&& 63))).toBitVec = x.toBitVec ||| BitVec.twoPow 64 t := by
    rw [Int64.toBitVec_or, lsh1 t ht]
  rw [h1, BitVec.getLsbD_or, BitVec.getLsbD_twoPow]
  by_cases q : u = t
  · subst q
    simp [hu]
  · have : ¬ t = u := fun z => q z.symm
    simp [q, this]
theorem ush_n : ∀ t, t < 64 → ((nI t).toInt64.toUInt64 &&& Int64.toUInt64 63).toNat = t := by decide +kernel
theorem ush_bit {x : Int64} {t : Nat} (ht : t < 64) : lg_cmp ((x.toUInt64 >>> ((nI t).toInt64.toUInt64 &&& Int64.toUInt64 63)).toInt64 &&& 1) 1 = 0 ↔ x.toBitVec.getLsbD t = true := by
  have hb : ((x.toUInt64 >>> ((nI t).toInt64.toUInt64 &&& Int64.toUInt64 63)).toInt64 &&& 1).toBitVec = (x.toBitVec >>> t) &&& 1#64 := by
    rw [Int64.toBitVec_and]
    congr 1
    show (x.toUInt64 >>> ((nI t).toInt64.toUInt64 &&& Int64.toUInt64 63)).toBitVec = _
    rw [UInt64.toBitVec_shiftRight]
    have h2 : (((nI t).toInt64.toUInt64 &&& Int64.toUInt64 63).toBitVec % 64).toNat = t := by
      have := ush_n t ht
      rw [BitVec.toNat_umod]
      show ((nI t).toInt64.toUInt64 &&& Int64.toUInt64 63).toNat % 64 = t
      rw [this]
      exact Nat.mod_eq_of_lt ht
    show x.toBitVec >>> (((nI t).toInt64.toUInt64 &&& Int64.toUInt64 63).toBitVec % 64) = _
    rw [BitVec.ushiftRight_eq', h2]
  have hc : ∀ y : Int64, lg_cmp y 1 = 0 ↔ y = 1 := by
    intro y
    unfold lg_cmp
    by_cases q : y = 1
    · subst q
      simp
    · simp only [q, if_false, iff_false]
      split <;> decide
  rw [hc, ← Int64.toBitVec_inj, hb]
  have h1 : (1 : Int64).toBitVec = 1#64 := rfl
  rw [h1]
  constructor
  · intro h
    have := congrArg (fun b => b.getLsbD 0) h
    simpa using this
  · intro h
    apply BitVec.eq_of_getLsbD_eq
    intro i hi
    by_cases q : i = 0
    · subst q
      simpa using h
    · simp [BitVec.getLsbD_and, BitVec.getLsbD_one, q]
end
section
set_option maxRecDepth 100000
/-- what layOut leaves alone -/
def LYF (w w' : aw_S) : Prop := (∀ k, k ≠ 16 → w'.1 k = w.1 k) ∧ (∀ k, k ≠ 14 → k ≠ 15 → w'.2.1 k = w.2.1 k) ∧ w'.2.2 = w.2.2
/-- the stages are laid out -/
def LA (w : aw_S) (ns : Nat) (sy : Nat → Nat → Nat) : Prop := w.2.1 14 = 1 ∧ (∀ i, i < ns → w.1 16 i = nI (stg sy i)) ∧ w.2.1 15 = nI (stN sy ns)
theorem bn_t {b : Bool} (h : false = !b) : b = true := by
  cases b
  · cases h
  · rfl
theorem bn_f {b : Bool} (h : true = !b) : b = false := by
  cases b
  · rfl
  · cases h
theorem LYF.rf {w : aw_S} : LYF w w := ⟨fun _ _ => rfl, fun _ _ _ => rfl, rfl⟩
theorem LYF.sA {w w1 : aw_S} (h : LYF w w1) (j : Nat) (x : Int32) : LYF w (aw_sA w1 16 j x) := ⟨fun k hk => by rw [← h.1 k hk]; simp [aw_sA, va_up, hk], h.2.1, h.2.2⟩
theorem LYF.s15 {w w1 : aw_S} (h : LYF w w1) (x : Int32) : LYF w (aw_sF w1 15 x) := ⟨h.1, fun k h1 h2 => by rw [← h.2.1 k h1 h2]; simp [aw_sF, upd, h2], h.2.2⟩
theorem LYF.s14 {w w1 : aw_S} (h : LYF w w1) (x : Int32) : LYF w (aw_sF w1 14 x) := ⟨h.1, fun k h1 h2 => by rw [← h.2.1 k h1 h2]; simp [aw_sF, upd, h1], h.2.2⟩
theorem LYF.tr {w w' : aw_S} {T : Nat} {lv : Nat → Bool} {st : Nat → Nat} (f : LYF w w') (h : TR w T lv st) : TR w' T lv st := h.same (f.2.1 0 (by decide) (by decide)) (f.1 1 (by decide)) (f.1 2 (by decide)) (f.1 3 (by decide)) (f.1 4 (by decide)) (f.1 5 (by decide)) (f.1 6 (by decide))
theorem LYF.sr {w w' : aw_S} {T ns : Nat} {sy : Nat → Nat → Nat} (f : LYF w w') (h : SR w T ns sy) (l : LA w' ns sy) : SR w' T ns sy := by
  obtain ⟨f1, f2, f3⟩ := f
  obtain ⟨h1, h2, h3, M, h4, h5, h6⟩ := h
  refine ⟨?_, ?_, Or.inr l, M, h4, by rw [f2 18 (by decide) (by decide)]; exact h5, ?_⟩
  · rw [f2 8 (by decide) (by decide)]; exact h1
  · rw [f1 9 (by decide), f1 10 (by decide), f1 11 (by decide), f1 12 (by decide), f1 13 (by decide)]; exact h2
  · rw [f3]
    have : ∀ t, ts w' t = ts w t := fun t => by unfold ts; rw [f1 1 (by decide)]
    simp only [this]
    exact h6
theorem LYF.r0 {w w' : aw_S} {a : aw_AS} (f : LYF w w') (h : R0 w a) (l : LA w' a.2.2.2.1 a.2.2.2.2) : R0 w' a := by
  obtain ⟨T, hTR, hV, hS⟩ := h
  exact ⟨T, f.tr hTR, by rw [f.1 7 (by decide)]; exact hV, f.sr hS l⟩
theorem rB_nn {n j : Nat} (hj : j < 2 ^ 31) (hn : n < 2 ^ 31) : rB n (nI j) = decide (j < n) := by
  by_cases q : j < n
  · rw [rB_n q hn]
    simp [q]
  · rw [rB_hi (nI_nlt (by omega) hj)]
    simp [q]
theorem bt_low {n c : Nat} (hc : c < 6) : btB (n % 64) c = btB n c := by
  unfold btB
  have : n % 64 / 2 ^ c % 2 = n / 2 ^ c % 2 := by
    rcases (show c = 0 ∨ c = 1 ∨ c = 2 ∨ c = 3 ∨ c = 4 ∨ c = 5 by omega) with q | q | q | q | q | q <;> subst q <;> omega
  rw [this]
set_option maxHeartbeats 4000000 in
set_option maxRecDepth 100000 in
theorem met0_touched (l : Launch) (L : aw_L) (hD : ∀ w, va_D (aw_A L) (aw_pic0 L w)) (w : aw_S) (i x y : Nat) (hi : i < 8) (hx : w.1 12 i = nI x) (hy : w.1 13 i = nI y) (hx6 : x < 6) (hy6 : y < 6) : aw_Mi (aw_pic0 L) l L yX0_touched cX0_touched 2 .int 0 0 [.int (nI i)] w (fun r w' => r = nI (2 ^ x ||| 2 ^ y) ∧ w' = w) := by
  refine aw_of_i (lv := [(0, .ref (L.2.2 20)), (1, .int (nI i))]) (own := RX0) hD (by decide) rfl (Nat.le_of_ble_eq_true rfl) rfl (fun X O F hr => ?_)
  refine aw_iconst (pc' := 1) O dX0_touched_0 ki_1 rfl ?_
  refine aw_aload_n (pc' := 2) O dX0_touched_1 rfl rfl ?_
  refine g0_12 (pc' := 5) O dX0_touched_2 rfl ?_
  refine aw_iload_n (pc' := 6) O dX0_touched_5 rfl rfl ?_
  refine ld0_12 (pc' := 7) (j := i) O rfl (by omega) dX0_touched_6 rfl ?_
  refine aw_top (y := nI x) hx ?_
  refine aw_ishl (pc' := 8) O dX0_touched_7 rfl ?_
  refine aw_top (y := nI (2 ^ x)) (aw_shl1 x (by omega)) ?_
  refine aw_iconst (pc' := 9) O dX0_touched_8 ki_1 rfl ?_
  refine aw_aload_n (pc' := 10) O dX0_touched_9 rfl rfl ?_
  refine g0_13 (pc' := 13) O dX0_touched_10 rfl ?_
  refine aw_iload_n (pc' := 14) O dX0_touched_13 rfl rfl ?_
  refine ld0_13 (pc' := 15) (j := i) O rfl (by omega) dX0_touched_14 rfl ?_
  refine aw_top (y := nI y) hy ?_
  refine aw_ishl (pc' := 16) O dX0_touched_15 rfl ?_
  refine aw_top (y := nI (2 ^ y)) (aw_shl1 y (by omega)) ?_
  refine aw_ior (pc' := 17) O dX0_touched_16 rfl ?_
  refine aw_top (y := nI (2 ^ x ||| 2 ^ y)) (aw_nx_or _ _) ?_
  exact aw_ireturn O hr rfl dX0_touched_17 (⟨rfl, rfl⟩)
set_option maxHeartbeats 4000000 in
set_option maxRecDepth 100000 in
theorem met0_conflict (l : Launch) (L : aw_L) (hD : ∀ w, va_D (aw_A L) (aw_pic0 L w)) (w : aw_S) (i j x y x2 y2 : Nat) (hi : i < 8) (hj : j < 8) (hx : w.1 12 i = nI x) (hy : w.1 13 i = nI y) (hx2 : w.1 12 j = nI x2) (hy2 : w.1 13 j = nI y2) (hx6 : x < 6) (hy6 : y < 6) (hx26 : x2 < 6) (hy26 : y2 < 6) : aw_Mi (aw_pic0 L) l L yX0_conflict cX0_conflict 3 .boolean 1 21 [.int (nI i), .int (nI j)] w (fun r w' => r = bI ((x == x2 || x == y2) || (x2 == x || x2 == y)) ∧ w' = w) := by
  have q1 := cf_bits x hx6 x2 hx26 y2 hy26
  have q2 := cf_bits x2 hx26 x hx6 y hy6
  refine aw_of_i (lv := [(0, .ref (L.2.2 20)), (1, .int (nI i)), (2, .int (nI j))]) (own := RX0) hD (by decide) rfl (Nat.le_of_ble_eq_true rfl) rfl (fun X O F hr => ?_)
  refine aw_iconst (pc' := 1) O dX0_conflict_0 ki_1 rfl ?_
  refine aw_aload_n (pc' := 2) O dX0_conflict_1 rfl rfl ?_
  refine g0_12 (pc' := 5) O dX0_conflict_2 rfl ?_
  refine aw_iload_n (pc' := 6) O dX0_conflict_5 rfl rfl ?_
  refine ld0_12 (pc' := 7) (j := i) O rfl (by omega) dX0_conflict_6 rfl ?_
  refine aw_top (y := nI x) hx ?_
  refine aw_ishl (pc' := 8) O dX0_conflict_7 rfl ?_
  refine aw_top (y := nI (2 ^ x)) (aw_shl1 x (by omega)) ?_
  refine aw_aload_n (pc' := 9) O dX0_conflict_8 rfl rfl ?_
  refine aw_iload_n (pc' := 10) O dX0_conflict_9 rfl rfl ?_
  refine c0_touched (pc' := 13) (rest := [.int (nI (2 ^ x))]) O F (met0_touched l L hD w j x2 y2 hj hx2 hy2 hx26 hy26) (by decide) (by decide) rfl rfl (Nat.le_of_ble_eq_true rfl) dX0_conflict_10 rfl (aw_deti ?_)
  refine aw_iand (pc' := 14) O dX0_conflict_13 rfl ?_
  refine aw_if_ne (pc' := 17) (tgt := 34) O dX0_conflict_14 (by decide) rfl (fun h1 => ?_) (fun h1 => ?_)
  · refine aw_iconst (pc' := 35) O dX0_conflict_34 ki_1 rfl ?_
    refine aw_goto (tgt := 39) O dX0_conflict_35 (by decide) ?_
    have e1 : (x == x2 || x == y2) = true := bn_t ((decide_eq_false h1).symm.trans q1)
    exact aw_ireturn O hr rfl dX0_conflict_39 (⟨by rw [e1]; rfl, rfl⟩)
  · have e1 : (x == x2 || x == y2) = false := bn_f ((decide_eq_true h1).symm.trans q1)
    refine aw_iconst (pc' := 18) O dX0_conflict_17 ki_1 rfl ?_
    refine aw_aload_n (pc' := 19) O dX0_conflict_18 rfl rfl ?_
    refine g0_12 (pc' := 22) O dX0_conflict_19 rfl ?_
    refine aw_iload_n (pc' := 23) O dX0_conflict_22 rfl rfl ?_
    refine ld0_12 (pc' := 24) (j := j) O rfl (by omega) dX0_conflict_23 rfl ?_
    refine aw_top (y := nI x2) hx2 ?_
    refine aw_ishl (pc' := 25) O dX0_conflict_24 rfl ?_
    refine aw_top (y := nI (2 ^ x2)) (aw_shl1 x2 (by omega)) ?_
    refine aw_aload_n (pc' := 26) O dX0_conflict_25 rfl rfl ?_
    refine aw_iload_n (pc' := 27) O dX0_conflict_26 rfl rfl ?_
    refine c0_touched (pc' := 30) (rest := [.int (nI (2 ^ x2))]) O F (met0_touched l L hD w i x y hi hx hy hx6 hy6) (by decide) (by decide) rfl rfl (Nat.le_of_ble_eq_true rfl) dX0_conflict_27 rfl (aw_deti ?_)
    refine aw_iand (pc' := 31) O dX0_conflict_30 rfl ?_
    refine aw_if_eq (pc' := 34) (tgt := 38) O dX0_conflict_31 (by decide) rfl (fun h2 => ?_) (fun h2 => ?_)
    · have e2 : (x2 == x || x2 == y) = false := bn_f ((decide_eq_true h2).symm.trans q2)
      refine aw_iconst (pc' := 39) O dX0_conflict_38 ki_0 rfl ?_
      exact aw_ireturn O hr rfl dX0_conflict_39 (⟨by rw [e1, e2]; rfl, rfl⟩)
    · have e2 : (x2 == x || x2 == y) = true := bn_t ((decide_eq_false h2).symm.trans q2)
      refine aw_iconst (pc' := 35) O dX0_conflict_34 ki_1 rfl ?_
      refine aw_goto (tgt := 39) O dX0_conflict_35 (by decide) ?_
      exact aw_ireturn O hr rfl dX0_conflict_39 (⟨by rw [e1, e2]; rfl, rfl⟩)
set_option maxHeartbeats 4000000 in
set_option maxRecDepth 100000 in
theorem met0_layOut (l : Launch) (L : aw_L) (hD : ∀ w, va_D (aw_A L) (aw_pic0 L w)) (w : aw_S) (a : aw_AS) (h : R0 w a) : aw_Mv (aw_pic0 L) l L yX0_layOut cX0_layOut 3 2 43 [] w (fun w' => LYF w w' ∧ LA w' a.2.2.2.1 a.2.2.2.2) := by
  obtain ⟨T, hTR, hV, hS⟩ := h
  have hT := hTR.1.2
  obtain ⟨⟨s1, s2⟩, s3, s4, -⟩ := hS
  have hsl : ∀ i, stg a.2.2.2.2 i ≤ i := stg_le _
  refine aw_of_v (lv := [(0, .ref (L.2.2 20))]) (own := RX0) hD (by decide) rfl (Nat.le_of_ble_eq_true rfl) rfl (fun X O F hr => ?_)
  refine aw_aload_n (pc' := 1) O dX0_layOut_0 rfl rfl ?_
  refine g0_14 (pc' := 4) O dX0_layOut_1 rfl ?_
  refine aw_if_eq (pc' := 7) (tgt := 8) O dX0_layOut_4 (by decide) rfl (fun h1 => ?_) (fun h1 => ?_)
  · have lp : ∀ (n : Nat) (s : Nat) (w1 : aw_S), s ≤ a.2.2.2.1 → a.2.2.2.1 - s < n → LYF w w1 → (∀ i, i < s → w1.1 16 i = nI (stg a.2.2.2.2 i)) → w1.2.1 15 = nI (stN a.2.2.2.2 s) → aw_J (aw_pic0 L) X 15 [(0, .ref (L.2.2 20)), (1, .int (nI s))] [] w1 := by
      intro n
      induction n with
      | zero =>
        intro s w1 hs hm hf hg hc
        exact absurd hm (Nat.not_lt_zero _)
      | succ n ih =>
        intro s w1 hs hm hf hg hc
        refine aw_iload_n (pc' := 16) O dX0_layOut_15 rfl rfl ?_
        refine aw_aload_n (pc' := 17) O dX0_layOut_16 rfl rfl ?_
        refine g0_8 (pc' := 20) O dX0_layOut_17 rfl ?_
        refine aw_top (y := nI (a.2.2.2.1)) ((hf.2.1 8 (by decide) (by decide)).trans s1) ?_
        refine aw_icmpN_ge (pc' := 23) (tgt := 119) O (by omega) (by omega) dX0_layOut_20 (by decide) rfl (fun h2 => ?_) (fun h2 => ?_)
        · have e1 : s = a.2.2.2.1 := by omega
          subst e1
          refine aw_aload_n (pc' := 120) O dX0_layOut_119 rfl rfl ?_
          refine aw_iconst (pc' := 121) O dX0_layOut_120 ki_1 rfl ?_
          refine p0_14 (pc' := 124) O F rfl rfl dX0_layOut_121 rfl ?_
          exact aw_return O hr dX0_layOut_124 (⟨hf.s14 _, rfl, hg, hc⟩)
        · have ih0 := ih
          refine aw_aload_n (pc' := 24) O dX0_layOut_23 rfl rfl ?_
          refine g0_16 (pc' := 27) O dX0_layOut_24 rfl ?_
          refine aw_iload_n (pc' := 28) O dX0_layOut_27 rfl rfl ?_
          refine aw_iconst (pc' := 29) O dX0_layOut_28 ki_0 rfl ?_
          refine st0_16 (pc' := 30) (j := s) O F rfl (by omega) dX0_layOut_29 rfl ?_
          have lp2 : ∀ (n : Nat) (r : Nat) (w2 : aw_S), s - r < n → r ≤ s → LYF w w2 → (∀ i, i < s → w2.1 16 i = nI (stg a.2.2.2.2 i)) → w2.1 16 s = nI (stIn (stg a.2.2.2.2) (cfB a.2.2.2.2 s) r) → w2.2.1 15 = nI (stN a.2.2.2.2 s) → aw_J (aw_pic0 L) X 32 [(0, .ref (L.2.2 20)), (1, .int (nI s)), (2, .int (nI r))] [] w2 := by
            intro n
            induction n with
            | zero =>
              intro r w2 hm hr2 hf hg hx hc
              exact absurd hm (Nat.not_lt_zero _)
            | succ n ih =>
              intro r w2 hm hr2 hf hg hx hc
              refine aw_iload_n (pc' := 33) O dX0_layOut_32 rfl rfl ?_
              refine aw_iload_n (pc' := 34) O dX0_layOut_33 rfl rfl ?_
              refine aw_icmpN_ge (pc' := 37) (tgt := 81) O (by omega) (by omega) dX0_layOut_34 (by decide) rfl (fun h3 => ?_) (fun h3 => ?_)
              · have e1 : r = s := by omega
                subst e1
                have hx : w2.1 16 r = nI (stg a.2.2.2.2 r) := by rw [hx, ← stg_eq]
                have hb1 := hsl r
                have hb2 := stN_le a.2.2.2.2 r
                refine aw_aload_n (pc' := 82) O dX0_layOut_81 rfl rfl ?_
                refine aw_aload_n (pc' := 83) O dX0_layOut_82 rfl rfl ?_
                refine g0_16 (pc' := 86) O dX0_layOut_83 rfl ?_
                refine aw_iload_n (pc' := 87) O dX0_layOut_86 rfl rfl ?_
                refine ld0_16 (pc' := 88) (j := r) O rfl (by omega) dX0_layOut_87 rfl ?_
                refine aw_top (y := nI (stg a.2.2.2.2 r)) hx ?_
                refine aw_aload_n (pc' := 89) O dX0_layOut_88 rfl rfl ?_
                refine g0_15 (pc' := 92) O dX0_layOut_89 rfl ?_
                refine aw_top (y := nI (stN a.2.2.2.2 r)) hc ?_
                refine aw_icmpN_lt (pc' := 95) (tgt := 106) O (by omega) (by omega) dX0_layOut_92 (by decide) rfl (fun h4 => ?_) (fun h4 => ?_)
                · refine aw_aload_n (pc' := 107) O dX0_layOut_106 rfl rfl ?_
                  refine g0_15 (pc' := 110) O dX0_layOut_107 rfl ?_
                  refine aw_top (y := nI (stN a.2.2.2.2 r)) hc ?_
                  refine p0_15 (pc' := 113) O F dX0_layOut_110 rfl ?_
                  refine aw_iinc (pc' := 116) (v := nI (r + 1)) (lv' := [(0, .ref (L.2.2 20)), (1, .int (nI (r + 1))), (2, .int (nI r))]) O dX0_layOut_113 (F.nL (by decide)) rfl (nI_1 _) rfl rfl rfl ?_
                  refine aw_goto (tgt := 15) O dX0_layOut_116 (by decide) ?_
                  refine aw_less [0, 1] rfl ?_
                  refine ih0 (r + 1) _ (by omega) (by omega) (hf.s15 _) (fun i hi => ?_) ?_
                  · show w2.1 16 i = _
                    by_cases q : i = r
                    · subst q; exact hx
                    · exact hg i (by omega)
                  · show nI (stN a.2.2.2.2 r) = nI (stN a.2.2.2.2 (r + 1))
                    simp only [stN]; rw [if_neg (by omega)]
                · refine aw_aload_n (pc' := 96) O dX0_layOut_95 rfl rfl ?_
                  refine g0_16 (pc' := 99) O dX0_layOut_96 rfl ?_
                  refine aw_iload_n (pc' := 100) O dX0_layOut_99 rfl rfl ?_
                  refine ld0_16 (pc' := 101) (j := r) O rfl (by omega) dX0_layOut_100 rfl ?_
                  refine aw_top (y := nI (stg a.2.2.2.2 r)) hx ?_
                  refine aw_iconst (pc' := 102) O dX0_layOut_101 ki_1 rfl ?_
                  refine aw_iaddN (pc' := 103) O dX0_layOut_102 rfl ?_
                  refine aw_goto (tgt := 110) O dX0_layOut_103 (by decide) ?_
                  refine p0_15 (pc' := 113) O F dX0_layOut_110 rfl ?_
                  refine aw_iinc (pc' := 116) (v := nI (r + 1)) (lv' := [(0, .ref (L.2.2 20)), (1, .int (nI (r + 1))), (2, .int (nI r))]) O dX0_layOut_113 (F.nL (by decide)) rfl (nI_1 _) rfl rfl rfl ?_
                  refine aw_goto (tgt := 15) O dX0_layOut_116 (by decide) ?_
                  refine aw_less [0, 1] rfl ?_
                  refine ih0 (r + 1) _ (by omega) (by omega) (hf.s15 _) (fun i hi => ?_) ?_
                  · show w2.1 16 i = _
                    by_cases q : i = r
                    · subst q; exact hx
                    · exact hg i (by omega)
                  · show nI (stg a.2.2.2.2 r + 1) = nI (stN a.2.2.2.2 (r + 1))
                    simp only [stN]; rw [if_pos h4]
              · obtain ⟨⟨-, -, -, b4, b5⟩, -, -, -, b9, b10⟩ := s3 s h2
                obtain ⟨⟨-, -, -, c4, c5⟩, -, -, -, c9, c10⟩ := s3 r (by omega)
                have f12 : w2.1 12 = w.1 12 := hf.1 12 (by decide)
                have f13 : w2.1 13 = w.1 13 := hf.1 13 (by decide)
                have hb1 := hsl r
                have hb2 : stIn (stg a.2.2.2.2) (cfB a.2.2.2.2 s) r ≤ r := stIn_le (fun i _ => hsl i)
                refine aw_aload_n (pc' := 38) O dX0_layOut_37 rfl rfl ?_
                refine aw_iload_n (pc' := 39) O dX0_layOut_38 rfl rfl ?_
                refine aw_iload_n (pc' := 40) O dX0_layOut_39 rfl rfl ?_
                refine c0_conflict (pc' := 43) (rest := []) O F (met0_conflict l L hD w2 s r _ _ _ _ (by omega) (by omega) (by rw [f12]; exact b4) (by rw [f13]; exact b5) (by rw [f12]; exact c4) (by rw [f13]; exact c5) b9 b10 c9 c10) (by decide) (by decide) rfl rfl (Nat.le_of_ble_eq_true rfl) dX0_layOut_40 rfl (aw_deti ?_)
                refine aw_ifB_eq (pc' := 46) (tgt := 75) O dX0_layOut_43 (by decide) rfl (fun h5 => ?_) (fun h5 => ?_)
                · have hcf : cfB a.2.2.2.2 s r = false := h5
                  refine aw_iinc (pc' := 78) (v := nI (r + 1)) (lv' := [(0, .ref (L.2.2 20)), (1, .int (nI s)), (2, .int (nI (r + 1)))]) O dX0_layOut_75 (F.nL (by decide)) rfl (nI_1 _) rfl rfl rfl ?_
                  refine aw_goto (tgt := 32) O dX0_layOut_78 (by decide) ?_
                  exact ih (r + 1) _ (by omega) (by omega) hf hg (by rw [hx]; simp only [stIn, hcf]; rfl) hc
                · have hcf : cfB a.2.2.2.2 s r = true := h5
                  refine aw_aload_n (pc' := 47) O dX0_layOut_46 rfl rfl ?_
                  refine g0_16 (pc' := 50) O dX0_layOut_47 rfl ?_
                  refine aw_iload_n (pc' := 51) O dX0_layOut_50 rfl rfl ?_
                  refine ld0_16 (pc' := 52) (j := r) O rfl (by omega) dX0_layOut_51 rfl ?_
                  refine aw_top (y := nI (stg a.2.2.2.2 r)) (hg r h3) ?_
                  refine aw_aload_n (pc' := 53) O dX0_layOut_52 rfl rfl ?_
                  refine g0_16 (pc' := 56) O dX0_layOut_53 rfl ?_
                  refine aw_iload_n (pc' := 57) O dX0_layOut_56 rfl rfl ?_
                  refine ld0_16 (pc' := 58) (j := s) O rfl (by omega) dX0_layOut_57 rfl ?_
                  refine aw_top (y := nI (stIn (stg a.2.2.2.2) (cfB a.2.2.2.2 s) r)) hx ?_
                  refine aw_icmpN_lt (pc' := 61) (tgt := 75) O (by omega) (by omega) dX0_layOut_58 (by decide) rfl (fun h6 => ?_) (fun h6 => ?_)
                  · refine aw_iinc (pc' := 78) (v := nI (r + 1)) (lv' := [(0, .ref (L.2.2 20)), (1, .int (nI s)), (2, .int (nI (r + 1)))]) O dX0_layOut_75 (F.nL (by decide)) rfl (nI_1 _) rfl rfl rfl ?_
                    refine aw_goto (tgt := 32) O dX0_layOut_78 (by decide) ?_
                    exact ih (r + 1) _ (by omega) (by omega) hf hg (by rw [hx]; simp only [stIn]; rw [if_neg (by simp [hcf]; omega)]) hc
                  · refine aw_aload_n (pc' := 62) O dX0_layOut_61 rfl rfl ?_
                    refine g0_16 (pc' := 65) O dX0_layOut_62 rfl ?_
                    refine aw_iload_n (pc' := 66) O dX0_layOut_65 rfl rfl ?_
                    refine aw_aload_n (pc' := 67) O dX0_layOut_66 rfl rfl ?_
                    refine g0_16 (pc' := 70) O dX0_layOut_67 rfl ?_
                    refine aw_iload_n (pc' := 71) O dX0_layOut_70 rfl rfl ?_
                    refine ld0_16 (pc' := 72) (j := r) O rfl (by omega) dX0_layOut_71 rfl ?_
                    refine aw_top (y := nI (stg a.2.2.2.2 r)) (hg r h3) ?_
                    refine aw_iconst (pc' := 73) O dX0_layOut_72 ki_1 rfl ?_
                    refine aw_iaddN (pc' := 74) O dX0_layOut_73 rfl ?_
                    refine st0_16 (pc' := 75) (j := s) O F rfl (by omega) dX0_layOut_74 rfl ?_
                    refine aw_iinc (pc' := 78) (v := nI (r + 1)) (lv' := [(0, .ref (L.2.2 20)), (1, .int (nI s)), (2, .int (nI (r + 1)))]) O dX0_layOut_75 (F.nL (by decide)) rfl (nI_1 _) rfl rfl rfl ?_
                    refine aw_goto (tgt := 32) O dX0_layOut_78 (by decide) ?_
                    refine ih (r + 1) _ (by omega) (by omega) (hf.sA _ _) (fun i hi => ?_) ?_ hc
                    · show upd (w2.1 16) s _ i = _
                      unfold upd
                      rw [if_neg (by omega)]
                      exact hg i hi
                    · show upd (w2.1 16) s _ s = _
                      unfold upd
                      rw [if_pos rfl]
                      simp only [stIn]
                      rw [if_pos (by simp [hcf, h6])]
          refine aw_iconst (pc' := 31) O dX0_layOut_30 ki_0 rfl ?_
          refine aw_istore_n (pc' := 32) (lv' := [(0, .ref (L.2.2 20)), (1, .int (nI s)), (2, .int (nI 0))]) O dX0_layOut_31 (F.nL (by decide)) rfl rfl rfl ?_
          refine lp2 (s + 1) 0 _ (by omega) (Nat.zero_le _) (hf.sA _ _) (fun i hi => ?_) ?_ hc
          · show upd (w1.1 16) s _ i = _
            unfold upd
            rw [if_neg (by omega)]
            exact hg i hi
          · show upd (w1.1 16) s _ s = _
            unfold upd
            rw [if_pos rfl]
            rfl
    refine aw_aload_n (pc' := 9) O dX0_layOut_8 rfl rfl ?_
    refine aw_iconst (pc' := 10) O dX0_layOut_9 ki_0 rfl ?_
    refine p0_15 (pc' := 13) O F dX0_layOut_10 rfl ?_
    refine aw_iconst (pc' := 14) O dX0_layOut_13 ki_0 rfl ?_
    refine aw_istore_n (pc' := 15) (lv' := [(0, .ref (L.2.2 20)), (1, .int (nI 0))]) O dX0_layOut_14 (F.nL (by decide)) rfl rfl rfl ?_
    exact lp (a.2.2.2.1 + 1) 0 _ (Nat.zero_le _) (by omega) (LYF.rf.s15 _) (fun i hi => absurd hi (Nat.not_lt_zero _)) rfl
  · have hla : LA w a.2.2.2.1 a.2.2.2.2 := by
      rcases s4 with q | q
      · exact absurd q h1
      · exact q
    exact aw_return O hr dX0_layOut_7 (⟨LYF.rf, hla⟩)
set_option maxHeartbeats 4000000 in
set_option maxRecDepth 100000 in
theorem met0_stage (l : Launch) (L : aw_L) (hD : ∀ w, va_D (aw_A L) (aw_pic0 L w)) (w : aw_S) (a : aw_AS) (h : R0 w a) (x : Int32) : aw_Mi (aw_pic0 L) l L yX0_stage cX0_stage 2 .int 3 65 [.int x] w (fun r w' => r = stageA a x ∧ R0 w' a) := by
  have h0 := h
  obtain ⟨T, hTR, hV, hS⟩ := h
  have hT := hTR.1.2
  obtain ⟨⟨s1, s2⟩, -⟩ := hS
  refine aw_of_i (lv := [(0, .ref (L.2.2 20)), (1, .int x)]) (own := RX0) hD (by decide) rfl (Nat.le_of_ble_eq_true rfl) rfl (fun X O F hr => ?_)
  refine aw_iload_n (pc' := 1) O dX0_stage_0 rfl rfl ?_
  refine aw_if_lt (pc' := 4) (tgt := 12) O dX0_stage_1 (by decide) rfl (fun h1 => ?_) (fun h1 => ?_)
  · refine aw_bipush (pc' := 14) O dX0_stage_12 kb_m4 rfl ?_
    exact aw_ireturn O hr rfl dX0_stage_14 (⟨by simp [stageA, rB_lo h1], h0⟩)
  · refine aw_iload_n (pc' := 5) O dX0_stage_4 rfl rfl ?_
    refine aw_aload_n (pc' := 6) O dX0_stage_5 rfl rfl ?_
    refine g0_8 (pc' := 9) O dX0_stage_6 rfl ?_
    refine aw_top (y := nI (a.2.2.2.1)) s1 ?_
    refine aw_icmp_lt (pc' := 12) (tgt := 15) O dX0_stage_9 (by decide) rfl (fun h2 => ?_) (fun h2 => ?_)
    · obtain ⟨j, hj, rfl⟩ := rB_ex (by omega) (rB_ok h1 h2)
      refine aw_aload_n (pc' := 16) O dX0_stage_15 rfl rfl ?_
      refine c0_layOut (pc' := 19) (rest := []) O F (met0_layOut l L hD w a h0) (by decide) (by decide) rfl rfl (Nat.le_of_ble_eq_true rfl) dX0_stage_16 rfl (fun w1 hr1 => ?_)
      obtain ⟨f, la⟩ := hr1
      refine aw_aload_n (pc' := 20) O dX0_stage_19 rfl rfl ?_
      refine g0_16 (pc' := 23) O dX0_stage_20 rfl ?_
      refine aw_iload_n (pc' := 24) O dX0_stage_23 rfl rfl ?_
      refine ld0_16 (pc' := 25) (j := j) O rfl (by omega) dX0_stage_24 rfl ?_
      refine aw_top (y := nI (stg a.2.2.2.2 j)) (la.2.1 j hj) ?_
      exact aw_ireturn O hr rfl dX0_stage_25 (⟨by simp [stageA, rB_n hj (by omega), nI_clamp (n := j) (by omega)], f.r0 h0 la⟩)
    · refine aw_bipush (pc' := 14) O dX0_stage_12 kb_m4 rfl ?_
      exact aw_ireturn O hr rfl dX0_stage_14 (⟨by simp [stageA, rB_hi h2], h0⟩)
set_option maxHeartbeats 4000000 in
set_option maxRecDepth 100000 in
theorem met0_stages (l : Launch) (L : aw_L) (hD : ∀ w, va_D (aw_A L) (aw_pic0 L w)) (w : aw_S) (a : aw_AS) (h : R0 w a) : aw_Mi (aw_pic0 L) l L yX0_stages cX0_stages 1 .int 3 65 [] w (fun r w' => r = stagesA a ∧ R0 w' a) := by
  refine aw_of_i (lv := [(0, .ref (L.2.2 20))]) (own := RX0) hD (by decide) rfl (Nat.le_of_ble_eq_true rfl) rfl (fun X O F hr => ?_)
  refine aw_aload_n (pc' := 1) O dX0_stages_0 rfl rfl ?_
  refine c0_layOut (pc' := 4) (rest := []) O F (met0_layOut l L hD w a h) (by decide) (by decide) rfl rfl (Nat.le_of_ble_eq_true rfl) dX0_stages_1 rfl (fun w1 hr1 => ?_)
  obtain ⟨f, la⟩ := hr1
  refine aw_aload_n (pc' := 5) O dX0_stages_4 rfl rfl ?_
  refine g0_15 (pc' := 8) O dX0_stages_5 rfl ?_
  refine aw_top (y := nI (stN a.2.2.2.2 a.2.2.2.1)) (la.2.2) ?_
  exact aw_ireturn O hr rfl dX0_stages_8 (⟨rfl, f.r0 h la⟩)
set_option maxHeartbeats 4000000 in
set_option maxRecDepth 100000 in
theorem met0_unsystem (l : Launch) (L : aw_L) (hD : ∀ w, va_D (aw_A L) (aw_pic0 L w)) (w : aw_S) (a : aw_AS) (h : R0 w a) : aw_Mi (aw_pic0 L) l L yX0_unsystem cX0_unsystem 1 .int 0 0 [] w (fun r w' => r = (unsystemA a).1 ∧ R0 w' (unsystemA a).2) := by
  have h0 := h
  obtain ⟨T, hTR, hV, hS⟩ := h
  have hT := hTR.1.2
  obtain ⟨⟨s1, s2⟩, s3, s4, M, m1, m2, m3⟩ := hS
  refine aw_of_i (lv := [(0, .ref (L.2.2 20))]) (own := RX0) hD (by decide) rfl (Nat.le_of_ble_eq_true rfl) rfl (fun X O F hr => ?_)
  refine aw_aload_n (pc' := 1) O dX0_unsystem_0 rfl rfl ?_
  refine g0_8 (pc' := 4) O dX0_unsystem_1 rfl ?_
  refine aw_top (y := nI (a.2.2.2.1)) s1 ?_
  refine aw_if_ne (pc' := 7) (tgt := 10) O dX0_unsystem_4 (by decide) rfl (fun h1 => ?_) (fun h1 => ?_)
  · have hn : ¬ a.2.2.2.1 = 0 := fun q => h1 (by rw [q]; rfl)
    have hk : unsystemA a = (nI (a.2.2.2.1 - 1), (a.1, a.2.1, a.2.2.1, a.2.2.2.1 - 1, a.2.2.2.2)) := by simp [unsystemA, hn]
    refine aw_aload_n (pc' := 11) O dX0_unsystem_10 rfl rfl ?_
    refine aw_dup (pc' := 12) O dX0_unsystem_11 rfl rfl ?_
    refine g0_8 (pc' := 15) O dX0_unsystem_12 rfl ?_
    refine aw_top (y := nI (a.2.2.2.1)) s1 ?_
    refine aw_iconst (pc' := 16) O dX0_unsystem_15 ki_1 rfl ?_
    refine aw_isubN (pc' := 17) O (by omega) dX0_unsystem_16 rfl ?_
    refine p0_8 (pc' := 20) O F dX0_unsystem_17 rfl ?_
    refine aw_aload_n (pc' := 21) O dX0_unsystem_20 rfl rfl ?_
    refine aw_iconst (pc' := 22) O dX0_unsystem_21 ki_0 rfl ?_
    refine p0_14 (pc' := 25) O F rfl rfl dX0_unsystem_22 rfl ?_
    refine aw_aload_n (pc' := 26) O dX0_unsystem_25 rfl rfl ?_
    refine g0_8 (pc' := 29) O dX0_unsystem_26 rfl ?_
    exact aw_ireturn O hr rfl dX0_unsystem_29 (by
      rw [hk]
      refine ⟨rfl, T, hTR.same rfl rfl rfl rfl rfl rfl rfl, hV, ⟨rfl, by show a.2.2.2.1 - 1 ≤ 8; omega⟩, fun i hi => s3 i (by have : i < a.2.2.2.1 - 1 := hi; omega), Or.inl rfl, M, m1, m2, ?_⟩
      rcases m3 with q | q
      · exact Or.inl q
      · exact Or.inr (fun i hi t ht => q i (by have : i < a.2.2.2.1 - 1 := hi; omega) t ht))
  · refine aw_bipush (pc' := 9) O dX0_unsystem_7 kb_m4 rfl ?_
    have hn : a.2.2.2.1 = 0 := nI_inj (by omega) (by decide) h1
    exact aw_ireturn O hr rfl dX0_unsystem_9 (by simp [unsystemA, hn]; exact h0)
set_option maxHeartbeats 4000000 in
set_option maxRecDepth 100000 in
theorem met0_system (l : Launch) (L : aw_L) (hD : ∀ w, va_D (aw_A L) (aw_pic0 L w)) (w : aw_S) (a : aw_AS) (h : R0 w a) (x y : Int32) : aw_Mi (aw_pic0 L) l L yX0_system cX0_system 7 .int 1 21 [.int x, .int y] w (fun r w' => r = (systemA a x y).1 ∧ R0 w' (systemA a x y).2) := by
  have h0 := h
  obtain ⟨T, hTR, hV, hS⟩ := h
  have hT := hTR.1.2
  obtain ⟨⟨s1, s2⟩, s3, s4, M, m1, m2, m3⟩ := hS
  refine aw_of_i (lv := [(0, .ref (L.2.2 20)), (1, .int x), (2, .int y)]) (own := RX0) hD (by decide) rfl (Nat.le_of_ble_eq_true rfl) rfl (fun X O F hr => ?_)
  refine aw_iload_n (pc' := 1) O dX0_system_0 rfl rfl ?_
  refine aw_bipush (pc' := 3) O dX0_system_1 kb_63 rfl ?_
  refine aw_iand (pc' := 4) O dX0_system_3 rfl ?_
  refine aw_istore_n (pc' := 5) (lv' := [(0, .ref (L.2.2 20)), (1, .int x), (2, .int y), (3, .int (x &&& (nI 63)))]) O dX0_system_4 (F.nL (by decide)) rfl rfl rfl ?_
  refine aw_iload_n (pc' := 6) O dX0_system_5 rfl rfl ?_
  refine aw_bipush (pc' := 8) O dX0_system_6 kb_7 rfl ?_
  refine aw_iand (pc' := 9) O dX0_system_8 rfl ?_
  refine aw_istore (pc' := 11) (lv' := [(0, .ref (L.2.2 20)), (1, .int x), (2, .int y), (3, .int (x &&& (nI 63))), (4, .int (y &&& (nI 7)))]) O dX0_system_9 (F.nL (by decide)) rfl rfl rfl ?_
  refine aw_iload_n (pc' := 12) O dX0_system_11 rfl rfl ?_
  refine aw_iconst (pc' := 13) O dX0_system_12 ki_3 rfl ?_
  refine aw_ishr (pc' := 14) O dX0_system_13 rfl ?_
  refine aw_bipush (pc' := 16) O dX0_system_14 kb_7 rfl ?_
  refine aw_iand (pc' := 17) O dX0_system_16 rfl ?_
  refine aw_istore (pc' := 19) (lv' := [(0, .ref (L.2.2 20)), (1, .int x), (2, .int y), (3, .int (x &&& (nI 63))), (4, .int (y &&& (nI 7))), (5, .int ((y >>> ((nI 3) &&& 31)) &&& (nI 7)))]) O dX0_system_17 (F.nL (by decide)) rfl rfl rfl ?_
  refine aw_iload_n (pc' := 20) O dX0_system_19 rfl rfl ?_
  refine aw_bipush (pc' := 22) O dX0_system_20 kb_6 rfl ?_
  refine aw_ishr (pc' := 23) O dX0_system_22 rfl ?_
  refine aw_istore (pc' := 25) (lv' := [(0, .ref (L.2.2 20)), (1, .int x), (2, .int y), (3, .int (x &&& (nI 63))), (4, .int (y &&& (nI 7))), (5, .int ((y >>> ((nI 3) &&& 31)) &&& (nI 7))), (6, .int (y >>> ((nI 6) &&& 31)))]) O dX0_system_23 (F.nL (by decide)) rfl rfl rfl ?_
  refine aw_iload_n (pc' := 26) O dX0_system_25 rfl rfl ?_
  refine aw_if_lt (pc' := 29) (tgt := 64) O dX0_system_26 (by decide) rfl (fun h1 => ?_) (fun h1 => ?_)
  · refine aw_iconst (pc' := 65) O dX0_system_64 ki_m1 rfl ?_
    exact aw_ireturn O hr rfl dX0_system_65 (by simp [systemA, rB_lo h1]; exact h0)
  · refine aw_iload_n (pc' := 30) O dX0_system_29 rfl rfl ?_
    refine aw_sipush (pc' := 33) O dX0_system_30 ks_4095 rfl ?_
    refine aw_icmp_gt (pc' := 36) (tgt := 64) O dX0_system_33 (by decide) rfl (fun h2 => ?_) (fun h2 => ?_)
    · refine aw_iconst (pc' := 65) O dX0_system_64 ki_m1 rfl ?_
      exact aw_ireturn O hr rfl dX0_system_65 (by simp [systemA, rB_hi (i_gt (n := 4095) (by decide) h2)]; exact h0)
    · refine aw_iload_n (pc' := 37) O dX0_system_36 rfl rfl ?_
      refine aw_if_lt (pc' := 40) (tgt := 64) O dX0_system_37 (by decide) rfl (fun h3 => ?_) (fun h3 => ?_)
      · refine aw_iconst (pc' := 65) O dX0_system_64 ki_m1 rfl ?_
        exact aw_ireturn O hr rfl dX0_system_65 (by simp [systemA, h3]; exact h0)
      · have hxB := rB_ok h1 (i_ngt (n := 4095) (by decide) h2)
        obtain ⟨n, hn, rfl⟩ := rB_ex (n := 4096) (by decide) hxB
        obtain ⟨v, hv, rfl⟩ := nI_of h3
        have e3 : nI n &&& nI 63 = nI (n % 64) := pk_andN (by omega) 6 (by decide)
        have e4 : nI v &&& nI 7 = nI (v % 8) := pk_andN (by omega) 3 (by decide)
        have e5 : (nI v >>> (nI 3 &&& 31)) &&& nI 7 = nI (v / 8 % 8) := by rw [aw_shr hv (by decide)]; exact pk_andN (by omega) 3 (by decide)
        have e6 : nI v >>> (nI 6 &&& 31) = nI (v / 64) := aw_shr hv (by decide)
        have hsys : systemA a (nI n) (nI v) = if sysOk n v then (if a.2.2.2.1 = 8 then (-2, a) else (nI a.2.2.2.1, (a.1, a.2.1, a.2.2.1, a.2.2.2.1 + 1, fun f => va_up (a.2.2.2.2 f) a.2.2.2.1 (sysNew n v f)))) else (-1, a) := by
          unfold systemA
          rw [hxB, nI_clamp (n := n) (by omega), nI_clamp (n := v) (by omega)]
          simp [h3]
        refine aw_lv (lv' := [(0, .ref (L.2.2 20)), (1, .int (nI n)), (2, .int (nI v)), (3, .int (nI (n % 64))), (4, .int (nI (v % 8))), (5, .int (nI (v / 8 % 8))), (6, .int (nI (v / 64)))]) (by rw [e3, e4, e5, e6]) ?_
        refine aw_iload (pc' := 42) O dX0_system_40 rfl rfl ?_
        refine aw_iconst (pc' := 43) O dX0_system_42 ki_4 rfl ?_
        refine aw_icmpN_gt (pc' := 46) (tgt := 64) O (by omega) (by omega) dX0_system_43 (by decide) rfl (fun h4 => ?_) (fun h4 => ?_)
        · have hb : sysOk n v = false := by have q : ¬ v % 8 ≤ 4 := (by omega); simp [sysOk, q]
          refine aw_iconst (pc' := 65) O dX0_system_64 ki_m1 rfl ?_
          exact aw_ireturn O hr rfl dX0_system_65 (by rw [hsys, hb]; exact ⟨rfl, h0⟩)
        · refine aw_aload_n (pc' := 47) O dX0_system_46 rfl rfl ?_
          refine aw_iload (pc' := 49) O dX0_system_47 rfl rfl ?_
          refine c0_badPart (pc' := 52) (rest := []) O F (met0_badPart l L hD w (nI (v / 8 % 8))) (by decide) (by decide) rfl rfl (Nat.le_of_ble_eq_true rfl) dX0_system_49 rfl (aw_deti ?_)
          refine aw_ifB_ne (pc' := 55) (tgt := 64) O dX0_system_52 (by decide) rfl (fun h5 => ?_) (fun h5 => ?_)
          · rw [rB_nn (by omega) (by decide)] at h5
            have hb : sysOk n v = false := by have q : ¬ v / 8 % 8 ≤ 5 := (by have := of_decide_eq_false (show decide (v / 8 % 8 < 6) = false by simpa using h5); omega); simp [sysOk, q]
            refine aw_iconst (pc' := 65) O dX0_system_64 ki_m1 rfl ?_
            exact aw_ireturn O hr rfl dX0_system_65 (by rw [hsys, hb]; exact ⟨rfl, h0⟩)
          · rw [rB_nn (by omega) (by decide)] at h5
            have h5 : v / 8 % 8 < 6 := by simpa using h5
            refine aw_aload_n (pc' := 56) O dX0_system_55 rfl rfl ?_
            refine aw_iload (pc' := 58) O dX0_system_56 rfl rfl ?_
            refine c0_badPart (pc' := 61) (rest := []) O F (met0_badPart l L hD w (nI (v / 64))) (by decide) (by decide) rfl rfl (Nat.le_of_ble_eq_true rfl) dX0_system_58 rfl (aw_deti ?_)
            refine aw_ifB_eq (pc' := 64) (tgt := 66) O dX0_system_61 (by decide) rfl (fun h6 => ?_) (fun h6 => ?_)
            · rw [rB_nn (by omega) (by decide)] at h6
              have h6 : v / 64 < 6 := by simpa using h6
              refine aw_iload_n (pc' := 67) O dX0_system_66 rfl rfl ?_
              refine aw_iload (pc' := 69) O dX0_system_67 rfl rfl ?_
              refine aw_ishr (pc' := 70) O dX0_system_69 rfl ?_
              refine aw_iconst (pc' := 71) O dX0_system_70 ki_1 rfl ?_
              refine aw_iand (pc' := 72) O dX0_system_71 rfl ?_
              refine aw_top (y := bI (btB (n % 64) (v / 8 % 8))) (aw_bitB (by omega) (by omega)) ?_
              refine aw_ifB_eq (pc' := 75) (tgt := 84) O dX0_system_72 (by decide) rfl (fun h7 => ?_) (fun h7 => ?_)
              · rw [bt_low h5] at h7
                have hb : sysOk n v = false := by simp [sysOk, h7]
                refine aw_iconst (pc' := 85) O dX0_system_84 ki_m1 rfl ?_
                exact aw_ireturn O hr rfl dX0_system_85 (by rw [hsys, hb]; exact ⟨rfl, h0⟩)
              · rw [bt_low h5] at h7
                refine aw_iload_n (pc' := 76) O dX0_system_75 rfl rfl ?_
                refine aw_iload (pc' := 78) O dX0_system_76 rfl rfl ?_
                refine aw_ishr (pc' := 79) O dX0_system_78 rfl ?_
                refine aw_iconst (pc' := 80) O dX0_system_79 ki_1 rfl ?_
                refine aw_iand (pc' := 81) O dX0_system_80 rfl ?_
                refine aw_top (y := bI (btB (n % 64) (v / 64))) (aw_bitB (by omega) (by omega)) ?_
                refine aw_ifB_ne (pc' := 84) (tgt := 86) O dX0_system_81 (by decide) rfl (fun h8 => ?_) (fun h8 => ?_)
                · rw [bt_low h6] at h8
                  have hok : sysOk n v = true := by simp only [sysOk, h7, h8]; simp; omega
                  refine aw_aload_n (pc' := 87) O dX0_system_86 rfl rfl ?_
                  refine g0_8 (pc' := 90) O dX0_system_87 rfl ?_
                  refine aw_top (y := nI (a.2.2.2.1)) s1 ?_
                  refine aw_bipush (pc' := 92) O dX0_system_90 kb_8 rfl ?_
                  refine aw_icmpN_ne (pc' := 95) (tgt := 98) O (by omega) (by omega) dX0_system_92 (by decide) rfl (fun h9 => ?_) (fun h9 => ?_)
                  · have hns : a.2.2.2.1 < 8 := by omega
                    refine aw_aload_n (pc' := 99) O dX0_system_98 rfl rfl ?_
                    refine g0_9 (pc' := 102) O dX0_system_99 rfl ?_
                    refine aw_aload_n (pc' := 103) O dX0_system_102 rfl rfl ?_
                    refine g0_8 (pc' := 106) O dX0_system_103 rfl ?_
                    refine aw_top (y := nI (a.2.2.2.1)) s1 ?_
                    refine aw_iload_n (pc' := 107) O dX0_system_106 rfl rfl ?_
                    refine st0_9 (pc' := 108) (j := a.2.2.2.1) O F rfl (by omega) dX0_system_107 rfl ?_
                    refine aw_aload_n (pc' := 109) O dX0_system_108 rfl rfl ?_
                    refine g0_10 (pc' := 112) O dX0_system_109 rfl ?_
                    refine aw_aload_n (pc' := 113) O dX0_system_112 rfl rfl ?_
                    refine g0_8 (pc' := 116) O dX0_system_113 rfl ?_
                    refine aw_top (y := nI (a.2.2.2.1)) s1 ?_
                    refine aw_iload_n (pc' := 117) O dX0_system_116 rfl rfl ?_
                    refine aw_bipush (pc' := 119) O dX0_system_117 kb_6 rfl ?_
                    refine aw_ishr (pc' := 120) O dX0_system_119 rfl ?_
                    refine aw_top (y := nI (n / 64)) (aw_shr (by omega) (by decide)) ?_
                    refine st0_10 (pc' := 121) (j := a.2.2.2.1) O F rfl (by omega) dX0_system_120 rfl ?_
                    refine aw_aload_n (pc' := 122) O dX0_system_121 rfl rfl ?_
                    refine g0_11 (pc' := 125) O dX0_system_122 rfl ?_
                    refine aw_aload_n (pc' := 126) O dX0_system_125 rfl rfl ?_
                    refine g0_8 (pc' := 129) O dX0_system_126 rfl ?_
                    refine aw_top (y := nI (a.2.2.2.1)) s1 ?_
                    refine aw_iload (pc' := 131) O dX0_system_129 rfl rfl ?_
                    refine st0_11 (pc' := 132) (j := a.2.2.2.1) O F rfl (by omega) dX0_system_131 rfl ?_
                    refine aw_aload_n (pc' := 133) O dX0_system_132 rfl rfl ?_
                    refine g0_12 (pc' := 136) O dX0_system_133 rfl ?_
                    refine aw_aload_n (pc' := 137) O dX0_system_136 rfl rfl ?_
                    refine g0_8 (pc' := 140) O dX0_system_137 rfl ?_
                    refine aw_top (y := nI (a.2.2.2.1)) s1 ?_
                    refine aw_iload (pc' := 142) O dX0_system_140 rfl rfl ?_
                    refine st0_12 (pc' := 143) (j := a.2.2.2.1) O F rfl (by omega) dX0_system_142 rfl ?_
                    refine aw_aload_n (pc' := 144) O dX0_system_143 rfl rfl ?_
                    refine g0_13 (pc' := 147) O dX0_system_144 rfl ?_
                    refine aw_aload_n (pc' := 148) O dX0_system_147 rfl rfl ?_
                    refine g0_8 (pc' := 151) O dX0_system_148 rfl ?_
                    refine aw_top (y := nI (a.2.2.2.1)) s1 ?_
                    refine aw_iload (pc' := 153) O dX0_system_151 rfl rfl ?_
                    refine st0_13 (pc' := 154) (j := a.2.2.2.1) O F rfl (by omega) dX0_system_153 rfl ?_
                    refine aw_aload_n (pc' := 155) O dX0_system_154 rfl rfl ?_
                    refine aw_dup (pc' := 156) O dX0_system_155 rfl rfl ?_
                    refine g0_8 (pc' := 159) O dX0_system_156 rfl ?_
                    refine aw_top (y := nI (a.2.2.2.1)) s1 ?_
                    refine aw_iconst (pc' := 160) O dX0_system_159 ki_1 rfl ?_
                    refine aw_iaddN (pc' := 161) O dX0_system_160 rfl ?_
                    refine p0_8 (pc' := 164) O F dX0_system_161 rfl ?_
                    refine aw_aload_n (pc' := 165) O dX0_system_164 rfl rfl ?_
                    refine aw_iconst (pc' := 166) O dX0_system_165 ki_0 rfl ?_
                    refine p0_14 (pc' := 169) O F rfl rfl dX0_system_166 rfl ?_
                    refine aw_aload_n (pc' := 170) O dX0_system_169 rfl rfl ?_
                    refine aw_iconst (pc' := 171) O dX0_system_170 ki_0 rfl ?_
                    refine p0_18 (pc' := 174) O F dX0_system_171 rfl ?_
                    refine aw_aload_n (pc' := 175) O dX0_system_174 rfl rfl ?_
                    refine g0_8 (pc' := 178) O dX0_system_175 rfl ?_
                    refine aw_top (y := nI (a.2.2.2.1 + 1)) rfl ?_
                    refine aw_iconst (pc' := 179) O dX0_system_178 ki_1 rfl ?_
                    refine aw_isubN (pc' := 180) O (by omega) dX0_system_179 rfl ?_
                    exact aw_ireturn O hr rfl dX0_system_180 (by
        rw [hsys, hok]
        simp only [if_true, if_neg (show ¬ a.2.2.2.1 = 8 by omega)]
        refine ⟨rfl, T, hTR.same rfl rfl rfl rfl rfl rfl rfl, hV, ⟨rfl, by show a.2.2.2.1 + 1 ≤ 8; omega⟩, fun i hi => ?_, Or.inl rfl, 0, Nat.zero_le _, rfl, Or.inl rfl⟩
        have hi : i < a.2.2.2.1 + 1 := hi
        by_cases q : i = a.2.2.2.1
        · subst q
          simp only [va_up_self]
          refine ⟨⟨?_, ?_, ?_, ?_, ?_⟩, ?_, ?_, ?_, ?_, ?_⟩
          · simp [aw_sA, aw_sF, va_up, upd, sysNew]
          · simp [aw_sA, aw_sF, va_up, upd, sysNew]
          · simp [aw_sA, aw_sF, va_up, upd, sysNew]
          · simp [aw_sA, aw_sF, va_up, upd, sysNew]
          · simp [aw_sA, aw_sF, va_up, upd, sysNew]
          · show n % 64 < 64; omega
          · show n / 64 < 64; omega
          · show v % 8 < 5; omega
          · show v / 8 % 8 < 6; omega
          · show v / 64 < 6; omega
        · obtain ⟨⟨b1, b2, b3, b4, b5⟩, b6⟩ := s3 i (by omega)
          simp only [va_up_ne _ _ q]
          refine ⟨⟨?_, ?_, ?_, ?_, ?_⟩, b6⟩
          · simpa [aw_sA, aw_sF, va_up, upd, q] using b1
          · simpa [aw_sA, aw_sF, va_up, upd, q] using b2
          · simpa [aw_sA, aw_sF, va_up, upd, q] using b3
          · simpa [aw_sA, aw_sF, va_up, upd, q] using b4
          · simpa [aw_sA, aw_sF, va_up, upd, q] using b5)
                  · refine aw_bipush (pc' := 97) O dX0_system_95 kb_m2 rfl ?_
                    exact aw_ireturn O hr rfl dX0_system_97 (by rw [hsys, hok]; simp [h9]; exact h0)
                · rw [bt_low h6] at h8
                  have hb : sysOk n v = false := by simp [sysOk, h8]
                  refine aw_iconst (pc' := 85) O dX0_system_84 ki_m1 rfl ?_
                  exact aw_ireturn O hr rfl dX0_system_85 (by rw [hsys, hb]; exact ⟨rfl, h0⟩)
            · rw [rB_nn (by omega) (by decide)] at h6
              have hb : sysOk n v = false := by have q : ¬ v / 64 ≤ 5 := (by have := of_decide_eq_false (show decide (v / 64 < 6) = false by simpa using h6); omega); simp [sysOk, q]
              refine aw_iconst (pc' := 65) O dX0_system_64 ki_m1 rfl ?_
              exact aw_ireturn O hr rfl dX0_system_65 (by rw [hsys, hb]; exact ⟨rfl, h0⟩)
end
section
set_option maxRecDepth 100000
/-! FRAMES OF THE WORLD, PLAIN -/
/-- only the columns changed -/
def C7 (w w' : aw_S) : Prop := (∀ k, k ≠ 7 → w'.1 k = w.1 k) ∧ w'.2 = w.2
def col (w : aw_S) (v : Nat → Nat → Int32) : Prop := ∀ e, e < 24 → ∀ c, c < 6 → w.1 7 (c * 24 + e) = v e c
theorem C7.rf {w : aw_S} : C7 w w := ⟨fun _ _ => rfl, rfl⟩
theorem C7.trans {w w1 w2 : aw_S} (h : C7 w w1) (h2 : C7 w1 w2) : C7 w w2 := ⟨fun k hk => (h2.1 k hk).trans (h.1 k hk), h2.2.trans h.2⟩
theorem C7.sA {w w1 : aw_S} (h : C7 w w1) (j : Nat) (x : Int32) : C7 w (aw_sA w1 7 j x) := ⟨fun k hk => by rw [← h.1 k hk]; simp [aw_sA, va_up, hk], h.2⟩
theorem C7.tr {w w' : aw_S} {T : Nat} {lv : Nat → Bool} {st : Nat → Nat} (f : C7 w w') (h : TR w T lv st) : TR w' T lv st := h.same (by rw [f.2]) (f.1 1 (by decide)) (f.1 2 (by decide)) (f.1 3 (by decide)) (f.1 4 (by decide)) (f.1 5 (by decide)) (f.1 6 (by decide))
theorem C7.fk {w w' : aw_S} {T : Nat} (f : C7 w w') : FK w w' T := ⟨fun x _ => by rw [f.1 1 (by decide)], fun k hk => f.1 k (by omega), fun k _ => by rw [f.2], by rw [f.2]⟩
theorem C7.rcq {w w' : aw_S} (f : C7 w w') (t : Nat) : rc w' t = rc w t := by unfold rc; rw [f.1 5 (by decide)]
theorem C7.tsq {w w' : aw_S} (f : C7 w w') (t : Nat) : ts w' t = ts w t := by unfold ts; rw [f.1 1 (by decide)]
theorem col.congr {w : aw_S} {v v' : Nat → Nat → Int32} (h : col w v) (hv : ∀ e, e < 24 → ∀ c, c < 6 → v' e c = v e c) : col w v' := fun e he c hc => by rw [hv e he c hc]; exact h e he c hc
/-- all that a frame's run needs of the World, the columns apart -/
def FM (w : aw_S) (T : Nat) (a : aw_AS) : Prop := TR w T a.1 a.2.1 ∧ SR w T a.2.2.2.1 a.2.2.2.2 ∧ LA w a.2.2.2.1 a.2.2.2.2 ∧ ∀ i, i < a.2.2.2.1 → ∀ t, t < 64 → (w.2.2 i).toBitVec.getLsbD t = (decide (t < T) && fitB (ts w t) (a.2.2.2.2 0 i) (a.2.2.2.2 1 i))
theorem FM.c7 {w w' : aw_S} {T : Nat} {a : aw_AS} (h : FM w T a) (f : C7 w w') : FM w' T a := by
  obtain ⟨h1, h2, h3, h4⟩ := h
  refine ⟨f.tr h1, h2.keep f.fk (Nat.le_refl _), ?_, ?_⟩
  · unfold LA
    rw [f.2, f.1 16 (by decide)]
    exact h3
  · intro i hi t ht
    rw [f.2, f.tsq t]
    exact h4 i hi t ht
/-! one table's rows -/
def vk (w : aw_S) (t x y kd : Nat) (v : Nat → Nat → Int32) (k : Nat) : Nat → Nat → Int32 := fun e c => if tk w t k e && decide (c = x) then workF kd (v e x) (v e y) else v e c
theorem tk_self {w : aw_S} {t k z : Nat} (h6 : w.1 6 z = nI k) (hk : k < 2 ^ 31) : tk w t k z = false := by
  unfold tk
  rw [h6]
  simp [nI_nlt (Nat.le_refl k) hk]
theorem vk_self {w : aw_S} {t x y kd k z : Nat} {v : Nat → Nat → Int32} (h6 : w.1 6 z = nI k) (hk : k < 2 ^ 31) (c : Nat) : vk w t x y kd v k z c = v z c := by
  unfold vk
  rw [tk_self h6 hk]
  simp
theorem col_work {w w1 : aw_S} {T : Nat} {lv : Nat → Bool} {st : Nat → Nat} (h : TR w T lv st) {t k z x y kd : Nat} (ht : t < T) (hk : k < rc w t) (hz : z < 24) (h4 : w.1 4 (t * 24 + k) = nI z) (h5 : w.1 5 z = nI t) (h6 : w.1 6 z = nI k) {v : Nat → Nat → Int32} (hc : col w1 (vk w t x y kd v k)) : col (aw_sA w1 7 (x * 24 + z) (workF kd (v z x) (v z y))) (vk w t x y kd v (k + 1)) := by
  have hk31 : k < 2 ^ 31 := by have := rc_le w t; omega
  intro e he c hc6
  have hs := h.tks ht hk hz h4 h5 h6 he
  show upd (w1.1 7) (x * 24 + z) _ (c * 24 + e) = _
  unfold upd
  by_cases q : c * 24 + e = x * 24 + z
  · have e1 : e = z := by omega
    have e2 : c = x := by omega
    subst e1
    subst e2
    rw [if_pos rfl]
    unfold vk
    rw [hs]
    simp
  · rw [if_neg q, hc e he c hc6]
    unfold vk
    rw [hs]
    by_cases e1 : e = z
    · have e2 : ¬ c = x := fun e2 => q (by rw [e1, e2])
      simp [e2]
    · simp [e1]
theorem TR.vk0 {w : aw_S} {T : Nat} {lv : Nat → Bool} {st : Nat → Nat} (h : TR w T lv st) {t : Nat} (ht : t < T) {x y kd e : Nat} {v : Nat → Nat → Int32} (he : e < 24) (c : Nat) : vk w t x y kd v 0 e c = v e c := by
  unfold vk
  rw [h.tk0 ht he]
  simp
theorem TR.vkr {w : aw_S} {T : Nat} {lv : Nat → Bool} {st : Nat → Nat} (h : TR w T lv st) {t : Nat} (ht : t < T) {x y kd e : Nat} {v : Nat → Nat → Int32} (he : e < 24) (c : Nat) : vk w t x y kd v (rc w t) e c = if decide (w.1 5 e = nI t) && decide (c = x) then workF kd (v e x) (v e y) else v e c := by
  unfold vk
  rw [h.tkr ht he]
/-! the tables before t -/
def vt (w : aw_S) (st : Nat → Nat) (p q x y kd : Nat) (v : Nat → Nat → Int32) (t : Nat) : Nat → Nat → Int32 := fun e c => if (dn w t e && fitB (st e) p q) && decide (c = x) then workF kd (v e x) (v e y) else v e c
section VT
variable {w : aw_S} {T : Nat} {lv : Nat → Bool} {st : Nat → Nat} {t s p q x y kd e : Nat} {v : Nat → Nat → Int32}
theorem TR.vt0 (h : TR w T lv st) (he : e < 24) (c : Nat) : vt w st p q x y kd v 0 e c = v e c := by
  unfold vt
  rw [h.dn0 he]
  simp
theorem TR.vt_yes (h : TR w T lv st) (ht : t < T) (hs : w.1 1 t = nI s) (hs64 : s < 64) (hf : fitB s p q = true) (he : e < 24) (c : Nat) : vt w st p q x y kd v (t + 1) e c = if decide (w.1 5 e = nI t) && decide (c = x) then workF kd (vt w st p q x y kd v t e x) (vt w st p q x y kd v t e y) else vt w st p q x y kd v t e c := by
  have hd := h.dns ht he
  by_cases h5 : w.1 5 e = nI t
  · have h0 : dn w t e = false := by
      by_cases z : dn w t e = true
      · exact absurd h5 (h.dnx ht he z)
      · simpa using z
    have hst := (h.set ht he h5 hs hs64).2
    unfold vt
    rw [hd, h0, hst, hf]
    simp [h5]
  · unfold vt
    rw [hd]
    simp [h5]
theorem TR.vt_no (h : TR w T lv st) (ht : t < T) (hs : w.1 1 t = nI s) (hs64 : s < 64) (hf : fitB s p q = false) (he : e < 24) (c : Nat) : vt w st p q x y kd v (t + 1) e c = vt w st p q x y kd v t e c := by
  have hd := h.dns ht he
  by_cases h5 : w.1 5 e = nI t
  · have hst := (h.set ht he h5 hs hs64).2
    unfold vt
    rw [hd, hst, hf]
    simp
  · unfold vt
    rw [hd]
    simp [h5]
end VT
theorem vt_end {w : aw_S} {T : Nat} {a : aw_AS} (h : TR w T a.1 a.2.1) (i : Nat) {e : Nat} (he : e < 24) (c : Nat) (v : Nat → Nat → Int32) : run1 a i v e c = vt w a.2.1 (a.2.2.2.2 0 i) (a.2.2.2.2 1 i) (a.2.2.2.2 3 i) (a.2.2.2.2 4 i) (a.2.2.2.2 2 i) v T e c := by
  unfold vt run1 liveFit
  rw [h.dnT he]
/-! the match -/
def MI (w w1 : aw_S) (ns : Nat) (sy : Nat → Nat → Nat) (t s : Nat) : Prop := w1.1 = w.1 ∧ w1.2.1 = w.2.1 ∧ ∀ i, i < ns → ∀ u, u < 64 → (w1.2.2 i).toBitVec.getLsbD u = (decide (u < t ∨ (u = t ∧ i < s)) && fitB (ts w u) (sy 0 i) (sy 1 i))
section MIS
variable {w w1 : aw_S} {ns : Nat} {sy : Nat → Nat → Nat} {t s : Nat}
theorem MI.no (h : MI w w1 ns sy t s) (hf : fitB (ts w t) (sy 0 s) (sy 1 s) = false) : MI w w1 ns sy t (s + 1) := by
  refine ⟨h.1, h.2.1, fun i hi u hu => ?_⟩
  rw [h.2.2 i hi u hu]
  by_cases q : i = s ∧ u = t
  · obtain ⟨q1, q2⟩ := q
    subst q1
    subst q2
    rw [hf]
    simp
  · have : (u < t ∨ (u = t ∧ i < s)) ↔ (u < t ∨ (u = t ∧ i < s + 1)) := by omega
    simp only [this]
theorem MI.yes (h : MI w w1 ns sy t s) (ht : t < 64) (hf : fitB (ts w t) (sy 0 s) (sy 1 s) = true) : MI w (aw_sL w1 s (w1.2.2 s ||| ((1 : Int64) <<< ((nI t).toInt64 &&& 63)))) ns sy t (s + 1) := by
  refine ⟨h.1, h.2.1, fun i hi u hu => ?_⟩
  show (vp_updL w1.2.2 s _ i).toBitVec.getLsbD u = _
  by_cases q : i = s
  · subst q
    rw [pk_uLs, or_bit ht u hu, h.2.2 i hi u hu]
    by_cases r : u = t
    · subst r
      simp [hf]
    · have : (u < t ∨ (u = t ∧ i < i)) ↔ (u < t ∨ (u = t ∧ i < i + 1)) := by omega
      simp only [this]
      simp [r]
  · rw [pk_uLn q, h.2.2 i hi u hu]
    have : (u < t ∨ (u = t ∧ i < s)) ↔ (u < t ∨ (u = t ∧ i < s + 1)) := by omega
    simp only [this]
theorem MI.next (h : MI w w1 ns sy t ns) : MI w w1 ns sy (t + 1) 0 := by
  refine ⟨h.1, h.2.1, fun i hi u hu => ?_⟩
  rw [h.2.2 i hi u hu]
  have : (u < t ∨ (u = t ∧ i < ns)) ↔ (u < t + 1 ∨ (u = t + 1 ∧ i < 0)) := by omega
  simp only [this]
theorem MI.zero (h1 : w1.1 = w.1) (h2 : w1.2.1 = w.2.1) (h3 : ∀ i, i < ns → w1.2.2 i = 0) : MI w w1 ns sy 0 0 := by
  refine ⟨h1, h2, fun i hi u hu => ?_⟩
  rw [h3 i hi]
  simp
end MIS
/-- a step down -/
theorem aw_dec (j : Nat) : nI j + Int32.ofInt (-1) = nI j - nI 1 := by
  have h1 : Int32.ofInt (-1) = -1 := by decide
  have h2 : nI 1 = 1 := by decide
  rw [h1, h2]
  grind
/-- i left: the place is i - 1, or there is none -/
theorem aw_down {x : Int32} {i : Nat} (hx : x = nI i - nI 1) (hi : i < 2 ^ 30) : (x < 0 → i = 0) ∧ (¬ x < 0 → ∃ j, i = j + 1 ∧ x = nI j) := by
  rcases i with _ | j
  · refine ⟨fun _ => rfl, fun h => absurd ?_ h⟩
    rw [hx]
    decide
  · have e : x = nI j := by
      rw [hx, pk_sub (by omega)]
      rfl
    refine ⟨fun h => ?_, fun _ => ⟨j, rfl, e⟩⟩
    rw [e] at h
    exact absurd h (nI_pos (by omega))
theorem itN_ge {n : Int32} {i : Nat} (hi : i ≤ itN n) (h : n ≤ nI i) : i = itN n := by
  have h10 : itN n ≤ 10 := Nat.min_le_right _ _
  have h2 : itN n ≤ n.toNatClampNeg := Nat.min_le_left _ _
  have : n.toNatClampNeg ≤ i := by
    by_cases q : n < 0
    · have : n.toNatClampNeg = 0 := by
        rw [Int32.lt_iff_toInt_lt] at q
        show n.toInt.toNat = 0
        have : (0 : Int32).toInt = 0 := by decide
        omega
      omega
    · obtain ⟨j, h1, rfl⟩ := nI_of q
      rw [nI_clamp h1]
      exact (nI_leI h1 (by omega)).mp h
  omega
theorem itN_lt {n : Int32} {i : Nat} (h : ¬ n ≤ nI i) (h10 : i < 10) : i < itN n := by
  have hn : ¬ n < 0 := by
    intro q
    refine h ?_
    rw [Int32.le_iff_toInt_le]
    rw [Int32.lt_iff_toInt_lt] at q
    rw [nI_toInt (by omega)]
    have : (0 : Int32).toInt = 0 := by decide
    omega
  obtain ⟨j, h1, rfl⟩ := nI_of hn
  unfold itN
  rw [nI_clamp h1]
  have : ¬ j ≤ i := fun q => h ((nI_leI h1 (by omega)).mpr q)
  omega
theorem itN_10 {n : Int32} {i : Nat} (hi : i ≤ itN n) (h : 10 ≤ i) : i = itN n := by
  have h10 : itN n ≤ 10 := Nat.min_le_right _ _
  omega
end
section
set_option maxRecDepth 100000
set_option maxHeartbeats 4000000 in
set_option maxRecDepth 100000 in
theorem met0_matchTables (l : Launch) (L : aw_L) (hD : ∀ w, va_D (aw_A L) (aw_pic0 L w)) (w : aw_S) {T ns : Nat} {lv : Nat → Bool} {st : Nat → Nat} {sy : Nat → Nat → Nat} (hTR : TR w T lv st) (hS : SR w T ns sy) : aw_Mv (aw_pic0 L) l L yX0_matchTables cX0_matchTables 3 1 23 [] w (fun w' => w'.1 = w.1 ∧ (∀ k, k ≠ 18 → w'.2.1 k = w.2.1 k) ∧ w'.2.1 18 = nI T ∧ ∀ i, i < ns → ∀ t, t < 64 → (w'.2.2 i).toBitVec.getLsbD t = (decide (t < T) && fitB (ts w t) (sy 0 i) (sy 1 i))) := by
  have hT := hTR.1.2
  obtain ⟨⟨s1, s2⟩, s3, -, M, m1, m2, m3⟩ := hS
  refine aw_of_v (lv := [(0, .ref (L.2.2 20))]) (own := RX0) hD (by decide) rfl (Nat.le_of_ble_eq_true rfl) rfl (fun X O F hr => ?_)
  have rest : ∀ (w1 : aw_S), MI w w1 ns sy M 0 → aw_J (aw_pic0 L) X 30 [(0, .ref (L.2.2 20))] [] w1 := by
    intro w1 hw1
    have lp : ∀ (n : Nat) (t : Nat) (w1 : aw_S), t ≤ T → T - t < n → MI w w1 ns sy t 0 → aw_J (aw_pic0 L) X 35 [(0, .ref (L.2.2 20)), (1, .int (nI t))] [] w1 := by
      intro n
      induction n with
      | zero =>
        intro t w1 ht hm hw1
        exact absurd hm (Nat.not_lt_zero _)
      | succ n ih =>
        intro t w1 ht hm hw1
        refine aw_iload_n (pc' := 36) O dX0_matchTables_35 rfl rfl ?_
        refine aw_aload_n (pc' := 37) O dX0_matchTables_36 rfl rfl ?_
        refine g0_0 (pc' := 40) O dX0_matchTables_37 rfl ?_
        refine aw_top (y := nI T) (by rw [hw1.2.1]; exact hTR.1.1) ?_
        refine aw_icmpN_ge (pc' := 43) (tgt := 106) O (by omega) (by omega) dX0_matchTables_40 (by decide) rfl (fun h2 => ?_) (fun h2 => ?_)
        · have e1 : t = T := by omega
          subst e1
          refine aw_aload_n (pc' := 107) O dX0_matchTables_106 rfl rfl ?_
          refine aw_aload_n (pc' := 108) O dX0_matchTables_107 rfl rfl ?_
          refine g0_0 (pc' := 111) O dX0_matchTables_108 rfl ?_
          refine aw_top (y := nI t) (by rw [hw1.2.1]; exact hTR.1.1) ?_
          refine p0_18 (pc' := 114) O F dX0_matchTables_111 rfl ?_
          exact aw_return O hr dX0_matchTables_114 (⟨hw1.1, fun k hk => by
        show upd w1.2.1 18 _ k = _
        unfold upd
        rw [if_neg hk, hw1.2.1], rfl, fun i hi u hu => by
        show (w1.2.2 i).toBitVec.getLsbD u = _
        rw [hw1.2.2 i hi u hu]
        simp⟩)
        · have ih0 := ih
          obtain ⟨z, z1, z2, z3⟩ := hTR.2.1 t h2
          have hts : ts w t = z := by unfold ts; rw [z2]; exact nI_clamp (by omega)
          have lp2 : ∀ (n : Nat) (s : Nat) (w1 : aw_S), s ≤ ns → ns - s < n → MI w w1 ns sy t s → aw_J (aw_pic0 L) X 45 [(0, .ref (L.2.2 20)), (1, .int (nI t)), (2, .int (nI s))] [] w1 := by
            intro n
            induction n with
            | zero =>
              intro s w1 hs hm hw1
              exact absurd hm (Nat.not_lt_zero _)
            | succ n ih =>
              intro s w1 hs hm hw1
              refine aw_iload_n (pc' := 46) O dX0_matchTables_45 rfl rfl ?_
              refine aw_aload_n (pc' := 47) O dX0_matchTables_46 rfl rfl ?_
              refine g0_8 (pc' := 50) O dX0_matchTables_47 rfl ?_
              refine aw_top (y := nI ns) (by rw [hw1.2.1]; exact s1) ?_
              refine aw_icmpN_ge (pc' := 53) (tgt := 100) O (by omega) (by omega) dX0_matchTables_50 (by decide) rfl (fun h3 => ?_) (fun h3 => ?_)
              · have e1 : s = ns := by omega
                subst e1
                refine aw_iinc (pc' := 103) (v := nI (t + 1)) (lv' := [(0, .ref (L.2.2 20)), (1, .int (nI (t + 1))), (2, .int (nI s))]) O dX0_matchTables_100 (F.nL (by decide)) rfl (nI_1 _) rfl rfl rfl ?_
                refine aw_goto (tgt := 35) O dX0_matchTables_103 (by decide) ?_
                refine aw_less [0, 1] rfl ?_
                exact ih0 (t + 1) _ (by omega) (by omega) hw1.next
              · obtain ⟨⟨b1, b2, -, -, -⟩, b6, b7, -⟩ := s3 s h3
                refine aw_aload_n (pc' := 54) O dX0_matchTables_53 rfl rfl ?_
                refine aw_aload_n (pc' := 55) O dX0_matchTables_54 rfl rfl ?_
                refine g0_1 (pc' := 58) O dX0_matchTables_55 rfl ?_
                refine aw_iload_n (pc' := 59) O dX0_matchTables_58 rfl rfl ?_
                refine ld0_1 (pc' := 60) (j := t) O rfl (by omega) dX0_matchTables_59 rfl ?_
                refine aw_top (y := nI z) (by rw [hw1.1]; exact z2) ?_
                refine aw_aload_n (pc' := 61) O dX0_matchTables_60 rfl rfl ?_
                refine g0_9 (pc' := 64) O dX0_matchTables_61 rfl ?_
                refine aw_iload_n (pc' := 65) O dX0_matchTables_64 rfl rfl ?_
                refine ld0_9 (pc' := 66) (j := s) O rfl (by omega) dX0_matchTables_65 rfl ?_
                refine aw_top (y := nI (sy 0 s)) (by rw [hw1.1]; exact b1) ?_
                refine aw_aload_n (pc' := 67) O dX0_matchTables_66 rfl rfl ?_
                refine g0_10 (pc' := 70) O dX0_matchTables_67 rfl ?_
                refine aw_iload_n (pc' := 71) O dX0_matchTables_70 rfl rfl ?_
                refine ld0_10 (pc' := 72) (j := s) O rfl (by omega) dX0_matchTables_71 rfl ?_
                refine aw_top (y := nI (sy 1 s)) (by rw [hw1.1]; exact b2) ?_
                refine c0_fits (pc' := 75) (rest := []) O F (met0_fits l L hD w1 z (sy 0 s) (sy 1 s) z1 b6 b7) (by decide) (by decide) rfl rfl (Nat.le_of_ble_eq_true rfl) dX0_matchTables_72 rfl (aw_deti ?_)
                refine aw_ifB_eq (pc' := 78) (tgt := 94) O dX0_matchTables_75 (by decide) rfl (fun h4 => ?_) (fun h4 => ?_)
                · refine aw_iinc (pc' := 97) (v := nI (s + 1)) (lv' := [(0, .ref (L.2.2 20)), (1, .int (nI t)), (2, .int (nI (s + 1)))]) O dX0_matchTables_94 (F.nL (by decide)) rfl (nI_1 _) rfl rfl rfl ?_
                  refine aw_goto (tgt := 45) O dX0_matchTables_97 (by decide) ?_
                  exact ih (s + 1) _ (by omega) (by omega) (hw1.no (by rw [hts]; exact h4))
                · refine aw_aload_n (pc' := 79) O dX0_matchTables_78 rfl rfl ?_
                  refine g0_17 (pc' := 82) O dX0_matchTables_79 rfl ?_
                  refine aw_iload_n (pc' := 83) O dX0_matchTables_82 rfl rfl ?_
                  refine aw_aload_n (pc' := 84) O dX0_matchTables_83 rfl rfl ?_
                  refine g0_17 (pc' := 87) O dX0_matchTables_84 rfl ?_
                  refine aw_iload_n (pc' := 88) O dX0_matchTables_87 rfl rfl ?_
                  refine ld0_17 (pc' := 89) (j := s) O rfl (by omega) dX0_matchTables_88 rfl ?_
                  refine aw_lconst (pc' := 90) O dX0_matchTables_89 (v := 1) (by decide) rfl ?_
                  refine aw_iload_n (pc' := 91) O dX0_matchTables_90 rfl rfl ?_
                  refine aw_lshl (pc' := 92) O dX0_matchTables_91 rfl rfl ?_
                  refine aw_lor (pc' := 93) O dX0_matchTables_92 rfl ?_
                  refine st0_17 (pc' := 94) (j := s) O F rfl (by omega) dX0_matchTables_93 rfl ?_
                  refine aw_iinc (pc' := 97) (v := nI (s + 1)) (lv' := [(0, .ref (L.2.2 20)), (1, .int (nI t)), (2, .int (nI (s + 1)))]) O dX0_matchTables_94 (F.nL (by decide)) rfl (nI_1 _) rfl rfl rfl ?_
                  refine aw_goto (tgt := 45) O dX0_matchTables_97 (by decide) ?_
                  exact ih (s + 1) _ (by omega) (by omega) (hw1.yes (by omega) (by rw [hts]; exact h4))
          refine aw_iconst (pc' := 44) O dX0_matchTables_43 ki_0 rfl ?_
          refine aw_istore_n (pc' := 45) (lv' := [(0, .ref (L.2.2 20)), (1, .int (nI t)), (2, .int (nI 0))]) O dX0_matchTables_44 (F.nL (by decide)) rfl rfl rfl ?_
          exact lp2 (ns + 1) 0 _ (Nat.zero_le _) (by omega) hw1
    refine aw_aload_n (pc' := 31) O dX0_matchTables_30 rfl rfl ?_
    refine g0_18 (pc' := 34) O dX0_matchTables_31 rfl ?_
    refine aw_top (y := nI M) (by rw [hw1.2.1]; exact m2) ?_
    refine aw_istore_n (pc' := 35) (lv' := [(0, .ref (L.2.2 20)), (1, .int (nI M))]) O dX0_matchTables_34 (F.nL (by decide)) rfl rfl rfl ?_
    exact lp (T + 1) M _ m1 (by omega) hw1
  refine aw_aload_n (pc' := 1) O dX0_matchTables_0 rfl rfl ?_
  refine g0_18 (pc' := 4) O dX0_matchTables_1 rfl ?_
  refine aw_top (y := nI M) m2 ?_
  refine aw_if_ne (pc' := 7) (tgt := 30) O dX0_matchTables_4 (by decide) rfl (fun h1 => ?_) (fun h1 => ?_)
  · have hM : ¬ M = 0 := fun q => h1 (by rw [q]; rfl)
    refine rest w ⟨rfl, rfl, fun i hi u hu => ?_⟩
    rcases m3 with q | q
    · exact absurd q hM
    · rw [q i hi u hu]
      simp
  · have hM : M = 0 := nI_inj (by omega) (by decide) h1
    subst hM
    have lz : ∀ (n : Nat) (s : Nat) (w1 : aw_S), s ≤ ns → ns - s < n → w1.1 = w.1 ∧ w1.2.1 = w.2.1 → (∀ i, i < s → w1.2.2 i = 0) → aw_J (aw_pic0 L) X 9 [(0, .ref (L.2.2 20)), (1, .int (nI s))] [] w1 := by
      intro n
      induction n with
      | zero =>
        intro s w1 hs hm hw1 hz
        exact absurd hm (Nat.not_lt_zero _)
      | succ n ih =>
        intro s w1 hs hm hw1 hz
        refine aw_iload_n (pc' := 10) O dX0_matchTables_9 rfl rfl ?_
        refine aw_aload_n (pc' := 11) O dX0_matchTables_10 rfl rfl ?_
        refine g0_8 (pc' := 14) O dX0_matchTables_11 rfl ?_
        refine aw_top (y := nI ns) (by rw [hw1.2]; exact s1) ?_
        refine aw_icmpN_ge (pc' := 17) (tgt := 30) O (by omega) (by omega) dX0_matchTables_14 (by decide) rfl (fun h2 => ?_) (fun h2 => ?_)
        · refine aw_less [0] rfl ?_
          exact rest w1 (MI.zero hw1.1 hw1.2 (fun i hi => hz i (by omega)))
        · refine aw_aload_n (pc' := 18) O dX0_matchTables_17 rfl rfl ?_
          refine g0_17 (pc' := 21) O dX0_matchTables_18 rfl ?_
          refine aw_iload_n (pc' := 22) O dX0_matchTables_21 rfl rfl ?_
          refine aw_lconst (pc' := 23) O dX0_matchTables_22 (v := 0) (by decide) rfl ?_
          refine st0_17 (pc' := 24) (j := s) O F rfl (by omega) dX0_matchTables_23 rfl ?_
          refine aw_iinc (pc' := 27) (v := nI (s + 1)) (lv' := [(0, .ref (L.2.2 20)), (1, .int (nI (s + 1)))]) O dX0_matchTables_24 (F.nL (by decide)) rfl (nI_1 _) rfl rfl rfl ?_
          refine aw_goto (tgt := 9) O dX0_matchTables_27 (by decide) ?_
          exact ih (s + 1) _ (by omega) (by omega) hw1 (fun i hi => by
            show vp_updL w1.2.2 s 0 i = 0
            unfold vp_updL
            by_cases q : i = s
            · rw [if_pos q]
            · rw [if_neg q]
              exact hz i (by omega))
    refine aw_iconst (pc' := 8) O dX0_matchTables_7 ki_0 rfl ?_
    refine aw_istore_n (pc' := 9) (lv' := [(0, .ref (L.2.2 20)), (1, .int (nI 0))]) O dX0_matchTables_8 (F.nL (by decide)) rfl rfl rfl ?_
    exact lz (ns + 1) 0 _ (Nat.zero_le _) (by omega) ⟨rfl, rfl⟩ (fun i hi => absurd hi (Nat.not_lt_zero _))
set_option maxHeartbeats 4000000 in
set_option maxRecDepth 100000 in
theorem met0_worked (l : Launch) (L : aw_L) (hD : ∀ w, va_D (aw_A L) (aw_pic0 L w)) (w : aw_S) (kd : Nat) (x y : Int32) (hk : kd < 5) : aw_Mi (aw_pic0 L) l L yX0_worked cX0_worked 4 .int 0 0 [.int (nI kd), .int x, .int y] w (fun r w' => r = workF kd x y ∧ w' = w) := by
  refine aw_of_i (lv := [(0, .ref (L.2.2 20)), (1, .int (nI kd)), (2, .int x), (3, .int y)]) (own := RX0) hD (by decide) rfl (Nat.le_of_ble_eq_true rfl) rfl (fun X O F hr => ?_)
  refine aw_iload_n (pc' := 1) O dX0_worked_0 rfl rfl ?_
  refine aw_if_ne (pc' := 4) (tgt := 8) O dX0_worked_1 (by decide) rfl (fun h0 => ?_) (fun h0 => ?_)
  · have n0 : ¬ kd = 0 := fun q => h0 (by rw [q]; rfl)
    refine aw_iload_n (pc' := 9) O dX0_worked_8 rfl rfl ?_
    refine aw_iconst (pc' := 10) O dX0_worked_9 ki_1 rfl ?_
    refine aw_icmpN_ne (pc' := 13) (tgt := 17) O (by omega) (by omega) dX0_worked_10 (by decide) rfl (fun h1 => ?_) (fun h1 => ?_)
    · refine aw_iload_n (pc' := 18) O dX0_worked_17 rfl rfl ?_
      refine aw_iconst (pc' := 19) O dX0_worked_18 ki_2 rfl ?_
      refine aw_icmpN_ne (pc' := 22) (tgt := 24) O (by omega) (by omega) dX0_worked_19 (by decide) rfl (fun h2 => ?_) (fun h2 => ?_)
      · refine aw_iload_n (pc' := 25) O dX0_worked_24 rfl rfl ?_
        refine aw_iconst (pc' := 26) O dX0_worked_25 ki_3 rfl ?_
        refine aw_icmpN_ne (pc' := 29) (tgt := 33) O (by omega) (by omega) dX0_worked_26 (by decide) rfl (fun h3 => ?_) (fun h3 => ?_)
        · refine aw_iload_n (pc' := 34) O dX0_worked_33 rfl rfl ?_
          refine aw_if_ge (pc' := 37) (tgt := 41) O dX0_worked_34 (by decide) rfl (fun h4 => ?_) (fun h4 => ?_)
          · refine aw_iload_n (pc' := 42) O dX0_worked_41 rfl rfl ?_
            exact aw_ireturn O hr rfl dX0_worked_42 (⟨by simp [workF, n0, h1, h2, h3, i_nlt h4], rfl⟩)
          · refine aw_iconst (pc' := 38) O dX0_worked_37 ki_0 rfl ?_
            refine aw_goto (tgt := 42) O dX0_worked_38 (by decide) ?_
            exact aw_ireturn O hr rfl dX0_worked_42 (⟨by simp [workF, n0, h1, h2, h3, i_lt h4]; rfl, rfl⟩)
        · refine aw_iload_n (pc' := 30) O dX0_worked_29 rfl rfl ?_
          refine aw_iload_n (pc' := 31) O dX0_worked_30 rfl rfl ?_
          refine aw_imul (pc' := 32) O dX0_worked_31 rfl ?_
          exact aw_ireturn O hr rfl dX0_worked_32 (⟨by simp [workF, h3], rfl⟩)
      · refine aw_iload_n (pc' := 23) O dX0_worked_22 rfl rfl ?_
        exact aw_ireturn O hr rfl dX0_worked_23 (⟨by simp [workF, h2], rfl⟩)
    · refine aw_iload_n (pc' := 14) O dX0_worked_13 rfl rfl ?_
      refine aw_iload_n (pc' := 15) O dX0_worked_14 rfl rfl ?_
      refine aw_isub (pc' := 16) O dX0_worked_15 rfl ?_
      exact aw_ireturn O hr rfl dX0_worked_16 (⟨by simp [workF, h1], rfl⟩)
  · have n0 : kd = 0 := nI_inj (by omega) (by decide) h0
    refine aw_iload_n (pc' := 5) O dX0_worked_4 rfl rfl ?_
    refine aw_iload_n (pc' := 6) O dX0_worked_5 rfl rfl ?_
    refine aw_iadd (pc' := 7) O dX0_worked_6 rfl ?_
    exact aw_ireturn O hr rfl dX0_worked_7 (⟨by simp [workF, n0], rfl⟩)
set_option maxHeartbeats 4000000 in
set_option maxRecDepth 100000 in
theorem met0_runOver (l : Launch) (L : aw_L) (hD : ∀ w, va_D (aw_A L) (aw_pic0 L w)) (w : aw_S) {T : Nat} {lv : Nat → Bool} {st : Nat → Nat} (hTR : TR w T lv st) (v : Nat → Nat → Int32) (hc : col w v) (i t kd x y : Nat) (hi : i < 8) (ht : t < T) (hk : w.1 11 i = nI kd) (hx : w.1 12 i = nI x) (hy : w.1 13 i = nI y) (hk5 : kd < 5) (hx6 : x < 6) (hy6 : y < 6) : aw_Mi (aw_pic0 L) l L yX0_runOver cX0_runOver 7 .int 1 23 [.int (nI i), .int (nI t)] w (fun r w' => r = nI (rc w t) ∧ C7 w w' ∧ col w' (fun e c => if decide (w.1 5 e = nI t) && decide (c = x) then workF kd (v e x) (v e y) else v e c)) := by
  have hT := hTR.1.2
  have hb := rc_le w t
  refine aw_of_i (lv := [(0, .ref (L.2.2 20)), (1, .int (nI i)), (2, .int (nI t))]) (own := RX0) hD (by decide) rfl (Nat.le_of_ble_eq_true rfl) rfl (fun X O F hr => ?_)
  have lp : ∀ (n : Nat) (k : Nat) (w1 : aw_S), k ≤ rc w t → rc w t - k < n → C7 w w1 → col w1 (vk w t x y kd v k) → aw_J (aw_pic0 L) X 24 [(0, .ref (L.2.2 20)), (1, .int (nI i)), (2, .int (nI t)), (3, .int (nI (x * 24))), (4, .int (nI (y * 24))), (5, .int (nI k))] [] w1 := by
    intro n
    induction n with
    | zero =>
      intro k w1 hkr hm hf hv
      exact absurd hm (Nat.not_lt_zero _)
    | succ n ih =>
      intro k w1 hkr hm hf hv
      refine aw_iload (pc' := 26) O dX0_runOver_24 rfl rfl ?_
      refine aw_aload_n (pc' := 27) O dX0_runOver_26 rfl rfl ?_
      refine g0_3 (pc' := 30) O dX0_runOver_27 rfl ?_
      refine aw_iload_n (pc' := 31) O dX0_runOver_30 rfl rfl ?_
      refine ld0_3 (pc' := 32) (j := t) O rfl (by omega) dX0_runOver_31 rfl ?_
      refine aw_top (y := nI (rc w t)) (by rw [hf.1 3 (by decide)]; exact hTR.2.2.2.2.1 t ht) ?_
      refine aw_icmpN_ge (pc' := 35) (tgt := 93) O (by omega) (by omega) dX0_runOver_32 (by decide) rfl (fun h2 => ?_) (fun h2 => ?_)
      · have e1 : k = rc w t := by omega
        subst e1
        refine aw_aload_n (pc' := 94) O dX0_runOver_93 rfl rfl ?_
        refine g0_3 (pc' := 97) O dX0_runOver_94 rfl ?_
        refine aw_iload_n (pc' := 98) O dX0_runOver_97 rfl rfl ?_
        refine ld0_3 (pc' := 99) (j := t) O rfl (by omega) dX0_runOver_98 rfl ?_
        refine aw_top (y := nI (rc w t)) (by rw [hf.1 3 (by decide)]; exact hTR.2.2.2.2.1 t ht) ?_
        exact aw_ireturn O hr rfl dX0_runOver_99 (⟨rfl, hf, hv.congr (fun e he c hc => (hTR.vkr ht he c).symm)⟩)
      · obtain ⟨z, z1, z2, z3, z4⟩ := hTR.2.2.2.2.2.2.2 t ht k h2
        have vx : w1.1 7 (x * 24 + z) = v z x := (hv z z1 x hx6).trans (vk_self z4 (by omega) x)
        have vy : w1.1 7 (y * 24 + z) = v z y := (hv z z1 y hy6).trans (vk_self z4 (by omega) y)
        refine aw_aload_n (pc' := 36) O dX0_runOver_35 rfl rfl ?_
        refine g0_4 (pc' := 39) O dX0_runOver_36 rfl ?_
        refine aw_iload_n (pc' := 40) O dX0_runOver_39 rfl rfl ?_
        refine aw_bipush (pc' := 42) O dX0_runOver_40 kb_24 rfl ?_
        refine aw_imulN (pc' := 43) O dX0_runOver_42 rfl ?_
        refine aw_iload (pc' := 45) O dX0_runOver_43 rfl rfl ?_
        refine aw_iaddN (pc' := 46) O dX0_runOver_45 rfl ?_
        refine ld0_4 (pc' := 47) (j := (t * 24) + k) O rfl (by omega) dX0_runOver_46 rfl ?_
        refine aw_top (y := nI z) (by rw [hf.1 4 (by decide)]; exact z2) ?_
        refine aw_istore (pc' := 49) (lv' := [(0, .ref (L.2.2 20)), (1, .int (nI i)), (2, .int (nI t)), (3, .int (nI (x * 24))), (4, .int (nI (y * 24))), (5, .int (nI k)), (6, .int (nI z))]) O dX0_runOver_47 (F.nL (by decide)) rfl rfl rfl ?_
        refine aw_aload_n (pc' := 50) O dX0_runOver_49 rfl rfl ?_
        refine g0_7 (pc' := 53) O dX0_runOver_50 rfl ?_
        refine aw_iload_n (pc' := 54) O dX0_runOver_53 rfl rfl ?_
        refine aw_iload (pc' := 56) O dX0_runOver_54 rfl rfl ?_
        refine aw_iaddN (pc' := 57) O dX0_runOver_56 rfl ?_
        refine aw_aload_n (pc' := 58) O dX0_runOver_57 rfl rfl ?_
        refine aw_aload_n (pc' := 59) O dX0_runOver_58 rfl rfl ?_
        refine g0_11 (pc' := 62) O dX0_runOver_59 rfl ?_
        refine aw_iload_n (pc' := 63) O dX0_runOver_62 rfl rfl ?_
        refine ld0_11 (pc' := 64) (j := i) O rfl (by omega) dX0_runOver_63 rfl ?_
        refine aw_top (y := nI kd) (by rw [hf.1 11 (by decide)]; exact hk) ?_
        refine aw_aload_n (pc' := 65) O dX0_runOver_64 rfl rfl ?_
        refine g0_7 (pc' := 68) O dX0_runOver_65 rfl ?_
        refine aw_iload_n (pc' := 69) O dX0_runOver_68 rfl rfl ?_
        refine aw_iload (pc' := 71) O dX0_runOver_69 rfl rfl ?_
        refine aw_iaddN (pc' := 72) O dX0_runOver_71 rfl ?_
        refine ld0_7 (pc' := 73) (j := (x * 24) + z) O rfl (by omega) dX0_runOver_72 rfl ?_
        refine aw_top (y := v z x) vx ?_
        refine aw_aload_n (pc' := 74) O dX0_runOver_73 rfl rfl ?_
        refine g0_7 (pc' := 77) O dX0_runOver_74 rfl ?_
        refine aw_iload (pc' := 79) O dX0_runOver_77 rfl rfl ?_
        refine aw_iload (pc' := 81) O dX0_runOver_79 rfl rfl ?_
        refine aw_iaddN (pc' := 82) O dX0_runOver_81 rfl ?_
        refine ld0_7 (pc' := 83) (j := (y * 24) + z) O rfl (by omega) dX0_runOver_82 rfl ?_
        refine aw_top (y := v z y) vy ?_
        refine c0_worked (pc' := 86) (rest := [.int (nI ((x * 24) + z)), .ref (L.2.2 7)]) O F (met0_worked l L hD w1 kd (v z x) (v z y) hk5) (by decide) (by decide) rfl rfl (Nat.le_of_ble_eq_true rfl) dX0_runOver_83 rfl (aw_deti ?_)
        refine st0_7 (pc' := 87) (j := (x * 24) + z) O F rfl (by omega) dX0_runOver_86 rfl ?_
        refine aw_iinc (pc' := 90) (v := nI (k + 1)) (lv' := [(0, .ref (L.2.2 20)), (1, .int (nI i)), (2, .int (nI t)), (3, .int (nI (x * 24))), (4, .int (nI (y * 24))), (5, .int (nI (k + 1))), (6, .int (nI z))]) O dX0_runOver_87 (F.nL (by decide)) rfl (nI_1 _) rfl rfl rfl ?_
        refine aw_goto (tgt := 24) O dX0_runOver_90 (by decide) ?_
        refine aw_less [0, 1, 2, 3, 4, 5] rfl ?_
        exact ih (k + 1) _ (by omega) (by omega) (hf.sA _ _) (col_work hTR ht h2 z1 z2 z3 z4 hv)
  refine aw_aload_n (pc' := 1) O dX0_runOver_0 rfl rfl ?_
  refine g0_12 (pc' := 4) O dX0_runOver_1 rfl ?_
  refine aw_iload_n (pc' := 5) O dX0_runOver_4 rfl rfl ?_
  refine ld0_12 (pc' := 6) (j := i) O rfl (by omega) dX0_runOver_5 rfl ?_
  refine aw_top (y := nI x) hx ?_
  refine aw_bipush (pc' := 8) O dX0_runOver_6 kb_24 rfl ?_
  refine aw_imulN (pc' := 9) O dX0_runOver_8 rfl ?_
  refine aw_istore_n (pc' := 10) (lv' := [(0, .ref (L.2.2 20)), (1, .int (nI i)), (2, .int (nI t)), (3, .int (nI (x * 24)))]) O dX0_runOver_9 (F.nL (by decide)) rfl rfl rfl ?_
  refine aw_aload_n (pc' := 11) O dX0_runOver_10 rfl rfl ?_
  refine g0_13 (pc' := 14) O dX0_runOver_11 rfl ?_
  refine aw_iload_n (pc' := 15) O dX0_runOver_14 rfl rfl ?_
  refine ld0_13 (pc' := 16) (j := i) O rfl (by omega) dX0_runOver_15 rfl ?_
  refine aw_top (y := nI y) hy ?_
  refine aw_bipush (pc' := 18) O dX0_runOver_16 kb_24 rfl ?_
  refine aw_imulN (pc' := 19) O dX0_runOver_18 rfl ?_
  refine aw_istore (pc' := 21) (lv' := [(0, .ref (L.2.2 20)), (1, .int (nI i)), (2, .int (nI t)), (3, .int (nI (x * 24))), (4, .int (nI (y * 24)))]) O dX0_runOver_19 (F.nL (by decide)) rfl rfl rfl ?_
  refine aw_iconst (pc' := 22) O dX0_runOver_21 ki_0 rfl ?_
  refine aw_istore (pc' := 24) (lv' := [(0, .ref (L.2.2 20)), (1, .int (nI i)), (2, .int (nI t)), (3, .int (nI (x * 24))), (4, .int (nI (y * 24))), (5, .int (nI 0))]) O dX0_runOver_22 (F.nL (by decide)) rfl rfl rfl ?_
  exact lp (rc w t + 1) 0 _ (Nat.zero_le _) (by omega) C7.rf (hc.congr (fun e he c _ => hTR.vk0 ht he c))
set_option maxHeartbeats 4000000 in
set_option maxRecDepth 100000 in
theorem met0_runSystem (l : Launch) (L : aw_L) (hD : ∀ w, va_D (aw_A L) (aw_pic0 L w)) (w : aw_S) (T : Nat) (a : aw_AS) (h : FM w T a) (v : Nat → Nat → Int32) (hc : col w v) (i : Nat) (hi : i < a.2.2.2.1) : aw_Mi (aw_pic0 L) l L yX0_runSystem cX0_runSystem 5 .int 2 49 [.int (nI i)] w (fun r w' => r = countN a (a.2.2.2.2 0 i) (a.2.2.2.2 1 i) ∧ C7 w w' ∧ col w' (run1 a i v)) := by
  have h0 := h
  obtain ⟨hTR, ⟨⟨s1, s2⟩, s3, -⟩, -, hM⟩ := h
  have hT := hTR.1.2
  obtain ⟨⟨-, -, b3, b4, b5⟩, b6, b7, b8, b9, b10⟩ := s3 i hi
  obtain ⟨p, hp⟩ : ∃ p, p = a.2.2.2.2 0 i := ⟨_, rfl⟩
  obtain ⟨q, hq⟩ : ∃ q, q = a.2.2.2.2 1 i := ⟨_, rfl⟩
  have hM := hM i hi
  rw [← hp, ← hq] at hM
  refine aw_of_i (lv := [(0, .ref (L.2.2 20)), (1, .int (nI i))]) (own := RX0) hD (by decide) rfl (Nat.le_of_ble_eq_true rfl) rfl (fun X O F hr => ?_)
  have lp : ∀ (n : Nat) (t : Nat) (acc : Int32) (w1 : aw_S), t ≤ T → T - t < n → C7 w w1 → acc = nI (cn (fun e => dn w t e && fitB (a.2.1 e) p q) 24) → col w1 (vt w a.2.1 p q (a.2.2.2.2 3 i) (a.2.2.2.2 4 i) (a.2.2.2.2 2 i) v t) → aw_J (aw_pic0 L) X 4 [(0, .ref (L.2.2 20)), (1, .int (nI i)), (2, .int acc), (3, .int (nI t))] [] w1 := by
    intro n
    induction n with
    | zero =>
      intro t acc w1 ht hm hf hacc hv
      exact absurd hm (Nat.not_lt_zero _)
    | succ n ih =>
      intro t acc w1 ht hm hf hacc hv
      refine aw_iload_n (pc' := 5) O dX0_runSystem_4 rfl rfl ?_
      refine aw_aload_n (pc' := 6) O dX0_runSystem_5 rfl rfl ?_
      refine g0_0 (pc' := 9) O dX0_runSystem_6 rfl ?_
      refine aw_top (y := nI T) (by rw [hf.2]; exact hTR.1.1) ?_
      refine aw_icmpN_ge (pc' := 12) (tgt := 46) O (by omega) (by omega) dX0_runSystem_9 (by decide) rfl (fun h2 => ?_) (fun h2 => ?_)
      · have e1 : t = T := by omega
        subst e1
        refine aw_iload_n (pc' := 47) O dX0_runSystem_46 rfl rfl ?_
        exact aw_ireturn O hr rfl dX0_runSystem_47 (⟨by rw [hacc, hTR.cntT (fun s => fitB s p q), hp, hq]; rfl, hf, hv.congr (fun e he c _ => by rw [hp, hq]; exact vt_end hTR i he c v)⟩)
      · obtain ⟨z, z1, z2, z3⟩ := hTR.2.1 t h2
        have hts : ts w t = z := by unfold ts; rw [z2]; exact nI_clamp (by omega)
        have hbit := hM t (by omega)
        rw [hts] at hbit
        simp only [h2, decide_true, Bool.true_and] at hbit
        have hr1 : rc w1 t = rc w t := hf.rcq t
        have f5 : w1.1 5 = w.1 5 := hf.1 5 (by decide)
        have f22 : w1.2.2 = w.2.2 := by rw [hf.2]
        refine aw_aload_n (pc' := 13) O dX0_runSystem_12 rfl rfl ?_
        refine g0_17 (pc' := 16) O dX0_runSystem_13 rfl ?_
        refine aw_iload_n (pc' := 17) O dX0_runSystem_16 rfl rfl ?_
        refine ld0_17 (pc' := 18) (j := i) O rfl (by omega) dX0_runSystem_17 rfl ?_
        refine aw_iload_n (pc' := 19) O dX0_runSystem_18 rfl rfl ?_
        refine aw_lushr (pc' := 20) O dX0_runSystem_19 rfl rfl ?_
        refine aw_lconst (pc' := 21) O dX0_runSystem_20 (v := 1) (by decide) rfl ?_
        refine aw_land (pc' := 22) O dX0_runSystem_21 rfl ?_
        refine aw_lconst (pc' := 23) O dX0_runSystem_22 (v := 1) (by decide) rfl ?_
        refine aw_lcmp (pc' := 24) O dX0_runSystem_23 rfl ?_
        refine aw_if_ne (pc' := 27) (tgt := 40) O dX0_runSystem_24 (by decide) rfl (fun h3 => ?_) (fun h3 => ?_)
        · have hno : fitB z p q = false := by
            rw [← hbit]
            have := mt (ush_bit (x := w.2.2 i) (t := t) (by omega)).mpr (by rw [← f22]; exact h3)
            simpa using this
          refine aw_iinc (pc' := 43) (v := nI (t + 1)) (lv' := [(0, .ref (L.2.2 20)), (1, .int (nI i)), (2, .int acc), (3, .int (nI (t + 1)))]) O dX0_runSystem_40 (F.nL (by decide)) rfl (nI_1 _) rfl rfl rfl ?_
          refine aw_goto (tgt := 4) O dX0_runSystem_43 (by decide) ?_
          exact ih (t + 1) _ _ (by omega) (by omega) hf (by rw [hacc, hTR.cnt h2 z2 z1 (fun s => fitB s p q)]; simp only [hno]; rfl) (hv.congr (fun e he c _ => hTR.vt_no h2 z2 z1 hno he c))
        · have hyes : fitB z p q = true := by
            rw [← hbit]
            exact (ush_bit (x := w.2.2 i) (t := t) (by omega)).mp (by rw [← f22]; exact h3)
          refine aw_aload_n (pc' := 28) O dX0_runSystem_27 rfl rfl ?_
          refine aw_iload_n (pc' := 29) O dX0_runSystem_28 rfl rfl ?_
          refine aw_iload_n (pc' := 30) O dX0_runSystem_29 rfl rfl ?_
          refine c0_runOver (pc' := 33) (rest := []) O F (met0_runOver l L hD w1 (hf.tr hTR) _ hv i t _ _ _ (by omega) h2 (by rw [hf.1 11 (by decide)]; exact b3) (by rw [hf.1 12 (by decide)]; exact b4) (by rw [hf.1 13 (by decide)]; exact b5) b8 b9 b10) (by decide) (by decide) rfl rfl (Nat.le_of_ble_eq_true rfl) dX0_runSystem_30 rfl (fun r w2 hr2 => ?_)
          obtain ⟨d1, d2, d3⟩ := hr2
          subst d1
          refine aw_istore (pc' := 35) (lv' := [(0, .ref (L.2.2 20)), (1, .int (nI i)), (2, .int acc), (3, .int (nI t)), (4, .int (nI (rc w1 t)))]) O dX0_runSystem_33 (F.nL (by decide)) rfl rfl rfl ?_
          refine aw_iload_n (pc' := 36) O dX0_runSystem_35 rfl rfl ?_
          refine aw_iload (pc' := 38) O dX0_runSystem_36 rfl rfl ?_
          refine aw_iadd (pc' := 39) O dX0_runSystem_38 rfl ?_
          refine aw_istore_n (pc' := 40) (lv' := [(0, .ref (L.2.2 20)), (1, .int (nI i)), (2, .int (acc + (nI (rc w1 t)))), (3, .int (nI t)), (4, .int (nI (rc w1 t)))]) O dX0_runSystem_39 (F.nL (by decide)) rfl rfl rfl ?_
          refine aw_iinc (pc' := 43) (v := nI (t + 1)) (lv' := [(0, .ref (L.2.2 20)), (1, .int (nI i)), (2, .int (acc + (nI (rc w1 t)))), (3, .int (nI (t + 1))), (4, .int (nI (rc w1 t)))]) O dX0_runSystem_40 (F.nL (by decide)) rfl (nI_1 _) rfl rfl rfl ?_
          refine aw_goto (tgt := 4) O dX0_runSystem_43 (by decide) ?_
          refine aw_less [0, 1, 2, 3] rfl ?_
          refine ih (t + 1) _ _ (by omega) (by omega) (hf.trans d2) ?_ (d3.congr (fun e he c _ => ?_))
          · rw [hacc, nI_add, hTR.cnt h2 z2 z1 (fun s => fitB s p q), if_pos hyes, hr1]
          · rw [hTR.vt_yes h2 z2 z1 hyes he c, f5]
  refine aw_iconst (pc' := 1) O dX0_runSystem_0 ki_0 rfl ?_
  refine aw_istore_n (pc' := 2) (lv' := [(0, .ref (L.2.2 20)), (1, .int (nI i)), (2, .int (nI 0))]) O dX0_runSystem_1 (F.nL (by decide)) rfl rfl rfl ?_
  refine aw_iconst (pc' := 3) O dX0_runSystem_2 ki_0 rfl ?_
  refine aw_istore_n (pc' := 4) (lv' := [(0, .ref (L.2.2 20)), (1, .int (nI i)), (2, .int (nI 0)), (3, .int (nI 0))]) O dX0_runSystem_3 (F.nL (by decide)) rfl rfl rfl ?_
  exact lp (T + 1) 0 _ _ (Nat.zero_le _) (by omega) C7.rf (by rw [hTR.cnt0 (fun s => fitB s p q)]) (hc.congr (fun e he c _ => hTR.vt0 he c))
set_option maxHeartbeats 4000000 in
set_option maxRecDepth 100000 in
theorem met0_runStage (l : Launch) (L : aw_L) (hD : ∀ w, va_D (aw_A L) (aw_pic0 L w)) (w : aw_S) (T : Nat) (a : aw_AS) (h : FM w T a) (v : Nat → Nat → Int32) (hc : col w v) (g : Nat) (hg : g < 2 ^ 31) : aw_Mi (aw_pic0 L) l L yX0_runStage cX0_runStage 5 .int 3 73 [.int (nI g)] w (fun r w' => r = cntG a g ∧ C7 w w' ∧ col w' (runAsc a g v a.2.2.2.1)) := by
  have h0 := h
  obtain ⟨hTR, ⟨⟨s1, s2⟩, -⟩, hLA, -⟩ := h
  obtain ⟨f, hf0⟩ : ∃ f : Nat → Int32, f = fun i => if stg a.2.2.2.2 i = g then countN a (a.2.2.2.2 0 i) (a.2.2.2.2 1 i) else 0 := ⟨_, rfl⟩
  have hcg : cntG a g = sm f a.2.2.2.1 := by rw [hf0]; rfl
  refine aw_of_i (lv := [(0, .ref (L.2.2 20)), (1, .int (nI g))]) (own := RX0) hD (by decide) rfl (Nat.le_of_ble_eq_true rfl) rfl (fun X O F hr => ?_)
  have lp : ∀ (n : Nat) (i : Nat) (x3 acc : Int32) (w1 : aw_S) (v1 : Nat → Nat → Int32), i ≤ a.2.2.2.1 → i < n → x3 = nI i - nI 1 → C7 w w1 → col w1 v1 → runDesc a g i v1 = runDesc a g a.2.2.2.1 v → acc + sm f i = sm f a.2.2.2.1 → aw_J (aw_pic0 L) X 9 [(0, .ref (L.2.2 20)), (1, .int (nI g)), (2, .int acc), (3, .int x3)] [] w1 := by
    intro n
    induction n with
    | zero =>
      intro i x3 acc w1 v1 hin hm hx3 hf hv hrd hacc
      exact absurd hm (Nat.not_lt_zero _)
    | succ n ih =>
      intro i x3 acc w1 v1 hin hm hx3 hf hv hrd hacc
      obtain ⟨dn1, dn2⟩ := aw_down hx3 (by omega)
      refine aw_iload_n (pc' := 10) O dX0_runStage_9 rfl rfl ?_
      refine aw_if_lt (pc' := 13) (tgt := 41) O dX0_runStage_10 (by decide) rfl (fun h2 => ?_) (fun h2 => ?_)
      · have e1 : i = 0 := dn1 h2
        subst e1
        refine aw_iload_n (pc' := 42) O dX0_runStage_41 rfl rfl ?_
        exact aw_ireturn O hr rfl dX0_runStage_42 (⟨by rw [hcg, ← hacc]; simp [sm], hf, by rw [← runDesc_asc, ← hrd]; exact hv⟩)
      · obtain ⟨j, e1, e2⟩ := dn2 h2
        subst e1
        subst e2
        have hsg := stg_le a.2.2.2.2 j
        refine aw_aload_n (pc' := 14) O dX0_runStage_13 rfl rfl ?_
        refine g0_16 (pc' := 17) O dX0_runStage_14 rfl ?_
        refine aw_iload_n (pc' := 18) O dX0_runStage_17 rfl rfl ?_
        refine ld0_16 (pc' := 19) (j := j) O rfl (by omega) dX0_runStage_18 rfl ?_
        refine aw_top (y := nI (stg a.2.2.2.2 j)) (by rw [hf.1 16 (by decide)]; exact hLA.2.1 j (by omega)) ?_
        refine aw_iload_n (pc' := 20) O dX0_runStage_19 rfl rfl ?_
        refine aw_icmpN_ne (pc' := 23) (tgt := 35) O (by omega) (by omega) dX0_runStage_20 (by decide) rfl (fun h3 => ?_) (fun h3 => ?_)
        · refine aw_iinc (pc' := 38) (v := nI j - nI 1) (lv' := [(0, .ref (L.2.2 20)), (1, .int (nI g)), (2, .int acc), (3, .int (nI j - nI 1))]) O dX0_runStage_35 (F.nL (by decide)) rfl (aw_dec _) rfl rfl rfl ?_
          refine aw_goto (tgt := 9) O dX0_runStage_38 (by decide) ?_
          refine ih j _ _ _ v1 (by omega) (by omega) rfl hf hv ?_ ?_
          · rw [← hrd]
            simp only [runDesc]
            rw [if_neg h3]
          · rw [← hacc]
            simp only [sm]
            have : f j = 0 := by rw [hf0]; simp [h3]
            rw [this]
            simp
        · refine aw_aload_n (pc' := 24) O dX0_runStage_23 rfl rfl ?_
          refine aw_iload_n (pc' := 25) O dX0_runStage_24 rfl rfl ?_
          refine c0_runSystem (pc' := 28) (rest := []) O F (met0_runSystem l L hD w1 T a (h0.c7 hf) v1 hv j (by omega)) (by decide) (by decide) rfl rfl (Nat.le_of_ble_eq_true rfl) dX0_runStage_25 rfl (fun r w2 hr2 => ?_)
          obtain ⟨d1, d2, d3⟩ := hr2
          refine aw_istore (pc' := 30) (lv' := [(0, .ref (L.2.2 20)), (1, .int (nI g)), (2, .int acc), (3, .int (nI j)), (4, .int r)]) O dX0_runStage_28 (F.nL (by decide)) rfl rfl rfl ?_
          refine aw_iload_n (pc' := 31) O dX0_runStage_30 rfl rfl ?_
          refine aw_iload (pc' := 33) O dX0_runStage_31 rfl rfl ?_
          refine aw_iadd (pc' := 34) O dX0_runStage_33 rfl ?_
          refine aw_istore_n (pc' := 35) (lv' := [(0, .ref (L.2.2 20)), (1, .int (nI g)), (2, .int (acc + r)), (3, .int (nI j)), (4, .int r)]) O dX0_runStage_34 (F.nL (by decide)) rfl rfl rfl ?_
          refine aw_iinc (pc' := 38) (v := nI j - nI 1) (lv' := [(0, .ref (L.2.2 20)), (1, .int (nI g)), (2, .int (acc + r)), (3, .int (nI j - nI 1)), (4, .int r)]) O dX0_runStage_35 (F.nL (by decide)) rfl (aw_dec _) rfl rfl rfl ?_
          refine aw_goto (tgt := 9) O dX0_runStage_38 (by decide) ?_
          refine aw_less [0, 1, 2, 3] rfl ?_
          refine ih j _ _ _ (run1 a j v1) (by omega) (by omega) rfl (hf.trans d2) d3 ?_ ?_
          · rw [← hrd]
            simp only [runDesc]
            rw [if_pos h3]
          · rw [← hacc]
            simp only [sm]
            have : f j = r := by rw [hf0, d1]; simp [h3]
            rw [this]
            grind
  refine aw_iconst (pc' := 1) O dX0_runStage_0 ki_0 rfl ?_
  refine aw_istore_n (pc' := 2) (lv' := [(0, .ref (L.2.2 20)), (1, .int (nI g)), (2, .int (nI 0))]) O dX0_runStage_1 (F.nL (by decide)) rfl rfl rfl ?_
  refine aw_aload_n (pc' := 3) O dX0_runStage_2 rfl rfl ?_
  refine g0_8 (pc' := 6) O dX0_runStage_3 rfl ?_
  refine aw_iconst (pc' := 7) O dX0_runStage_6 ki_1 rfl ?_
  refine aw_isub (pc' := 8) O dX0_runStage_7 rfl ?_
  refine aw_istore_n (pc' := 9) (lv' := [(0, .ref (L.2.2 20)), (1, .int (nI g)), (2, .int (nI 0)), (3, .int ((w.2.1 8) - (nI 1)))]) O dX0_runStage_8 (F.nL (by decide)) rfl rfl rfl ?_
  exact lp (a.2.2.2.1 + 1) a.2.2.2.1 _ _ _ v (Nat.le_refl _) (by omega) (by rw [s1]) C7.rf hc rfl (by show (0 : Int32) + _ = _; simp)
set_option maxHeartbeats 4000000 in
set_option maxRecDepth 100000 in
theorem met0_frame (l : Launch) (L : aw_L) (hD : ∀ w, va_D (aw_A L) (aw_pic0 L w)) (w : aw_S) (a : aw_AS) (h : R0 w a) (n : Int32) : aw_Mi (aw_pic0 L) l L yX0_frame cX0_frame 6 .int 4 97 [.int n] w (fun r w' => r = (frameA a n).1 ∧ R0 w' (frameA a n).2) := by
  have h0 := h
  obtain ⟨T, hTR, hV, hS⟩ := h
  have hT := hTR.1.2
  refine aw_of_i (lv := [(0, .ref (L.2.2 20)), (1, .int n)]) (own := RX0) hD (by decide) rfl (Nat.le_of_ble_eq_true rfl) rfl (fun X O F hr => ?_)
  refine aw_aload_n (pc' := 1) O dX0_frame_0 rfl rfl ?_
  refine c0_layOut (pc' := 4) (rest := []) O F (met0_layOut l L hD w a h0) (by decide) (by decide) rfl rfl (Nat.le_of_ble_eq_true rfl) dX0_frame_1 rfl (fun w1 hr1 => ?_)
  obtain ⟨f1, la1⟩ := hr1
  refine aw_aload_n (pc' := 5) O dX0_frame_4 rfl rfl ?_
  refine c0_matchTables (pc' := 8) (rest := []) O F (met0_matchTables l L hD w1 (f1.tr hTR) (f1.sr hS la1)) (by decide) (by decide) rfl rfl (Nat.le_of_ble_eq_true rfl) dX0_frame_5 rfl (fun w2 hr2 => ?_)
  obtain ⟨g1, g2, g3, g4⟩ := hr2
  have hTR2 : TR w2 T a.1 a.2.1 := (f1.tr hTR).same (g2 0 (by decide)) (by rw [g1]) (by rw [g1]) (by rw [g1]) (by rw [g1]) (by rw [g1]) (by rw [g1])
  have la2 : LA w2 a.2.2.2.1 a.2.2.2.2 := by
    unfold LA
    rw [g1, g2 14 (by decide), g2 15 (by decide)]
    exact la1
  have hts2 : ∀ t, ts w2 t = ts w1 t := fun t => by unfold ts; rw [g1]
  have hS2 : SR w2 T a.2.2.2.1 a.2.2.2.2 := by
    obtain ⟨q1, q2, -, -⟩ := f1.sr hS la1
    refine ⟨by rw [g2 8 (by decide)]; exact q1, by rw [g1]; exact q2, Or.inr la2, T, Nat.le_refl _, g3, Or.inr (fun i hi t ht => ?_)⟩
    rw [g4 i hi t ht, hts2]
  have hFM : FM w2 T a := ⟨hTR2, hS2, la2, fun i hi t ht => by rw [g4 i hi t ht, hts2]⟩
  have hns : a.2.2.2.1 ≤ 8 := hS.1.2
  have hsn := stN_le a.2.2.2.2 a.2.2.2.1
  have hc2 : col w2 a.2.2.1 := by
    intro e he c hc
    rw [g1, f1.1 7 (by decide)]
    exact hV e he c hc
  have hit : itN n ≤ 10 := Nat.min_le_right _ _
  have lp : ∀ (nn : Nat) (i : Nat) (acc : Int32) (w3 : aw_S), i ≤ itN n → 11 - i < nn → C7 w2 w3 → acc = sm (fun _ => cntF a) i → col w3 (runK a a.2.2.1 i) → aw_J (aw_pic0 L) X 12 [(0, .ref (L.2.2 20)), (1, .int n), (2, .int acc), (3, .int (nI i))] [] w3 := by
    intro nn
    induction nn with
    | zero =>
      intro i acc w3 hi hm hf hacc hv
      exact absurd hm (Nat.not_lt_zero _)
    | succ nn ih =>
      intro i acc w3 hi hm hf hacc hv
      refine aw_iload_n (pc' := 13) O dX0_frame_12 rfl rfl ?_
      refine aw_iload_n (pc' := 14) O dX0_frame_13 rfl rfl ?_
      refine aw_icmp_ge (pc' := 17) (tgt := 60) O dX0_frame_14 (by decide) rfl (fun h2 => ?_) (fun h2 => ?_)
      · have e1 : i = itN n := itN_ge hi h2
        refine aw_iload_n (pc' := 61) O dX0_frame_60 rfl rfl ?_
        exact aw_ireturn O hr rfl dX0_frame_61 (⟨by rw [hacc, e1]; rfl, T, hf.tr hTR2, by rw [e1] at hv; exact hv, hS2.keep hf.fk (Nat.le_refl _)⟩)
      · refine aw_iload_n (pc' := 18) O dX0_frame_17 rfl rfl ?_
        refine aw_bipush (pc' := 20) O dX0_frame_18 kb_10 rfl ?_
        refine aw_icmpN_ge (pc' := 23) (tgt := 60) O (by omega) (by omega) dX0_frame_20 (by decide) rfl (fun h3 => ?_) (fun h3 => ?_)
        · have e1 : i = itN n := itN_10 hi h3
          refine aw_iload_n (pc' := 61) O dX0_frame_60 rfl rfl ?_
          exact aw_ireturn O hr rfl dX0_frame_61 (⟨by rw [hacc, e1]; rfl, T, hf.tr hTR2, by rw [e1] at hv; exact hv, hS2.keep hf.fk (Nat.le_refl _)⟩)
        · have hlt : i < itN n := itN_lt h2 h3
          have ih0 := ih
          have lp2 : ∀ (nn : Nat) (g : Nat) (acc2 : Int32) (w4 : aw_S), g ≤ stN a.2.2.2.2 a.2.2.2.1 → stN a.2.2.2.2 a.2.2.2.1 - g < nn → C7 w2 w4 → acc2 = acc + sm (cntG a) g → col w4 (runG a (runK a a.2.2.1 i) g) → aw_J (aw_pic0 L) X 26 [(0, .ref (L.2.2 20)), (1, .int n), (2, .int acc2), (3, .int (nI i)), (4, .int (nI g))] [] w4 := by
            intro nn
            induction nn with
            | zero =>
              intro g acc2 w4 hg hm hf hacc2 hv
              exact absurd hm (Nat.not_lt_zero _)
            | succ nn ih =>
              intro g acc2 w4 hg hm hf hacc2 hv
              refine aw_iload (pc' := 28) O dX0_frame_26 rfl rfl ?_
              refine aw_aload_n (pc' := 29) O dX0_frame_28 rfl rfl ?_
              refine g0_15 (pc' := 32) O dX0_frame_29 rfl ?_
              refine aw_top (y := nI (stN a.2.2.2.2 a.2.2.2.1)) (by rw [hf.2]; exact la2.2.2) ?_
              refine aw_icmpN_ge (pc' := 35) (tgt := 54) O (by omega) (by omega) dX0_frame_32 (by decide) rfl (fun h4 => ?_) (fun h4 => ?_)
              · have e1 : g = stN a.2.2.2.2 a.2.2.2.1 := by omega
                subst e1
                refine aw_iinc (pc' := 57) (v := nI (i + 1)) (lv' := [(0, .ref (L.2.2 20)), (1, .int n), (2, .int acc2), (3, .int (nI (i + 1))), (4, .int (nI (stN a.2.2.2.2 a.2.2.2.1)))]) O dX0_frame_54 (F.nL (by decide)) rfl (nI_1 _) rfl rfl rfl ?_
                refine aw_goto (tgt := 12) O dX0_frame_57 (by decide) ?_
                refine aw_less [0, 1, 2, 3] rfl ?_
                exact ih0 (i + 1) _ _ hlt (by omega) hf (by rw [hacc2, hacc, cntF_8 a hns]; rfl) (by rw [runG_8 a _ hns] at hv; exact hv)
              · refine aw_aload_n (pc' := 36) O dX0_frame_35 rfl rfl ?_
                refine aw_iload (pc' := 38) O dX0_frame_36 rfl rfl ?_
                refine c0_runStage (pc' := 41) (rest := []) O F (met0_runStage l L hD w4 T a (hFM.c7 hf) _ hv g (by omega)) (by decide) (by decide) rfl rfl (Nat.le_of_ble_eq_true rfl) dX0_frame_38 rfl (fun r w5 hr5 => ?_)
                obtain ⟨d1, d2, d3⟩ := hr5
                refine aw_istore (pc' := 43) (lv' := [(0, .ref (L.2.2 20)), (1, .int n), (2, .int acc2), (3, .int (nI i)), (4, .int (nI g)), (5, .int r)]) O dX0_frame_41 (F.nL (by decide)) rfl rfl rfl ?_
                refine aw_iload_n (pc' := 44) O dX0_frame_43 rfl rfl ?_
                refine aw_iload (pc' := 46) O dX0_frame_44 rfl rfl ?_
                refine aw_iadd (pc' := 47) O dX0_frame_46 rfl ?_
                refine aw_istore_n (pc' := 48) (lv' := [(0, .ref (L.2.2 20)), (1, .int n), (2, .int (acc2 + r)), (3, .int (nI i)), (4, .int (nI g)), (5, .int r)]) O dX0_frame_47 (F.nL (by decide)) rfl rfl rfl ?_
                refine aw_iinc (pc' := 51) (v := nI (g + 1)) (lv' := [(0, .ref (L.2.2 20)), (1, .int n), (2, .int (acc2 + r)), (3, .int (nI i)), (4, .int (nI (g + 1))), (5, .int r)]) O dX0_frame_48 (F.nL (by decide)) rfl (nI_1 _) rfl rfl rfl ?_
                refine aw_goto (tgt := 26) O dX0_frame_51 (by decide) ?_
                refine aw_less [0, 1, 2, 3, 4] rfl ?_
                exact ih (g + 1) _ _ (by omega) (by omega) (hf.trans d2) (by rw [hacc2, d1]; simp only [sm]; grind) d3
          refine aw_iconst (pc' := 24) O dX0_frame_23 ki_0 rfl ?_
          refine aw_istore (pc' := 26) (lv' := [(0, .ref (L.2.2 20)), (1, .int n), (2, .int acc), (3, .int (nI i)), (4, .int (nI 0))]) O dX0_frame_24 (F.nL (by decide)) rfl rfl rfl ?_
          exact lp2 (stN a.2.2.2.2 a.2.2.2.1 + 1) 0 _ _ (Nat.zero_le _) (by omega) hf (by simp [sm]) hv
  refine aw_iconst (pc' := 9) O dX0_frame_8 ki_0 rfl ?_
  refine aw_istore_n (pc' := 10) (lv' := [(0, .ref (L.2.2 20)), (1, .int n), (2, .int (nI 0))]) O dX0_frame_9 (F.nL (by decide)) rfl rfl rfl ?_
  refine aw_iconst (pc' := 11) O dX0_frame_10 ki_0 rfl ?_
  refine aw_istore_n (pc' := 12) (lv' := [(0, .ref (L.2.2 20)), (1, .int n), (2, .int (nI 0)), (3, .int (nI 0))]) O dX0_frame_11 (F.nL (by decide)) rfl rfl rfl ?_
  exact lp 12 0 _ _ (Nat.zero_le _) (by decide) C7.rf rfl hc2
end
section
set_option maxRecDepth 100000
/-! THE MODEL, PLAIN -/
theorem bI_nz {b : Bool} (h : ¬ bI b = 0) : b = true := by
  cases b
  · exact absurd rfl h
  · rfl
theorem rB_gt {n : Nat} {x : Int32} (hn : n + 1 < 2 ^ 31) (h : nI n < x) : rB (n + 1) x = false := rB_hi (i_gt hn h)
theorem rB_ngt {n : Nat} {x : Int32} (hn : n + 1 < 2 ^ 31) (h0 : ¬ x < 0) (h : ¬ nI n < x) : rB (n + 1) x = true := rB_ok h0 (i_ngt hn h)
theorem upd_bI {f : Nat → Int32} {lv : Nat → Bool} {e : Nat} (b : Bool) (h : ∀ i, i < 24 → f i = bI (lv i)) : ∀ i, i < 24 → upd f e (bI b) i = bI (va_up lv e b i) := by
  intro i hi
  unfold upd
  by_cases q : i = e
  · subst q
    rw [if_pos rfl, va_up_self]
  · rw [if_neg q, va_up_ne _ _ q]
    exact h i hi
theorem upd_nI {f : Nat → Int32} {st : Nat → Nat} {e s : Nat} (hs : s < 64) (h : ∀ i, i < 24 → f i = nI (st i) ∧ st i < 64) : ∀ i, i < 24 → upd f e (nI s) i = nI (va_up st e s i) ∧ va_up st e s i < 64 := by
  intro i hi
  unfold upd
  by_cases q : i = e
  · subst q
    rw [if_pos rfl, va_up_self]
    exact ⟨rfl, hs⟩
  · rw [if_neg q, va_up_ne _ _ q]
    exact h i hi
theorem val_put {f : Nat → Int32} {vl : Nat → Nat → Int32} {e c : Nat} {v : Int32} (hc : c < 6) (h : ∀ e, e < 24 → ∀ c, c < 6 → f (6 * e + c) = vl e c) : ∀ e', e' < 24 → ∀ c', c' < 6 → upd f (6 * e + c) v (6 * e' + c') = va_up vl e (va_up (vl e) c v) e' c' := by
  intro e' he' c' hc'
  unfold upd
  by_cases q : 6 * e' + c' = 6 * e + c
  · have e1 : e' = e := by omega
    have e2 : c' = c := by omega
    subst e1
    subst e2
    rw [if_pos rfl, va_up_self, va_up_self]
  · rw [if_neg q, h e' he' c' hc']
    by_cases q1 : e' = e
    · subst q1
      have : c' ≠ c := fun z => q (by rw [z])
      rw [va_up_self, va_up_ne _ _ this]
    · rw [va_up_ne _ _ q1]
/-- six values of one entity written, up to part c -/
def CX (w w' : aw_S) (e c : Nat) (v : Int32) : Prop := (∀ c', c' < c → w'.1 2 (6 * e + c') = v) ∧ (∀ e', e' < 24 → ∀ c', c' < 6 → (e' ≠ e ∨ c ≤ c') → w'.1 2 (6 * e' + c') = w.1 2 (6 * e' + c')) ∧ (∀ k, k ≠ 2 → w'.1 k = w.1 k) ∧ w'.2 = w.2
theorem CX.rf {w : aw_S} {e : Nat} {v : Int32} : CX w w e 0 v := ⟨fun c' h => absurd h (Nat.not_lt_zero _), fun _ _ _ _ _ => rfl, fun _ _ => rfl, rfl⟩
theorem CX.step {w w' : aw_S} {e c : Nat} {v : Int32} (h : CX w w' e c v) (hc : c < 6) : CX w (aw_sA w' 2 (6 * e + c) v) e (c + 1) v := by
  obtain ⟨h1, h2, h3, h4⟩ := h
  refine ⟨fun c' hc' => ?_, fun e' he' c' hc' hx => ?_, fun k hk => ?_, h4⟩
  · show upd (w'.1 2) (6 * e + c) v (6 * e + c') = v
    unfold upd
    by_cases q : c' = c
    · subst q
      rw [if_pos rfl]
    · rw [if_neg (by omega)]
      exact h1 c' (by omega)
  · show upd (w'.1 2) (6 * e + c) v (6 * e' + c') = _
    unfold upd
    rw [if_neg (by omega)]
    exact h2 e' he' c' hc' (by omega)
  · rw [← h3 k hk]
    simp [aw_sA, va_up, hk]
theorem R1.spawn {w w' : aw_S} {a : aw_AS} {e s : Nat} {v : Int32} (h : R1 w a) (hs : s < 64) (f : CX (aw_sA (aw_sA w 0 e (nI 1)) 1 e (nI s)) w' e 6 v) : R1 w' (va_up a.1 e true, va_up a.2.1 e s, va_up a.2.2.1 e (fun _ => v), a.2.2.2) := by
  obtain ⟨h1, h2, h3, h4, h5⟩ := h
  obtain ⟨f1, f2, f3, f4⟩ := f
  refine ⟨?_, ?_, ?_, ?_, ?_⟩
  · rw [f3 0 (by decide)]
    exact upd_bI true h1
  · rw [f3 1 (by decide)]
    exact upd_nI hs h2
  · intro e' he' c hc
    by_cases q : e' = e
    · subst q
      show _ = va_up a.2.2.1 e' (fun _ => v) e' c
      rw [va_up_self]
      exact f1 c hc
    · show _ = va_up a.2.2.1 e (fun _ => v) e' c
      rw [va_up_ne _ _ q, f2 e' he' c hc (Or.inl q)]
      exact h3 e' he' c hc
  · rw [f4]
    exact h4
  · rw [f3 3 (by decide), f3 4 (by decide), f3 5 (by decide), f3 6 (by decide), f3 7 (by decide)]
    exact h5
theorem R1.kill {w : aw_S} {a : aw_AS} {e : Nat} (h : R1 w a) : R1 (aw_sA w 0 e (nI 0)) (va_up a.1 e false, a.2) := by
  obtain ⟨h1, h2, h3, h4, h5⟩ := h
  exact ⟨upd_bI false h1, h2, h3, h4, h5⟩
theorem R1.drop {w : aw_S} {a : aw_AS} {e s : Nat} (h : R1 w a) (hs : s < 64) : R1 (aw_sA w 1 e (nI s)) (a.1, va_up a.2.1 e s, a.2.2) := by
  obtain ⟨h1, h2, h3, h4, h5⟩ := h
  exact ⟨h1, upd_nI hs h2, h3, h4, h5⟩
theorem R1.put {w : aw_S} {a : aw_AS} {e s c : Nat} {v : Int32} (h : R1 w a) (hs : s < 64) (hc : c < 6) : R1 (aw_sA (aw_sA w 1 e (nI s)) 2 (6 * e + c) v) (a.1, va_up a.2.1 e s, va_up a.2.2.1 e (va_up (a.2.2.1 e) c v), a.2.2.2) := by
  obtain ⟨h1, h2, h3, h4, h5⟩ := h
  exact ⟨h1, upd_nI hs h2, val_put hc h3, h4, h5⟩
/-- who lives, and their sets -/
def LvS (w : aw_S) (a : aw_AS) : Prop := (∀ e, e < 24 → w.1 0 e = bI (a.1 e)) ∧ (∀ e, e < 24 → w.1 1 e = nI (a.2.1 e) ∧ a.2.1 e < 64)
theorem R1.ls {w : aw_S} {a : aw_AS} (h : R1 w a) : LvS w a := ⟨h.1, h.2.1⟩
theorem getA_n (a : aw_AS) {e c : Nat} (he : e < 24) (hc : c < 6) : getA a (nI e) (nI c) = getN a e c := by
  unfold getA
  rw [aB_n he, rB_n hc (by decide), nI_clamp (by omega), nI_clamp (by omega)]
  unfold getN
  cases a.1 e <;> simp
/-- what layStages leaves alone -/
def LG (w w' : aw_S) : Prop := (∀ k, k ≠ 8 → w'.1 k = w.1 k) ∧ w'.2 = w.2
theorem LG.rf {w : aw_S} : LG w w := ⟨fun _ _ => rfl, rfl⟩
theorem LG.sA {w w1 : aw_S} (h : LG w w1) (j : Nat) (x : Int32) : LG w (aw_sA w1 8 j x) := ⟨fun k hk => by rw [← h.1 k hk]; simp [aw_sA, va_up, hk], h.2⟩
theorem LG.r1 {w w' : aw_S} {a : aw_AS} (f : LG w w') (h : R1 w a) : R1 w' a := by
  unfold R1
  rw [f.1 0 (by decide), f.1 1 (by decide), f.1 2 (by decide), f.1 3 (by decide), f.1 4 (by decide), f.1 5 (by decide), f.1 6 (by decide), f.1 7 (by decide), f.2]
  exact h
/-- only the values changed -/
def C2 (w w' : aw_S) : Prop := (∀ k, k ≠ 2 → w'.1 k = w.1 k) ∧ w'.2 = w.2
theorem C2.rf {w : aw_S} : C2 w w := ⟨fun _ _ => rfl, rfl⟩
theorem C2.trans {w w1 w2 : aw_S} (h : C2 w w1) (h2 : C2 w1 w2) : C2 w w2 := ⟨fun k hk => (h2.1 k hk).trans (h.1 k hk), h2.2.trans h.2⟩
theorem C2.sA {w : aw_S} (j : Nat) (x : Int32) : C2 w (aw_sA w 2 j x) := ⟨fun k hk => by simp [aw_sA, va_up, hk], rfl⟩
def vcol (w : aw_S) (v : Nat → Nat → Int32) : Prop := ∀ e, e < 24 → ∀ c, c < 6 → w.1 2 (6 * e + c) = v e c
theorem vcol.congr {w : aw_S} {v v' : Nat → Nat → Int32} (h : vcol w v) (hv : ∀ e, e < 24 → ∀ c, c < 6 → v' e c = v e c) : vcol w v' := fun e he c hc => by rw [hv e he c hc]; exact h e he c hc
theorem C2.ls {w w' : aw_S} {a : aw_AS} (f : C2 w w') (h : LvS w a) : LvS w' a := by
  unfold LvS
  rw [f.1 0 (by decide), f.1 1 (by decide)]
  exact h
/-- all that a frame's run needs of the Model, the values apart -/
def FN (w : aw_S) (a : aw_AS) : Prop := LvS w a ∧ (w.2.1 9 = nI a.2.2.2.1 ∧ a.2.2.2.1 ≤ 8) ∧ (∀ i, i < a.2.2.2.1 → (w.1 3 i = nI (a.2.2.2.2 0 i) ∧ w.1 4 i = nI (a.2.2.2.2 1 i) ∧ w.1 5 i = nI (a.2.2.2.2 2 i) ∧ w.1 6 i = nI (a.2.2.2.2 3 i) ∧ w.1 7 i = nI (a.2.2.2.2 4 i)) ∧ a.2.2.2.2 0 i < 64 ∧ a.2.2.2.2 1 i < 64 ∧ a.2.2.2.2 2 i < 5 ∧ a.2.2.2.2 3 i < 6 ∧ a.2.2.2.2 4 i < 6) ∧ ∀ i, i < a.2.2.2.1 → w.1 8 i = nI (stg a.2.2.2.2 i)
theorem FN.c2 {w w' : aw_S} {a : aw_AS} (h : FN w a) (f : C2 w w') : FN w' a := by
  obtain ⟨h1, h2, h3, h4⟩ := h
  refine ⟨f.ls h1, ?_, ?_, ?_⟩
  · rw [f.2]
    exact h2
  · rw [f.1 3 (by decide), f.1 4 (by decide), f.1 5 (by decide), f.1 6 (by decide), f.1 7 (by decide)]
    exact h3
  · rw [f.1 8 (by decide)]
    exact h4
theorem FN.r1 {w : aw_S} {a : aw_AS} (h : FN w a) {v : Nat → Nat → Int32} (hv : vcol w v) : R1 w (a.1, a.2.1, v, a.2.2.2) := ⟨h.1.1, h.1.2, hv, h.2.1, h.2.2.1⟩
theorem R1.fn {w : aw_S} {a : aw_AS} (h : R1 w a) (h8 : ∀ i, i < a.2.2.2.1 → w.1 8 i = nI (stg a.2.2.2.2 i)) : FN w a := ⟨h.ls, h.2.2.2.1, h.2.2.2.2, h8⟩
/-- one entity worked on -/
def wk (v : Nat → Nat → Int32) (e x y kd : Nat) : Nat → Nat → Int32 := fun e' c => if e' = e ∧ c = x then workF kd (v e x) (v e y) else v e' c
theorem vcol_set {w : aw_S} {v : Nat → Nat → Int32} {e x y kd : Nat} {z : Int32} (h : vcol w v) (hx : x < 6) (hz : z = workF kd (v e x) (v e y)) : vcol (aw_sA w 2 (6 * e + x) z) (wk v e x y kd) := by
  intro e' he' c hc
  show upd (w.1 2) (6 * e + x) z (6 * e' + c) = _
  unfold upd wk
  by_cases q : 6 * e' + c = 6 * e + x
  · have e1 : e' = e := by omega
    have e2 : c = x := by omega
    rw [if_pos q, if_pos ⟨e1, e2⟩]
    exact hz
  · rw [if_neg q, if_neg (fun z => q (by rw [z.1, z.2]))]
    exact h e' he' c hc
theorem vcol_keep {w : aw_S} {v : Nat → Nat → Int32} {e x y kd : Nat} (h : vcol w v) (hz : v e x = workF kd (v e x) (v e y)) : vcol w (wk v e x y kd) := by
  intro e' he' c hc
  rw [h e' he' c hc]
  unfold wk
  by_cases q : e' = e ∧ c = x
  · rw [if_pos q, q.1, q.2]
    exact hz
  · rw [if_neg q]
/-- the entities before e worked on -/
def ve (a : aw_AS) (i : Nat) (v : Nat → Nat → Int32) (e : Nat) : Nat → Nat → Int32 := fun e' c => if e' < e then run1 a i v e' c else v e' c
theorem ve_no {a : aw_AS} {i e : Nat} {v : Nat → Nat → Int32} (h : liveFit a (a.2.2.2.2 0 i) (a.2.2.2.2 1 i) e = false) (e' c : Nat) : ve a i v (e + 1) e' c = ve a i v e e' c := by
  unfold ve
  by_cases q : e' = e
  · subst q
    rw [if_pos (by omega), if_neg (by omega)]
    unfold run1
    rw [h]
    simp
  · by_cases q2 : e' < e
    · rw [if_pos (by omega), if_pos q2]
    · rw [if_neg (by omega), if_neg q2]
theorem ve_yes {a : aw_AS} {i e : Nat} {v : Nat → Nat → Int32} (h : liveFit a (a.2.2.2.2 0 i) (a.2.2.2.2 1 i) e = true) (e' c : Nat) : ve a i v (e + 1) e' c = wk (ve a i v e) e (a.2.2.2.2 3 i) (a.2.2.2.2 4 i) (a.2.2.2.2 2 i) e' c := by
  have n1 : ∀ c, ve a i v e e c = v e c := fun c => by
    unfold ve
    rw [if_neg (Nat.lt_irrefl _)]
  unfold wk
  rw [n1, n1]
  by_cases q : e' = e
  · subst q
    rw [n1]
    unfold ve
    rw [if_pos (by omega)]
    unfold run1
    rw [h]
    by_cases r : c = a.2.2.2.2 3 i
    · simp [r]
    · simp [r]
  · have : ¬ (e' = e ∧ c = a.2.2.2.2 3 i) := fun z => q z.1
    rw [if_neg this]
    unfold ve
    by_cases q2 : e' < e
    · rw [if_pos (by omega), if_pos q2]
    · rw [if_neg (by omega), if_neg q2]
end
section
set_option maxRecDepth 100000
set_option maxHeartbeats 4000000 in
set_option maxRecDepth 100000 in
theorem met1_has (l : Launch) (L : aw_L) (hD : ∀ w, va_D (aw_A L) (aw_pic1 L w)) (w : aw_S) (n c : Nat) (hn : n < 2 ^ 31) (hc : c < 32) : aw_Mi (aw_pic1 L) l L yX1_has cX1_has 3 .boolean 0 0 [.int (nI n), .int (nI c)] w (fun r w' => r = bI (btB n c) ∧ w' = w) := by
  refine aw_of_i (lv := [(0, .ref (L.2.2 20)), (1, .int (nI n)), (2, .int (nI c))]) (own := RX1) hD (by decide) rfl (Nat.le_of_ble_eq_true rfl) rfl (fun X O F hr => ?_)
  refine aw_iload_n (pc' := 1) O dX1_has_0 rfl rfl ?_
  refine aw_iload_n (pc' := 2) O dX1_has_1 rfl rfl ?_
  refine aw_ishr (pc' := 3) O dX1_has_2 rfl ?_
  refine aw_iconst (pc' := 4) O dX1_has_3 ki_1 rfl ?_
  refine aw_iand (pc' := 5) O dX1_has_4 rfl ?_
  refine aw_top (y := nI (n / 2 ^ c % 2)) (aw_bit hn hc) ?_
  refine aw_iconst (pc' := 6) O dX1_has_5 ki_1 rfl ?_
  refine aw_icmpN_ne (pc' := 9) (tgt := 13) O (by omega) (by omega) dX1_has_6 (by decide) rfl (fun h1 => ?_) (fun h1 => ?_)
  · refine aw_iconst (pc' := 14) O dX1_has_13 ki_0 rfl ?_
    exact aw_ireturn O hr rfl dX1_has_14 (⟨by simp [btB, h1, bI]; rfl, rfl⟩)
  · refine aw_iconst (pc' := 10) O dX1_has_9 ki_1 rfl ?_
    refine aw_goto (tgt := 14) O dX1_has_10 (by decide) ?_
    exact aw_ireturn O hr rfl dX1_has_14 (⟨by simp [btB, h1, bI]; rfl, rfl⟩)
set_option maxHeartbeats 4000000 in
set_option maxRecDepth 100000 in
theorem met1_isSet (l : Launch) (L : aw_L) (hD : ∀ w, va_D (aw_A L) (aw_pic1 L w)) (w : aw_S) (x : Int32) : aw_Mi (aw_pic1 L) l L yX1_isSet cX1_isSet 2 .boolean 0 0 [.int x] w (fun r w' => r = bI (rB 64 x) ∧ w' = w) := by
  refine aw_of_i (lv := [(0, .ref (L.2.2 20)), (1, .int x)]) (own := RX1) hD (by decide) rfl (Nat.le_of_ble_eq_true rfl) rfl (fun X O F hr => ?_)
  refine aw_iload_n (pc' := 1) O dX1_isSet_0 rfl rfl ?_
  refine aw_if_lt (pc' := 4) (tgt := 14) O dX1_isSet_1 (by decide) rfl (fun h1 => ?_) (fun h1 => ?_)
  · refine aw_iconst (pc' := 15) O dX1_isSet_14 ki_0 rfl ?_
    exact aw_ireturn O hr rfl dX1_isSet_15 (⟨by rw [rB_lo h1]; decide, rfl⟩)
  · refine aw_iload_n (pc' := 5) O dX1_isSet_4 rfl rfl ?_
    refine aw_bipush (pc' := 7) O dX1_isSet_5 kb_63 rfl ?_
    refine aw_icmp_gt (pc' := 10) (tgt := 14) O dX1_isSet_7 (by decide) rfl (fun h2 => ?_) (fun h2 => ?_)
    · have q : rB 64 x = false := rB_gt (n := 63) (by decide) h2
      refine aw_iconst (pc' := 15) O dX1_isSet_14 ki_0 rfl ?_
      exact aw_ireturn O hr rfl dX1_isSet_15 (⟨by rw [q]; decide, rfl⟩)
    · have q : rB 64 x = true := rB_ngt (n := 63) (by decide) h1 h2
      refine aw_iconst (pc' := 11) O dX1_isSet_10 ki_1 rfl ?_
      refine aw_goto (tgt := 15) O dX1_isSet_11 (by decide) ?_
      exact aw_ireturn O hr rfl dX1_isSet_15 (⟨by rw [q]; decide, rfl⟩)
set_option maxHeartbeats 4000000 in
set_option maxRecDepth 100000 in
theorem met1_isComponent (l : Launch) (L : aw_L) (hD : ∀ w, va_D (aw_A L) (aw_pic1 L w)) (w : aw_S) (x : Int32) : aw_Mi (aw_pic1 L) l L yX1_isComponent cX1_isComponent 2 .boolean 0 0 [.int x] w (fun r w' => r = bI (rB 6 x) ∧ w' = w) := by
  refine aw_of_i (lv := [(0, .ref (L.2.2 20)), (1, .int x)]) (own := RX1) hD (by decide) rfl (Nat.le_of_ble_eq_true rfl) rfl (fun X O F hr => ?_)
  refine aw_iload_n (pc' := 1) O dX1_isComponent_0 rfl rfl ?_
  refine aw_if_lt (pc' := 4) (tgt := 13) O dX1_isComponent_1 (by decide) rfl (fun h1 => ?_) (fun h1 => ?_)
  · refine aw_iconst (pc' := 14) O dX1_isComponent_13 ki_0 rfl ?_
    exact aw_ireturn O hr rfl dX1_isComponent_14 (⟨by rw [rB_lo h1]; decide, rfl⟩)
  · refine aw_iload_n (pc' := 5) O dX1_isComponent_4 rfl rfl ?_
    refine aw_iconst (pc' := 6) O dX1_isComponent_5 ki_5 rfl ?_
    refine aw_icmp_gt (pc' := 9) (tgt := 13) O dX1_isComponent_6 (by decide) rfl (fun h2 => ?_) (fun h2 => ?_)
    · have q : rB 6 x = false := rB_gt (n := 5) (by decide) h2
      refine aw_iconst (pc' := 14) O dX1_isComponent_13 ki_0 rfl ?_
      exact aw_ireturn O hr rfl dX1_isComponent_14 (⟨by rw [q]; decide, rfl⟩)
    · have q : rB 6 x = true := rB_ngt (n := 5) (by decide) h1 h2
      refine aw_iconst (pc' := 10) O dX1_isComponent_9 ki_1 rfl ?_
      refine aw_goto (tgt := 14) O dX1_isComponent_10 (by decide) ?_
      exact aw_ireturn O hr rfl dX1_isComponent_14 (⟨by rw [q]; decide, rfl⟩)
set_option maxHeartbeats 4000000 in
set_option maxRecDepth 100000 in
theorem met1_isAlive (l : Launch) (L : aw_L) (hD : ∀ w, va_D (aw_A L) (aw_pic1 L w)) (w : aw_S) {lv : Nat → Bool} (h : ∀ e, e < 24 → w.1 0 e = bI (lv e)) (x : Int32) : aw_Mi (aw_pic1 L) l L yX1_isAlive cX1_isAlive 2 .boolean 0 0 [.int x] w (fun r w' => r = bI (aB lv x) ∧ w' = w) := by
  refine aw_of_i (lv := [(0, .ref (L.2.2 20)), (1, .int x)]) (own := RX1) hD (by decide) rfl (Nat.le_of_ble_eq_true rfl) rfl (fun X O F hr => ?_)
  refine aw_iload_n (pc' := 1) O dX1_isAlive_0 rfl rfl ?_
  refine aw_if_lt (pc' := 4) (tgt := 23) O dX1_isAlive_1 (by decide) rfl (fun h1 => ?_) (fun h1 => ?_)
  · refine aw_iconst (pc' := 24) O dX1_isAlive_23 ki_0 rfl ?_
    exact aw_ireturn O hr rfl dX1_isAlive_24 (⟨by rw [aB_out (rB_lo h1)]; decide, rfl⟩)
  · refine aw_iload_n (pc' := 5) O dX1_isAlive_4 rfl rfl ?_
    refine aw_bipush (pc' := 7) O dX1_isAlive_5 kb_23 rfl ?_
    refine aw_icmp_gt (pc' := 10) (tgt := 23) O dX1_isAlive_7 (by decide) rfl (fun h2 => ?_) (fun h2 => ?_)
    · have q : rB 24 x = false := rB_gt (n := 23) (by decide) h2
      refine aw_iconst (pc' := 24) O dX1_isAlive_23 ki_0 rfl ?_
      exact aw_ireturn O hr rfl dX1_isAlive_24 (⟨by rw [aB_out q]; decide, rfl⟩)
    · have q : rB 24 x = true := rB_ngt (n := 23) (by decide) h1 h2
      obtain ⟨j, hj, rfl⟩ := rB_ex (n := 24) (by decide) q
      refine aw_aload_n (pc' := 11) O dX1_isAlive_10 rfl rfl ?_
      refine g1_0 (pc' := 14) O dX1_isAlive_11 rfl ?_
      refine aw_iload_n (pc' := 15) O dX1_isAlive_14 rfl rfl ?_
      refine ld1_0 (pc' := 16) (j := j) O rfl (by omega) dX1_isAlive_15 rfl ?_
      refine aw_top (y := bI (lv j)) (h j hj) ?_
      refine aw_ifB_eq (pc' := 19) (tgt := 23) O dX1_isAlive_16 (by decide) rfl (fun h3 => ?_) (fun h3 => ?_)
      · refine aw_iconst (pc' := 24) O dX1_isAlive_23 ki_0 rfl ?_
        exact aw_ireturn O hr rfl dX1_isAlive_24 (⟨by rw [aB_n hj, h3]; decide, rfl⟩)
      · refine aw_iconst (pc' := 20) O dX1_isAlive_19 ki_1 rfl ?_
        refine aw_goto (tgt := 24) O dX1_isAlive_20 (by decide) ?_
        exact aw_ireturn O hr rfl dX1_isAlive_24 (⟨by rw [aB_n hj, h3]; decide, rfl⟩)
set_option maxHeartbeats 4000000 in
set_option maxRecDepth 100000 in
theorem met1_fits (l : Launch) (L : aw_L) (hD : ∀ w, va_D (aw_A L) (aw_pic1 L w)) (w : aw_S) (a : aw_AS) (h : LvS w a) (e p q : Nat) (he : e < 24) (hp : p < 64) (hq : q < 64) : aw_Mi (aw_pic1 L) l L yX1_fits cX1_fits 4 .boolean 0 0 [.int (nI e), .int (nI p), .int (nI q)] w (fun r w' => r = bI (liveFit a p q e) ∧ w' = w) := by
  obtain ⟨h2, h3⟩ := h.2 e he
  have hsa := aw_and64 (a.2.1 e) p h3
  have hsb := aw_and64 (a.2.1 e) q h3
  refine aw_of_i (lv := [(0, .ref (L.2.2 20)), (1, .int (nI e)), (2, .int (nI p)), (3, .int (nI q))]) (own := RX1) hD (by decide) rfl (Nat.le_of_ble_eq_true rfl) rfl (fun X O F hr => ?_)
  refine aw_aload_n (pc' := 1) O dX1_fits_0 rfl rfl ?_
  refine g1_0 (pc' := 4) O dX1_fits_1 rfl ?_
  refine aw_iload_n (pc' := 5) O dX1_fits_4 rfl rfl ?_
  refine ld1_0 (pc' := 6) (j := e) O rfl (by omega) dX1_fits_5 rfl ?_
  refine aw_top (y := bI (a.1 e)) (h.1 e he) ?_
  refine aw_ifB_eq (pc' := 9) (tgt := 36) O dX1_fits_6 (by decide) rfl (fun h4 => ?_) (fun h4 => ?_)
  · refine aw_iconst (pc' := 37) O dX1_fits_36 ki_0 rfl ?_
    exact aw_ireturn O hr rfl dX1_fits_37 (⟨by simp [liveFit, h4, bI]; rfl, rfl⟩)
  · refine aw_aload_n (pc' := 10) O dX1_fits_9 rfl rfl ?_
    refine g1_1 (pc' := 13) O dX1_fits_10 rfl ?_
    refine aw_iload_n (pc' := 14) O dX1_fits_13 rfl rfl ?_
    refine ld1_1 (pc' := 15) (j := e) O rfl (by omega) dX1_fits_14 rfl ?_
    refine aw_top (y := nI (a.2.1 e)) h2 ?_
    refine aw_iload_n (pc' := 16) O dX1_fits_15 rfl rfl ?_
    refine aw_iand (pc' := 17) O dX1_fits_16 rfl ?_
    refine aw_top (y := nI (a.2.1 e &&& p)) (aw_nx_and _ _) ?_
    refine aw_iload_n (pc' := 18) O dX1_fits_17 rfl rfl ?_
    refine aw_icmpN_ne (pc' := 21) (tgt := 36) O (by omega) (by omega) dX1_fits_18 (by decide) rfl (fun h5 => ?_) (fun h5 => ?_)
    · refine aw_iconst (pc' := 37) O dX1_fits_36 ki_0 rfl ?_
      exact aw_ireturn O hr rfl dX1_fits_37 (⟨by simp [liveFit, fitB, h5, bI]; rfl, rfl⟩)
    · refine aw_aload_n (pc' := 22) O dX1_fits_21 rfl rfl ?_
      refine g1_1 (pc' := 25) O dX1_fits_22 rfl ?_
      refine aw_iload_n (pc' := 26) O dX1_fits_25 rfl rfl ?_
      refine ld1_1 (pc' := 27) (j := e) O rfl (by omega) dX1_fits_26 rfl ?_
      refine aw_top (y := nI (a.2.1 e)) h2 ?_
      refine aw_iload_n (pc' := 28) O dX1_fits_27 rfl rfl ?_
      refine aw_iand (pc' := 29) O dX1_fits_28 rfl ?_
      refine aw_top (y := nI (a.2.1 e &&& q)) (aw_nx_and _ _) ?_
      refine aw_if_ne (pc' := 32) (tgt := 36) O dX1_fits_29 (by decide) rfl (fun h6 => ?_) (fun h6 => ?_)
      · have q2 : ¬ (a.2.1 e &&& q) = 0 := fun z => h6 (by rw [z]; rfl)
        refine aw_iconst (pc' := 37) O dX1_fits_36 ki_0 rfl ?_
        exact aw_ireturn O hr rfl dX1_fits_37 (⟨by simp [liveFit, fitB, h5, q2, bI]; rfl, rfl⟩)
      · have q2 : (a.2.1 e &&& q) = 0 := nI_inj (by omega) (by decide) h6
        refine aw_iconst (pc' := 33) O dX1_fits_32 ki_1 rfl ?_
        refine aw_goto (tgt := 37) O dX1_fits_33 (by decide) ?_
        exact aw_ireturn O hr rfl dX1_fits_37 (⟨by simp [liveFit, fitB, h4, h5, q2, bI]; rfl, rfl⟩)
set_option maxHeartbeats 4000000 in
set_option maxRecDepth 100000 in
theorem met1_spawn (l : Launch) (L : aw_L) (hD : ∀ w, va_D (aw_A L) (aw_pic1 L w)) (w : aw_S) (a : aw_AS) (h : R1 w a) (x v : Int32) : aw_Mi (aw_pic1 L) l L yX1_spawn cX1_spawn 5 .int 1 21 [.int x, .int v] w (fun r w' => r = (spawnA a x v).1 ∧ R1 w' (spawnA a x v).2) := by
  refine aw_of_i (lv := [(0, .ref (L.2.2 20)), (1, .int x), (2, .int v)]) (own := RX1) hD (by decide) rfl (Nat.le_of_ble_eq_true rfl) rfl (fun X O F hr => ?_)
  refine aw_aload_n (pc' := 1) O dX1_spawn_0 rfl rfl ?_
  refine aw_iload_n (pc' := 2) O dX1_spawn_1 rfl rfl ?_
  refine c1_isSet (pc' := 5) (rest := []) O F (met1_isSet l L hD w x) (by decide) (by decide) rfl rfl (Nat.le_of_ble_eq_true rfl) dX1_spawn_2 rfl (aw_deti ?_)
  refine aw_ifB_ne (pc' := 8) (tgt := 10) O dX1_spawn_5 (by decide) rfl (fun h1 => ?_) (fun h1 => ?_)
  · obtain ⟨s, hs, rfl⟩ := rB_ex (n := 64) (by decide) h1
    have lp : ∀ (n : Nat) (e : Nat), e ≤ 24 → 24 - e < n → (∀ i, i < e → a.1 i = true) → aw_J (aw_pic1 L) X 12 [(0, .ref (L.2.2 20)), (1, .int (nI s)), (2, .int v), (3, .int (nI e))] [] w := by
      intro n
      induction n with
      | zero =>
        intro e he hm hi
        exact absurd hm (Nat.not_lt_zero _)
      | succ n ih =>
        intro e he hm hi
        refine aw_iload_n (pc' := 13) O dX1_spawn_12 rfl rfl ?_
        refine aw_bipush (pc' := 15) O dX1_spawn_13 kb_24 rfl ?_
        refine aw_icmpN_ge (pc' := 18) (tgt := 78) O (by omega) (by omega) dX1_spawn_15 (by decide) rfl (fun h2 => ?_) (fun h2 => ?_)
        · refine aw_bipush (pc' := 80) O dX1_spawn_78 kb_m2 rfl ?_
          have hff : ff a.1 24 = 24 := ff_all (fun i hi2 => hi i (by omega))
          exact aw_ireturn O hr rfl dX1_spawn_80 (by simp [spawnA, rB_n hs, hff]; exact h)
        · refine aw_aload_n (pc' := 19) O dX1_spawn_18 rfl rfl ?_
          refine g1_0 (pc' := 22) O dX1_spawn_19 rfl ?_
          refine aw_iload_n (pc' := 23) O dX1_spawn_22 rfl rfl ?_
          refine ld1_0 (pc' := 24) (j := e) O rfl (by omega) dX1_spawn_23 rfl ?_
          refine aw_top (y := bI (a.1 e)) (h.1 e h2) ?_
          refine aw_ifB_ne (pc' := 27) (tgt := 72) O dX1_spawn_24 (by decide) rfl (fun h3 => ?_) (fun h3 => ?_)
          · refine aw_iinc (pc' := 75) (v := nI (e + 1)) (lv' := [(0, .ref (L.2.2 20)), (1, .int (nI s)), (2, .int v), (3, .int (nI (e + 1)))]) O dX1_spawn_72 (F.nL (by decide)) rfl (nI_1 _) rfl rfl rfl ?_
            refine aw_goto (tgt := 12) O dX1_spawn_75 (by decide) ?_
            exact ih (e + 1) (by omega) (by omega) (fun i hi2 => by
              by_cases q : i = e
              · rw [q]; exact h3
              · exact hi i (by omega))
          · refine aw_aload_n (pc' := 28) O dX1_spawn_27 rfl rfl ?_
            refine g1_0 (pc' := 31) O dX1_spawn_28 rfl ?_
            refine aw_iload_n (pc' := 32) O dX1_spawn_31 rfl rfl ?_
            refine aw_iconst (pc' := 33) O dX1_spawn_32 ki_1 rfl ?_
            refine st1_0 (pc' := 34) (j := e) O F rfl (by omega) (by decide) dX1_spawn_33 rfl ?_
            refine aw_aload_n (pc' := 35) O dX1_spawn_34 rfl rfl ?_
            refine g1_1 (pc' := 38) O dX1_spawn_35 rfl ?_
            refine aw_iload_n (pc' := 39) O dX1_spawn_38 rfl rfl ?_
            refine aw_iload_n (pc' := 40) O dX1_spawn_39 rfl rfl ?_
            refine st1_1 (pc' := 41) (j := e) O F rfl (by omega) dX1_spawn_40 rfl ?_
            obtain ⟨w2, hw2⟩ : ∃ w2 : aw_S, w2 = aw_sA (aw_sA w 0 e (nI 1)) 1 e (nI s) := ⟨_, rfl⟩
            rw [← hw2]
            have lp2 : ∀ (n : Nat) (c : Nat) (w3 : aw_S), c ≤ 6 → 6 - c < n → CX w2 w3 e c v → aw_J (aw_pic1 L) X 44 [(0, .ref (L.2.2 20)), (1, .int (nI s)), (2, .int v), (3, .int (nI e)), (4, .int (nI c))] [] w3 := by
              intro n
              induction n with
              | zero =>
                intro c w3 hc hm hcw
                exact absurd hm (Nat.not_lt_zero _)
              | succ n ih =>
                intro c w3 hc hm hcw
                refine aw_iload (pc' := 46) O dX1_spawn_44 rfl rfl ?_
                refine aw_bipush (pc' := 48) O dX1_spawn_46 kb_6 rfl ?_
                refine aw_icmpN_ge (pc' := 51) (tgt := 70) O (by omega) (by omega) dX1_spawn_48 (by decide) rfl (fun h4 => ?_) (fun h4 => ?_)
                · refine aw_iload_n (pc' := 71) O dX1_spawn_70 rfl rfl ?_
                  have hc6 : c = 6 := by omega
                  subst hc6
                  have hff : ff a.1 24 = e := ff_eq h2 hi h3
                  have hk : spawnA a (nI s) v = (nI e, (va_up a.1 e true, va_up a.2.1 e s, va_up a.2.2.1 e (fun _ => v), a.2.2.2)) := by simp [spawnA, rB_n hs, hff, h2, nI_clamp (n := s) (by omega)]
                  rw [hw2] at hcw
                  exact aw_ireturn O hr rfl dX1_spawn_71 (by rw [hk]; exact ⟨rfl, h.spawn hs hcw⟩)
                · refine aw_aload_n (pc' := 52) O dX1_spawn_51 rfl rfl ?_
                  refine g1_2 (pc' := 55) O dX1_spawn_52 rfl ?_
                  refine aw_bipush (pc' := 57) O dX1_spawn_55 kb_6 rfl ?_
                  refine aw_iload_n (pc' := 58) O dX1_spawn_57 rfl rfl ?_
                  refine aw_imulN (pc' := 59) O dX1_spawn_58 rfl ?_
                  refine aw_iload (pc' := 61) O dX1_spawn_59 rfl rfl ?_
                  refine aw_iaddN (pc' := 62) O dX1_spawn_61 rfl ?_
                  refine aw_iload_n (pc' := 63) O dX1_spawn_62 rfl rfl ?_
                  refine st1_2 (pc' := 64) (j := (6 * e) + c) O F rfl (by omega) dX1_spawn_63 rfl ?_
                  refine aw_iinc (pc' := 67) (v := nI (c + 1)) (lv' := [(0, .ref (L.2.2 20)), (1, .int (nI s)), (2, .int v), (3, .int (nI e)), (4, .int (nI (c + 1)))]) O dX1_spawn_64 (F.nL (by decide)) rfl (nI_1 _) rfl rfl rfl ?_
                  refine aw_goto (tgt := 44) O dX1_spawn_67 (by decide) ?_
                  exact ih (c + 1) _ (by omega) (by omega) (hcw.step h4)
            refine aw_iconst (pc' := 42) O dX1_spawn_41 ki_0 rfl ?_
            refine aw_istore (pc' := 44) (lv' := [(0, .ref (L.2.2 20)), (1, .int (nI s)), (2, .int v), (3, .int (nI e)), (4, .int (nI 0))]) O dX1_spawn_42 (F.nL (by decide)) rfl rfl rfl ?_
            exact lp2 7 0 w2 (by decide) (by decide) CX.rf
    refine aw_iconst (pc' := 11) O dX1_spawn_10 ki_0 rfl ?_
    refine aw_istore_n (pc' := 12) (lv' := [(0, .ref (L.2.2 20)), (1, .int (nI s)), (2, .int v), (3, .int (nI 0))]) O dX1_spawn_11 (F.nL (by decide)) rfl rfl rfl ?_
    exact lp 25 0 (by decide) (by decide) (fun i hi => absurd hi (Nat.not_lt_zero _))
  · refine aw_iconst (pc' := 9) O dX1_spawn_8 ki_m1 rfl ?_
    exact aw_ireturn O hr rfl dX1_spawn_9 (by simp [spawnA, h1]; exact h)
set_option maxHeartbeats 4000000 in
set_option maxRecDepth 100000 in
theorem met1_kill (l : Launch) (L : aw_L) (hD : ∀ w, va_D (aw_A L) (aw_pic1 L w)) (w : aw_S) (a : aw_AS) (h : R1 w a) (x : Int32) : aw_Mi (aw_pic1 L) l L yX1_kill cX1_kill 2 .int 1 21 [.int x] w (fun r w' => r = (killA a x).1 ∧ R1 w' (killA a x).2) := by
  refine aw_of_i (lv := [(0, .ref (L.2.2 20)), (1, .int x)]) (own := RX1) hD (by decide) rfl (Nat.le_of_ble_eq_true rfl) rfl (fun X O F hr => ?_)
  refine aw_aload_n (pc' := 1) O dX1_kill_0 rfl rfl ?_
  refine aw_iload_n (pc' := 2) O dX1_kill_1 rfl rfl ?_
  refine c1_isAlive (pc' := 5) (rest := []) O F (met1_isAlive l L hD w h.1 x) (by decide) (by decide) rfl rfl (Nat.le_of_ble_eq_true rfl) dX1_kill_2 rfl (aw_deti ?_)
  refine aw_ifB_ne (pc' := 8) (tgt := 11) O dX1_kill_5 (by decide) rfl (fun h1 => ?_) (fun h1 => ?_)
  · obtain ⟨e, he, rfl, hl⟩ := aB_ex h1
    refine aw_aload_n (pc' := 12) O dX1_kill_11 rfl rfl ?_
    refine g1_0 (pc' := 15) O dX1_kill_12 rfl ?_
    refine aw_iload_n (pc' := 16) O dX1_kill_15 rfl rfl ?_
    refine aw_iconst (pc' := 17) O dX1_kill_16 ki_0 rfl ?_
    refine st1_0 (pc' := 18) (j := e) O F rfl (by omega) (by decide) dX1_kill_17 rfl ?_
    refine aw_aload_n (pc' := 19) O dX1_kill_18 rfl rfl ?_
    refine g1_1 (pc' := 22) O dX1_kill_19 rfl ?_
    refine aw_iload_n (pc' := 23) O dX1_kill_22 rfl rfl ?_
    refine ld1_1 (pc' := 24) (j := e) O rfl (by omega) dX1_kill_23 rfl ?_
    refine aw_top (y := nI (a.2.1 e)) ((h.2.1 e he).1) ?_
    have hk : killA a (nI e) = (nI (a.2.1 e), (va_up a.1 e false, a.2)) := by simp [killA, aB_n he, hl, nI_clamp (n := e) (by omega)]
    exact aw_ireturn O hr rfl dX1_kill_24 (by rw [hk]; exact ⟨rfl, h.kill⟩)
  · refine aw_bipush (pc' := 10) O dX1_kill_8 kb_m4 rfl ?_
    exact aw_ireturn O hr rfl dX1_kill_10 (by simp [killA, h1]; exact h)
set_option maxHeartbeats 4000000 in
set_option maxRecDepth 100000 in
theorem met1_put (l : Launch) (L : aw_L) (hD : ∀ w, va_D (aw_A L) (aw_pic1 L w)) (w : aw_S) (a : aw_AS) (h : R1 w a) (x y v : Int32) : aw_Mi (aw_pic1 L) l L yX1_put cX1_put 5 .int 1 21 [.int x, .int y, .int v] w (fun r w' => r = (putA a x y v).1 ∧ R1 w' (putA a x y v).2) := by
  refine aw_of_i (lv := [(0, .ref (L.2.2 20)), (1, .int x), (2, .int y), (3, .int v)]) (own := RX1) hD (by decide) rfl (Nat.le_of_ble_eq_true rfl) rfl (fun X O F hr => ?_)
  refine aw_aload_n (pc' := 1) O dX1_put_0 rfl rfl ?_
  refine aw_iload_n (pc' := 2) O dX1_put_1 rfl rfl ?_
  refine c1_isAlive (pc' := 5) (rest := []) O F (met1_isAlive l L hD w h.1 x) (by decide) (by decide) rfl rfl (Nat.le_of_ble_eq_true rfl) dX1_put_2 rfl (aw_deti ?_)
  refine aw_ifB_ne (pc' := 8) (tgt := 11) O dX1_put_5 (by decide) rfl (fun h1 => ?_) (fun h1 => ?_)
  · obtain ⟨e, he, rfl, hl⟩ := aB_ex h1
    refine aw_aload_n (pc' := 12) O dX1_put_11 rfl rfl ?_
    refine aw_iload_n (pc' := 13) O dX1_put_12 rfl rfl ?_
    refine c1_isComponent (pc' := 16) (rest := []) O F (met1_isComponent l L hD w y) (by decide) (by decide) rfl rfl (Nat.le_of_ble_eq_true rfl) dX1_put_13 rfl (aw_deti ?_)
    refine aw_ifB_ne (pc' := 19) (tgt := 21) O dX1_put_16 (by decide) rfl (fun h2 => ?_) (fun h2 => ?_)
    · obtain ⟨c, hc, rfl⟩ := rB_ex (n := 6) (by decide) h2
      obtain ⟨g3, g4⟩ := h.2.1 e he
      refine aw_aload_n (pc' := 22) O dX1_put_21 rfl rfl ?_
      refine g1_1 (pc' := 25) O dX1_put_22 rfl ?_
      refine aw_iload_n (pc' := 26) O dX1_put_25 rfl rfl ?_
      refine ld1_1 (pc' := 27) (j := e) O rfl (by omega) dX1_put_26 rfl ?_
      refine aw_top (y := nI (a.2.1 e)) g3 ?_
      refine aw_iload_n (pc' := 28) O dX1_put_27 rfl rfl ?_
      refine aw_ishr (pc' := 29) O dX1_put_28 rfl ?_
      refine aw_iconst (pc' := 30) O dX1_put_29 ki_1 rfl ?_
      refine aw_iand (pc' := 31) O dX1_put_30 rfl ?_
      refine aw_top (y := bI (btB (a.2.1 e) c)) (aw_bitB (by omega) (by omega)) ?_
      refine aw_istore (pc' := 33) (lv' := [(0, .ref (L.2.2 20)), (1, .int (nI e)), (2, .int (nI c)), (3, .int v), (4, .int (bI (btB (a.2.1 e) c)))]) O dX1_put_31 (F.nL (by decide)) rfl rfl rfl ?_
      refine aw_aload_n (pc' := 34) O dX1_put_33 rfl rfl ?_
      refine g1_1 (pc' := 37) O dX1_put_34 rfl ?_
      refine aw_iload_n (pc' := 38) O dX1_put_37 rfl rfl ?_
      refine aw_aload_n (pc' := 39) O dX1_put_38 rfl rfl ?_
      refine g1_1 (pc' := 42) O dX1_put_39 rfl ?_
      refine aw_iload_n (pc' := 43) O dX1_put_42 rfl rfl ?_
      refine ld1_1 (pc' := 44) (j := e) O rfl (by omega) dX1_put_43 rfl ?_
      refine aw_top (y := nI (a.2.1 e)) g3 ?_
      refine aw_iconst (pc' := 45) O dX1_put_44 ki_1 rfl ?_
      refine aw_iload_n (pc' := 46) O dX1_put_45 rfl rfl ?_
      refine aw_ishl (pc' := 47) O dX1_put_46 rfl ?_
      refine aw_top (y := nI (2 ^ c)) (aw_shl1 c (by omega)) ?_
      refine aw_ior (pc' := 48) O dX1_put_47 rfl ?_
      refine aw_top (y := nI (a.2.1 e ||| 2 ^ c)) (aw_nx_or _ _) ?_
      refine st1_1 (pc' := 49) (j := e) O F rfl (by omega) dX1_put_48 rfl ?_
      refine aw_aload_n (pc' := 50) O dX1_put_49 rfl rfl ?_
      refine g1_2 (pc' := 53) O dX1_put_50 rfl ?_
      refine aw_bipush (pc' := 55) O dX1_put_53 kb_6 rfl ?_
      refine aw_iload_n (pc' := 56) O dX1_put_55 rfl rfl ?_
      refine aw_imulN (pc' := 57) O dX1_put_56 rfl ?_
      refine aw_iload_n (pc' := 58) O dX1_put_57 rfl rfl ?_
      refine aw_iaddN (pc' := 59) O dX1_put_58 rfl ?_
      refine aw_iload_n (pc' := 60) O dX1_put_59 rfl rfl ?_
      refine st1_2 (pc' := 61) (j := (6 * e) + c) O F rfl (by omega) dX1_put_60 rfl ?_
      refine aw_iload (pc' := 63) O dX1_put_61 rfl rfl ?_
      have hk : putA a (nI e) (nI c) v = (bI (btB (a.2.1 e) c), (a.1, va_up a.2.1 e (a.2.1 e ||| 2 ^ c), va_up a.2.2.1 e (va_up (a.2.2.1 e) c v), a.2.2.2)) := by simp [putA, aB_n he, hl, rB_n hc, nI_clamp (n := e) (by omega), nI_clamp (n := c) (by omega)]
      exact aw_ireturn O hr rfl dX1_put_63 (by rw [hk]; exact ⟨rfl, h.put (aw_or64 c hc _ g4) hc⟩)
    · refine aw_iconst (pc' := 20) O dX1_put_19 ki_m1 rfl ?_
      exact aw_ireturn O hr rfl dX1_put_20 (by simp [putA, h1, h2]; exact h)
  · refine aw_bipush (pc' := 10) O dX1_put_8 kb_m4 rfl ?_
    exact aw_ireturn O hr rfl dX1_put_10 (by simp [putA, h1]; exact h)
set_option maxHeartbeats 4000000 in
set_option maxRecDepth 100000 in
theorem met1_drop (l : Launch) (L : aw_L) (hD : ∀ w, va_D (aw_A L) (aw_pic1 L w)) (w : aw_S) (a : aw_AS) (h : R1 w a) (x y : Int32) : aw_Mi (aw_pic1 L) l L yX1_drop cX1_drop 4 .int 1 21 [.int x, .int y] w (fun r w' => r = (dropA a x y).1 ∧ R1 w' (dropA a x y).2) := by
  refine aw_of_i (lv := [(0, .ref (L.2.2 20)), (1, .int x), (2, .int y)]) (own := RX1) hD (by decide) rfl (Nat.le_of_ble_eq_true rfl) rfl (fun X O F hr => ?_)
  refine aw_aload_n (pc' := 1) O dX1_drop_0 rfl rfl ?_
  refine aw_iload_n (pc' := 2) O dX1_drop_1 rfl rfl ?_
  refine c1_isAlive (pc' := 5) (rest := []) O F (met1_isAlive l L hD w h.1 x) (by decide) (by decide) rfl rfl (Nat.le_of_ble_eq_true rfl) dX1_drop_2 rfl (aw_deti ?_)
  refine aw_ifB_ne (pc' := 8) (tgt := 11) O dX1_drop_5 (by decide) rfl (fun h1 => ?_) (fun h1 => ?_)
  · obtain ⟨e, he, rfl, hl⟩ := aB_ex h1
    refine aw_aload_n (pc' := 12) O dX1_drop_11 rfl rfl ?_
    refine aw_iload_n (pc' := 13) O dX1_drop_12 rfl rfl ?_
    refine c1_isComponent (pc' := 16) (rest := []) O F (met1_isComponent l L hD w y) (by decide) (by decide) rfl rfl (Nat.le_of_ble_eq_true rfl) dX1_drop_13 rfl (aw_deti ?_)
    refine aw_ifB_ne (pc' := 19) (tgt := 21) O dX1_drop_16 (by decide) rfl (fun h2 => ?_) (fun h2 => ?_)
    · obtain ⟨c, hc, rfl⟩ := rB_ex (n := 6) (by decide) h2
      obtain ⟨g3, g4⟩ := h.2.1 e he
      refine aw_aload_n (pc' := 22) O dX1_drop_21 rfl rfl ?_
      refine g1_1 (pc' := 25) O dX1_drop_22 rfl ?_
      refine aw_iload_n (pc' := 26) O dX1_drop_25 rfl rfl ?_
      refine ld1_1 (pc' := 27) (j := e) O rfl (by omega) dX1_drop_26 rfl ?_
      refine aw_top (y := nI (a.2.1 e)) g3 ?_
      refine aw_iload_n (pc' := 28) O dX1_drop_27 rfl rfl ?_
      refine aw_ishr (pc' := 29) O dX1_drop_28 rfl ?_
      refine aw_iconst (pc' := 30) O dX1_drop_29 ki_1 rfl ?_
      refine aw_iand (pc' := 31) O dX1_drop_30 rfl ?_
      refine aw_top (y := bI (btB (a.2.1 e) c)) (aw_bitB (by omega) (by omega)) ?_
      refine aw_istore_n (pc' := 32) (lv' := [(0, .ref (L.2.2 20)), (1, .int (nI e)), (2, .int (nI c)), (3, .int (bI (btB (a.2.1 e) c)))]) O dX1_drop_31 (F.nL (by decide)) rfl rfl rfl ?_
      refine aw_aload_n (pc' := 33) O dX1_drop_32 rfl rfl ?_
      refine g1_1 (pc' := 36) O dX1_drop_33 rfl ?_
      refine aw_iload_n (pc' := 37) O dX1_drop_36 rfl rfl ?_
      refine aw_aload_n (pc' := 38) O dX1_drop_37 rfl rfl ?_
      refine g1_1 (pc' := 41) O dX1_drop_38 rfl ?_
      refine aw_iload_n (pc' := 42) O dX1_drop_41 rfl rfl ?_
      refine ld1_1 (pc' := 43) (j := e) O rfl (by omega) dX1_drop_42 rfl ?_
      refine aw_top (y := nI (a.2.1 e)) g3 ?_
      refine aw_iconst (pc' := 44) O dX1_drop_43 ki_1 rfl ?_
      refine aw_iload_n (pc' := 45) O dX1_drop_44 rfl rfl ?_
      refine aw_ishl (pc' := 46) O dX1_drop_45 rfl ?_
      refine aw_iconst (pc' := 47) O dX1_drop_46 ki_m1 rfl ?_
      refine aw_ixor (pc' := 48) O dX1_drop_47 rfl ?_
      refine aw_iand (pc' := 49) O dX1_drop_48 rfl ?_
      refine aw_top (y := nI (a.2.1 e &&& (63 - 2 ^ c))) (aw_not c hc _ g4) ?_
      refine st1_1 (pc' := 50) (j := e) O F rfl (by omega) dX1_drop_49 rfl ?_
      refine aw_iload_n (pc' := 51) O dX1_drop_50 rfl rfl ?_
      have hk : dropA a (nI e) (nI c) = (bI (btB (a.2.1 e) c), (a.1, va_up a.2.1 e (a.2.1 e &&& (63 - 2 ^ c)), a.2.2)) := by simp [dropA, aB_n he, hl, rB_n hc, nI_clamp (n := e) (by omega), nI_clamp (n := c) (by omega)]
      exact aw_ireturn O hr rfl dX1_drop_51 (by rw [hk]; exact ⟨rfl, h.drop (aw_and64 _ _ g4)⟩)
    · refine aw_iconst (pc' := 20) O dX1_drop_19 ki_m1 rfl ?_
      exact aw_ireturn O hr rfl dX1_drop_20 (by simp [dropA, h1, h2]; exact h)
  · refine aw_bipush (pc' := 10) O dX1_drop_8 kb_m4 rfl ?_
    exact aw_ireturn O hr rfl dX1_drop_10 (by simp [dropA, h1]; exact h)
set_option maxHeartbeats 4000000 in
set_option maxRecDepth 100000 in
theorem met1_get (l : Launch) (L : aw_L) (hD : ∀ w, va_D (aw_A L) (aw_pic1 L w)) (w : aw_S) (a : aw_AS) (h : R1 w a) (x y : Int32) : aw_Mi (aw_pic1 L) l L yX1_get cX1_get 3 .int 1 22 [.int x, .int y] w (fun r w' => r = getA a x y ∧ w' = w) := by
  refine aw_of_i (lv := [(0, .ref (L.2.2 20)), (1, .int x), (2, .int y)]) (own := RX1) hD (by decide) rfl (Nat.le_of_ble_eq_true rfl) rfl (fun X O F hr => ?_)
  refine aw_aload_n (pc' := 1) O dX1_get_0 rfl rfl ?_
  refine aw_iload_n (pc' := 2) O dX1_get_1 rfl rfl ?_
  refine c1_isAlive (pc' := 5) (rest := []) O F (met1_isAlive l L hD w h.1 x) (by decide) (by decide) rfl rfl (Nat.le_of_ble_eq_true rfl) dX1_get_2 rfl (aw_deti ?_)
  refine aw_ifB_eq (pc' := 8) (tgt := 44) O dX1_get_5 (by decide) rfl (fun h1 => ?_) (fun h1 => ?_)
  · refine aw_iconst (pc' := 45) O dX1_get_44 ki_0 rfl ?_
    exact aw_ireturn O hr rfl dX1_get_45 (⟨by simp [getA, h1]; rfl, rfl⟩)
  · obtain ⟨e, he, rfl, hl⟩ := aB_ex h1
    refine aw_aload_n (pc' := 9) O dX1_get_8 rfl rfl ?_
    refine aw_iload_n (pc' := 10) O dX1_get_9 rfl rfl ?_
    refine c1_isComponent (pc' := 13) (rest := []) O F (met1_isComponent l L hD w y) (by decide) (by decide) rfl rfl (Nat.le_of_ble_eq_true rfl) dX1_get_10 rfl (aw_deti ?_)
    refine aw_ifB_eq (pc' := 16) (tgt := 44) O dX1_get_13 (by decide) rfl (fun h2 => ?_) (fun h2 => ?_)
    · refine aw_iconst (pc' := 45) O dX1_get_44 ki_0 rfl ?_
      exact aw_ireturn O hr rfl dX1_get_45 (⟨by simp [getA, h2]; rfl, rfl⟩)
    · obtain ⟨c, hc, rfl⟩ := rB_ex (n := 6) (by decide) h2
      obtain ⟨g3, g4⟩ := h.2.1 e he
      have hg : getA a (nI e) (nI c) = if btB (a.2.1 e) c then a.2.2.1 e c else 0 := by rw [getA_n a he hc]; simp [getN, hl]
      refine aw_aload_n (pc' := 17) O dX1_get_16 rfl rfl ?_
      refine aw_aload_n (pc' := 18) O dX1_get_17 rfl rfl ?_
      refine g1_1 (pc' := 21) O dX1_get_18 rfl ?_
      refine aw_iload_n (pc' := 22) O dX1_get_21 rfl rfl ?_
      refine ld1_1 (pc' := 23) (j := e) O rfl (by omega) dX1_get_22 rfl ?_
      refine aw_top (y := nI (a.2.1 e)) g3 ?_
      refine aw_iload_n (pc' := 24) O dX1_get_23 rfl rfl ?_
      refine c1_has (pc' := 27) (rest := []) O F (met1_has l L hD w (a.2.1 e) c (by omega) (by omega)) (by decide) (by decide) rfl rfl (Nat.le_of_ble_eq_true rfl) dX1_get_24 rfl (aw_deti ?_)
      refine aw_ifB_eq (pc' := 30) (tgt := 44) O dX1_get_27 (by decide) rfl (fun h3 => ?_) (fun h3 => ?_)
      · refine aw_iconst (pc' := 45) O dX1_get_44 ki_0 rfl ?_
        exact aw_ireturn O hr rfl dX1_get_45 (⟨by rw [hg, h3]; rfl, rfl⟩)
      · refine aw_aload_n (pc' := 31) O dX1_get_30 rfl rfl ?_
        refine g1_2 (pc' := 34) O dX1_get_31 rfl ?_
        refine aw_bipush (pc' := 36) O dX1_get_34 kb_6 rfl ?_
        refine aw_iload_n (pc' := 37) O dX1_get_36 rfl rfl ?_
        refine aw_imulN (pc' := 38) O dX1_get_37 rfl ?_
        refine aw_iload_n (pc' := 39) O dX1_get_38 rfl rfl ?_
        refine aw_iaddN (pc' := 40) O dX1_get_39 rfl ?_
        refine ld1_2 (pc' := 41) (j := (6 * e) + c) O rfl (by omega) dX1_get_40 rfl ?_
        refine aw_top (y := a.2.2.1 e c) (h.2.2.1 e he c hc) ?_
        refine aw_goto (tgt := 45) O dX1_get_41 (by decide) ?_
        exact aw_ireturn O hr rfl dX1_get_45 (⟨by rw [hg, h3]; rfl, rfl⟩)
set_option maxHeartbeats 4000000 in
set_option maxRecDepth 100000 in
theorem met1_parts (l : Launch) (L : aw_L) (hD : ∀ w, va_D (aw_A L) (aw_pic1 L w)) (w : aw_S) (a : aw_AS) (h : R1 w a) (x : Int32) : aw_Mi (aw_pic1 L) l L yX1_parts cX1_parts 2 .int 1 21 [.int x] w (fun r w' => r = partsA a x ∧ w' = w) := by
  refine aw_of_i (lv := [(0, .ref (L.2.2 20)), (1, .int x)]) (own := RX1) hD (by decide) rfl (Nat.le_of_ble_eq_true rfl) rfl (fun X O F hr => ?_)
  refine aw_aload_n (pc' := 1) O dX1_parts_0 rfl rfl ?_
  refine aw_iload_n (pc' := 2) O dX1_parts_1 rfl rfl ?_
  refine c1_isAlive (pc' := 5) (rest := []) O F (met1_isAlive l L hD w h.1 x) (by decide) (by decide) rfl rfl (Nat.le_of_ble_eq_true rfl) dX1_parts_2 rfl (aw_deti ?_)
  refine aw_ifB_eq (pc' := 8) (tgt := 17) O dX1_parts_5 (by decide) rfl (fun h1 => ?_) (fun h1 => ?_)
  · refine aw_bipush (pc' := 19) O dX1_parts_17 kb_m4 rfl ?_
    exact aw_ireturn O hr rfl dX1_parts_19 (⟨by simp [partsA, h1], rfl⟩)
  · obtain ⟨e, he, rfl, hl⟩ := aB_ex h1
    refine aw_aload_n (pc' := 9) O dX1_parts_8 rfl rfl ?_
    refine g1_1 (pc' := 12) O dX1_parts_9 rfl ?_
    refine aw_iload_n (pc' := 13) O dX1_parts_12 rfl rfl ?_
    refine ld1_1 (pc' := 14) (j := e) O rfl (by omega) dX1_parts_13 rfl ?_
    refine aw_top (y := nI (a.2.1 e)) ((h.2.1 e he).1) ?_
    refine aw_goto (tgt := 19) O dX1_parts_14 (by decide) ?_
    exact aw_ireturn O hr rfl dX1_parts_19 (⟨by simp [partsA, aB_n he, hl, nI_clamp (n := e) (by omega)], rfl⟩)
set_option maxHeartbeats 4000000 in
set_option maxRecDepth 100000 in
theorem met1_count (l : Launch) (L : aw_L) (hD : ∀ w, va_D (aw_A L) (aw_pic1 L w)) (w : aw_S) (a : aw_AS) (h : R1 w a) (x y : Int32) : aw_Mi (aw_pic1 L) l L yX1_count cX1_count 5 .int 1 23 [.int x, .int y] w (fun r w' => r = countA a x y ∧ w' = w) := by
  refine aw_of_i (lv := [(0, .ref (L.2.2 20)), (1, .int x), (2, .int y)]) (own := RX1) hD (by decide) rfl (Nat.le_of_ble_eq_true rfl) rfl (fun X O F hr => ?_)
  refine aw_aload_n (pc' := 1) O dX1_count_0 rfl rfl ?_
  refine aw_iload_n (pc' := 2) O dX1_count_1 rfl rfl ?_
  refine c1_isSet (pc' := 5) (rest := []) O F (met1_isSet l L hD w x) (by decide) (by decide) rfl rfl (Nat.le_of_ble_eq_true rfl) dX1_count_2 rfl (aw_deti ?_)
  refine aw_ifB_eq (pc' := 8) (tgt := 16) O dX1_count_5 (by decide) rfl (fun h1 => ?_) (fun h1 => ?_)
  · refine aw_iconst (pc' := 17) O dX1_count_16 ki_m1 rfl ?_
    exact aw_ireturn O hr rfl dX1_count_17 (⟨by simp [countA, h1], rfl⟩)
  · refine aw_aload_n (pc' := 9) O dX1_count_8 rfl rfl ?_
    refine aw_iload_n (pc' := 10) O dX1_count_9 rfl rfl ?_
    refine c1_isSet (pc' := 13) (rest := []) O F (met1_isSet l L hD w y) (by decide) (by decide) rfl rfl (Nat.le_of_ble_eq_true rfl) dX1_count_10 rfl (aw_deti ?_)
    refine aw_ifB_ne (pc' := 16) (tgt := 18) O dX1_count_13 (by decide) rfl (fun h2 => ?_) (fun h2 => ?_)
    · obtain ⟨p, hp, rfl⟩ := rB_ex (n := 64) (by decide) h1
      obtain ⟨q, hq, rfl⟩ := rB_ex (n := 64) (by decide) h2
      have hc : countA a (nI p) (nI q) = countN a p q := by simp [countA, rB_n hp, rB_n hq, nI_clamp (n := p) (by omega), nI_clamp (n := q) (by omega)]
      have lp : ∀ (n : Nat) (e : Nat) (acc : Int32), e ≤ 24 → 24 - e < n → acc = nI (cn (liveFit a p q) e) → aw_J (aw_pic1 L) X 23 [(0, .ref (L.2.2 20)), (1, .int (nI p)), (2, .int (nI q)), (3, .int acc), (4, .int (nI e))] [] w := by
        intro n
        induction n with
        | zero =>
          intro e acc he hm hacc
          exact absurd hm (Nat.not_lt_zero _)
        | succ n ih =>
          intro e acc he hm hacc
          refine aw_iload (pc' := 25) O dX1_count_23 rfl rfl ?_
          refine aw_bipush (pc' := 27) O dX1_count_25 kb_24 rfl ?_
          refine aw_icmpN_ge (pc' := 30) (tgt := 55) O (by omega) (by omega) dX1_count_27 (by decide) rfl (fun h3 => ?_) (fun h3 => ?_)
          · refine aw_iload_n (pc' := 56) O dX1_count_55 rfl rfl ?_
            have e1 : e = 24 := by omega
            subst e1
            exact aw_ireturn O hr rfl dX1_count_56 (⟨by rw [hc, hacc]; rfl, rfl⟩)
          · refine aw_aload_n (pc' := 31) O dX1_count_30 rfl rfl ?_
            refine aw_iload (pc' := 33) O dX1_count_31 rfl rfl ?_
            refine aw_iload_n (pc' := 34) O dX1_count_33 rfl rfl ?_
            refine aw_iload_n (pc' := 35) O dX1_count_34 rfl rfl ?_
            refine c1_fits (pc' := 38) (rest := []) O F (met1_fits l L hD w a h.ls e p q h3 hp hq) (by decide) (by decide) rfl rfl (Nat.le_of_ble_eq_true rfl) dX1_count_35 rfl (aw_deti ?_)
            refine aw_ifB_eq (pc' := 41) (tgt := 47) O dX1_count_38 (by decide) rfl (fun h4 => ?_) (fun h4 => ?_)
            · refine aw_iload_n (pc' := 48) O dX1_count_47 rfl rfl ?_
              refine aw_istore_n (pc' := 49) (lv' := [(0, .ref (L.2.2 20)), (1, .int (nI p)), (2, .int (nI q)), (3, .int acc), (4, .int (nI e))]) O dX1_count_48 (F.nL (by decide)) rfl rfl rfl ?_
              refine aw_iinc (pc' := 52) (v := nI (e + 1)) (lv' := [(0, .ref (L.2.2 20)), (1, .int (nI p)), (2, .int (nI q)), (3, .int acc), (4, .int (nI (e + 1)))]) O dX1_count_49 (F.nL (by decide)) rfl (nI_1 _) rfl rfl rfl ?_
              refine aw_goto (tgt := 23) O dX1_count_52 (by decide) ?_
              exact ih (e + 1) _ (by omega) (by omega) (by rw [hacc]; simp only [cn, h4]; rfl)
            · refine aw_iload_n (pc' := 42) O dX1_count_41 rfl rfl ?_
              refine aw_iconst (pc' := 43) O dX1_count_42 ki_1 rfl ?_
              refine aw_iadd (pc' := 44) O dX1_count_43 rfl ?_
              refine aw_goto (tgt := 48) O dX1_count_44 (by decide) ?_
              refine aw_istore_n (pc' := 49) (lv' := [(0, .ref (L.2.2 20)), (1, .int (nI p)), (2, .int (nI q)), (3, .int (acc + (nI 1))), (4, .int (nI e))]) O dX1_count_48 (F.nL (by decide)) rfl rfl rfl ?_
              refine aw_iinc (pc' := 52) (v := nI (e + 1)) (lv' := [(0, .ref (L.2.2 20)), (1, .int (nI p)), (2, .int (nI q)), (3, .int (acc + (nI 1))), (4, .int (nI (e + 1)))]) O dX1_count_49 (F.nL (by decide)) rfl (nI_1 _) rfl rfl rfl ?_
              refine aw_goto (tgt := 23) O dX1_count_52 (by decide) ?_
              exact ih (e + 1) _ (by omega) (by omega) (by rw [hacc, nI_add]; simp only [cn, h4]; rfl)
      refine aw_iconst (pc' := 19) O dX1_count_18 ki_0 rfl ?_
      refine aw_istore_n (pc' := 20) (lv' := [(0, .ref (L.2.2 20)), (1, .int (nI p)), (2, .int (nI q)), (3, .int (nI 0))]) O dX1_count_19 (F.nL (by decide)) rfl rfl rfl ?_
      refine aw_iconst (pc' := 21) O dX1_count_20 ki_0 rfl ?_
      refine aw_istore (pc' := 23) (lv' := [(0, .ref (L.2.2 20)), (1, .int (nI p)), (2, .int (nI q)), (3, .int (nI 0)), (4, .int (nI 0))]) O dX1_count_21 (F.nL (by decide)) rfl rfl rfl ?_
      exact lp 25 0 _ (by decide) (by decide) rfl
    · refine aw_iconst (pc' := 17) O dX1_count_16 ki_m1 rfl ?_
      exact aw_ireturn O hr rfl dX1_count_17 (⟨by simp [countA, h2], rfl⟩)
set_option maxHeartbeats 4000000 in
set_option maxRecDepth 100000 in
theorem met1_living (l : Launch) (L : aw_L) (hD : ∀ w, va_D (aw_A L) (aw_pic1 L w)) (w : aw_S) (a : aw_AS) (h : R1 w a) : aw_Mi (aw_pic1 L) l L yX1_living cX1_living 1 .int 2 47 [] w (fun r w' => r = countN a 0 0 ∧ w' = w) := by
  refine aw_of_i (lv := [(0, .ref (L.2.2 20))]) (own := RX1) hD (by decide) rfl (Nat.le_of_ble_eq_true rfl) rfl (fun X O F hr => ?_)
  refine aw_aload_n (pc' := 1) O dX1_living_0 rfl rfl ?_
  refine aw_iconst (pc' := 2) O dX1_living_1 ki_0 rfl ?_
  refine aw_iconst (pc' := 3) O dX1_living_2 ki_0 rfl ?_
  refine c1_count (pc' := 6) (rest := []) O F (met1_count l L hD w a h (nI 0) (nI 0)) (by decide) (by decide) rfl rfl (Nat.le_of_ble_eq_true rfl) dX1_living_3 rfl (aw_deti ?_)
  exact aw_ireturn O hr rfl dX1_living_6 (⟨by simp [countA, rB_n (show 0 < 64 by decide) (by decide), nI_clamp (n := 0) (by decide)], rfl⟩)
set_option maxHeartbeats 4000000 in
set_option maxRecDepth 100000 in
theorem met1_next (l : Launch) (L : aw_L) (hD : ∀ w, va_D (aw_A L) (aw_pic1 L w)) (w : aw_S) (a : aw_AS) (h : R1 w a) (x y v : Int32) : aw_Mi (aw_pic1 L) l L yX1_next cX1_next 5 .int 1 23 [.int x, .int y, .int v] w (fun r w' => r = nextA a x y v ∧ w' = w) := by
  refine aw_of_i (lv := [(0, .ref (L.2.2 20)), (1, .int x), (2, .int y), (3, .int v)]) (own := RX1) hD (by decide) rfl (Nat.le_of_ble_eq_true rfl) rfl (fun X O F hr => ?_)
  refine aw_aload_n (pc' := 1) O dX1_next_0 rfl rfl ?_
  refine aw_iload_n (pc' := 2) O dX1_next_1 rfl rfl ?_
  refine c1_isSet (pc' := 5) (rest := []) O F (met1_isSet l L hD w x) (by decide) (by decide) rfl rfl (Nat.le_of_ble_eq_true rfl) dX1_next_2 rfl (aw_deti ?_)
  refine aw_ifB_eq (pc' := 8) (tgt := 16) O dX1_next_5 (by decide) rfl (fun h1 => ?_) (fun h1 => ?_)
  · refine aw_iconst (pc' := 17) O dX1_next_16 ki_m1 rfl ?_
    exact aw_ireturn O hr rfl dX1_next_17 (⟨by simp [nextA, h1], rfl⟩)
  · refine aw_aload_n (pc' := 9) O dX1_next_8 rfl rfl ?_
    refine aw_iload_n (pc' := 10) O dX1_next_9 rfl rfl ?_
    refine c1_isSet (pc' := 13) (rest := []) O F (met1_isSet l L hD w y) (by decide) (by decide) rfl rfl (Nat.le_of_ble_eq_true rfl) dX1_next_10 rfl (aw_deti ?_)
    refine aw_ifB_ne (pc' := 16) (tgt := 18) O dX1_next_13 (by decide) rfl (fun h2 => ?_) (fun h2 => ?_)
    · obtain ⟨p, hp, rfl⟩ := rB_ex (n := 64) (by decide) h1
      obtain ⟨q, hq, rfl⟩ := rB_ex (n := 64) (by decide) h2
      have hc : nextA a (nI p) (nI q) v = nextN a p q v := by simp [nextA, rB_n hp, rB_n hq, nI_clamp (n := p) (by omega), nI_clamp (n := q) (by omega)]
      obtain ⟨P, hP⟩ : ∃ P : Nat → Bool, P = fun e => !(liveFit a p q e && decide (v ≤ nI e)) := ⟨_, rfl⟩
      have hN : nextN a p q v = if ff P 24 < 24 then nI (ff P 24) else -4 := by rw [hP]; rfl
      have lp : ∀ (n : Nat) (e : Nat), e ≤ 24 → 24 - e < n → (∀ i, i < e → P i = true) → aw_J (aw_pic1 L) X 21 [(0, .ref (L.2.2 20)), (1, .int (nI p)), (2, .int (nI q)), (3, .int v), (4, .int (nI e))] [] w := by
        intro n
        induction n with
        | zero =>
          intro e he hm hi
          exact absurd hm (Nat.not_lt_zero _)
        | succ n ih =>
          intro e he hm hi
          refine aw_iload (pc' := 23) O dX1_next_21 rfl rfl ?_
          refine aw_bipush (pc' := 25) O dX1_next_23 kb_24 rfl ?_
          refine aw_icmpN_ge (pc' := 28) (tgt := 54) O (by omega) (by omega) dX1_next_25 (by decide) rfl (fun h3 => ?_) (fun h3 => ?_)
          · refine aw_bipush (pc' := 56) O dX1_next_54 kb_m4 rfl ?_
            exact aw_ireturn O hr rfl dX1_next_56 (⟨by rw [hc, hN, ff_all (fun i hi2 => hi i (by omega)), if_neg (by decide)], rfl⟩)
          · refine aw_iload (pc' := 30) O dX1_next_28 rfl rfl ?_
            refine aw_iload_n (pc' := 31) O dX1_next_30 rfl rfl ?_
            refine aw_icmp_lt (pc' := 34) (tgt := 48) O dX1_next_31 (by decide) rfl (fun h4 => ?_) (fun h4 => ?_)
            · refine aw_iinc (pc' := 51) (v := nI (e + 1)) (lv' := [(0, .ref (L.2.2 20)), (1, .int (nI p)), (2, .int (nI q)), (3, .int v), (4, .int (nI (e + 1)))]) O dX1_next_48 (F.nL (by decide)) rfl (nI_1 _) rfl rfl rfl ?_
              refine aw_goto (tgt := 21) O dX1_next_51 (by decide) ?_
              exact ih (e + 1) (by omega) (by omega) (fun i hi2 => by
                by_cases z : i = e
                · rw [z, hP]; simp [i_nle h4]
                · exact hi i (by omega))
            · refine aw_aload_n (pc' := 35) O dX1_next_34 rfl rfl ?_
              refine aw_iload (pc' := 37) O dX1_next_35 rfl rfl ?_
              refine aw_iload_n (pc' := 38) O dX1_next_37 rfl rfl ?_
              refine aw_iload_n (pc' := 39) O dX1_next_38 rfl rfl ?_
              refine c1_fits (pc' := 42) (rest := []) O F (met1_fits l L hD w a h.ls e p q h3 hp hq) (by decide) (by decide) rfl rfl (Nat.le_of_ble_eq_true rfl) dX1_next_39 rfl (aw_deti ?_)
              refine aw_ifB_eq (pc' := 45) (tgt := 48) O dX1_next_42 (by decide) rfl (fun h5 => ?_) (fun h5 => ?_)
              · refine aw_iinc (pc' := 51) (v := nI (e + 1)) (lv' := [(0, .ref (L.2.2 20)), (1, .int (nI p)), (2, .int (nI q)), (3, .int v), (4, .int (nI (e + 1)))]) O dX1_next_48 (F.nL (by decide)) rfl (nI_1 _) rfl rfl rfl ?_
                refine aw_goto (tgt := 21) O dX1_next_51 (by decide) ?_
                exact ih (e + 1) (by omega) (by omega) (fun i hi2 => by
                  by_cases z : i = e
                  · rw [z, hP]; simp [h5]
                  · exact hi i (by omega))
              · have hPe : P e = false := by rw [hP]; simp [h5, i_le h4]
                have hff : ff P 24 = e := ff_eq h3 hi hPe
                refine aw_iload (pc' := 47) O dX1_next_45 rfl rfl ?_
                exact aw_ireturn O hr rfl dX1_next_47 (⟨by rw [hc, hN, hff, if_pos h3], rfl⟩)
      refine aw_iconst (pc' := 19) O dX1_next_18 ki_0 rfl ?_
      refine aw_istore (pc' := 21) (lv' := [(0, .ref (L.2.2 20)), (1, .int (nI p)), (2, .int (nI q)), (3, .int v), (4, .int (nI 0))]) O dX1_next_19 (F.nL (by decide)) rfl rfl rfl ?_
      exact lp 25 0 (by decide) (by decide) (fun i hi => absurd hi (Nat.not_lt_zero _))
    · refine aw_iconst (pc' := 17) O dX1_next_16 ki_m1 rfl ?_
      exact aw_ireturn O hr rfl dX1_next_17 (⟨by simp [nextA, h2], rfl⟩)
set_option maxHeartbeats 4000000 in
set_option maxRecDepth 100000 in
theorem met1_sum (l : Launch) (L : aw_L) (hD : ∀ w, va_D (aw_A L) (aw_pic1 L w)) (w : aw_S) (a : aw_AS) (h : R1 w a) (x y v : Int32) : aw_Mi (aw_pic1 L) l L yX1_sum cX1_sum 6 .int 1 23 [.int x, .int y, .int v] w (fun r w' => r = sumA a x y v ∧ w' = w) := by
  refine aw_of_i (lv := [(0, .ref (L.2.2 20)), (1, .int x), (2, .int y), (3, .int v)]) (own := RX1) hD (by decide) rfl (Nat.le_of_ble_eq_true rfl) rfl (fun X O F hr => ?_)
  refine aw_aload_n (pc' := 1) O dX1_sum_0 rfl rfl ?_
  refine aw_iload_n (pc' := 2) O dX1_sum_1 rfl rfl ?_
  refine c1_isSet (pc' := 5) (rest := []) O F (met1_isSet l L hD w x) (by decide) (by decide) rfl rfl (Nat.le_of_ble_eq_true rfl) dX1_sum_2 rfl (aw_deti ?_)
  refine aw_ifB_eq (pc' := 8) (tgt := 24) O dX1_sum_5 (by decide) rfl (fun h1 => ?_) (fun h1 => ?_)
  · refine aw_iconst (pc' := 25) O dX1_sum_24 ki_0 rfl ?_
    exact aw_ireturn O hr rfl dX1_sum_25 (⟨by simp [sumA, h1]; rfl, rfl⟩)
  · refine aw_aload_n (pc' := 9) O dX1_sum_8 rfl rfl ?_
    refine aw_iload_n (pc' := 10) O dX1_sum_9 rfl rfl ?_
    refine c1_isSet (pc' := 13) (rest := []) O F (met1_isSet l L hD w y) (by decide) (by decide) rfl rfl (Nat.le_of_ble_eq_true rfl) dX1_sum_10 rfl (aw_deti ?_)
    refine aw_ifB_eq (pc' := 16) (tgt := 24) O dX1_sum_13 (by decide) rfl (fun h2 => ?_) (fun h2 => ?_)
    · refine aw_iconst (pc' := 25) O dX1_sum_24 ki_0 rfl ?_
      exact aw_ireturn O hr rfl dX1_sum_25 (⟨by simp [sumA, h2]; rfl, rfl⟩)
    · refine aw_aload_n (pc' := 17) O dX1_sum_16 rfl rfl ?_
      refine aw_iload_n (pc' := 18) O dX1_sum_17 rfl rfl ?_
      refine c1_isComponent (pc' := 21) (rest := []) O F (met1_isComponent l L hD w v) (by decide) (by decide) rfl rfl (Nat.le_of_ble_eq_true rfl) dX1_sum_18 rfl (aw_deti ?_)
      refine aw_ifB_ne (pc' := 24) (tgt := 26) O dX1_sum_21 (by decide) rfl (fun h3 => ?_) (fun h3 => ?_)
      · obtain ⟨p, hp, rfl⟩ := rB_ex (n := 64) (by decide) h1
        obtain ⟨q, hq, rfl⟩ := rB_ex (n := 64) (by decide) h2
        obtain ⟨c, hc, rfl⟩ := rB_ex (n := 6) (by decide) h3
        have hs0 : sumA a (nI p) (nI q) (nI c) = sumN a p q c := by simp [sumA, rB_n hp, rB_n hq, rB_n hc, nI_clamp (n := p) (by omega), nI_clamp (n := q) (by omega), nI_clamp (n := c) (by omega)]
        obtain ⟨f, hf⟩ : ∃ f : Nat → Int32, f = fun e => if liveFit a p q e && btB (a.2.1 e) c then a.2.2.1 e c else 0 := ⟨_, rfl⟩
        have hN : sumN a p q c = sm f 24 := by rw [hf]; rfl
        have lp : ∀ (n : Nat) (e : Nat) (acc : Int32), e ≤ 24 → 24 - e < n → acc = sm f e → aw_J (aw_pic1 L) X 32 [(0, .ref (L.2.2 20)), (1, .int (nI p)), (2, .int (nI q)), (3, .int (nI c)), (4, .int acc), (5, .int (nI e))] [] w := by
          intro n
          induction n with
          | zero =>
            intro e acc he hm hacc
            exact absurd hm (Nat.not_lt_zero _)
          | succ n ih =>
            intro e acc he hm hacc
            refine aw_iload (pc' := 34) O dX1_sum_32 rfl rfl ?_
            refine aw_bipush (pc' := 36) O dX1_sum_34 kb_24 rfl ?_
            refine aw_icmpN_ge (pc' := 39) (tgt := 88) O (by omega) (by omega) dX1_sum_36 (by decide) rfl (fun h4 => ?_) (fun h4 => ?_)
            · refine aw_iload (pc' := 90) O dX1_sum_88 rfl rfl ?_
              have e1 : e = 24 := by omega
              subst e1
              exact aw_ireturn O hr rfl dX1_sum_90 (⟨by rw [hs0, hN, hacc], rfl⟩)
            · obtain ⟨g3, g4⟩ := h.2.1 e h4
              refine aw_aload_n (pc' := 40) O dX1_sum_39 rfl rfl ?_
              refine aw_iload (pc' := 42) O dX1_sum_40 rfl rfl ?_
              refine aw_iload_n (pc' := 43) O dX1_sum_42 rfl rfl ?_
              refine aw_iload_n (pc' := 44) O dX1_sum_43 rfl rfl ?_
              refine c1_fits (pc' := 47) (rest := []) O F (met1_fits l L hD w a h.ls e p q h4 hp hq) (by decide) (by decide) rfl rfl (Nat.le_of_ble_eq_true rfl) dX1_sum_44 rfl (aw_deti ?_)
              refine aw_ifB_eq (pc' := 50) (tgt := 82) O dX1_sum_47 (by decide) rfl (fun h5 => ?_) (fun h5 => ?_)
              · refine aw_iinc (pc' := 85) (v := nI (e + 1)) (lv' := [(0, .ref (L.2.2 20)), (1, .int (nI p)), (2, .int (nI q)), (3, .int (nI c)), (4, .int acc), (5, .int (nI (e + 1)))]) O dX1_sum_82 (F.nL (by decide)) rfl (nI_1 _) rfl rfl rfl ?_
                refine aw_goto (tgt := 32) O dX1_sum_85 (by decide) ?_
                exact ih (e + 1) _ (by omega) (by omega) (by rw [hacc]; simp only [sm]; rw [show f e = 0 by rw [hf]; simp [h5]]; simp)
              · refine aw_aload_n (pc' := 51) O dX1_sum_50 rfl rfl ?_
                refine aw_aload_n (pc' := 52) O dX1_sum_51 rfl rfl ?_
                refine g1_1 (pc' := 55) O dX1_sum_52 rfl ?_
                refine aw_iload (pc' := 57) O dX1_sum_55 rfl rfl ?_
                refine ld1_1 (pc' := 58) (j := e) O rfl (by omega) dX1_sum_57 rfl ?_
                refine aw_top (y := nI (a.2.1 e)) g3 ?_
                refine aw_iload_n (pc' := 59) O dX1_sum_58 rfl rfl ?_
                refine c1_has (pc' := 62) (rest := []) O F (met1_has l L hD w (a.2.1 e) c (by omega) (by omega)) (by decide) (by decide) rfl rfl (Nat.le_of_ble_eq_true rfl) dX1_sum_59 rfl (aw_deti ?_)
                refine aw_ifB_eq (pc' := 65) (tgt := 82) O dX1_sum_62 (by decide) rfl (fun h6 => ?_) (fun h6 => ?_)
                · have z : f e = 0 := by rw [hf]; simp [h6]
                  refine aw_iinc (pc' := 85) (v := nI (e + 1)) (lv' := [(0, .ref (L.2.2 20)), (1, .int (nI p)), (2, .int (nI q)), (3, .int (nI c)), (4, .int acc), (5, .int (nI (e + 1)))]) O dX1_sum_82 (F.nL (by decide)) rfl (nI_1 _) rfl rfl rfl ?_
                  refine aw_goto (tgt := 32) O dX1_sum_85 (by decide) ?_
                  exact ih (e + 1) _ (by omega) (by omega) (by rw [hacc]; simp only [sm]; rw [z]; simp)
                · have z : f e = a.2.2.1 e c := by rw [hf]; simp [h5, h6]
                  refine aw_iload (pc' := 67) O dX1_sum_65 rfl rfl ?_
                  refine aw_aload_n (pc' := 68) O dX1_sum_67 rfl rfl ?_
                  refine g1_2 (pc' := 71) O dX1_sum_68 rfl ?_
                  refine aw_bipush (pc' := 73) O dX1_sum_71 kb_6 rfl ?_
                  refine aw_iload (pc' := 75) O dX1_sum_73 rfl rfl ?_
                  refine aw_imulN (pc' := 76) O dX1_sum_75 rfl ?_
                  refine aw_iload_n (pc' := 77) O dX1_sum_76 rfl rfl ?_
                  refine aw_iaddN (pc' := 78) O dX1_sum_77 rfl ?_
                  refine ld1_2 (pc' := 79) (j := (6 * e) + c) O rfl (by omega) dX1_sum_78 rfl ?_
                  refine aw_top (y := a.2.2.1 e c) (h.2.2.1 e h4 c hc) ?_
                  refine aw_iadd (pc' := 80) O dX1_sum_79 rfl ?_
                  refine aw_istore (pc' := 82) (lv' := [(0, .ref (L.2.2 20)), (1, .int (nI p)), (2, .int (nI q)), (3, .int (nI c)), (4, .int (acc + (a.2.2.1 e c))), (5, .int (nI e))]) O dX1_sum_80 (F.nL (by decide)) rfl rfl rfl ?_
                  refine aw_iinc (pc' := 85) (v := nI (e + 1)) (lv' := [(0, .ref (L.2.2 20)), (1, .int (nI p)), (2, .int (nI q)), (3, .int (nI c)), (4, .int (acc + (a.2.2.1 e c))), (5, .int (nI (e + 1)))]) O dX1_sum_82 (F.nL (by decide)) rfl (nI_1 _) rfl rfl rfl ?_
                  refine aw_goto (tgt := 32) O dX1_sum_85 (by decide) ?_
                  exact ih (e + 1) _ (by omega) (by omega) (by rw [hacc]; simp only [sm]; rw [z])
        refine aw_iconst (pc' := 27) O dX1_sum_26 ki_0 rfl ?_
        refine aw_istore (pc' := 29) (lv' := [(0, .ref (L.2.2 20)), (1, .int (nI p)), (2, .int (nI q)), (3, .int (nI c)), (4, .int (nI 0))]) O dX1_sum_27 (F.nL (by decide)) rfl rfl rfl ?_
        refine aw_iconst (pc' := 30) O dX1_sum_29 ki_0 rfl ?_
        refine aw_istore (pc' := 32) (lv' := [(0, .ref (L.2.2 20)), (1, .int (nI p)), (2, .int (nI q)), (3, .int (nI c)), (4, .int (nI 0)), (5, .int (nI 0))]) O dX1_sum_30 (F.nL (by decide)) rfl rfl rfl ?_
        exact lp 25 0 _ (by decide) (by decide) rfl
      · refine aw_iconst (pc' := 25) O dX1_sum_24 ki_0 rfl ?_
        exact aw_ireturn O hr rfl dX1_sum_25 (⟨by simp [sumA, h3]; rfl, rfl⟩)
set_option maxHeartbeats 4000000 in
set_option maxRecDepth 100000 in
theorem met1_kinds (l : Launch) (L : aw_L) (hD : ∀ w, va_D (aw_A L) (aw_pic1 L w)) (w : aw_S) (a : aw_AS) (h : R1 w a) : aw_Mi (aw_pic1 L) l L yX1_kinds cX1_kinds 5 .int 0 0 [] w (fun r w' => r = kindsA a ∧ w' = w) := by
  refine aw_of_i (lv := [(0, .ref (L.2.2 20))]) (own := RX1) hD (by decide) rfl (Nat.le_of_ble_eq_true rfl) rfl (fun X O F hr => ?_)
  have lp : ∀ (n : Nat) (s : Nat) (acc : Int32), s ≤ 64 → 64 - s < n → acc = nI (cn (fun s => anyN (fun e => a.1 e && decide (a.2.1 e = s)) 24) s) → aw_J (aw_pic1 L) X 4 [(0, .ref (L.2.2 20)), (1, .int acc), (2, .int (nI s))] [] w := by
    intro n
    induction n with
    | zero =>
      intro s acc hs hm hacc
      exact absurd hm (Nat.not_lt_zero _)
    | succ n ih =>
      intro s acc hs hm hacc
      refine aw_iload_n (pc' := 5) O dX1_kinds_4 rfl rfl ?_
      refine aw_bipush (pc' := 7) O dX1_kinds_5 kb_64 rfl ?_
      refine aw_icmpN_ge (pc' := 10) (tgt := 77) O (by omega) (by omega) dX1_kinds_7 (by decide) rfl (fun h2 => ?_) (fun h2 => ?_)
      · refine aw_iload_n (pc' := 78) O dX1_kinds_77 rfl rfl ?_
        have e1 : s = 64 := by omega
        subst e1
        exact aw_ireturn O hr rfl dX1_kinds_78 (⟨by rw [hacc]; rfl, rfl⟩)
      · have ih0 := ih
        obtain ⟨G, hG⟩ : ∃ G : Nat → Bool, G = fun e => a.1 e && decide (a.2.1 e = s) := ⟨_, rfl⟩
        have lp2 : ∀ (n : Nat) (e : Nat) (b : Int32), e ≤ 24 → 24 - e < n → b = bI (anyN G e) → aw_J (aw_pic1 L) X 15 [(0, .ref (L.2.2 20)), (1, .int acc), (2, .int (nI s)), (3, .int b), (4, .int (nI e))] [] w := by
          intro n
          induction n with
          | zero =>
            intro e b he hm hb
            exact absurd hm (Nat.not_lt_zero _)
          | succ n ih =>
            intro e b he hm hb
            refine aw_iload (pc' := 17) O dX1_kinds_15 rfl rfl ?_
            refine aw_bipush (pc' := 19) O dX1_kinds_17 kb_24 rfl ?_
            refine aw_icmpN_ge (pc' := 22) (tgt := 59) O (by omega) (by omega) dX1_kinds_19 (by decide) rfl (fun h3 => ?_) (fun h3 => ?_)
            · have e1 : e = 24 := by omega
              subst e1
              refine aw_iload_n (pc' := 60) O dX1_kinds_59 rfl rfl ?_
              refine aw_if_eq (pc' := 63) (tgt := 69) O dX1_kinds_60 (by decide) rfl (fun h4 => ?_) (fun h4 => ?_)
              · have hz : anyN G 24 = false := bI_0.mp (by rw [← hb]; exact h4)
                rw [hG] at hz
                refine aw_iload_n (pc' := 70) O dX1_kinds_69 rfl rfl ?_
                refine aw_istore_n (pc' := 71) (lv' := [(0, .ref (L.2.2 20)), (1, .int acc), (2, .int (nI s)), (3, .int b), (4, .int (nI 24))]) O dX1_kinds_70 (F.nL (by decide)) rfl rfl rfl ?_
                refine aw_iinc (pc' := 74) (v := nI (s + 1)) (lv' := [(0, .ref (L.2.2 20)), (1, .int acc), (2, .int (nI (s + 1))), (3, .int b), (4, .int (nI 24))]) O dX1_kinds_71 (F.nL (by decide)) rfl (nI_1 _) rfl rfl rfl ?_
                refine aw_goto (tgt := 4) O dX1_kinds_74 (by decide) ?_
                refine aw_less [0, 1, 2] rfl ?_
                exact ih0 (s + 1) _ (by omega) (by omega) (by rw [hacc]; simp only [cn, hz]; rfl)
              · have hz : anyN G 24 = true := bI_nz (by rw [← hb]; exact h4)
                rw [hG] at hz
                refine aw_iload_n (pc' := 64) O dX1_kinds_63 rfl rfl ?_
                refine aw_iconst (pc' := 65) O dX1_kinds_64 ki_1 rfl ?_
                refine aw_iadd (pc' := 66) O dX1_kinds_65 rfl ?_
                refine aw_goto (tgt := 70) O dX1_kinds_66 (by decide) ?_
                refine aw_istore_n (pc' := 71) (lv' := [(0, .ref (L.2.2 20)), (1, .int (acc + (nI 1))), (2, .int (nI s)), (3, .int b), (4, .int (nI 24))]) O dX1_kinds_70 (F.nL (by decide)) rfl rfl rfl ?_
                refine aw_iinc (pc' := 74) (v := nI (s + 1)) (lv' := [(0, .ref (L.2.2 20)), (1, .int (acc + (nI 1))), (2, .int (nI (s + 1))), (3, .int b), (4, .int (nI 24))]) O dX1_kinds_71 (F.nL (by decide)) rfl (nI_1 _) rfl rfl rfl ?_
                refine aw_goto (tgt := 4) O dX1_kinds_74 (by decide) ?_
                refine aw_less [0, 1, 2] rfl ?_
                exact ih0 (s + 1) _ (by omega) (by omega) (by rw [hacc, nI_add]; simp only [cn, hz]; rfl)
            · refine aw_iload_n (pc' := 23) O dX1_kinds_22 rfl rfl ?_
              refine aw_if_ne (pc' := 26) (tgt := 47) O dX1_kinds_23 (by decide) rfl (fun h5 => ?_) (fun h5 => ?_)
              · have hz : anyN G e = true := bI_nz (by rw [← hb]; exact h5)
                refine aw_iconst (pc' := 48) O dX1_kinds_47 ki_1 rfl ?_
                refine aw_goto (tgt := 52) O dX1_kinds_48 (by decide) ?_
                refine aw_istore_n (pc' := 53) (lv' := [(0, .ref (L.2.2 20)), (1, .int acc), (2, .int (nI s)), (3, .int (nI 1)), (4, .int (nI e))]) O dX1_kinds_52 (F.nL (by decide)) rfl rfl rfl ?_
                refine aw_iinc (pc' := 56) (v := nI (e + 1)) (lv' := [(0, .ref (L.2.2 20)), (1, .int acc), (2, .int (nI s)), (3, .int (nI 1)), (4, .int (nI (e + 1)))]) O dX1_kinds_53 (F.nL (by decide)) rfl (nI_1 _) rfl rfl rfl ?_
                refine aw_goto (tgt := 15) O dX1_kinds_56 (by decide) ?_
                exact ih (e + 1) _ (by omega) (by omega) (by simp only [anyN, hz]; rfl)
              · have hz : anyN G e = false := bI_0.mp (by rw [← hb]; exact h5)
                obtain ⟨g3, g4⟩ := h.2.1 e h3
                refine aw_aload_n (pc' := 27) O dX1_kinds_26 rfl rfl ?_
                refine g1_0 (pc' := 30) O dX1_kinds_27 rfl ?_
                refine aw_iload (pc' := 32) O dX1_kinds_30 rfl rfl ?_
                refine ld1_0 (pc' := 33) (j := e) O rfl (by omega) dX1_kinds_32 rfl ?_
                refine aw_top (y := bI (a.1 e)) (h.1 e h3) ?_
                refine aw_ifB_eq (pc' := 36) (tgt := 51) O dX1_kinds_33 (by decide) rfl (fun h6 => ?_) (fun h6 => ?_)
                · have hGe : G e = false := by rw [hG]; simp [h6]
                  refine aw_iconst (pc' := 52) O dX1_kinds_51 ki_0 rfl ?_
                  refine aw_istore_n (pc' := 53) (lv' := [(0, .ref (L.2.2 20)), (1, .int acc), (2, .int (nI s)), (3, .int (nI 0)), (4, .int (nI e))]) O dX1_kinds_52 (F.nL (by decide)) rfl rfl rfl ?_
                  refine aw_iinc (pc' := 56) (v := nI (e + 1)) (lv' := [(0, .ref (L.2.2 20)), (1, .int acc), (2, .int (nI s)), (3, .int (nI 0)), (4, .int (nI (e + 1)))]) O dX1_kinds_53 (F.nL (by decide)) rfl (nI_1 _) rfl rfl rfl ?_
                  refine aw_goto (tgt := 15) O dX1_kinds_56 (by decide) ?_
                  exact ih (e + 1) _ (by omega) (by omega) (by simp only [anyN, hz, hGe]; rfl)
                · refine aw_aload_n (pc' := 37) O dX1_kinds_36 rfl rfl ?_
                  refine g1_1 (pc' := 40) O dX1_kinds_37 rfl ?_
                  refine aw_iload (pc' := 42) O dX1_kinds_40 rfl rfl ?_
                  refine ld1_1 (pc' := 43) (j := e) O rfl (by omega) dX1_kinds_42 rfl ?_
                  refine aw_top (y := nI (a.2.1 e)) g3 ?_
                  refine aw_iload_n (pc' := 44) O dX1_kinds_43 rfl rfl ?_
                  refine aw_icmpN_ne (pc' := 47) (tgt := 51) O (by omega) (by omega) dX1_kinds_44 (by decide) rfl (fun h7 => ?_) (fun h7 => ?_)
                  · have hGe : G e = false := by rw [hG]; simp [h7]
                    refine aw_iconst (pc' := 52) O dX1_kinds_51 ki_0 rfl ?_
                    refine aw_istore_n (pc' := 53) (lv' := [(0, .ref (L.2.2 20)), (1, .int acc), (2, .int (nI s)), (3, .int (nI 0)), (4, .int (nI e))]) O dX1_kinds_52 (F.nL (by decide)) rfl rfl rfl ?_
                    refine aw_iinc (pc' := 56) (v := nI (e + 1)) (lv' := [(0, .ref (L.2.2 20)), (1, .int acc), (2, .int (nI s)), (3, .int (nI 0)), (4, .int (nI (e + 1)))]) O dX1_kinds_53 (F.nL (by decide)) rfl (nI_1 _) rfl rfl rfl ?_
                    refine aw_goto (tgt := 15) O dX1_kinds_56 (by decide) ?_
                    exact ih (e + 1) _ (by omega) (by omega) (by simp only [anyN, hz, hGe]; rfl)
                  · have hGe : G e = true := by rw [hG]; simp [h6, h7]
                    refine aw_iconst (pc' := 48) O dX1_kinds_47 ki_1 rfl ?_
                    refine aw_goto (tgt := 52) O dX1_kinds_48 (by decide) ?_
                    refine aw_istore_n (pc' := 53) (lv' := [(0, .ref (L.2.2 20)), (1, .int acc), (2, .int (nI s)), (3, .int (nI 1)), (4, .int (nI e))]) O dX1_kinds_52 (F.nL (by decide)) rfl rfl rfl ?_
                    refine aw_iinc (pc' := 56) (v := nI (e + 1)) (lv' := [(0, .ref (L.2.2 20)), (1, .int acc), (2, .int (nI s)), (3, .int (nI 1)), (4, .int (nI (e + 1)))]) O dX1_kinds_53 (F.nL (by decide)) rfl (nI_1 _) rfl rfl rfl ?_
                    refine aw_goto (tgt := 15) O dX1_kinds_56 (by decide) ?_
                    exact ih (e + 1) _ (by omega) (by omega) (by simp only [anyN, hz, hGe]; rfl)
        refine aw_iconst (pc' := 11) O dX1_kinds_10 ki_0 rfl ?_
        refine aw_istore_n (pc' := 12) (lv' := [(0, .ref (L.2.2 20)), (1, .int acc), (2, .int (nI s)), (3, .int (nI 0))]) O dX1_kinds_11 (F.nL (by decide)) rfl rfl rfl ?_
        refine aw_iconst (pc' := 13) O dX1_kinds_12 ki_0 rfl ?_
        refine aw_istore (pc' := 15) (lv' := [(0, .ref (L.2.2 20)), (1, .int acc), (2, .int (nI s)), (3, .int (nI 0)), (4, .int (nI 0))]) O dX1_kinds_13 (F.nL (by decide)) rfl rfl rfl ?_
        exact lp2 25 0 _ (by decide) (by decide) rfl
  refine aw_iconst (pc' := 1) O dX1_kinds_0 ki_0 rfl ?_
  refine aw_istore_n (pc' := 2) (lv' := [(0, .ref (L.2.2 20)), (1, .int (nI 0))]) O dX1_kinds_1 (F.nL (by decide)) rfl rfl rfl ?_
  refine aw_iconst (pc' := 3) O dX1_kinds_2 ki_0 rfl ?_
  refine aw_istore_n (pc' := 4) (lv' := [(0, .ref (L.2.2 20)), (1, .int (nI 0)), (2, .int (nI 0))]) O dX1_kinds_3 (F.nL (by decide)) rfl rfl rfl ?_
  exact lp 65 0 _ (by decide) (by decide) rfl
set_option maxHeartbeats 4000000 in
set_option maxRecDepth 100000 in
theorem met1_digest (l : Launch) (L : aw_L) (hD : ∀ w, va_D (aw_A L) (aw_pic1 L w)) (w : aw_S) (a : aw_AS) (h : R1 w a) : aw_Mi (aw_pic1 L) l L yX1_digest cX1_digest 3 .int 2 44 [] w (fun r w' => r = digestA a ∧ w' = w) := by
  obtain ⟨f, hf⟩ : ∃ f : Nat → Int32, f = fun i => nI (i + 1) * getN a (i / 6) (i % 6) := ⟨_, rfl⟩
  have hN : digestA a = sm f 144 := by rw [hf]; rfl
  refine aw_of_i (lv := [(0, .ref (L.2.2 20))]) (own := RX1) hD (by decide) rfl (Nat.le_of_ble_eq_true rfl) rfl (fun X O F hr => ?_)
  have lp : ∀ (n : Nat) (i : Nat) (acc : Int32), i ≤ 144 → 144 - i < n → acc = sm f i → aw_J (aw_pic1 L) X 4 [(0, .ref (L.2.2 20)), (1, .int acc), (2, .int (nI i))] [] w := by
    intro n
    induction n with
    | zero =>
      intro i acc hi hm hacc
      exact absurd hm (Nat.not_lt_zero _)
    | succ n ih =>
      intro i acc hi hm hacc
      refine aw_iload_n (pc' := 5) O dX1_digest_4 rfl rfl ?_
      refine aw_sipush (pc' := 8) O dX1_digest_5 ks_144 rfl ?_
      refine aw_icmpN_ge (pc' := 11) (tgt := 36) O (by omega) (by omega) dX1_digest_8 (by decide) rfl (fun h2 => ?_) (fun h2 => ?_)
      · refine aw_iload_n (pc' := 37) O dX1_digest_36 rfl rfl ?_
        have e1 : i = 144 := by omega
        subst e1
        exact aw_ireturn O hr rfl dX1_digest_37 (⟨by rw [hN, hacc], rfl⟩)
      · refine aw_iload_n (pc' := 12) O dX1_digest_11 rfl rfl ?_
        refine aw_iload_n (pc' := 13) O dX1_digest_12 rfl rfl ?_
        refine aw_iconst (pc' := 14) O dX1_digest_13 ki_1 rfl ?_
        refine aw_iaddN (pc' := 15) O dX1_digest_14 rfl ?_
        refine aw_aload_n (pc' := 16) O dX1_digest_15 rfl rfl ?_
        refine aw_iload_n (pc' := 17) O dX1_digest_16 rfl rfl ?_
        refine aw_bipush (pc' := 19) O dX1_digest_17 kb_6 rfl ?_
        refine aw_idivN (pc' := 20) O (by omega) (by decide) (by decide) dX1_digest_19 rfl ?_
        refine aw_iload_n (pc' := 21) O dX1_digest_20 rfl rfl ?_
        refine aw_bipush (pc' := 23) O dX1_digest_21 kb_6 rfl ?_
        refine aw_iremN (pc' := 24) O (by omega) (by decide) (by decide) dX1_digest_23 rfl ?_
        refine c1_get (pc' := 27) (rest := [.int (nI (i + 1)), .int acc]) O F (met1_get l L hD w a h (nI (i / 6)) (nI (i % 6))) (by decide) (by decide) rfl rfl (Nat.le_of_ble_eq_true rfl) dX1_digest_24 rfl (aw_deti ?_)
        refine aw_top (y := getN a (i / 6) (i % 6)) (getA_n a (by omega) (by omega)) ?_
        refine aw_imul (pc' := 28) O dX1_digest_27 rfl ?_
        refine aw_iadd (pc' := 29) O dX1_digest_28 rfl ?_
        refine aw_istore_n (pc' := 30) (lv' := [(0, .ref (L.2.2 20)), (1, .int (acc + ((nI (i + 1)) * (getN a (i / 6) (i % 6))))), (2, .int (nI i))]) O dX1_digest_29 (F.nL (by decide)) rfl rfl rfl ?_
        refine aw_iinc (pc' := 33) (v := nI (i + 1)) (lv' := [(0, .ref (L.2.2 20)), (1, .int (acc + ((nI (i + 1)) * (getN a (i / 6) (i % 6))))), (2, .int (nI (i + 1)))]) O dX1_digest_30 (F.nL (by decide)) rfl (nI_1 _) rfl rfl rfl ?_
        refine aw_goto (tgt := 4) O dX1_digest_33 (by decide) ?_
        exact ih (i + 1) _ (by omega) (by omega) (by rw [hacc]; simp only [sm]; rw [hf])
  refine aw_iconst (pc' := 1) O dX1_digest_0 ki_0 rfl ?_
  refine aw_istore_n (pc' := 2) (lv' := [(0, .ref (L.2.2 20)), (1, .int (nI 0))]) O dX1_digest_1 (F.nL (by decide)) rfl rfl rfl ?_
  refine aw_iconst (pc' := 3) O dX1_digest_2 ki_0 rfl ?_
  refine aw_istore_n (pc' := 4) (lv' := [(0, .ref (L.2.2 20)), (1, .int (nI 0)), (2, .int (nI 0))]) O dX1_digest_3 (F.nL (by decide)) rfl rfl rfl ?_
  exact lp 145 0 _ (by decide) (by decide) rfl
end
section
set_option maxRecDepth 100000
set_option maxHeartbeats 4000000 in
set_option maxRecDepth 100000 in
theorem met1_unsystem (l : Launch) (L : aw_L) (hD : ∀ w, va_D (aw_A L) (aw_pic1 L w)) (w : aw_S) (a : aw_AS) (h : R1 w a) : aw_Mi (aw_pic1 L) l L yX1_unsystem cX1_unsystem 1 .int 0 0 [] w (fun r w' => r = (unsystemA a).1 ∧ R1 w' (unsystemA a).2) := by
  have h0 := h
  obtain ⟨r1, r2, r3, ⟨s1, s2⟩, s3⟩ := h
  refine aw_of_i (lv := [(0, .ref (L.2.2 20))]) (own := RX1) hD (by decide) rfl (Nat.le_of_ble_eq_true rfl) rfl (fun X O F hr => ?_)
  refine aw_aload_n (pc' := 1) O dX1_unsystem_0 rfl rfl ?_
  refine g1_9 (pc' := 4) O dX1_unsystem_1 rfl ?_
  refine aw_top (y := nI (a.2.2.2.1)) s1 ?_
  refine aw_if_ne (pc' := 7) (tgt := 10) O dX1_unsystem_4 (by decide) rfl (fun h1 => ?_) (fun h1 => ?_)
  · have hn : ¬ a.2.2.2.1 = 0 := fun q => h1 (by rw [q]; rfl)
    have hk : unsystemA a = (nI (a.2.2.2.1 - 1), (a.1, a.2.1, a.2.2.1, a.2.2.2.1 - 1, a.2.2.2.2)) := by simp [unsystemA, hn]
    refine aw_aload_n (pc' := 11) O dX1_unsystem_10 rfl rfl ?_
    refine aw_dup (pc' := 12) O dX1_unsystem_11 rfl rfl ?_
    refine g1_9 (pc' := 15) O dX1_unsystem_12 rfl ?_
    refine aw_top (y := nI (a.2.2.2.1)) s1 ?_
    refine aw_iconst (pc' := 16) O dX1_unsystem_15 ki_1 rfl ?_
    refine aw_isubN (pc' := 17) O (by omega) dX1_unsystem_16 rfl ?_
    refine p1_9 (pc' := 20) O F dX1_unsystem_17 rfl ?_
    refine aw_aload_n (pc' := 21) O dX1_unsystem_20 rfl rfl ?_
    refine g1_9 (pc' := 24) O dX1_unsystem_21 rfl ?_
    exact aw_ireturn O hr rfl dX1_unsystem_24 (by
      rw [hk]
      exact ⟨rfl, r1, r2, r3, ⟨rfl, by show a.2.2.2.1 - 1 ≤ 8; omega⟩, fun i hi => s3 i (by have : i < a.2.2.2.1 - 1 := hi; omega)⟩)
  · refine aw_bipush (pc' := 9) O dX1_unsystem_7 kb_m4 rfl ?_
    have hn : a.2.2.2.1 = 0 := nI_inj (by omega) (by decide) h1
    exact aw_ireturn O hr rfl dX1_unsystem_9 (by simp [unsystemA, hn]; exact h0)
set_option maxHeartbeats 4000000 in
set_option maxRecDepth 100000 in
theorem met1_system (l : Launch) (L : aw_L) (hD : ∀ w, va_D (aw_A L) (aw_pic1 L w)) (w : aw_S) (a : aw_AS) (h : R1 w a) (x y : Int32) : aw_Mi (aw_pic1 L) l L yX1_system cX1_system 6 .int 1 22 [.int x, .int y] w (fun r w' => r = (systemA a x y).1 ∧ R1 w' (systemA a x y).2) := by
  have h0 := h
  obtain ⟨r1, r2, r3, ⟨s1, s2⟩, s3⟩ := h
  refine aw_of_i (lv := [(0, .ref (L.2.2 20)), (1, .int x), (2, .int y)]) (own := RX1) hD (by decide) rfl (Nat.le_of_ble_eq_true rfl) rfl (fun X O F hr => ?_)
  refine aw_iload_n (pc' := 1) O dX1_system_0 rfl rfl ?_
  refine aw_if_lt (pc' := 4) (tgt := 15) O dX1_system_1 (by decide) rfl (fun h1 => ?_) (fun h1 => ?_)
  · refine aw_iconst (pc' := 16) O dX1_system_15 ki_m1 rfl ?_
    exact aw_ireturn O hr rfl dX1_system_16 (by simp [systemA, rB_lo h1]; exact h0)
  · refine aw_iload_n (pc' := 5) O dX1_system_4 rfl rfl ?_
    refine aw_sipush (pc' := 8) O dX1_system_5 ks_4095 rfl ?_
    refine aw_icmp_gt (pc' := 11) (tgt := 15) O dX1_system_8 (by decide) rfl (fun h2 => ?_) (fun h2 => ?_)
    · have q : rB 4096 x = false := rB_gt (n := 4095) (by decide) h2
      refine aw_iconst (pc' := 16) O dX1_system_15 ki_m1 rfl ?_
      exact aw_ireturn O hr rfl dX1_system_16 (by simp [systemA, q]; exact h0)
    · have hxB : rB 4096 x = true := rB_ngt (n := 4095) (by decide) h1 h2
      refine aw_iload_n (pc' := 12) O dX1_system_11 rfl rfl ?_
      refine aw_if_ge (pc' := 15) (tgt := 17) O dX1_system_12 (by decide) rfl (fun h3 => ?_) (fun h3 => ?_)
      · have h3 : ¬ y < 0 := i_nlt h3
        obtain ⟨n, hn, rfl⟩ := rB_ex (n := 4096) (by decide) hxB
        obtain ⟨v, hv, rfl⟩ := nI_of h3
        have hsys : systemA a (nI n) (nI v) = if sysOk n v then (if a.2.2.2.1 = 8 then (-2, a) else (nI a.2.2.2.1, (a.1, a.2.1, a.2.2.1, a.2.2.2.1 + 1, fun f => va_up (a.2.2.2.2 f) a.2.2.2.1 (sysNew n v f)))) else (-1, a) := by
          unfold systemA
          rw [hxB, nI_clamp (n := n) (by omega), nI_clamp (n := v) (by omega)]
          simp [h3]
        refine aw_iload_n (pc' := 18) O dX1_system_17 rfl rfl ?_
        refine aw_bipush (pc' := 20) O dX1_system_18 kb_8 rfl ?_
        refine aw_iremN (pc' := 21) O (by omega) (by decide) (by decide) dX1_system_20 rfl ?_
        refine aw_istore_n (pc' := 22) (lv' := [(0, .ref (L.2.2 20)), (1, .int (nI n)), (2, .int (nI v)), (3, .int (nI (v % 8)))]) O dX1_system_21 (F.nL (by decide)) rfl rfl rfl ?_
        refine aw_iload_n (pc' := 23) O dX1_system_22 rfl rfl ?_
        refine aw_bipush (pc' := 25) O dX1_system_23 kb_8 rfl ?_
        refine aw_idivN (pc' := 26) O (by omega) (by decide) (by decide) dX1_system_25 rfl ?_
        refine aw_bipush (pc' := 28) O dX1_system_26 kb_8 rfl ?_
        refine aw_iremN (pc' := 29) O (by omega) (by decide) (by decide) dX1_system_28 rfl ?_
        refine aw_istore (pc' := 31) (lv' := [(0, .ref (L.2.2 20)), (1, .int (nI n)), (2, .int (nI v)), (3, .int (nI (v % 8))), (4, .int (nI ((v / 8) % 8)))]) O dX1_system_29 (F.nL (by decide)) rfl rfl rfl ?_
        refine aw_iload_n (pc' := 32) O dX1_system_31 rfl rfl ?_
        refine aw_bipush (pc' := 34) O dX1_system_32 kb_64 rfl ?_
        refine aw_idivN (pc' := 35) O (by omega) (by decide) (by decide) dX1_system_34 rfl ?_
        refine aw_istore (pc' := 37) (lv' := [(0, .ref (L.2.2 20)), (1, .int (nI n)), (2, .int (nI v)), (3, .int (nI (v % 8))), (4, .int (nI ((v / 8) % 8))), (5, .int (nI (v / 64)))]) O dX1_system_35 (F.nL (by decide)) rfl rfl rfl ?_
        refine aw_iload_n (pc' := 38) O dX1_system_37 rfl rfl ?_
        refine aw_iconst (pc' := 39) O dX1_system_38 ki_4 rfl ?_
        refine aw_icmpN_gt (pc' := 42) (tgt := 74) O (by omega) (by omega) dX1_system_39 (by decide) rfl (fun h4 => ?_) (fun h4 => ?_)
        · have hb : sysOk n v = false := by have q : ¬ v % 8 ≤ 4 := (by omega); simp [sysOk, q]
          refine aw_iconst (pc' := 75) O dX1_system_74 ki_m1 rfl ?_
          exact aw_ireturn O hr rfl dX1_system_75 (by rw [hsys, hb]; exact ⟨rfl, h0⟩)
        · refine aw_iload (pc' := 44) O dX1_system_42 rfl rfl ?_
          refine aw_iconst (pc' := 45) O dX1_system_44 ki_5 rfl ?_
          refine aw_icmpN_gt (pc' := 48) (tgt := 74) O (by omega) (by omega) dX1_system_45 (by decide) rfl (fun h5 => ?_) (fun h5 => ?_)
          · have hb : sysOk n v = false := by have q : ¬ v / 8 % 8 ≤ 5 := (by omega); simp [sysOk, q]
            refine aw_iconst (pc' := 75) O dX1_system_74 ki_m1 rfl ?_
            exact aw_ireturn O hr rfl dX1_system_75 (by rw [hsys, hb]; exact ⟨rfl, h0⟩)
          · refine aw_iload (pc' := 50) O dX1_system_48 rfl rfl ?_
            refine aw_iconst (pc' := 51) O dX1_system_50 ki_5 rfl ?_
            refine aw_icmpN_gt (pc' := 54) (tgt := 74) O (by omega) (by omega) dX1_system_51 (by decide) rfl (fun h6 => ?_) (fun h6 => ?_)
            · have hb : sysOk n v = false := by have q : ¬ v / 64 ≤ 5 := (by omega); simp [sysOk, q]
              refine aw_iconst (pc' := 75) O dX1_system_74 ki_m1 rfl ?_
              exact aw_ireturn O hr rfl dX1_system_75 (by rw [hsys, hb]; exact ⟨rfl, h0⟩)
            · refine aw_aload_n (pc' := 55) O dX1_system_54 rfl rfl ?_
              refine aw_iload_n (pc' := 56) O dX1_system_55 rfl rfl ?_
              refine aw_iload (pc' := 58) O dX1_system_56 rfl rfl ?_
              refine c1_has (pc' := 61) (rest := []) O F (met1_has l L hD w n (v / 8 % 8) (by omega) (by omega)) (by decide) (by decide) rfl rfl (Nat.le_of_ble_eq_true rfl) dX1_system_58 rfl (aw_deti ?_)
              refine aw_ifB_eq (pc' := 64) (tgt := 74) O dX1_system_61 (by decide) rfl (fun h7 => ?_) (fun h7 => ?_)
              · have hb : sysOk n v = false := by simp [sysOk, h7]
                refine aw_iconst (pc' := 75) O dX1_system_74 ki_m1 rfl ?_
                exact aw_ireturn O hr rfl dX1_system_75 (by rw [hsys, hb]; exact ⟨rfl, h0⟩)
              · refine aw_aload_n (pc' := 65) O dX1_system_64 rfl rfl ?_
                refine aw_iload_n (pc' := 66) O dX1_system_65 rfl rfl ?_
                refine aw_iload (pc' := 68) O dX1_system_66 rfl rfl ?_
                refine c1_has (pc' := 71) (rest := []) O F (met1_has l L hD w n (v / 64) (by omega) (by omega)) (by decide) (by decide) rfl rfl (Nat.le_of_ble_eq_true rfl) dX1_system_68 rfl (aw_deti ?_)
                refine aw_ifB_ne (pc' := 74) (tgt := 76) O dX1_system_71 (by decide) rfl (fun h8 => ?_) (fun h8 => ?_)
                · have hok : sysOk n v = true := by simp only [sysOk, h7, h8]; simp; omega
                  refine aw_aload_n (pc' := 77) O dX1_system_76 rfl rfl ?_
                  refine g1_9 (pc' := 80) O dX1_system_77 rfl ?_
                  refine aw_top (y := nI (a.2.2.2.1)) s1 ?_
                  refine aw_bipush (pc' := 82) O dX1_system_80 kb_8 rfl ?_
                  refine aw_icmpN_ne (pc' := 85) (tgt := 88) O (by omega) (by omega) dX1_system_82 (by decide) rfl (fun h9 => ?_) (fun h9 => ?_)
                  · have hns : a.2.2.2.1 < 8 := by omega
                    refine aw_aload_n (pc' := 89) O dX1_system_88 rfl rfl ?_
                    refine g1_3 (pc' := 92) O dX1_system_89 rfl ?_
                    refine aw_aload_n (pc' := 93) O dX1_system_92 rfl rfl ?_
                    refine g1_9 (pc' := 96) O dX1_system_93 rfl ?_
                    refine aw_top (y := nI (a.2.2.2.1)) s1 ?_
                    refine aw_iload_n (pc' := 97) O dX1_system_96 rfl rfl ?_
                    refine aw_bipush (pc' := 99) O dX1_system_97 kb_64 rfl ?_
                    refine aw_iremN (pc' := 100) O (by omega) (by decide) (by decide) dX1_system_99 rfl ?_
                    refine st1_3 (pc' := 101) (j := a.2.2.2.1) O F rfl (by omega) dX1_system_100 rfl ?_
                    refine aw_aload_n (pc' := 102) O dX1_system_101 rfl rfl ?_
                    refine g1_4 (pc' := 105) O dX1_system_102 rfl ?_
                    refine aw_aload_n (pc' := 106) O dX1_system_105 rfl rfl ?_
                    refine g1_9 (pc' := 109) O dX1_system_106 rfl ?_
                    refine aw_top (y := nI (a.2.2.2.1)) s1 ?_
                    refine aw_iload_n (pc' := 110) O dX1_system_109 rfl rfl ?_
                    refine aw_bipush (pc' := 112) O dX1_system_110 kb_64 rfl ?_
                    refine aw_idivN (pc' := 113) O (by omega) (by decide) (by decide) dX1_system_112 rfl ?_
                    refine st1_4 (pc' := 114) (j := a.2.2.2.1) O F rfl (by omega) dX1_system_113 rfl ?_
                    refine aw_aload_n (pc' := 115) O dX1_system_114 rfl rfl ?_
                    refine g1_5 (pc' := 118) O dX1_system_115 rfl ?_
                    refine aw_aload_n (pc' := 119) O dX1_system_118 rfl rfl ?_
                    refine g1_9 (pc' := 122) O dX1_system_119 rfl ?_
                    refine aw_top (y := nI (a.2.2.2.1)) s1 ?_
                    refine aw_iload_n (pc' := 123) O dX1_system_122 rfl rfl ?_
                    refine st1_5 (pc' := 124) (j := a.2.2.2.1) O F rfl (by omega) dX1_system_123 rfl ?_
                    refine aw_aload_n (pc' := 125) O dX1_system_124 rfl rfl ?_
                    refine g1_6 (pc' := 128) O dX1_system_125 rfl ?_
                    refine aw_aload_n (pc' := 129) O dX1_system_128 rfl rfl ?_
                    refine g1_9 (pc' := 132) O dX1_system_129 rfl ?_
                    refine aw_top (y := nI (a.2.2.2.1)) s1 ?_
                    refine aw_iload (pc' := 134) O dX1_system_132 rfl rfl ?_
                    refine st1_6 (pc' := 135) (j := a.2.2.2.1) O F rfl (by omega) dX1_system_134 rfl ?_
                    refine aw_aload_n (pc' := 136) O dX1_system_135 rfl rfl ?_
                    refine g1_7 (pc' := 139) O dX1_system_136 rfl ?_
                    refine aw_aload_n (pc' := 140) O dX1_system_139 rfl rfl ?_
                    refine g1_9 (pc' := 143) O dX1_system_140 rfl ?_
                    refine aw_top (y := nI (a.2.2.2.1)) s1 ?_
                    refine aw_iload (pc' := 145) O dX1_system_143 rfl rfl ?_
                    refine st1_7 (pc' := 146) (j := a.2.2.2.1) O F rfl (by omega) dX1_system_145 rfl ?_
                    refine aw_aload_n (pc' := 147) O dX1_system_146 rfl rfl ?_
                    refine aw_dup (pc' := 148) O dX1_system_147 rfl rfl ?_
                    refine g1_9 (pc' := 151) O dX1_system_148 rfl ?_
                    refine aw_top (y := nI (a.2.2.2.1)) s1 ?_
                    refine aw_iconst (pc' := 152) O dX1_system_151 ki_1 rfl ?_
                    refine aw_iaddN (pc' := 153) O dX1_system_152 rfl ?_
                    refine p1_9 (pc' := 156) O F dX1_system_153 rfl ?_
                    refine aw_aload_n (pc' := 157) O dX1_system_156 rfl rfl ?_
                    refine g1_9 (pc' := 160) O dX1_system_157 rfl ?_
                    refine aw_top (y := nI (a.2.2.2.1 + 1)) rfl ?_
                    refine aw_iconst (pc' := 161) O dX1_system_160 ki_1 rfl ?_
                    refine aw_isubN (pc' := 162) O (by omega) dX1_system_161 rfl ?_
                    exact aw_ireturn O hr rfl dX1_system_162 (by
        rw [hsys, hok]
        simp only [if_true, if_neg (show ¬ a.2.2.2.1 = 8 by omega)]
        refine ⟨rfl, r1, r2, r3, ⟨rfl, by show a.2.2.2.1 + 1 ≤ 8; omega⟩, fun i hi => ?_⟩
        have hi : i < a.2.2.2.1 + 1 := hi
        by_cases q : i = a.2.2.2.1
        · subst q
          simp only [va_up_self]
          refine ⟨⟨?_, ?_, ?_, ?_, ?_⟩, ?_, ?_, ?_, ?_, ?_⟩
          · simp [aw_sA, aw_sF, va_up, upd, sysNew]
          · simp [aw_sA, aw_sF, va_up, upd, sysNew]
          · simp [aw_sA, aw_sF, va_up, upd, sysNew]
          · simp [aw_sA, aw_sF, va_up, upd, sysNew]
          · simp [aw_sA, aw_sF, va_up, upd, sysNew]
          · show n % 64 < 64; omega
          · show n / 64 < 64; omega
          · show v % 8 < 5; omega
          · show v / 8 % 8 < 6; omega
          · show v / 64 < 6; omega
        · obtain ⟨⟨b1, b2, b3, b4, b5⟩, b6⟩ := s3 i (by omega)
          simp only [va_up_ne _ _ q]
          refine ⟨⟨?_, ?_, ?_, ?_, ?_⟩, b6⟩
          · simpa [aw_sA, aw_sF, va_up, upd, q] using b1
          · simpa [aw_sA, aw_sF, va_up, upd, q] using b2
          · simpa [aw_sA, aw_sF, va_up, upd, q] using b3
          · simpa [aw_sA, aw_sF, va_up, upd, q] using b4
          · simpa [aw_sA, aw_sF, va_up, upd, q] using b5)
                  · refine aw_bipush (pc' := 87) O dX1_system_85 kb_m2 rfl ?_
                    exact aw_ireturn O hr rfl dX1_system_87 (by rw [hsys, hok]; simp [h9]; exact h0)
                · have hb : sysOk n v = false := by simp [sysOk, h8]
                  refine aw_iconst (pc' := 75) O dX1_system_74 ki_m1 rfl ?_
                  exact aw_ireturn O hr rfl dX1_system_75 (by rw [hsys, hb]; exact ⟨rfl, h0⟩)
      · have q : y < 0 := i_lt h3
        refine aw_iconst (pc' := 16) O dX1_system_15 ki_m1 rfl ?_
        exact aw_ireturn O hr rfl dX1_system_16 (by simp [systemA, q]; exact h0)
set_option maxHeartbeats 4000000 in
set_option maxRecDepth 100000 in
theorem met1_disturbs (l : Launch) (L : aw_L) (hD : ∀ w, va_D (aw_A L) (aw_pic1 L w)) (w : aw_S) (i j x x2 y2 : Nat) (hi : i < 8) (hj : j < 8) (hx : w.1 6 i = nI x) (hx2 : w.1 6 j = nI x2) (hy2 : w.1 7 j = nI y2) (hx6 : x < 6) (hx26 : x2 < 6) (hy26 : y2 < 6) : aw_Mi (aw_pic1 L) l L yX1_disturbs cX1_disturbs 3 .boolean 0 0 [.int (nI i), .int (nI j)] w (fun r w' => r = bI (x == x2 || x == y2) ∧ w' = w) := by
  refine aw_of_i (lv := [(0, .ref (L.2.2 20)), (1, .int (nI i)), (2, .int (nI j))]) (own := RX1) hD (by decide) rfl (Nat.le_of_ble_eq_true rfl) rfl (fun X O F hr => ?_)
  refine aw_aload_n (pc' := 1) O dX1_disturbs_0 rfl rfl ?_
  refine g1_6 (pc' := 4) O dX1_disturbs_1 rfl ?_
  refine aw_iload_n (pc' := 5) O dX1_disturbs_4 rfl rfl ?_
  refine ld1_6 (pc' := 6) (j := i) O rfl (by omega) dX1_disturbs_5 rfl ?_
  refine aw_top (y := nI x) hx ?_
  refine aw_aload_n (pc' := 7) O dX1_disturbs_6 rfl rfl ?_
  refine g1_6 (pc' := 10) O dX1_disturbs_7 rfl ?_
  refine aw_iload_n (pc' := 11) O dX1_disturbs_10 rfl rfl ?_
  refine ld1_6 (pc' := 12) (j := j) O rfl (by omega) dX1_disturbs_11 rfl ?_
  refine aw_top (y := nI x2) hx2 ?_
  refine aw_icmpN_eq (pc' := 15) (tgt := 30) O (by omega) (by omega) dX1_disturbs_12 (by decide) rfl (fun h1 => ?_) (fun h1 => ?_)
  · refine aw_iconst (pc' := 31) O dX1_disturbs_30 ki_1 rfl ?_
    refine aw_goto (tgt := 35) O dX1_disturbs_31 (by decide) ?_
    exact aw_ireturn O hr rfl dX1_disturbs_35 (⟨by simp [h1, bI]; rfl, rfl⟩)
  · refine aw_aload_n (pc' := 16) O dX1_disturbs_15 rfl rfl ?_
    refine g1_6 (pc' := 19) O dX1_disturbs_16 rfl ?_
    refine aw_iload_n (pc' := 20) O dX1_disturbs_19 rfl rfl ?_
    refine ld1_6 (pc' := 21) (j := i) O rfl (by omega) dX1_disturbs_20 rfl ?_
    refine aw_top (y := nI x) hx ?_
    refine aw_aload_n (pc' := 22) O dX1_disturbs_21 rfl rfl ?_
    refine g1_7 (pc' := 25) O dX1_disturbs_22 rfl ?_
    refine aw_iload_n (pc' := 26) O dX1_disturbs_25 rfl rfl ?_
    refine ld1_7 (pc' := 27) (j := j) O rfl (by omega) dX1_disturbs_26 rfl ?_
    refine aw_top (y := nI y2) hy2 ?_
    refine aw_icmpN_ne (pc' := 30) (tgt := 34) O (by omega) (by omega) dX1_disturbs_27 (by decide) rfl (fun h2 => ?_) (fun h2 => ?_)
    · refine aw_iconst (pc' := 35) O dX1_disturbs_34 ki_0 rfl ?_
      exact aw_ireturn O hr rfl dX1_disturbs_35 (⟨by simp [h1, h2, bI]; rfl, rfl⟩)
    · refine aw_iconst (pc' := 31) O dX1_disturbs_30 ki_1 rfl ?_
      refine aw_goto (tgt := 35) O dX1_disturbs_31 (by decide) ?_
      exact aw_ireturn O hr rfl dX1_disturbs_35 (⟨by simp [h2, bI]; rfl, rfl⟩)
set_option maxHeartbeats 4000000 in
set_option maxRecDepth 100000 in
theorem met1_layStages (l : Launch) (L : aw_L) (hD : ∀ w, va_D (aw_A L) (aw_pic1 L w)) (w : aw_S) (a : aw_AS) (h : R1 w a) : aw_Mv (aw_pic1 L) l L yX1_layStages cX1_layStages 3 1 22 [] w (fun w' => LG w w' ∧ ∀ i, i < a.2.2.2.1 → w'.1 8 i = nI (stg a.2.2.2.2 i)) := by
  obtain ⟨r1, r2, r3, ⟨s1, s2⟩, s3⟩ := h
  have hsl : ∀ i, stg a.2.2.2.2 i ≤ i := stg_le _
  refine aw_of_v (lv := [(0, .ref (L.2.2 20))]) (own := RX1) hD (by decide) rfl (Nat.le_of_ble_eq_true rfl) rfl (fun X O F hr => ?_)
  have lp : ∀ (n : Nat) (s : Nat) (w1 : aw_S), s ≤ a.2.2.2.1 → a.2.2.2.1 - s < n → LG w w1 → (∀ i, i < s → w1.1 8 i = nI (stg a.2.2.2.2 i)) → aw_J (aw_pic1 L) X 2 [(0, .ref (L.2.2 20)), (1, .int (nI s))] [] w1 := by
    intro n
    induction n with
    | zero =>
      intro s w1 hs hm hf hg
      exact absurd hm (Nat.not_lt_zero _)
    | succ n ih =>
      intro s w1 hs hm hf hg
      refine aw_iload_n (pc' := 3) O dX1_layStages_2 rfl rfl ?_
      refine aw_aload_n (pc' := 4) O dX1_layStages_3 rfl rfl ?_
      refine g1_9 (pc' := 7) O dX1_layStages_4 rfl ?_
      refine aw_top (y := nI (a.2.2.2.1)) (by rw [hf.2]; exact s1) ?_
      refine aw_icmpN_ge (pc' := 10) (tgt := 83) O (by omega) (by omega) dX1_layStages_7 (by decide) rfl (fun h2 => ?_) (fun h2 => ?_)
      · have e1 : s = a.2.2.2.1 := by omega
        subst e1
        exact aw_return O hr dX1_layStages_83 (⟨hf, hg⟩)
      · have ih0 := ih
        have lp2 : ∀ (n : Nat) (r : Nat) (w2 : aw_S), s - r < n → r ≤ s → LG w w2 → (∀ i, i < s → w2.1 8 i = nI (stg a.2.2.2.2 i)) → w2.1 8 s = nI (stIn (stg a.2.2.2.2) (cfB a.2.2.2.2 s) r) → aw_J (aw_pic1 L) X 19 [(0, .ref (L.2.2 20)), (1, .int (nI s)), (2, .int (nI r))] [] w2 := by
          intro n
          induction n with
          | zero =>
            intro r w2 hm hr2 hf hg hx
            exact absurd hm (Nat.not_lt_zero _)
          | succ n ih =>
            intro r w2 hm hr2 hf hg hx
            refine aw_iload_n (pc' := 20) O dX1_layStages_19 rfl rfl ?_
            refine aw_iload_n (pc' := 21) O dX1_layStages_20 rfl rfl ?_
            refine aw_icmpN_ge (pc' := 24) (tgt := 77) O (by omega) (by omega) dX1_layStages_21 (by decide) rfl (fun h3 => ?_) (fun h3 => ?_)
            · have e1 : r = s := by omega
              subst e1
              have hx : w2.1 8 r = nI (stg a.2.2.2.2 r) := by rw [hx, ← stg_eq]
              refine aw_iinc (pc' := 80) (v := nI (r + 1)) (lv' := [(0, .ref (L.2.2 20)), (1, .int (nI (r + 1))), (2, .int (nI r))]) O dX1_layStages_77 (F.nL (by decide)) rfl (nI_1 _) rfl rfl rfl ?_
              refine aw_goto (tgt := 2) O dX1_layStages_80 (by decide) ?_
              refine aw_less [0, 1] rfl ?_
              refine ih0 (r + 1) _ (by omega) (by omega) hf (fun i hi => ?_)
              by_cases q : i = r
              · subst q; exact hx
              · exact hg i (by omega)
            · obtain ⟨⟨-, -, -, b4, b5⟩, -, -, -, b9, b10⟩ := s3 s h2
              obtain ⟨⟨-, -, -, c4, c5⟩, -, -, -, c9, c10⟩ := s3 r (by omega)
              have f6 : w2.1 6 = w.1 6 := hf.1 6 (by decide)
              have f7 : w2.1 7 = w.1 7 := hf.1 7 (by decide)
              have hb1 := hsl r
              have hb2 : stIn (stg a.2.2.2.2) (cfB a.2.2.2.2 s) r ≤ r := stIn_le (fun i _ => hsl i)
              refine aw_aload_n (pc' := 25) O dX1_layStages_24 rfl rfl ?_
              refine aw_iload_n (pc' := 26) O dX1_layStages_25 rfl rfl ?_
              refine aw_iload_n (pc' := 27) O dX1_layStages_26 rfl rfl ?_
              refine c1_disturbs (pc' := 30) (rest := []) O F (met1_disturbs l L hD w2 s r _ _ _ (by omega) (by omega) (by rw [f6]; exact b4) (by rw [f6]; exact c4) (by rw [f7]; exact c5) b9 c9 c10) (by decide) (by decide) rfl rfl (Nat.le_of_ble_eq_true rfl) dX1_layStages_27 rfl (aw_deti ?_)
              refine aw_ifB_ne (pc' := 33) (tgt := 42) O dX1_layStages_30 (by decide) rfl (fun h5 => ?_) (fun h5 => ?_)
              · have hcf : cfB a.2.2.2.2 s r = true := by unfold cfB; rw [h5]; rfl
                refine aw_aload_n (pc' := 43) O dX1_layStages_42 rfl rfl ?_
                refine g1_8 (pc' := 46) O dX1_layStages_43 rfl ?_
                refine aw_iload_n (pc' := 47) O dX1_layStages_46 rfl rfl ?_
                refine ld1_8 (pc' := 48) (j := r) O rfl (by omega) dX1_layStages_47 rfl ?_
                refine aw_top (y := nI (stg a.2.2.2.2 r)) (hg r h3) ?_
                refine aw_aload_n (pc' := 49) O dX1_layStages_48 rfl rfl ?_
                refine g1_8 (pc' := 52) O dX1_layStages_49 rfl ?_
                refine aw_iload_n (pc' := 53) O dX1_layStages_52 rfl rfl ?_
                refine ld1_8 (pc' := 54) (j := s) O rfl (by omega) dX1_layStages_53 rfl ?_
                refine aw_top (y := nI (stIn (stg a.2.2.2.2) (cfB a.2.2.2.2 s) r)) hx ?_
                refine aw_icmpN_lt (pc' := 57) (tgt := 71) O (by omega) (by omega) dX1_layStages_54 (by decide) rfl (fun h6 => ?_) (fun h6 => ?_)
                · refine aw_iinc (pc' := 74) (v := nI (r + 1)) (lv' := [(0, .ref (L.2.2 20)), (1, .int (nI s)), (2, .int (nI (r + 1)))]) O dX1_layStages_71 (F.nL (by decide)) rfl (nI_1 _) rfl rfl rfl ?_
                  refine aw_goto (tgt := 19) O dX1_layStages_74 (by decide) ?_
                  exact ih (r + 1) _ (by omega) (by omega) hf hg (by rw [hx]; simp only [stIn]; rw [if_neg (by simp [hcf]; omega)])
                · refine aw_aload_n (pc' := 58) O dX1_layStages_57 rfl rfl ?_
                  refine g1_8 (pc' := 61) O dX1_layStages_58 rfl ?_
                  refine aw_iload_n (pc' := 62) O dX1_layStages_61 rfl rfl ?_
                  refine aw_aload_n (pc' := 63) O dX1_layStages_62 rfl rfl ?_
                  refine g1_8 (pc' := 66) O dX1_layStages_63 rfl ?_
                  refine aw_iload_n (pc' := 67) O dX1_layStages_66 rfl rfl ?_
                  refine ld1_8 (pc' := 68) (j := r) O rfl (by omega) dX1_layStages_67 rfl ?_
                  refine aw_top (y := nI (stg a.2.2.2.2 r)) (hg r h3) ?_
                  refine aw_iconst (pc' := 69) O dX1_layStages_68 ki_1 rfl ?_
                  refine aw_iaddN (pc' := 70) O dX1_layStages_69 rfl ?_
                  refine st1_8 (pc' := 71) (j := s) O F rfl (by omega) dX1_layStages_70 rfl ?_
                  refine aw_iinc (pc' := 74) (v := nI (r + 1)) (lv' := [(0, .ref (L.2.2 20)), (1, .int (nI s)), (2, .int (nI (r + 1)))]) O dX1_layStages_71 (F.nL (by decide)) rfl (nI_1 _) rfl rfl rfl ?_
                  refine aw_goto (tgt := 19) O dX1_layStages_74 (by decide) ?_
                  refine ih (r + 1) _ (by omega) (by omega) (hf.sA _ _) (fun i hi => ?_) ?_
                  · show upd (w2.1 8) s _ i = _
                    unfold upd
                    rw [if_neg (by omega)]
                    exact hg i hi
                  · show upd (w2.1 8) s _ s = _
                    unfold upd
                    rw [if_pos rfl]
                    simp only [stIn]
                    rw [if_pos (by simp [hcf, h6])]
              · refine aw_aload_n (pc' := 34) O dX1_layStages_33 rfl rfl ?_
                refine aw_iload_n (pc' := 35) O dX1_layStages_34 rfl rfl ?_
                refine aw_iload_n (pc' := 36) O dX1_layStages_35 rfl rfl ?_
                refine c1_disturbs (pc' := 39) (rest := []) O F (met1_disturbs l L hD w2 r s _ _ _ (by omega) (by omega) (by rw [f6]; exact c4) (by rw [f6]; exact b4) (by rw [f7]; exact b5) c9 b9 b10) (by decide) (by decide) rfl rfl (Nat.le_of_ble_eq_true rfl) dX1_layStages_36 rfl (aw_deti ?_)
                refine aw_ifB_eq (pc' := 42) (tgt := 71) O dX1_layStages_39 (by decide) rfl (fun h7 => ?_) (fun h7 => ?_)
                · have hcf : cfB a.2.2.2.2 s r = false := by unfold cfB; rw [h5, h7]; rfl
                  refine aw_iinc (pc' := 74) (v := nI (r + 1)) (lv' := [(0, .ref (L.2.2 20)), (1, .int (nI s)), (2, .int (nI (r + 1)))]) O dX1_layStages_71 (F.nL (by decide)) rfl (nI_1 _) rfl rfl rfl ?_
                  refine aw_goto (tgt := 19) O dX1_layStages_74 (by decide) ?_
                  exact ih (r + 1) _ (by omega) (by omega) hf hg (by rw [hx]; simp only [stIn, hcf]; rfl)
                · have hcf : cfB a.2.2.2.2 s r = true := by unfold cfB; rw [h5, h7]; rfl
                  refine aw_aload_n (pc' := 43) O dX1_layStages_42 rfl rfl ?_
                  refine g1_8 (pc' := 46) O dX1_layStages_43 rfl ?_
                  refine aw_iload_n (pc' := 47) O dX1_layStages_46 rfl rfl ?_
                  refine ld1_8 (pc' := 48) (j := r) O rfl (by omega) dX1_layStages_47 rfl ?_
                  refine aw_top (y := nI (stg a.2.2.2.2 r)) (hg r h3) ?_
                  refine aw_aload_n (pc' := 49) O dX1_layStages_48 rfl rfl ?_
                  refine g1_8 (pc' := 52) O dX1_layStages_49 rfl ?_
                  refine aw_iload_n (pc' := 53) O dX1_layStages_52 rfl rfl ?_
                  refine ld1_8 (pc' := 54) (j := s) O rfl (by omega) dX1_layStages_53 rfl ?_
                  refine aw_top (y := nI (stIn (stg a.2.2.2.2) (cfB a.2.2.2.2 s) r)) hx ?_
                  refine aw_icmpN_lt (pc' := 57) (tgt := 71) O (by omega) (by omega) dX1_layStages_54 (by decide) rfl (fun h6 => ?_) (fun h6 => ?_)
                  · refine aw_iinc (pc' := 74) (v := nI (r + 1)) (lv' := [(0, .ref (L.2.2 20)), (1, .int (nI s)), (2, .int (nI (r + 1)))]) O dX1_layStages_71 (F.nL (by decide)) rfl (nI_1 _) rfl rfl rfl ?_
                    refine aw_goto (tgt := 19) O dX1_layStages_74 (by decide) ?_
                    exact ih (r + 1) _ (by omega) (by omega) hf hg (by rw [hx]; simp only [stIn]; rw [if_neg (by simp [hcf]; omega)])
                  · refine aw_aload_n (pc' := 58) O dX1_layStages_57 rfl rfl ?_
                    refine g1_8 (pc' := 61) O dX1_layStages_58 rfl ?_
                    refine aw_iload_n (pc' := 62) O dX1_layStages_61 rfl rfl ?_
                    refine aw_aload_n (pc' := 63) O dX1_layStages_62 rfl rfl ?_
                    refine g1_8 (pc' := 66) O dX1_layStages_63 rfl ?_
                    refine aw_iload_n (pc' := 67) O dX1_layStages_66 rfl rfl ?_
                    refine ld1_8 (pc' := 68) (j := r) O rfl (by omega) dX1_layStages_67 rfl ?_
                    refine aw_top (y := nI (stg a.2.2.2.2 r)) (hg r h3) ?_
                    refine aw_iconst (pc' := 69) O dX1_layStages_68 ki_1 rfl ?_
                    refine aw_iaddN (pc' := 70) O dX1_layStages_69 rfl ?_
                    refine st1_8 (pc' := 71) (j := s) O F rfl (by omega) dX1_layStages_70 rfl ?_
                    refine aw_iinc (pc' := 74) (v := nI (r + 1)) (lv' := [(0, .ref (L.2.2 20)), (1, .int (nI s)), (2, .int (nI (r + 1)))]) O dX1_layStages_71 (F.nL (by decide)) rfl (nI_1 _) rfl rfl rfl ?_
                    refine aw_goto (tgt := 19) O dX1_layStages_74 (by decide) ?_
                    refine ih (r + 1) _ (by omega) (by omega) (hf.sA _ _) (fun i hi => ?_) ?_
                    · show upd (w2.1 8) s _ i = _
                      unfold upd
                      rw [if_neg (by omega)]
                      exact hg i hi
                    · show upd (w2.1 8) s _ s = _
                      unfold upd
                      rw [if_pos rfl]
                      simp only [stIn]
                      rw [if_pos (by simp [hcf, h6])]
        refine aw_aload_n (pc' := 11) O dX1_layStages_10 rfl rfl ?_
        refine g1_8 (pc' := 14) O dX1_layStages_11 rfl ?_
        refine aw_iload_n (pc' := 15) O dX1_layStages_14 rfl rfl ?_
        refine aw_iconst (pc' := 16) O dX1_layStages_15 ki_0 rfl ?_
        refine st1_8 (pc' := 17) (j := s) O F rfl (by omega) dX1_layStages_16 rfl ?_
        refine aw_iconst (pc' := 18) O dX1_layStages_17 ki_0 rfl ?_
        refine aw_istore_n (pc' := 19) (lv' := [(0, .ref (L.2.2 20)), (1, .int (nI s)), (2, .int (nI 0))]) O dX1_layStages_18 (F.nL (by decide)) rfl rfl rfl ?_
        refine lp2 (s + 1) 0 _ (by omega) (Nat.zero_le _) (hf.sA _ _) (fun i hi => ?_) ?_
        · show upd (w1.1 8) s _ i = _
          unfold upd
          rw [if_neg (by omega)]
          exact hg i hi
        · show upd (w1.1 8) s _ s = _
          unfold upd
          rw [if_pos rfl]
          rfl
  refine aw_iconst (pc' := 1) O dX1_layStages_0 ki_0 rfl ?_
  refine aw_istore_n (pc' := 2) (lv' := [(0, .ref (L.2.2 20)), (1, .int (nI 0))]) O dX1_layStages_1 (F.nL (by decide)) rfl rfl rfl ?_
  exact lp (a.2.2.2.1 + 1) 0 _ (Nat.zero_le _) (by omega) LG.rf (fun i hi => absurd hi (Nat.not_lt_zero _))
set_option maxHeartbeats 4000000 in
set_option maxRecDepth 100000 in
theorem met1_stage (l : Launch) (L : aw_L) (hD : ∀ w, va_D (aw_A L) (aw_pic1 L w)) (w : aw_S) (a : aw_AS) (h : R1 w a) (x : Int32) : aw_Mi (aw_pic1 L) l L yX1_stage cX1_stage 2 .int 2 44 [.int x] w (fun r w' => r = stageA a x ∧ R1 w' a) := by
  have h0 := h
  obtain ⟨-, -, -, ⟨s1, s2⟩, -⟩ := h
  refine aw_of_i (lv := [(0, .ref (L.2.2 20)), (1, .int x)]) (own := RX1) hD (by decide) rfl (Nat.le_of_ble_eq_true rfl) rfl (fun X O F hr => ?_)
  refine aw_aload_n (pc' := 1) O dX1_stage_0 rfl rfl ?_
  refine c1_layStages (pc' := 4) (rest := []) O F (met1_layStages l L hD w a h0) (by decide) (by decide) rfl rfl (Nat.le_of_ble_eq_true rfl) dX1_stage_1 rfl (fun w1 hr1 => ?_)
  obtain ⟨f, la⟩ := hr1
  refine aw_iload_n (pc' := 5) O dX1_stage_4 rfl rfl ?_
  refine aw_if_lt (pc' := 8) (tgt := 25) O dX1_stage_5 (by decide) rfl (fun h1 => ?_) (fun h1 => ?_)
  · refine aw_bipush (pc' := 27) O dX1_stage_25 kb_m4 rfl ?_
    exact aw_ireturn O hr rfl dX1_stage_27 (⟨by simp [stageA, rB_lo h1], f.r1 h0⟩)
  · refine aw_iload_n (pc' := 9) O dX1_stage_8 rfl rfl ?_
    refine aw_aload_n (pc' := 10) O dX1_stage_9 rfl rfl ?_
    refine g1_9 (pc' := 13) O dX1_stage_10 rfl ?_
    refine aw_top (y := nI (a.2.2.2.1)) (by rw [f.2]; exact s1) ?_
    refine aw_icmp_ge (pc' := 16) (tgt := 25) O dX1_stage_13 (by decide) rfl (fun h2 => ?_) (fun h2 => ?_)
    · refine aw_bipush (pc' := 27) O dX1_stage_25 kb_m4 rfl ?_
      exact aw_ireturn O hr rfl dX1_stage_27 (⟨by simp [stageA, rB_hi (i_nlt h2)], f.r1 h0⟩)
    · obtain ⟨j, hj, rfl⟩ := rB_ex (by omega) (rB_ok h1 (i_lt h2))
      refine aw_aload_n (pc' := 17) O dX1_stage_16 rfl rfl ?_
      refine g1_8 (pc' := 20) O dX1_stage_17 rfl ?_
      refine aw_iload_n (pc' := 21) O dX1_stage_20 rfl rfl ?_
      refine ld1_8 (pc' := 22) (j := j) O rfl (by omega) dX1_stage_21 rfl ?_
      refine aw_top (y := nI (stg a.2.2.2.2 j)) (la j hj) ?_
      refine aw_goto (tgt := 27) O dX1_stage_22 (by decide) ?_
      exact aw_ireturn O hr rfl dX1_stage_27 (⟨by simp [stageA, rB_n hj (by omega), nI_clamp (n := j) (by omega)], f.r1 h0⟩)
set_option maxHeartbeats 4000000 in
set_option maxRecDepth 100000 in
theorem met1_stages (l : Launch) (L : aw_L) (hD : ∀ w, va_D (aw_A L) (aw_pic1 L w)) (w : aw_S) (a : aw_AS) (h : R1 w a) : aw_Mi (aw_pic1 L) l L yX1_stages cX1_stages 3 .int 2 44 [] w (fun r w' => r = stagesA a ∧ R1 w' a) := by
  have h0 := h
  obtain ⟨-, -, -, ⟨s1, s2⟩, -⟩ := h
  refine aw_of_i (lv := [(0, .ref (L.2.2 20))]) (own := RX1) hD (by decide) rfl (Nat.le_of_ble_eq_true rfl) rfl (fun X O F hr => ?_)
  refine aw_aload_n (pc' := 1) O dX1_stages_0 rfl rfl ?_
  refine c1_layStages (pc' := 4) (rest := []) O F (met1_layStages l L hD w a h0) (by decide) (by decide) rfl rfl (Nat.le_of_ble_eq_true rfl) dX1_stages_1 rfl (fun w1 hr1 => ?_)
  obtain ⟨f, la⟩ := hr1
  have lp : ∀ (n : Nat) (s m : Nat), s ≤ a.2.2.2.1 → a.2.2.2.1 - s < n → m = stN a.2.2.2.2 s → aw_J (aw_pic1 L) X 8 [(0, .ref (L.2.2 20)), (1, .int (nI m)), (2, .int (nI s))] [] w1 := by
    intro n
    induction n with
    | zero =>
      intro s m hs hm hacc
      exact absurd hm (Nat.not_lt_zero _)
    | succ n ih =>
      intro s m hs hm hacc
      have hb1 := stg_le a.2.2.2.2 s
      have hb2 := stN_le a.2.2.2.2 s
      refine aw_iload_n (pc' := 9) O dX1_stages_8 rfl rfl ?_
      refine aw_aload_n (pc' := 10) O dX1_stages_9 rfl rfl ?_
      refine g1_9 (pc' := 13) O dX1_stages_10 rfl ?_
      refine aw_top (y := nI (a.2.2.2.1)) (by rw [f.2]; exact s1) ?_
      refine aw_icmpN_ge (pc' := 16) (tgt := 47) O (by omega) (by omega) dX1_stages_13 (by decide) rfl (fun h2 => ?_) (fun h2 => ?_)
      · have e1 : s = a.2.2.2.1 := by omega
        subst e1
        refine aw_iload_n (pc' := 48) O dX1_stages_47 rfl rfl ?_
        exact aw_ireturn O hr rfl dX1_stages_48 (⟨by rw [hacc]; rfl, f.r1 h0⟩)
      · refine aw_aload_n (pc' := 17) O dX1_stages_16 rfl rfl ?_
        refine g1_8 (pc' := 20) O dX1_stages_17 rfl ?_
        refine aw_iload_n (pc' := 21) O dX1_stages_20 rfl rfl ?_
        refine ld1_8 (pc' := 22) (j := s) O rfl (by omega) dX1_stages_21 rfl ?_
        refine aw_top (y := nI (stg a.2.2.2.2 s)) (la s h2) ?_
        refine aw_iconst (pc' := 23) O dX1_stages_22 ki_1 rfl ?_
        refine aw_iaddN (pc' := 24) O dX1_stages_23 rfl ?_
        refine aw_iload_n (pc' := 25) O dX1_stages_24 rfl rfl ?_
        refine aw_icmpN_le (pc' := 28) (tgt := 39) O (by omega) (by omega) dX1_stages_25 (by decide) rfl (fun h3 => ?_) (fun h3 => ?_)
        · refine aw_iload_n (pc' := 40) O dX1_stages_39 rfl rfl ?_
          refine aw_istore_n (pc' := 41) (lv' := [(0, .ref (L.2.2 20)), (1, .int (nI m)), (2, .int (nI s))]) O dX1_stages_40 (F.nL (by decide)) rfl rfl rfl ?_
          refine aw_iinc (pc' := 44) (v := nI (s + 1)) (lv' := [(0, .ref (L.2.2 20)), (1, .int (nI m)), (2, .int (nI (s + 1)))]) O dX1_stages_41 (F.nL (by decide)) rfl (nI_1 _) rfl rfl rfl ?_
          refine aw_goto (tgt := 8) O dX1_stages_44 (by decide) ?_
          exact ih (s + 1) _ (by omega) (by omega) (by rw [hacc]; simp only [stN]; rw [if_neg (by omega)])
        · refine aw_aload_n (pc' := 29) O dX1_stages_28 rfl rfl ?_
          refine g1_8 (pc' := 32) O dX1_stages_29 rfl ?_
          refine aw_iload_n (pc' := 33) O dX1_stages_32 rfl rfl ?_
          refine ld1_8 (pc' := 34) (j := s) O rfl (by omega) dX1_stages_33 rfl ?_
          refine aw_top (y := nI (stg a.2.2.2.2 s)) (la s h2) ?_
          refine aw_iconst (pc' := 35) O dX1_stages_34 ki_1 rfl ?_
          refine aw_iaddN (pc' := 36) O dX1_stages_35 rfl ?_
          refine aw_goto (tgt := 40) O dX1_stages_36 (by decide) ?_
          refine aw_istore_n (pc' := 41) (lv' := [(0, .ref (L.2.2 20)), (1, .int (nI ((stg a.2.2.2.2 s) + 1))), (2, .int (nI s))]) O dX1_stages_40 (F.nL (by decide)) rfl rfl rfl ?_
          refine aw_iinc (pc' := 44) (v := nI (s + 1)) (lv' := [(0, .ref (L.2.2 20)), (1, .int (nI ((stg a.2.2.2.2 s) + 1))), (2, .int (nI (s + 1)))]) O dX1_stages_41 (F.nL (by decide)) rfl (nI_1 _) rfl rfl rfl ?_
          refine aw_goto (tgt := 8) O dX1_stages_44 (by decide) ?_
          exact ih (s + 1) _ (by omega) (by omega) (by simp only [stN]; rw [if_pos (by omega)])
  refine aw_iconst (pc' := 5) O dX1_stages_4 ki_0 rfl ?_
  refine aw_istore_n (pc' := 6) (lv' := [(0, .ref (L.2.2 20)), (1, .int (nI 0))]) O dX1_stages_5 (F.nL (by decide)) rfl rfl rfl ?_
  refine aw_iconst (pc' := 7) O dX1_stages_6 ki_0 rfl ?_
  refine aw_istore_n (pc' := 8) (lv' := [(0, .ref (L.2.2 20)), (1, .int (nI 0)), (2, .int (nI 0))]) O dX1_stages_7 (F.nL (by decide)) rfl rfl rfl ?_
  exact lp (a.2.2.2.1 + 1) 0 0 (Nat.zero_le _) (by omega) rfl
set_option maxHeartbeats 4000000 in
set_option maxRecDepth 100000 in
theorem met1_work (l : Launch) (L : aw_L) (hD : ∀ w, va_D (aw_A L) (aw_pic1 L w)) (w : aw_S) (v : Nat → Nat → Int32) (hv : vcol w v) (i e kd x y : Nat) (hi : i < 8) (he : e < 24) (hk : w.1 5 i = nI kd) (hx : w.1 6 i = nI x) (hy : w.1 7 i = nI y) (hk5 : kd < 5) (hx6 : x < 6) (hy6 : y < 6) : aw_Mv (aw_pic1 L) l L yX1_work cX1_work 6 0 0 [.int (nI i), .int (nI e)] w (fun w' => C2 w w' ∧ vcol w' (wk v e x y kd)) := by
  refine aw_of_v (lv := [(0, .ref (L.2.2 20)), (1, .int (nI i)), (2, .int (nI e))]) (own := RX1) hD (by decide) rfl (Nat.le_of_ble_eq_true rfl) rfl (fun X O F hr => ?_)
  refine aw_bipush (pc' := 2) O dX1_work_0 kb_6 rfl ?_
  refine aw_iload_n (pc' := 3) O dX1_work_2 rfl rfl ?_
  refine aw_imulN (pc' := 4) O dX1_work_3 rfl ?_
  refine aw_aload_n (pc' := 5) O dX1_work_4 rfl rfl ?_
  refine g1_6 (pc' := 8) O dX1_work_5 rfl ?_
  refine aw_iload_n (pc' := 9) O dX1_work_8 rfl rfl ?_
  refine ld1_6 (pc' := 10) (j := i) O rfl (by omega) dX1_work_9 rfl ?_
  refine aw_top (y := nI x) hx ?_
  refine aw_iaddN (pc' := 11) O dX1_work_10 rfl ?_
  refine aw_istore_n (pc' := 12) (lv' := [(0, .ref (L.2.2 20)), (1, .int (nI i)), (2, .int (nI e)), (3, .int (nI ((6 * e) + x)))]) O dX1_work_11 (F.nL (by decide)) rfl rfl rfl ?_
  refine aw_aload_n (pc' := 13) O dX1_work_12 rfl rfl ?_
  refine g1_2 (pc' := 16) O dX1_work_13 rfl ?_
  refine aw_iload_n (pc' := 17) O dX1_work_16 rfl rfl ?_
  refine ld1_2 (pc' := 18) (j := (6 * e) + x) O rfl (by omega) dX1_work_17 rfl ?_
  refine aw_top (y := v e x) (hv e he x hx6) ?_
  refine aw_istore (pc' := 20) (lv' := [(0, .ref (L.2.2 20)), (1, .int (nI i)), (2, .int (nI e)), (3, .int (nI ((6 * e) + x))), (4, .int (v e x))]) O dX1_work_18 (F.nL (by decide)) rfl rfl rfl ?_
  refine aw_aload_n (pc' := 21) O dX1_work_20 rfl rfl ?_
  refine g1_2 (pc' := 24) O dX1_work_21 rfl ?_
  refine aw_bipush (pc' := 26) O dX1_work_24 kb_6 rfl ?_
  refine aw_iload_n (pc' := 27) O dX1_work_26 rfl rfl ?_
  refine aw_imulN (pc' := 28) O dX1_work_27 rfl ?_
  refine aw_aload_n (pc' := 29) O dX1_work_28 rfl rfl ?_
  refine g1_7 (pc' := 32) O dX1_work_29 rfl ?_
  refine aw_iload_n (pc' := 33) O dX1_work_32 rfl rfl ?_
  refine ld1_7 (pc' := 34) (j := i) O rfl (by omega) dX1_work_33 rfl ?_
  refine aw_top (y := nI y) hy ?_
  refine aw_iaddN (pc' := 35) O dX1_work_34 rfl ?_
  refine ld1_2 (pc' := 36) (j := (6 * e) + y) O rfl (by omega) dX1_work_35 rfl ?_
  refine aw_top (y := v e y) (hv e he y hy6) ?_
  refine aw_istore (pc' := 38) (lv' := [(0, .ref (L.2.2 20)), (1, .int (nI i)), (2, .int (nI e)), (3, .int (nI ((6 * e) + x))), (4, .int (v e x)), (5, .int (v e y))]) O dX1_work_36 (F.nL (by decide)) rfl rfl rfl ?_
  refine aw_aload_n (pc' := 39) O dX1_work_38 rfl rfl ?_
  refine g1_5 (pc' := 42) O dX1_work_39 rfl ?_
  refine aw_iload_n (pc' := 43) O dX1_work_42 rfl rfl ?_
  refine ld1_5 (pc' := 44) (j := i) O rfl (by omega) dX1_work_43 rfl ?_
  refine aw_top (y := nI kd) hk ?_
  refine aw_if_ne (pc' := 47) (tgt := 61) O dX1_work_44 (by decide) rfl (fun h0 => ?_) (fun h0 => ?_)
  · have n0 : ¬ kd = 0 := fun q => h0 (by rw [q]; rfl)
    refine aw_aload_n (pc' := 62) O dX1_work_61 rfl rfl ?_
    refine g1_5 (pc' := 65) O dX1_work_62 rfl ?_
    refine aw_iload_n (pc' := 66) O dX1_work_65 rfl rfl ?_
    refine ld1_5 (pc' := 67) (j := i) O rfl (by omega) dX1_work_66 rfl ?_
    refine aw_top (y := nI kd) hk ?_
    refine aw_iconst (pc' := 68) O dX1_work_67 ki_1 rfl ?_
    refine aw_icmpN_ne (pc' := 71) (tgt := 85) O (by omega) (by omega) dX1_work_68 (by decide) rfl (fun h1 => ?_) (fun h1 => ?_)
    · refine aw_aload_n (pc' := 86) O dX1_work_85 rfl rfl ?_
      refine g1_5 (pc' := 89) O dX1_work_86 rfl ?_
      refine aw_iload_n (pc' := 90) O dX1_work_89 rfl rfl ?_
      refine ld1_5 (pc' := 91) (j := i) O rfl (by omega) dX1_work_90 rfl ?_
      refine aw_top (y := nI kd) hk ?_
      refine aw_iconst (pc' := 92) O dX1_work_91 ki_2 rfl ?_
      refine aw_icmpN_ne (pc' := 95) (tgt := 106) O (by omega) (by omega) dX1_work_92 (by decide) rfl (fun h2 => ?_) (fun h2 => ?_)
      · refine aw_aload_n (pc' := 107) O dX1_work_106 rfl rfl ?_
        refine g1_5 (pc' := 110) O dX1_work_107 rfl ?_
        refine aw_iload_n (pc' := 111) O dX1_work_110 rfl rfl ?_
        refine ld1_5 (pc' := 112) (j := i) O rfl (by omega) dX1_work_111 rfl ?_
        refine aw_top (y := nI kd) hk ?_
        refine aw_iconst (pc' := 113) O dX1_work_112 ki_3 rfl ?_
        refine aw_icmpN_ne (pc' := 116) (tgt := 130) O (by omega) (by omega) dX1_work_113 (by decide) rfl (fun h3 => ?_) (fun h3 => ?_)
        · refine aw_iload (pc' := 132) O dX1_work_130 rfl rfl ?_
          refine aw_if_ge (pc' := 135) (tgt := 142) O dX1_work_132 (by decide) rfl (fun h4 => ?_) (fun h4 => ?_)
          · exact aw_return O hr dX1_work_142 (⟨C2.rf, vcol_keep hv (by simp [workF, n0, h1, h2, h3, i_nlt h4])⟩)
          · refine aw_aload_n (pc' := 136) O dX1_work_135 rfl rfl ?_
            refine g1_2 (pc' := 139) O dX1_work_136 rfl ?_
            refine aw_iload_n (pc' := 140) O dX1_work_139 rfl rfl ?_
            refine aw_iconst (pc' := 141) O dX1_work_140 ki_0 rfl ?_
            refine st1_2 (pc' := 142) (j := (6 * e) + x) O F rfl (by omega) dX1_work_141 rfl ?_
            exact aw_return O hr dX1_work_142 (⟨C2.sA _ _, vcol_set hv hx6 (by simp [workF, n0, h1, h2, h3, i_lt h4]; rfl)⟩)
        · refine aw_aload_n (pc' := 117) O dX1_work_116 rfl rfl ?_
          refine g1_2 (pc' := 120) O dX1_work_117 rfl ?_
          refine aw_iload_n (pc' := 121) O dX1_work_120 rfl rfl ?_
          refine aw_iload (pc' := 123) O dX1_work_121 rfl rfl ?_
          refine aw_iload (pc' := 125) O dX1_work_123 rfl rfl ?_
          refine aw_imul (pc' := 126) O dX1_work_125 rfl ?_
          refine st1_2 (pc' := 127) (j := (6 * e) + x) O F rfl (by omega) dX1_work_126 rfl ?_
          refine aw_goto (tgt := 142) O dX1_work_127 (by decide) ?_
          exact aw_return O hr dX1_work_142 (⟨C2.sA _ _, vcol_set hv hx6 (by simp [workF, h3])⟩)
      · refine aw_aload_n (pc' := 96) O dX1_work_95 rfl rfl ?_
        refine g1_2 (pc' := 99) O dX1_work_96 rfl ?_
        refine aw_iload_n (pc' := 100) O dX1_work_99 rfl rfl ?_
        refine aw_iload (pc' := 102) O dX1_work_100 rfl rfl ?_
        refine st1_2 (pc' := 103) (j := (6 * e) + x) O F rfl (by omega) dX1_work_102 rfl ?_
        refine aw_goto (tgt := 142) O dX1_work_103 (by decide) ?_
        exact aw_return O hr dX1_work_142 (⟨C2.sA _ _, vcol_set hv hx6 (by simp [workF, h2])⟩)
    · refine aw_aload_n (pc' := 72) O dX1_work_71 rfl rfl ?_
      refine g1_2 (pc' := 75) O dX1_work_72 rfl ?_
      refine aw_iload_n (pc' := 76) O dX1_work_75 rfl rfl ?_
      refine aw_iload (pc' := 78) O dX1_work_76 rfl rfl ?_
      refine aw_iload (pc' := 80) O dX1_work_78 rfl rfl ?_
      refine aw_isub (pc' := 81) O dX1_work_80 rfl ?_
      refine st1_2 (pc' := 82) (j := (6 * e) + x) O F rfl (by omega) dX1_work_81 rfl ?_
      refine aw_goto (tgt := 142) O dX1_work_82 (by decide) ?_
      exact aw_return O hr dX1_work_142 (⟨C2.sA _ _, vcol_set hv hx6 (by simp [workF, h1])⟩)
  · have n0 : kd = 0 := nI_inj (by omega) (by decide) h0
    refine aw_aload_n (pc' := 48) O dX1_work_47 rfl rfl ?_
    refine g1_2 (pc' := 51) O dX1_work_48 rfl ?_
    refine aw_iload_n (pc' := 52) O dX1_work_51 rfl rfl ?_
    refine aw_iload (pc' := 54) O dX1_work_52 rfl rfl ?_
    refine aw_iload (pc' := 56) O dX1_work_54 rfl rfl ?_
    refine aw_iadd (pc' := 57) O dX1_work_56 rfl ?_
    refine st1_2 (pc' := 58) (j := (6 * e) + x) O F rfl (by omega) dX1_work_57 rfl ?_
    refine aw_goto (tgt := 142) O dX1_work_58 (by decide) ?_
    exact aw_return O hr dX1_work_142 (⟨C2.sA _ _, vcol_set hv hx6 (by simp [workF, n0])⟩)
set_option maxHeartbeats 4000000 in
set_option maxRecDepth 100000 in
theorem met1_runSystem (l : Launch) (L : aw_L) (hD : ∀ w, va_D (aw_A L) (aw_pic1 L w)) (w : aw_S) (a : aw_AS) (h : FN w a) (v : Nat → Nat → Int32) (hv : vcol w v) (i : Nat) (hi : i < a.2.2.2.1) : aw_Mi (aw_pic1 L) l L yX1_runSystem cX1_runSystem 4 .int 1 25 [.int (nI i)] w (fun r w' => r = countN a (a.2.2.2.2 0 i) (a.2.2.2.2 1 i) ∧ C2 w w' ∧ vcol w' (run1 a i v)) := by
  obtain ⟨hls, ⟨s1, s2⟩, s3, -⟩ := h
  obtain ⟨⟨b1, b2, b3, b4, b5⟩, b6, b7, b8, b9, b10⟩ := s3 i hi
  refine aw_of_i (lv := [(0, .ref (L.2.2 20)), (1, .int (nI i))]) (own := RX1) hD (by decide) rfl (Nat.le_of_ble_eq_true rfl) rfl (fun X O F hr => ?_)
  have lp : ∀ (n : Nat) (e : Nat) (acc : Int32) (w1 : aw_S), e ≤ 24 → 24 - e < n → C2 w w1 → acc = nI (cn (liveFit a (a.2.2.2.2 0 i) (a.2.2.2.2 1 i)) e) → vcol w1 (ve a i v e) → aw_J (aw_pic1 L) X 4 [(0, .ref (L.2.2 20)), (1, .int (nI i)), (2, .int acc), (3, .int (nI e))] [] w1 := by
    intro n
    induction n with
    | zero =>
      intro e acc w1 he hm hf hacc hv
      exact absurd hm (Nat.not_lt_zero _)
    | succ n ih =>
      intro e acc w1 he hm hf hacc hv
      refine aw_iload_n (pc' := 5) O dX1_runSystem_4 rfl rfl ?_
      refine aw_bipush (pc' := 7) O dX1_runSystem_5 kb_24 rfl ?_
      refine aw_icmpN_ge (pc' := 10) (tgt := 45) O (by omega) (by omega) dX1_runSystem_7 (by decide) rfl (fun h2 => ?_) (fun h2 => ?_)
      · have e1 : e = 24 := by omega
        subst e1
        refine aw_iload_n (pc' := 46) O dX1_runSystem_45 rfl rfl ?_
        exact aw_ireturn O hr rfl dX1_runSystem_46 (⟨by rw [hacc]; rfl, hf, hv.congr (fun e he c _ => by unfold ve; rw [if_pos he])⟩)
      · refine aw_aload_n (pc' := 11) O dX1_runSystem_10 rfl rfl ?_
        refine aw_iload_n (pc' := 12) O dX1_runSystem_11 rfl rfl ?_
        refine aw_aload_n (pc' := 13) O dX1_runSystem_12 rfl rfl ?_
        refine g1_3 (pc' := 16) O dX1_runSystem_13 rfl ?_
        refine aw_iload_n (pc' := 17) O dX1_runSystem_16 rfl rfl ?_
        refine ld1_3 (pc' := 18) (j := i) O rfl (by omega) dX1_runSystem_17 rfl ?_
        refine aw_top (y := nI (a.2.2.2.2 0 i)) (by rw [hf.1 3 (by decide)]; exact b1) ?_
        refine aw_aload_n (pc' := 19) O dX1_runSystem_18 rfl rfl ?_
        refine g1_4 (pc' := 22) O dX1_runSystem_19 rfl ?_
        refine aw_iload_n (pc' := 23) O dX1_runSystem_22 rfl rfl ?_
        refine ld1_4 (pc' := 24) (j := i) O rfl (by omega) dX1_runSystem_23 rfl ?_
        refine aw_top (y := nI (a.2.2.2.2 1 i)) (by rw [hf.1 4 (by decide)]; exact b2) ?_
        refine c1_fits (pc' := 27) (rest := []) O F (met1_fits l L hD w1 a (hf.ls hls) e (a.2.2.2.2 0 i) (a.2.2.2.2 1 i) h2 b6 b7) (by decide) (by decide) rfl rfl (Nat.le_of_ble_eq_true rfl) dX1_runSystem_24 rfl (aw_deti ?_)
        refine aw_ifB_eq (pc' := 30) (tgt := 39) O dX1_runSystem_27 (by decide) rfl (fun h3 => ?_) (fun h3 => ?_)
        · refine aw_iinc (pc' := 42) (v := nI (e + 1)) (lv' := [(0, .ref (L.2.2 20)), (1, .int (nI i)), (2, .int acc), (3, .int (nI (e + 1)))]) O dX1_runSystem_39 (F.nL (by decide)) rfl (nI_1 _) rfl rfl rfl ?_
          refine aw_goto (tgt := 4) O dX1_runSystem_42 (by decide) ?_
          exact ih (e + 1) _ _ (by omega) (by omega) hf (by rw [hacc]; simp only [cn, h3]; rfl) (hv.congr (fun e' _ c _ => ve_no h3 e' c))
        · refine aw_aload_n (pc' := 31) O dX1_runSystem_30 rfl rfl ?_
          refine aw_iload_n (pc' := 32) O dX1_runSystem_31 rfl rfl ?_
          refine aw_iload_n (pc' := 33) O dX1_runSystem_32 rfl rfl ?_
          refine c1_work (pc' := 36) (rest := []) O F (met1_work l L hD w1 _ hv i e _ _ _ (by omega) h2 (by rw [hf.1 5 (by decide)]; exact b3) (by rw [hf.1 6 (by decide)]; exact b4) (by rw [hf.1 7 (by decide)]; exact b5) b8 b9 b10) (by decide) (by decide) rfl rfl (Nat.le_of_ble_eq_true rfl) dX1_runSystem_33 rfl (fun w2 hr2 => ?_)
          obtain ⟨d1, d2⟩ := hr2
          refine aw_iinc (pc' := 39) (v := acc + 1) (lv' := [(0, .ref (L.2.2 20)), (1, .int (nI i)), (2, .int (acc + 1)), (3, .int (nI e))]) O dX1_runSystem_36 (F.nL (by decide)) rfl rfl rfl rfl rfl ?_
          refine aw_iinc (pc' := 42) (v := nI (e + 1)) (lv' := [(0, .ref (L.2.2 20)), (1, .int (nI i)), (2, .int (acc + 1)), (3, .int (nI (e + 1)))]) O dX1_runSystem_39 (F.nL (by decide)) rfl (nI_1 _) rfl rfl rfl ?_
          refine aw_goto (tgt := 4) O dX1_runSystem_42 (by decide) ?_
          exact ih (e + 1) _ _ (by omega) (by omega) (hf.trans d1) (by rw [hacc]; simp only [cn, h3]; exact nI_1 _) (d2.congr (fun e' _ c _ => ve_yes h3 e' c))
  refine aw_iconst (pc' := 1) O dX1_runSystem_0 ki_0 rfl ?_
  refine aw_istore_n (pc' := 2) (lv' := [(0, .ref (L.2.2 20)), (1, .int (nI i)), (2, .int (nI 0))]) O dX1_runSystem_1 (F.nL (by decide)) rfl rfl rfl ?_
  refine aw_iconst (pc' := 3) O dX1_runSystem_2 ki_0 rfl ?_
  refine aw_istore_n (pc' := 4) (lv' := [(0, .ref (L.2.2 20)), (1, .int (nI i)), (2, .int (nI 0)), (3, .int (nI 0))]) O dX1_runSystem_3 (F.nL (by decide)) rfl rfl rfl ?_
  exact lp 25 0 _ _ (by decide) (by decide) C2.rf rfl (hv.congr (fun e _ c _ => by unfold ve; rw [if_neg (Nat.not_lt_zero _)]))
set_option maxHeartbeats 4000000 in
set_option maxRecDepth 100000 in
theorem met1_runFrame (l : Launch) (L : aw_L) (hD : ∀ w, va_D (aw_A L) (aw_pic1 L w)) (w : aw_S) (a : aw_AS) (h : FN w a) (v : Nat → Nat → Int32) (hv : vcol w v) : aw_Mi (aw_pic1 L) l L yX1_runFrame cX1_runFrame 4 .int 2 48 [] w (fun r w' => r = cntF a ∧ C2 w w' ∧ vcol w' (runG a v 8)) := by
  have h0 := h
  obtain ⟨hls, ⟨s1, s2⟩, s3, s4⟩ := h
  refine aw_of_i (lv := [(0, .ref (L.2.2 20))]) (own := RX1) hD (by decide) rfl (Nat.le_of_ble_eq_true rfl) rfl (fun X O F hr => ?_)
  have lp : ∀ (n : Nat) (g : Nat) (acc : Int32) (w1 : aw_S), g ≤ 8 → 8 - g < n → C2 w w1 → acc = sm (cntG a) g → vcol w1 (runG a v g) → aw_J (aw_pic1 L) X 4 [(0, .ref (L.2.2 20)), (1, .int acc), (2, .int (nI g))] [] w1 := by
    intro n
    induction n with
    | zero =>
      intro g acc w1 hg hm hf hacc hv
      exact absurd hm (Nat.not_lt_zero _)
    | succ n ih =>
      intro g acc w1 hg hm hf hacc hv
      refine aw_iload_n (pc' := 5) O dX1_runFrame_4 rfl rfl ?_
      refine aw_bipush (pc' := 7) O dX1_runFrame_5 kb_8 rfl ?_
      refine aw_icmpN_ge (pc' := 10) (tgt := 54) O (by omega) (by omega) dX1_runFrame_7 (by decide) rfl (fun h2 => ?_) (fun h2 => ?_)
      · have e1 : g = 8 := by omega
        subst e1
        refine aw_iload_n (pc' := 55) O dX1_runFrame_54 rfl rfl ?_
        exact aw_ireturn O hr rfl dX1_runFrame_55 (⟨by rw [hacc]; rfl, hf, hv⟩)
      · have ih0 := ih
        obtain ⟨f, hf0⟩ : ∃ f : Nat → Int32, f = fun i => if stg a.2.2.2.2 i = g then countN a (a.2.2.2.2 0 i) (a.2.2.2.2 1 i) else 0 := ⟨_, rfl⟩
        have hcg : cntG a g = sm f a.2.2.2.1 := by rw [hf0]; rfl
        have lp2 : ∀ (n : Nat) (s : Nat) (acc2 : Int32) (w2 : aw_S), s ≤ a.2.2.2.1 → a.2.2.2.1 - s < n → C2 w w2 → acc2 = acc + sm f s → vcol w2 (runAsc a g (runG a v g) s) → aw_J (aw_pic1 L) X 12 [(0, .ref (L.2.2 20)), (1, .int acc2), (2, .int (nI g)), (3, .int (nI s))] [] w2 := by
          intro n
          induction n with
          | zero =>
            intro s acc2 w2 hs hm hf hacc2 hv
            exact absurd hm (Nat.not_lt_zero _)
          | succ n ih =>
            intro s acc2 w2 hs hm hf hacc2 hv
            refine aw_iload_n (pc' := 13) O dX1_runFrame_12 rfl rfl ?_
            refine aw_aload_n (pc' := 14) O dX1_runFrame_13 rfl rfl ?_
            refine g1_9 (pc' := 17) O dX1_runFrame_14 rfl ?_
            refine aw_top (y := nI (a.2.2.2.1)) (by rw [hf.2]; exact s1) ?_
            refine aw_icmpN_ge (pc' := 20) (tgt := 48) O (by omega) (by omega) dX1_runFrame_17 (by decide) rfl (fun h3 => ?_) (fun h3 => ?_)
            · have e1 : s = a.2.2.2.1 := by omega
              subst e1
              refine aw_iinc (pc' := 51) (v := nI (g + 1)) (lv' := [(0, .ref (L.2.2 20)), (1, .int acc2), (2, .int (nI (g + 1))), (3, .int (nI (a.2.2.2.1)))]) O dX1_runFrame_48 (F.nL (by decide)) rfl (nI_1 _) rfl rfl rfl ?_
              refine aw_goto (tgt := 4) O dX1_runFrame_51 (by decide) ?_
              refine aw_less [0, 1, 2] rfl ?_
              exact ih0 (g + 1) _ _ (by omega) (by omega) hf (by rw [hacc2, hacc, ← hcg]; rfl) hv
            · have hsg := stg_le a.2.2.2.2 s
              refine aw_aload_n (pc' := 21) O dX1_runFrame_20 rfl rfl ?_
              refine g1_8 (pc' := 24) O dX1_runFrame_21 rfl ?_
              refine aw_iload_n (pc' := 25) O dX1_runFrame_24 rfl rfl ?_
              refine ld1_8 (pc' := 26) (j := s) O rfl (by omega) dX1_runFrame_25 rfl ?_
              refine aw_top (y := nI (stg a.2.2.2.2 s)) (by rw [hf.1 8 (by decide)]; exact s4 s h3) ?_
              refine aw_iload_n (pc' := 27) O dX1_runFrame_26 rfl rfl ?_
              refine aw_icmpN_ne (pc' := 30) (tgt := 40) O (by omega) (by omega) dX1_runFrame_27 (by decide) rfl (fun h4 => ?_) (fun h4 => ?_)
              · have z : f s = 0 := by rw [hf0]; simp [h4]
                refine aw_iload_n (pc' := 41) O dX1_runFrame_40 rfl rfl ?_
                refine aw_istore_n (pc' := 42) (lv' := [(0, .ref (L.2.2 20)), (1, .int acc2), (2, .int (nI g)), (3, .int (nI s))]) O dX1_runFrame_41 (F.nL (by decide)) rfl rfl rfl ?_
                refine aw_iinc (pc' := 45) (v := nI (s + 1)) (lv' := [(0, .ref (L.2.2 20)), (1, .int acc2), (2, .int (nI g)), (3, .int (nI (s + 1)))]) O dX1_runFrame_42 (F.nL (by decide)) rfl (nI_1 _) rfl rfl rfl ?_
                refine aw_goto (tgt := 12) O dX1_runFrame_45 (by decide) ?_
                exact ih (s + 1) _ _ (by omega) (by omega) hf (by rw [hacc2]; simp only [sm]; rw [z]; simp) (by simp only [runAsc]; rw [if_neg h4]; exact hv)
              · refine aw_iload_n (pc' := 31) O dX1_runFrame_30 rfl rfl ?_
                refine aw_aload_n (pc' := 32) O dX1_runFrame_31 rfl rfl ?_
                refine aw_iload_n (pc' := 33) O dX1_runFrame_32 rfl rfl ?_
                refine c1_runSystem (pc' := 36) (rest := [.int acc2]) O F (met1_runSystem l L hD w2 a (h0.c2 hf) _ hv s h3) (by decide) (by decide) rfl rfl (Nat.le_of_ble_eq_true rfl) dX1_runFrame_33 rfl (fun r w3 hr3 => ?_)
                obtain ⟨d1, d2, d3⟩ := hr3
                have z : f s = r := by rw [hf0, d1]; simp [h4]
                refine aw_iadd (pc' := 37) O dX1_runFrame_36 rfl ?_
                refine aw_goto (tgt := 41) O dX1_runFrame_37 (by decide) ?_
                refine aw_istore_n (pc' := 42) (lv' := [(0, .ref (L.2.2 20)), (1, .int (acc2 + r)), (2, .int (nI g)), (3, .int (nI s))]) O dX1_runFrame_41 (F.nL (by decide)) rfl rfl rfl ?_
                refine aw_iinc (pc' := 45) (v := nI (s + 1)) (lv' := [(0, .ref (L.2.2 20)), (1, .int (acc2 + r)), (2, .int (nI g)), (3, .int (nI (s + 1)))]) O dX1_runFrame_42 (F.nL (by decide)) rfl (nI_1 _) rfl rfl rfl ?_
                refine aw_goto (tgt := 12) O dX1_runFrame_45 (by decide) ?_
                exact ih (s + 1) _ _ (by omega) (by omega) (hf.trans d2) (by rw [hacc2]; simp only [sm]; rw [z]; grind) (by simp only [runAsc]; rw [if_pos h4]; exact d3)
        refine aw_iconst (pc' := 11) O dX1_runFrame_10 ki_0 rfl ?_
        refine aw_istore_n (pc' := 12) (lv' := [(0, .ref (L.2.2 20)), (1, .int acc), (2, .int (nI g)), (3, .int (nI 0))]) O dX1_runFrame_11 (F.nL (by decide)) rfl rfl rfl ?_
        exact lp2 (a.2.2.2.1 + 1) 0 _ _ (Nat.zero_le _) (by omega) hf (by simp [sm]) hv
  refine aw_iconst (pc' := 1) O dX1_runFrame_0 ki_0 rfl ?_
  refine aw_istore_n (pc' := 2) (lv' := [(0, .ref (L.2.2 20)), (1, .int (nI 0))]) O dX1_runFrame_1 (F.nL (by decide)) rfl rfl rfl ?_
  refine aw_iconst (pc' := 3) O dX1_runFrame_2 ki_0 rfl ?_
  refine aw_istore_n (pc' := 4) (lv' := [(0, .ref (L.2.2 20)), (1, .int (nI 0)), (2, .int (nI 0))]) O dX1_runFrame_3 (F.nL (by decide)) rfl rfl rfl ?_
  exact lp 9 0 _ _ (by decide) (by decide) C2.rf rfl hv
set_option maxHeartbeats 4000000 in
set_option maxRecDepth 100000 in
theorem met1_frame (l : Launch) (L : aw_L) (hD : ∀ w, va_D (aw_A L) (aw_pic1 L w)) (w : aw_S) (a : aw_AS) (h : R1 w a) (n : Int32) : aw_Mi (aw_pic1 L) l L yX1_frame cX1_frame 4 .int 3 71 [.int n] w (fun r w' => r = (frameA a n).1 ∧ R1 w' (frameA a n).2) := by
  refine aw_of_i (lv := [(0, .ref (L.2.2 20)), (1, .int n)]) (own := RX1) hD (by decide) rfl (Nat.le_of_ble_eq_true rfl) rfl (fun X O F hr => ?_)
  refine aw_aload_n (pc' := 1) O dX1_frame_0 rfl rfl ?_
  refine c1_layStages (pc' := 4) (rest := []) O F (met1_layStages l L hD w a h) (by decide) (by decide) rfl rfl (Nat.le_of_ble_eq_true rfl) dX1_frame_1 rfl (fun w1 hr1 => ?_)
  obtain ⟨f1, la1⟩ := hr1
  have hR1 := f1.r1 h
  have hFN : FN w1 a := hR1.fn la1
  have hc2 : vcol w1 a.2.2.1 := hR1.2.2.1
  have hit : itN n ≤ 10 := Nat.min_le_right _ _
  have lp : ∀ (nn : Nat) (i : Nat) (acc : Int32) (w3 : aw_S), i ≤ itN n → 11 - i < nn → C2 w1 w3 → acc = sm (fun _ => cntF a) i → vcol w3 (runK a a.2.2.1 i) → aw_J (aw_pic1 L) X 8 [(0, .ref (L.2.2 20)), (1, .int n), (2, .int acc), (3, .int (nI i))] [] w3 := by
    intro nn
    induction nn with
    | zero =>
      intro i acc w3 hi hm hf hacc hv
      exact absurd hm (Nat.not_lt_zero _)
    | succ nn ih =>
      intro i acc w3 hi hm hf hacc hv
      refine aw_iload_n (pc' := 9) O dX1_frame_8 rfl rfl ?_
      refine aw_bipush (pc' := 11) O dX1_frame_9 kb_10 rfl ?_
      refine aw_icmpN_ge (pc' := 14) (tgt := 32) O (by omega) (by omega) dX1_frame_11 (by decide) rfl (fun h2 => ?_) (fun h2 => ?_)
      · have e1 : i = itN n := itN_10 hi h2
        refine aw_iload_n (pc' := 33) O dX1_frame_32 rfl rfl ?_
        exact aw_ireturn O hr rfl dX1_frame_33 (⟨by rw [hacc, e1]; rfl, by rw [e1] at hv; exact (hFN.c2 hf).r1 hv⟩)
      · refine aw_iload_n (pc' := 15) O dX1_frame_14 rfl rfl ?_
        refine aw_iload_n (pc' := 16) O dX1_frame_15 rfl rfl ?_
        refine aw_icmp_ge (pc' := 19) (tgt := 32) O dX1_frame_16 (by decide) rfl (fun h3 => ?_) (fun h3 => ?_)
        · have e1 : i = itN n := itN_ge hi h3
          refine aw_iload_n (pc' := 33) O dX1_frame_32 rfl rfl ?_
          exact aw_ireturn O hr rfl dX1_frame_33 (⟨by rw [hacc, e1]; rfl, by rw [e1] at hv; exact (hFN.c2 hf).r1 hv⟩)
        · have hlt : i < itN n := itN_lt h3 h2
          refine aw_iload_n (pc' := 20) O dX1_frame_19 rfl rfl ?_
          refine aw_aload_n (pc' := 21) O dX1_frame_20 rfl rfl ?_
          refine c1_runFrame (pc' := 24) (rest := [.int acc]) O F (met1_runFrame l L hD w3 a (hFN.c2 hf) _ hv) (by decide) (by decide) rfl rfl (Nat.le_of_ble_eq_true rfl) dX1_frame_21 rfl (fun r w4 hr4 => ?_)
          obtain ⟨d1, d2, d3⟩ := hr4
          refine aw_iadd (pc' := 25) O dX1_frame_24 rfl ?_
          refine aw_istore_n (pc' := 26) (lv' := [(0, .ref (L.2.2 20)), (1, .int n), (2, .int (acc + r)), (3, .int (nI i))]) O dX1_frame_25 (F.nL (by decide)) rfl rfl rfl ?_
          refine aw_iinc (pc' := 29) (v := nI (i + 1)) (lv' := [(0, .ref (L.2.2 20)), (1, .int n), (2, .int (acc + r)), (3, .int (nI (i + 1)))]) O dX1_frame_26 (F.nL (by decide)) rfl (nI_1 _) rfl rfl rfl ?_
          refine aw_goto (tgt := 8) O dX1_frame_29 (by decide) ?_
          exact ih (i + 1) _ _ hlt (by omega) (hf.trans d2) (by rw [hacc, d1]; rfl) d3
  refine aw_iconst (pc' := 5) O dX1_frame_4 ki_0 rfl ?_
  refine aw_istore_n (pc' := 6) (lv' := [(0, .ref (L.2.2 20)), (1, .int n), (2, .int (nI 0))]) O dX1_frame_5 (F.nL (by decide)) rfl rfl rfl ?_
  refine aw_iconst (pc' := 7) O dX1_frame_6 ki_0 rfl ?_
  refine aw_istore_n (pc' := 8) (lv' := [(0, .ref (L.2.2 20)), (1, .int n), (2, .int (nI 0)), (3, .int (nI 0))]) O dX1_frame_7 (F.nL (by decide)) rfl rfl rfl ?_
  exact lp 12 0 _ _ (Nat.zero_le _) (by decide) C2.rf rfl hc2
end
section
set_option maxRecDepth 100000
/-! THE CONSTRUCTORS -/
abbrev cx_tys (cs : Nat → ClassId) : List (ClassId × FieldType) := [(cs 0, .int), (cs 1, .long), (cs 2, .boolean)]
/-- nothing there: no one lives, no system -/
def aw_0 : aw_AS := (fun _ => false, fun _ => 0, fun _ _ => 0, 0, fun _ _ => 0)
def aw_z : aw_S := (fun _ _ => 0, fun _ => 0, fun _ => 0)
/-- the World as its constructor leaves it -/
def aw_i0 (w : aw_S) : Prop := (∀ e, e < 24 → w.1 5 e = -4) ∧ (∀ s, s < 64 → w.1 2 s = -4) ∧ (∀ j, w.1 7 j = 0) ∧ ∀ k, w.2.1 k = 0
theorem aw_i0_R0 {w : aw_S} (h : aw_i0 w) : R0 w aw_0 := by
  obtain ⟨h5, h2, h7, hf⟩ := h
  refine ⟨0, ⟨⟨hf 0, by decide⟩, fun t ht => absurd ht (Nat.not_lt_zero _), fun s hs => Or.inl (h2 s hs), ?_, fun t ht => absurd ht (Nat.not_lt_zero _), fun e he _ => h5 e he, fun e he hl => absurd (show false = true from hl) (by decide), fun t ht => absurd ht (Nat.not_lt_zero _)⟩, fun e he c hc => h7 _, ⟨⟨hf 8, by decide⟩, fun i hi => absurd hi (Nat.not_lt_zero _), Or.inl (hf 14), 0, Nat.le_refl _, hf 18, Or.inl rfl⟩⟩
  exact (cn_zero (fun s hs => by simp [h2 s hs])).symm
theorem aw_z_R1 : R1 aw_z aw_0 := ⟨fun _ _ => rfl, fun _ _ => ⟨rfl, show (0 : Nat) < 64 by decide⟩, fun _ _ _ _ => rfl, ⟨rfl, by decide⟩, fun i hi => absurd hi (Nat.not_lt_zero _)⟩
section CXN
variable {p : Program} {l : Launch} {e : Env} {R : Room} {s : State} {m : MethodId} {args : Array Value} {below : List Frame} {meth : Method} {c : Code} {H : Heap} {locs : List Loc} {cells slots : Nat} {Q : State → Prop} {pc : Nat} {ls : Array Slot} {rest : List Value} {cc : ByteArray} {D : va_G} {cs : Nat → ClassId} {A : Nat → Prop} {ws : va_W} {H0 : Heap}
theorem cx_newi (hx : p.tables.exec = Jvm.exec) (hb : c.code = cc) (hts : ∀ w ∈ lw_all, w.before args s = true) (hK : va_K D vwCl (cx_tys cs) s) (hP : va_P D vwCl ws H) (hD : va_D A ws) (hS : va_S A H0 H locs) (hA : ∀ q, H0.size ≤ q → A q) {N : Nat} (hN : N < 2 ^ 20) (hcells : cells + 1 ≤ R.cells) (hslots : slots + N ≤ R.slots) (hdg : decode cc pc = .ok (.newarray .int, 2))
    (kk : ∀ (q : Nat) (H1 : Heap), va_P D vwCl (ws ++ [(q, .inl (cs 0, N, .inl (fun _ => 0)))]) H1 → va_D A (ws ++ [(q, .inl (cs 0, N, .inl (fun _ => 0)))]) → va_S A H0 H1 locs → W p l e R s m args below meth c H1 locs (cells + 1) (slots + N) Q (F0 m (pc + 2) ls (.ref q :: rest))) : W p l e R s m args below meth c H locs cells slots Q (F0 m pc ls (.int (nI N) :: rest)) := by
  refine va_newa (atype := .int) (ty := .int) (a0 := (N, .inl (fun _ => 0))) hx hb (hts _ q97) rfl hK hP hD hS hA (fun cA => rfl) (nI_pos (by omega)) (nI_clamp (by omega)) (by show N * 4 ≤ 536870912; omega) hcells hslots hdg (fun q cA H1 hK1 hP1 hD1 hS1 => ?_)
  have hc : cA = cs 0 := Option.some.inj ((show s.vm.findClass _ = some cA from (hK1.2 3 (cA, .int) rfl).2).symm.trans (hK1.2 0 (cs 0, .int) rfl).2)
  subst hc
  exact kk q H1 hP1 hD1 hS1
theorem cx_newl (hx : p.tables.exec = Jvm.exec) (hb : c.code = cc) (hts : ∀ w ∈ lw_all, w.before args s = true) (hK : va_K D vwCl (cx_tys cs) s) (hP : va_P D vwCl ws H) (hD : va_D A ws) (hS : va_S A H0 H locs) (hA : ∀ q, H0.size ≤ q → A q) {N : Nat} (hN : N < 2 ^ 20) (hcells : cells + 1 ≤ R.cells) (hslots : slots + N ≤ R.slots) (hdg : decode cc pc = .ok (.newarray .long, 2))
    (kk : ∀ (q : Nat) (H1 : Heap), va_P D vwCl (ws ++ [(q, .inl (cs 1, N, .inr (.inl (fun _ => 0))))]) H1 → va_D A (ws ++ [(q, .inl (cs 1, N, .inr (.inl (fun _ => 0))))]) → va_S A H0 H1 locs → W p l e R s m args below meth c H1 locs (cells + 1) (slots + N) Q (F0 m (pc + 2) ls (.ref q :: rest))) : W p l e R s m args below meth c H locs cells slots Q (F0 m pc ls (.int (nI N) :: rest)) := by
  refine va_newa (atype := .long) (ty := .long) (a0 := (N, .inr (.inl (fun _ => 0)))) hx hb (hts _ q98) rfl hK hP hD hS hA (fun cA => rfl) (nI_pos (by omega)) (nI_clamp (by omega)) (by show N * 8 ≤ 536870912; omega) hcells hslots hdg (fun q cA H1 hK1 hP1 hD1 hS1 => ?_)
  have hc : cA = cs 1 := Option.some.inj ((show s.vm.findClass _ = some cA from (hK1.2 3 (cA, .long) rfl).2).symm.trans (hK1.2 1 (cs 1, .long) rfl).2)
  subst hc
  exact kk q H1 hP1 hD1 hS1
theorem cx_newz (hx : p.tables.exec = Jvm.exec) (hb : c.code = cc) (hts : ∀ w ∈ lw_all, w.before args s = true) (hK : va_K D vwCl (cx_tys cs) s) (hP : va_P D vwCl ws H) (hD : va_D A ws) (hS : va_S A H0 H locs) (hA : ∀ q, H0.size ≤ q → A q) {N : Nat} (hN : N < 2 ^ 20) (hcells : cells + 1 ≤ R.cells) (hslots : slots + N ≤ R.slots) (hdg : decode cc pc = .ok (.newarray .boolean, 2))
    (kk : ∀ (q : Nat) (H1 : Heap), va_P D vwCl (ws ++ [(q, .inl (cs 2, N, .inl (fun _ => 0)))]) H1 → va_D A (ws ++ [(q, .inl (cs 2, N, .inl (fun _ => 0)))]) → va_S A H0 H1 locs → W p l e R s m args below meth c H1 locs (cells + 1) (slots + N) Q (F0 m (pc + 2) ls (.ref q :: rest))) : W p l e R s m args below meth c H locs cells slots Q (F0 m pc ls (.int (nI N) :: rest)) := by
  refine va_newa (atype := .boolean) (ty := .boolean) (a0 := (N, .inl (fun _ => 0))) hx hb (hts _ q276) rfl hK hP hD hS hA (fun cA => rfl) (nI_pos (by omega)) (nI_clamp (by omega)) (by show N * 1 ≤ 536870912; omega) hcells hslots hdg (fun q cA H1 hK1 hP1 hD1 hS1 => ?_)
  have hc : cA = cs 2 := Option.some.inj ((show s.vm.findClass _ = some cA from (hK1.2 3 (cA, .boolean) rfl).2).symm.trans (hK1.2 2 (cs 2, .boolean) rfl).2)
  subst hc
  exact kk q H1 hP1 hD1 hS1
end CXN
def cx_f0 : List Value := [.int 0, .null, .null, .null, .null, .null, .null, .null, .int 0, .null, .null, .null, .null, .null, .int 0, .int 0, .null, .null, .int 0]
/-- addresses by field number -/
def cx_ad0 (h0 q1 q2 q3 q4 q5 q6 q7 q9 q10 q11 q12 q13 q16 q17 : Nat) : Nat → Nat := fun k => match k with
  | 1 => q1
  | 2 => q2
  | 3 => q3
  | 4 => q4
  | 5 => q5
  | 6 => q6
  | 7 => q7
  | 9 => q9
  | 10 => q10
  | 11 => q11
  | 12 => q12
  | 13 => q13
  | 16 => q16
  | 17 => q17
  | _ => h0
theorem cx_cov0 (D : va_G) (cs : Nat → ClassId) (h0 q1 q2 q3 q4 q5 q6 q7 q9 q10 q11 q12 q13 q16 q17 : Nat) (w : aw_S) : ∀ k, ∃ (j : Nat) (e : va_E), (aw_pic0 (D, cs, cx_ad0 h0 q1 q2 q3 q4 q5 q6 q7 q9 q10 q11 q12 q13 q16 q17) w)[j]? = some (cx_ad0 h0 q1 q2 q3 q4 q5 q6 q7 q9 q10 q11 q12 q13 q16 q17 k, e) := fun k => match k with
  | 0 => ⟨0, _, rfl⟩
  | 1 => ⟨1, _, rfl⟩
  | 2 => ⟨2, _, rfl⟩
  | 3 => ⟨3, _, rfl⟩
  | 4 => ⟨4, _, rfl⟩
  | 5 => ⟨5, _, rfl⟩
  | 6 => ⟨6, _, rfl⟩
  | 7 => ⟨7, _, rfl⟩
  | 8 => ⟨0, _, rfl⟩
  | 9 => ⟨8, _, rfl⟩
  | 10 => ⟨9, _, rfl⟩
  | 11 => ⟨10, _, rfl⟩
  | 12 => ⟨11, _, rfl⟩
  | 13 => ⟨12, _, rfl⟩
  | 14 => ⟨0, _, rfl⟩
  | 15 => ⟨0, _, rfl⟩
  | 16 => ⟨13, _, rfl⟩
  | 17 => ⟨14, _, rfl⟩
  | k + 18 => ⟨0, _, rfl⟩
def cx_f1 : List Value := [.null, .null, .null, .null, .null, .null, .null, .null, .null, .int 0]
/-- addresses by field number -/
def cx_ad1 (h0 q0 q1 q2 q3 q4 q5 q6 q7 q8 : Nat) : Nat → Nat := fun k => match k with
  | 0 => q0
  | 1 => q1
  | 2 => q2
  | 3 => q3
  | 4 => q4
  | 5 => q5
  | 6 => q6
  | 7 => q7
  | 8 => q8
  | _ => h0
theorem cx_cov1 (D : va_G) (cs : Nat → ClassId) (h0 q0 q1 q2 q3 q4 q5 q6 q7 q8 : Nat) (w : aw_S) : ∀ k, ∃ (j : Nat) (e : va_E), (aw_pic1 (D, cs, cx_ad1 h0 q0 q1 q2 q3 q4 q5 q6 q7 q8) w)[j]? = some (cx_ad1 h0 q0 q1 q2 q3 q4 q5 q6 q7 q8 k, e) := fun k => match k with
  | 0 => ⟨1, _, rfl⟩
  | 1 => ⟨2, _, rfl⟩
  | 2 => ⟨3, _, rfl⟩
  | 3 => ⟨4, _, rfl⟩
  | 4 => ⟨5, _, rfl⟩
  | 5 => ⟨6, _, rfl⟩
  | 6 => ⟨7, _, rfl⟩
  | 7 => ⟨8, _, rfl⟩
  | 8 => ⟨9, _, rfl⟩
  | k + 9 => ⟨0, _, rfl⟩
set_option maxHeartbeats 4000000 in
set_option maxRecDepth 100000 in
theorem met0_init (l : Launch) (D : va_G) (cs : Nat → ClassId) (h0 sz : Nat) : Met l yX0_init (ws_ yX0_init cX0_init 2 none) ({ frames := 1, cells := 14, slots := 1976, locals := 12 }) (va_Pc [.ref h0] (fun U => U.heap.size = sz ∧ va_P D vwCl [(h0, .inr (0, cx_f0))] U.heap ∧ va_K D vwCl (cx_tys cs) U ∧ va_D (fun _ => True) [(h0, .inr (0, cx_f0))])) (va_Qv (fun u : (Nat → Nat) × aw_S => u.1 20 = h0 ∧ aw_i0 u.2 ∧ ∀ k, ∃ (j : Nat) (e : va_E), (aw_pic0 (D, cs, u.1) u.2)[j]? = some (u.1 k, e)) (fun u t => va_P D vwCl (aw_pic0 (D, cs, u.1) u.2) t.heap ∧ va_D (va_A [(h0, .inr (0, cx_f0))] sz) (aw_pic0 (D, cs, u.1) u.2)) (va_A [(h0, .inr (0, cx_f0))] sz)) 14 1976 (va_A [(h0, .inr (0, cx_f0))] sz) := by
  refine Met.ofW (cc := cX0_init) (maxL := 2) (ret := none) (by decide) rfl ?_
  intro p e s m args below meth c s₁ B hml hv
  obtain ⟨rfl, hsz, hP, hK, hD0⟩ := hv
  have hx := B.exec
  have hb := B.bytes
  have hr := B.returns
  have hts := atoms_spec (ws := ws_ yX0_init cX0_init 2 none) B.pre
  have hts : ∀ w ∈ lw_all, w.before _ s = true := fun w h => hts w (List.mem_cons_of_mem _ h)
  have hown : s.vm.findClass RX0 = some m.cls := findClass_of_methodNamed B.named
  have hlocks := B.notSynchronized
  have hin : meth.name = "<init>" := (name_of_methodNamed B.named B.method).1
  subst hsz
  have hD := hD0.self (sz := s.heap.size)
  generalize hAe : va_A [(h0, .inr (0, cx_f0))] s.heap.size = A at hD ⊢
  have hA : ∀ q : Nat, s.heap.size ≤ q → A q := fun q h => by rw [← hAe]; exact Or.inr h
  have hS : va_S A s.heap s.heap [] := va_S.rf
  have hl := lv_entry ([.ref h0]) (n := 2) (Nat.le_of_ble_eq_true rfl)
  rw [lg_entry_eq]
  generalize (lg_sl ([.ref h0]) ++ List.replicate (2 - (lg_sl ([.ref h0])).length) Slot.unset).toArray = ls at hl ⊢
  have hl : lv_has ls 2 [(0, .ref h0)] := hl
  refine lv_aload_n hx hb dX0_init_0 rfl (lv_at hl 0 rfl) ?_
  refine W.objInit hx hb hown (hts _ q36) (hts _ q37) (hts _ q38) rfl (by rw [hml]; exact hl.1) rfl dX0_init_1 (Nat.le_of_ble_eq_true rfl) (Nat.le_of_ble_eq_true rfl) ?_
  refine W.eq (g2 := F0 m 4 ls []) rfl ?_
  have hP : va_P D vwCl [(h0, .inr (0, [.int 0, .null, .null, .null, .null, .null, .null, .null, .int 0, .null, .null, .null, .null, .null, .int 0, .int 0, .null, .null, .int 0]))] s.heap := hP
  have hD : va_D A [(h0, .inr (0, [.int 0, .null, .null, .null, .null, .null, .null, .null, .int 0, .null, .null, .null, .null, .null, .int 0, .int 0, .null, .null, .int 0]))] := hD
  refine lv_aload_n hx hb dX0_init_4 rfl (lv_at hl 0 rfl) ?_
  refine lv_bipush (v := nI 64) hx hb dX0_init_5 kb_64 ?_
  refine cx_newi (N := 64) hx hb hts hK hP hD hS hA (by decide) (by decide) (by decide) dX0_init_7 (fun q1 H hP hD hS => ?_)
  refine W.widen (k := 1) (n := 64) (by decide) (by decide) ?_
  have hP : va_P D vwCl [(h0, .inr (0, [.int 0, .null, .null, .null, .null, .null, .null, .null, .int 0, .null, .null, .null, .null, .null, .int 0, .int 0, .null, .null, .int 0])), (q1, .inl (cs 0, 64, .inl (fun _ => 0)))] H := hP
  have hD : va_D A [(h0, .inr (0, [.int 0, .null, .null, .null, .null, .null, .null, .null, .int 0, .null, .null, .null, .null, .null, .int 0, .int 0, .null, .null, .int 0])), (q1, .inl (cs 0, 64, .inl (fun _ => 0)))] := hD
  refine va_putF (D := D) (ci := 0) (v := .ref q1) (ty := .array .int) (C := RX0) (T := TX0) (N := 19) hx hb hts in_X0 tyX0 tyX0_ok nmX0 hown hK hP hD hS 0 rfl rfl 1 (by decide) (hts _ q40) (fun _ h9 => h9) rfl hin rfl (by decide +kernel) rfl rfl (Nat.le_of_ble_eq_true rfl) dX0_init_9 (fun H locs hP hD hS => ?_)
  have hP : va_P D vwCl [(h0, .inr (0, [.int 0, .ref q1, .null, .null, .null, .null, .null, .null, .int 0, .null, .null, .null, .null, .null, .int 0, .int 0, .null, .null, .int 0])), (q1, .inl (cs 0, 64, .inl (fun _ => 0)))] H := hP
  have hD : va_D A [(h0, .inr (0, [.int 0, .ref q1, .null, .null, .null, .null, .null, .null, .int 0, .null, .null, .null, .null, .null, .int 0, .int 0, .null, .null, .int 0])), (q1, .inl (cs 0, 64, .inl (fun _ => 0)))] := hD
  refine lv_aload_n hx hb dX0_init_12 rfl (lv_at hl 0 rfl) ?_
  refine lv_bipush (v := nI 64) hx hb dX0_init_13 kb_64 ?_
  refine cx_newi (N := 64) hx hb hts hK hP hD hS hA (by decide) (by decide) (by decide) dX0_init_15 (fun q2 H hP hD hS => ?_)
  refine W.widen (k := 2) (n := 128) (by decide) (by decide) ?_
  have hP : va_P D vwCl [(h0, .inr (0, [.int 0, .ref q1, .null, .null, .null, .null, .null, .null, .int 0, .null, .null, .null, .null, .null, .int 0, .int 0, .null, .null, .int 0])), (q1, .inl (cs 0, 64, .inl (fun _ => 0))), (q2, .inl (cs 0, 64, .inl (fun _ => 0)))] H := hP
  have hD : va_D A [(h0, .inr (0, [.int 0, .ref q1, .null, .null, .null, .null, .null, .null, .int 0, .null, .null, .null, .null, .null, .int 0, .int 0, .null, .null, .int 0])), (q1, .inl (cs 0, 64, .inl (fun _ => 0))), (q2, .inl (cs 0, 64, .inl (fun _ => 0)))] := hD
  refine va_putF (D := D) (ci := 0) (v := .ref q2) (ty := .array .int) (C := RX0) (T := TX0) (N := 19) hx hb hts in_X0 tyX0 tyX0_ok nmX0 hown hK hP hD hS 0 rfl rfl 2 (by decide) (hts _ q41) (fun _ h9 => h9) rfl hin rfl (by decide +kernel) rfl rfl (Nat.le_of_ble_eq_true rfl) dX0_init_17 (fun H locs hP hD hS => ?_)
  have hP : va_P D vwCl [(h0, .inr (0, [.int 0, .ref q1, .ref q2, .null, .null, .null, .null, .null, .int 0, .null, .null, .null, .null, .null, .int 0, .int 0, .null, .null, .int 0])), (q1, .inl (cs 0, 64, .inl (fun _ => 0))), (q2, .inl (cs 0, 64, .inl (fun _ => 0)))] H := hP
  have hD : va_D A [(h0, .inr (0, [.int 0, .ref q1, .ref q2, .null, .null, .null, .null, .null, .int 0, .null, .null, .null, .null, .null, .int 0, .int 0, .null, .null, .int 0])), (q1, .inl (cs 0, 64, .inl (fun _ => 0))), (q2, .inl (cs 0, 64, .inl (fun _ => 0)))] := hD
  refine lv_aload_n hx hb dX0_init_20 rfl (lv_at hl 0 rfl) ?_
  refine lv_bipush (v := nI 64) hx hb dX0_init_21 kb_64 ?_
  refine cx_newi (N := 64) hx hb hts hK hP hD hS hA (by decide) (by decide) (by decide) dX0_init_23 (fun q3 H hP hD hS => ?_)
  refine W.widen (k := 3) (n := 192) (by decide) (by decide) ?_
  have hP : va_P D vwCl [(h0, .inr (0, [.int 0, .ref q1, .ref q2, .null, .null, .null, .null, .null, .int 0, .null, .null, .null, .null, .null, .int 0, .int 0, .null, .null, .int 0])), (q1, .inl (cs 0, 64, .inl (fun _ => 0))), (q2, .inl (cs 0, 64, .inl (fun _ => 0))), (q3, .inl (cs 0, 64, .inl (fun _ => 0)))] H := hP
  have hD : va_D A [(h0, .inr (0, [.int 0, .ref q1, .ref q2, .null, .null, .null, .null, .null, .int 0, .null, .null, .null, .null, .null, .int 0, .int 0, .null, .null, .int 0])), (q1, .inl (cs 0, 64, .inl (fun _ => 0))), (q2, .inl (cs 0, 64, .inl (fun _ => 0))), (q3, .inl (cs 0, 64, .inl (fun _ => 0)))] := hD
  refine va_putF (D := D) (ci := 0) (v := .ref q3) (ty := .array .int) (C := RX0) (T := TX0) (N := 19) hx hb hts in_X0 tyX0 tyX0_ok nmX0 hown hK hP hD hS 0 rfl rfl 3 (by decide) (hts _ q42) (fun _ h9 => h9) rfl hin rfl (by decide +kernel) rfl rfl (Nat.le_of_ble_eq_true rfl) dX0_init_25 (fun H locs hP hD hS => ?_)
  have hP : va_P D vwCl [(h0, .inr (0, [.int 0, .ref q1, .ref q2, .ref q3, .null, .null, .null, .null, .int 0, .null, .null, .null, .null, .null, .int 0, .int 0, .null, .null, .int 0])), (q1, .inl (cs 0, 64, .inl (fun _ => 0))), (q2, .inl (cs 0, 64, .inl (fun _ => 0))), (q3, .inl (cs 0, 64, .inl (fun _ => 0)))] H := hP
  have hD : va_D A [(h0, .inr (0, [.int 0, .ref q1, .ref q2, .ref q3, .null, .null, .null, .null, .int 0, .null, .null, .null, .null, .null, .int 0, .int 0, .null, .null, .int 0])), (q1, .inl (cs 0, 64, .inl (fun _ => 0))), (q2, .inl (cs 0, 64, .inl (fun _ => 0))), (q3, .inl (cs 0, 64, .inl (fun _ => 0)))] := hD
  refine lv_aload_n hx hb dX0_init_28 rfl (lv_at hl 0 rfl) ?_
  refine lv_sipush (v := nI 1536) hx hb dX0_init_29 ks_1536 ?_
  refine cx_newi (N := 1536) hx hb hts hK hP hD hS hA (by decide) (by decide) (by decide) dX0_init_32 (fun q4 H hP hD hS => ?_)
  refine W.widen (k := 4) (n := 1728) (by decide) (by decide) ?_
  have hP : va_P D vwCl [(h0, .inr (0, [.int 0, .ref q1, .ref q2, .ref q3, .null, .null, .null, .null, .int 0, .null, .null, .null, .null, .null, .int 0, .int 0, .null, .null, .int 0])), (q1, .inl (cs 0, 64, .inl (fun _ => 0))), (q2, .inl (cs 0, 64, .inl (fun _ => 0))), (q3, .inl (cs 0, 64, .inl (fun _ => 0))), (q4, .inl (cs 0, 1536, .inl (fun _ => 0)))] H := hP
  have hD : va_D A [(h0, .inr (0, [.int 0, .ref q1, .ref q2, .ref q3, .null, .null, .null, .null, .int 0, .null, .null, .null, .null, .null, .int 0, .int 0, .null, .null, .int 0])), (q1, .inl (cs 0, 64, .inl (fun _ => 0))), (q2, .inl (cs 0, 64, .inl (fun _ => 0))), (q3, .inl (cs 0, 64, .inl (fun _ => 0))), (q4, .inl (cs 0, 1536, .inl (fun _ => 0)))] := hD
  refine va_putF (D := D) (ci := 0) (v := .ref q4) (ty := .array .int) (C := RX0) (T := TX0) (N := 19) hx hb hts in_X0 tyX0 tyX0_ok nmX0 hown hK hP hD hS 0 rfl rfl 4 (by decide) (hts _ q43) (fun _ h9 => h9) rfl hin rfl (by decide +kernel) rfl rfl (Nat.le_of_ble_eq_true rfl) dX0_init_34 (fun H locs hP hD hS => ?_)
  have hP : va_P D vwCl [(h0, .inr (0, [.int 0, .ref q1, .ref q2, .ref q3, .ref q4, .null, .null, .null, .int 0, .null, .null, .null, .null, .null, .int 0, .int 0, .null, .null, .int 0])), (q1, .inl (cs 0, 64, .inl (fun _ => 0))), (q2, .inl (cs 0, 64, .inl (fun _ => 0))), (q3, .inl (cs 0, 64, .inl (fun _ => 0))), (q4, .inl (cs 0, 1536, .inl (fun _ => 0)))] H := hP
  have hD : va_D A [(h0, .inr (0, [.int 0, .ref q1, .ref q2, .ref q3, .ref q4, .null, .null, .null, .int 0, .null, .null, .null, .null, .null, .int 0, .int 0, .null, .null, .int 0])), (q1, .inl (cs 0, 64, .inl (fun _ => 0))), (q2, .inl (cs 0, 64, .inl (fun _ => 0))), (q3, .inl (cs 0, 64, .inl (fun _ => 0))), (q4, .inl (cs 0, 1536, .inl (fun _ => 0)))] := hD
  refine lv_aload_n hx hb dX0_init_37 rfl (lv_at hl 0 rfl) ?_
  refine lv_bipush (v := nI 24) hx hb dX0_init_38 kb_24 ?_
  refine cx_newi (N := 24) hx hb hts hK hP hD hS hA (by decide) (by decide) (by decide) dX0_init_40 (fun q5 H hP hD hS => ?_)
  refine W.widen (k := 5) (n := 1752) (by decide) (by decide) ?_
  have hP : va_P D vwCl [(h0, .inr (0, [.int 0, .ref q1, .ref q2, .ref q3, .ref q4, .null, .null, .null, .int 0, .null, .null, .null, .null, .null, .int 0, .int 0, .null, .null, .int 0])), (q1, .inl (cs 0, 64, .inl (fun _ => 0))), (q2, .inl (cs 0, 64, .inl (fun _ => 0))), (q3, .inl (cs 0, 64, .inl (fun _ => 0))), (q4, .inl (cs 0, 1536, .inl (fun _ => 0))), (q5, .inl (cs 0, 24, .inl (fun _ => 0)))] H := hP
  have hD : va_D A [(h0, .inr (0, [.int 0, .ref q1, .ref q2, .ref q3, .ref q4, .null, .null, .null, .int 0, .null, .null, .null, .null, .null, .int 0, .int 0, .null, .null, .int 0])), (q1, .inl (cs 0, 64, .inl (fun _ => 0))), (q2, .inl (cs 0, 64, .inl (fun _ => 0))), (q3, .inl (cs 0, 64, .inl (fun _ => 0))), (q4, .inl (cs 0, 1536, .inl (fun _ => 0))), (q5, .inl (cs 0, 24, .inl (fun _ => 0)))] := hD
  refine va_putF (D := D) (ci := 0) (v := .ref q5) (ty := .array .int) (C := RX0) (T := TX0) (N := 19) hx hb hts in_X0 tyX0 tyX0_ok nmX0 hown hK hP hD hS 0 rfl rfl 5 (by decide) (hts _ q44) (fun _ h9 => h9) rfl hin rfl (by decide +kernel) rfl rfl (Nat.le_of_ble_eq_true rfl) dX0_init_42 (fun H locs hP hD hS => ?_)
  have hP : va_P D vwCl [(h0, .inr (0, [.int 0, .ref q1, .ref q2, .ref q3, .ref q4, .ref q5, .null, .null, .int 0, .null, .null, .null, .null, .null, .int 0, .int 0, .null, .null, .int 0])), (q1, .inl (cs 0, 64, .inl (fun _ => 0))), (q2, .inl (cs 0, 64, .inl (fun _ => 0))), (q3, .inl (cs 0, 64, .inl (fun _ => 0))), (q4, .inl (cs 0, 1536, .inl (fun _ => 0))), (q5, .inl (cs 0, 24, .inl (fun _ => 0)))] H := hP
  have hD : va_D A [(h0, .inr (0, [.int 0, .ref q1, .ref q2, .ref q3, .ref q4, .ref q5, .null, .null, .int 0, .null, .null, .null, .null, .null, .int 0, .int 0, .null, .null, .int 0])), (q1, .inl (cs 0, 64, .inl (fun _ => 0))), (q2, .inl (cs 0, 64, .inl (fun _ => 0))), (q3, .inl (cs 0, 64, .inl (fun _ => 0))), (q4, .inl (cs 0, 1536, .inl (fun _ => 0))), (q5, .inl (cs 0, 24, .inl (fun _ => 0)))] := hD
  refine lv_aload_n hx hb dX0_init_45 rfl (lv_at hl 0 rfl) ?_
  refine lv_bipush (v := nI 24) hx hb dX0_init_46 kb_24 ?_
  refine cx_newi (N := 24) hx hb hts hK hP hD hS hA (by decide) (by decide) (by decide) dX0_init_48 (fun q6 H hP hD hS => ?_)
  refine W.widen (k := 6) (n := 1776) (by decide) (by decide) ?_
  have hP : va_P D vwCl [(h0, .inr (0, [.int 0, .ref q1, .ref q2, .ref q3, .ref q4, .ref q5, .null, .null, .int 0, .null, .null, .null, .null, .null, .int 0, .int 0, .null, .null, .int 0])), (q1, .inl (cs 0, 64, .inl (fun _ => 0))), (q2, .inl (cs 0, 64, .inl (fun _ => 0))), (q3, .inl (cs 0, 64, .inl (fun _ => 0))), (q4, .inl (cs 0, 1536, .inl (fun _ => 0))), (q5, .inl (cs 0, 24, .inl (fun _ => 0))), (q6, .inl (cs 0, 24, .inl (fun _ => 0)))] H := hP
  have hD : va_D A [(h0, .inr (0, [.int 0, .ref q1, .ref q2, .ref q3, .ref q4, .ref q5, .null, .null, .int 0, .null, .null, .null, .null, .null, .int 0, .int 0, .null, .null, .int 0])), (q1, .inl (cs 0, 64, .inl (fun _ => 0))), (q2, .inl (cs 0, 64, .inl (fun _ => 0))), (q3, .inl (cs 0, 64, .inl (fun _ => 0))), (q4, .inl (cs 0, 1536, .inl (fun _ => 0))), (q5, .inl (cs 0, 24, .inl (fun _ => 0))), (q6, .inl (cs 0, 24, .inl (fun _ => 0)))] := hD
  refine va_putF (D := D) (ci := 0) (v := .ref q6) (ty := .array .int) (C := RX0) (T := TX0) (N := 19) hx hb hts in_X0 tyX0 tyX0_ok nmX0 hown hK hP hD hS 0 rfl rfl 6 (by decide) (hts _ q45) (fun _ h9 => h9) rfl hin rfl (by decide +kernel) rfl rfl (Nat.le_of_ble_eq_true rfl) dX0_init_50 (fun H locs hP hD hS => ?_)
  have hP : va_P D vwCl [(h0, .inr (0, [.int 0, .ref q1, .ref q2, .ref q3, .ref q4, .ref q5, .ref q6, .null, .int 0, .null, .null, .null, .null, .null, .int 0, .int 0, .null, .null, .int 0])), (q1, .inl (cs 0, 64, .inl (fun _ => 0))), (q2, .inl (cs 0, 64, .inl (fun _ => 0))), (q3, .inl (cs 0, 64, .inl (fun _ => 0))), (q4, .inl (cs 0, 1536, .inl (fun _ => 0))), (q5, .inl (cs 0, 24, .inl (fun _ => 0))), (q6, .inl (cs 0, 24, .inl (fun _ => 0)))] H := hP
  have hD : va_D A [(h0, .inr (0, [.int 0, .ref q1, .ref q2, .ref q3, .ref q4, .ref q5, .ref q6, .null, .int 0, .null, .null, .null, .null, .null, .int 0, .int 0, .null, .null, .int 0])), (q1, .inl (cs 0, 64, .inl (fun _ => 0))), (q2, .inl (cs 0, 64, .inl (fun _ => 0))), (q3, .inl (cs 0, 64, .inl (fun _ => 0))), (q4, .inl (cs 0, 1536, .inl (fun _ => 0))), (q5, .inl (cs 0, 24, .inl (fun _ => 0))), (q6, .inl (cs 0, 24, .inl (fun _ => 0)))] := hD
  refine lv_aload_n hx hb dX0_init_53 rfl (lv_at hl 0 rfl) ?_
  refine lv_sipush (v := nI 144) hx hb dX0_init_54 ks_144 ?_
  refine cx_newi (N := 144) hx hb hts hK hP hD hS hA (by decide) (by decide) (by decide) dX0_init_57 (fun q7 H hP hD hS => ?_)
  refine W.widen (k := 7) (n := 1920) (by decide) (by decide) ?_
  have hP : va_P D vwCl [(h0, .inr (0, [.int 0, .ref q1, .ref q2, .ref q3, .ref q4, .ref q5, .ref q6, .null, .int 0, .null, .null, .null, .null, .null, .int 0, .int 0, .null, .null, .int 0])), (q1, .inl (cs 0, 64, .inl (fun _ => 0))), (q2, .inl (cs 0, 64, .inl (fun _ => 0))), (q3, .inl (cs 0, 64, .inl (fun _ => 0))), (q4, .inl (cs 0, 1536, .inl (fun _ => 0))), (q5, .inl (cs 0, 24, .inl (fun _ => 0))), (q6, .inl (cs 0, 24, .inl (fun _ => 0))), (q7, .inl (cs 0, 144, .inl (fun _ => 0)))] H := hP
  have hD : va_D A [(h0, .inr (0, [.int 0, .ref q1, .ref q2, .ref q3, .ref q4, .ref q5, .ref q6, .null, .int 0, .null, .null, .null, .null, .null, .int 0, .int 0, .null, .null, .int 0])), (q1, .inl (cs 0, 64, .inl (fun _ => 0))), (q2, .inl (cs 0, 64, .inl (fun _ => 0))), (q3, .inl (cs 0, 64, .inl (fun _ => 0))), (q4, .inl (cs 0, 1536, .inl (fun _ => 0))), (q5, .inl (cs 0, 24, .inl (fun _ => 0))), (q6, .inl (cs 0, 24, .inl (fun _ => 0))), (q7, .inl (cs 0, 144, .inl (fun _ => 0)))] := hD
  refine va_putF (D := D) (ci := 0) (v := .ref q7) (ty := .array .int) (C := RX0) (T := TX0) (N := 19) hx hb hts in_X0 tyX0 tyX0_ok nmX0 hown hK hP hD hS 0 rfl rfl 7 (by decide) (hts _ q46) (fun _ h9 => h9) rfl hin rfl (by decide +kernel) rfl rfl (Nat.le_of_ble_eq_true rfl) dX0_init_59 (fun H locs hP hD hS => ?_)
  have hP : va_P D vwCl [(h0, .inr (0, [.int 0, .ref q1, .ref q2, .ref q3, .ref q4, .ref q5, .ref q6, .ref q7, .int 0, .null, .null, .null, .null, .null, .int 0, .int 0, .null, .null, .int 0])), (q1, .inl (cs 0, 64, .inl (fun _ => 0))), (q2, .inl (cs 0, 64, .inl (fun _ => 0))), (q3, .inl (cs 0, 64, .inl (fun _ => 0))), (q4, .inl (cs 0, 1536, .inl (fun _ => 0))), (q5, .inl (cs 0, 24, .inl (fun _ => 0))), (q6, .inl (cs 0, 24, .inl (fun _ => 0))), (q7, .inl (cs 0, 144, .inl (fun _ => 0)))] H := hP
  have hD : va_D A [(h0, .inr (0, [.int 0, .ref q1, .ref q2, .ref q3, .ref q4, .ref q5, .ref q6, .ref q7, .int 0, .null, .null, .null, .null, .null, .int 0, .int 0, .null, .null, .int 0])), (q1, .inl (cs 0, 64, .inl (fun _ => 0))), (q2, .inl (cs 0, 64, .inl (fun _ => 0))), (q3, .inl (cs 0, 64, .inl (fun _ => 0))), (q4, .inl (cs 0, 1536, .inl (fun _ => 0))), (q5, .inl (cs 0, 24, .inl (fun _ => 0))), (q6, .inl (cs 0, 24, .inl (fun _ => 0))), (q7, .inl (cs 0, 144, .inl (fun _ => 0)))] := hD
  refine lv_aload_n hx hb dX0_init_62 rfl (lv_at hl 0 rfl) ?_
  refine lv_bipush (v := nI 8) hx hb dX0_init_63 kb_8 ?_
  refine cx_newi (N := 8) hx hb hts hK hP hD hS hA (by decide) (by decide) (by decide) dX0_init_65 (fun q9 H hP hD hS => ?_)
  refine W.widen (k := 8) (n := 1928) (by decide) (by decide) ?_
  have hP : va_P D vwCl [(h0, .inr (0, [.int 0, .ref q1, .ref q2, .ref q3, .ref q4, .ref q5, .ref q6, .ref q7, .int 0, .null, .null, .null, .null, .null, .int 0, .int 0, .null, .null, .int 0])), (q1, .inl (cs 0, 64, .inl (fun _ => 0))), (q2, .inl (cs 0, 64, .inl (fun _ => 0))), (q3, .inl (cs 0, 64, .inl (fun _ => 0))), (q4, .inl (cs 0, 1536, .inl (fun _ => 0))), (q5, .inl (cs 0, 24, .inl (fun _ => 0))), (q6, .inl (cs 0, 24, .inl (fun _ => 0))), (q7, .inl (cs 0, 144, .inl (fun _ => 0))), (q9, .inl (cs 0, 8, .inl (fun _ => 0)))] H := hP
  have hD : va_D A [(h0, .inr (0, [.int 0, .ref q1, .ref q2, .ref q3, .ref q4, .ref q5, .ref q6, .ref q7, .int 0, .null, .null, .null, .null, .null, .int 0, .int 0, .null, .null, .int 0])), (q1, .inl (cs 0, 64, .inl (fun _ => 0))), (q2, .inl (cs 0, 64, .inl (fun _ => 0))), (q3, .inl (cs 0, 64, .inl (fun _ => 0))), (q4, .inl (cs 0, 1536, .inl (fun _ => 0))), (q5, .inl (cs 0, 24, .inl (fun _ => 0))), (q6, .inl (cs 0, 24, .inl (fun _ => 0))), (q7, .inl (cs 0, 144, .inl (fun _ => 0))), (q9, .inl (cs 0, 8, .inl (fun _ => 0)))] := hD
  refine va_putF (D := D) (ci := 0) (v := .ref q9) (ty := .array .int) (C := RX0) (T := TX0) (N := 19) hx hb hts in_X0 tyX0 tyX0_ok nmX0 hown hK hP hD hS 0 rfl rfl 9 (by decide) (hts _ q48) (fun _ h9 => h9) rfl hin rfl (by decide +kernel) rfl rfl (Nat.le_of_ble_eq_true rfl) dX0_init_67 (fun H locs hP hD hS => ?_)
  have hP : va_P D vwCl [(h0, .inr (0, [.int 0, .ref q1, .ref q2, .ref q3, .ref q4, .ref q5, .ref q6, .ref q7, .int 0, .ref q9, .null, .null, .null, .null, .int 0, .int 0, .null, .null, .int 0])), (q1, .inl (cs 0, 64, .inl (fun _ => 0))), (q2, .inl (cs 0, 64, .inl (fun _ => 0))), (q3, .inl (cs 0, 64, .inl (fun _ => 0))), (q4, .inl (cs 0, 1536, .inl (fun _ => 0))), (q5, .inl (cs 0, 24, .inl (fun _ => 0))), (q6, .inl (cs 0, 24, .inl (fun _ => 0))), (q7, .inl (cs 0, 144, .inl (fun _ => 0))), (q9, .inl (cs 0, 8, .inl (fun _ => 0)))] H := hP
  have hD : va_D A [(h0, .inr (0, [.int 0, .ref q1, .ref q2, .ref q3, .ref q4, .ref q5, .ref q6, .ref q7, .int 0, .ref q9, .null, .null, .null, .null, .int 0, .int 0, .null, .null, .int 0])), (q1, .inl (cs 0, 64, .inl (fun _ => 0))), (q2, .inl (cs 0, 64, .inl (fun _ => 0))), (q3, .inl (cs 0, 64, .inl (fun _ => 0))), (q4, .inl (cs 0, 1536, .inl (fun _ => 0))), (q5, .inl (cs 0, 24, .inl (fun _ => 0))), (q6, .inl (cs 0, 24, .inl (fun _ => 0))), (q7, .inl (cs 0, 144, .inl (fun _ => 0))), (q9, .inl (cs 0, 8, .inl (fun _ => 0)))] := hD
  refine lv_aload_n hx hb dX0_init_70 rfl (lv_at hl 0 rfl) ?_
  refine lv_bipush (v := nI 8) hx hb dX0_init_71 kb_8 ?_
  refine cx_newi (N := 8) hx hb hts hK hP hD hS hA (by decide) (by decide) (by decide) dX0_init_73 (fun q10 H hP hD hS => ?_)
  refine W.widen (k := 9) (n := 1936) (by decide) (by decide) ?_
  have hP : va_P D vwCl [(h0, .inr (0, [.int 0, .ref q1, .ref q2, .ref q3, .ref q4, .ref q5, .ref q6, .ref q7, .int 0, .ref q9, .null, .null, .null, .null, .int 0, .int 0, .null, .null, .int 0])), (q1, .inl (cs 0, 64, .inl (fun _ => 0))), (q2, .inl (cs 0, 64, .inl (fun _ => 0))), (q3, .inl (cs 0, 64, .inl (fun _ => 0))), (q4, .inl (cs 0, 1536, .inl (fun _ => 0))), (q5, .inl (cs 0, 24, .inl (fun _ => 0))), (q6, .inl (cs 0, 24, .inl (fun _ => 0))), (q7, .inl (cs 0, 144, .inl (fun _ => 0))), (q9, .inl (cs 0, 8, .inl (fun _ => 0))), (q10, .inl (cs 0, 8, .inl (fun _ => 0)))] H := hP
  have hD : va_D A [(h0, .inr (0, [.int 0, .ref q1, .ref q2, .ref q3, .ref q4, .ref q5, .ref q6, .ref q7, .int 0, .ref q9, .null, .null, .null, .null, .int 0, .int 0, .null, .null, .int 0])), (q1, .inl (cs 0, 64, .inl (fun _ => 0))), (q2, .inl (cs 0, 64, .inl (fun _ => 0))), (q3, .inl (cs 0, 64, .inl (fun _ => 0))), (q4, .inl (cs 0, 1536, .inl (fun _ => 0))), (q5, .inl (cs 0, 24, .inl (fun _ => 0))), (q6, .inl (cs 0, 24, .inl (fun _ => 0))), (q7, .inl (cs 0, 144, .inl (fun _ => 0))), (q9, .inl (cs 0, 8, .inl (fun _ => 0))), (q10, .inl (cs 0, 8, .inl (fun _ => 0)))] := hD
  refine va_putF (D := D) (ci := 0) (v := .ref q10) (ty := .array .int) (C := RX0) (T := TX0) (N := 19) hx hb hts in_X0 tyX0 tyX0_ok nmX0 hown hK hP hD hS 0 rfl rfl 10 (by decide) (hts _ q49) (fun _ h9 => h9) rfl hin rfl (by decide +kernel) rfl rfl (Nat.le_of_ble_eq_true rfl) dX0_init_75 (fun H locs hP hD hS => ?_)
  have hP : va_P D vwCl [(h0, .inr (0, [.int 0, .ref q1, .ref q2, .ref q3, .ref q4, .ref q5, .ref q6, .ref q7, .int 0, .ref q9, .ref q10, .null, .null, .null, .int 0, .int 0, .null, .null, .int 0])), (q1, .inl (cs 0, 64, .inl (fun _ => 0))), (q2, .inl (cs 0, 64, .inl (fun _ => 0))), (q3, .inl (cs 0, 64, .inl (fun _ => 0))), (q4, .inl (cs 0, 1536, .inl (fun _ => 0))), (q5, .inl (cs 0, 24, .inl (fun _ => 0))), (q6, .inl (cs 0, 24, .inl (fun _ => 0))), (q7, .inl (cs 0, 144, .inl (fun _ => 0))), (q9, .inl (cs 0, 8, .inl (fun _ => 0))), (q10, .inl (cs 0, 8, .inl (fun _ => 0)))] H := hP
  have hD : va_D A [(h0, .inr (0, [.int 0, .ref q1, .ref q2, .ref q3, .ref q4, .ref q5, .ref q6, .ref q7, .int 0, .ref q9, .ref q10, .null, .null, .null, .int 0, .int 0, .null, .null, .int 0])), (q1, .inl (cs 0, 64, .inl (fun _ => 0))), (q2, .inl (cs 0, 64, .inl (fun _ => 0))), (q3, .inl (cs 0, 64, .inl (fun _ => 0))), (q4, .inl (cs 0, 1536, .inl (fun _ => 0))), (q5, .inl (cs 0, 24, .inl (fun _ => 0))), (q6, .inl (cs 0, 24, .inl (fun _ => 0))), (q7, .inl (cs 0, 144, .inl (fun _ => 0))), (q9, .inl (cs 0, 8, .inl (fun _ => 0))), (q10, .inl (cs 0, 8, .inl (fun _ => 0)))] := hD
  refine lv_aload_n hx hb dX0_init_78 rfl (lv_at hl 0 rfl) ?_
  refine lv_bipush (v := nI 8) hx hb dX0_init_79 kb_8 ?_
  refine cx_newi (N := 8) hx hb hts hK hP hD hS hA (by decide) (by decide) (by decide) dX0_init_81 (fun q11 H hP hD hS => ?_)
  refine W.widen (k := 10) (n := 1944) (by decide) (by decide) ?_
  have hP : va_P D vwCl [(h0, .inr (0, [.int 0, .ref q1, .ref q2, .ref q3, .ref q4, .ref q5, .ref q6, .ref q7, .int 0, .ref q9, .ref q10, .null, .null, .null, .int 0, .int 0, .null, .null, .int 0])), (q1, .inl (cs 0, 64, .inl (fun _ => 0))), (q2, .inl (cs 0, 64, .inl (fun _ => 0))), (q3, .inl (cs 0, 64, .inl (fun _ => 0))), (q4, .inl (cs 0, 1536, .inl (fun _ => 0))), (q5, .inl (cs 0, 24, .inl (fun _ => 0))), (q6, .inl (cs 0, 24, .inl (fun _ => 0))), (q7, .inl (cs 0, 144, .inl (fun _ => 0))), (q9, .inl (cs 0, 8, .inl (fun _ => 0))), (q10, .inl (cs 0, 8, .inl (fun _ => 0))), (q11, .inl (cs 0, 8, .inl (fun _ => 0)))] H := hP
  have hD : va_D A [(h0, .inr (0, [.int 0, .ref q1, .ref q2, .ref q3, .ref q4, .ref q5, .ref q6, .ref q7, .int 0, .ref q9, .ref q10, .null, .null, .null, .int 0, .int 0, .null, .null, .int 0])), (q1, .inl (cs 0, 64, .inl (fun _ => 0))), (q2, .inl (cs 0, 64, .inl (fun _ => 0))), (q3, .inl (cs 0, 64, .inl (fun _ => 0))), (q4, .inl (cs 0, 1536, .inl (fun _ => 0))), (q5, .inl (cs 0, 24, .inl (fun _ => 0))), (q6, .inl (cs 0, 24, .inl (fun _ => 0))), (q7, .inl (cs 0, 144, .inl (fun _ => 0))), (q9, .inl (cs 0, 8, .inl (fun _ => 0))), (q10, .inl (cs 0, 8, .inl (fun _ => 0))), (q11, .inl (cs 0, 8, .inl (fun _ => 0)))] := hD
  refine va_putF (D := D) (ci := 0) (v := .ref q11) (ty := .array .int) (C := RX0) (T := TX0) (N := 19) hx hb hts in_X0 tyX0 tyX0_ok nmX0 hown hK hP hD hS 0 rfl rfl 11 (by decide) (hts _ q50) (fun _ h9 => h9) rfl hin rfl (by decide +kernel) rfl rfl (Nat.le_of_ble_eq_true rfl) dX0_init_83 (fun H locs hP hD hS => ?_)
  have hP : va_P D vwCl [(h0, .inr (0, [.int 0, .ref q1, .ref q2, .ref q3, .ref q4, .ref q5, .ref q6, .ref q7, .int 0, .ref q9, .ref q10, .ref q11, .null, .null, .int 0, .int 0, .null, .null, .int 0])), (q1, .inl (cs 0, 64, .inl (fun _ => 0))), (q2, .inl (cs 0, 64, .inl (fun _ => 0))), (q3, .inl (cs 0, 64, .inl (fun _ => 0))), (q4, .inl (cs 0, 1536, .inl (fun _ => 0))), (q5, .inl (cs 0, 24, .inl (fun _ => 0))), (q6, .inl (cs 0, 24, .inl (fun _ => 0))), (q7, .inl (cs 0, 144, .inl (fun _ => 0))), (q9, .inl (cs 0, 8, .inl (fun _ => 0))), (q10, .inl (cs 0, 8, .inl (fun _ => 0))), (q11, .inl (cs 0, 8, .inl (fun _ => 0)))] H := hP
  have hD : va_D A [(h0, .inr (0, [.int 0, .ref q1, .ref q2, .ref q3, .ref q4, .ref q5, .ref q6, .ref q7, .int 0, .ref q9, .ref q10, .ref q11, .null, .null, .int 0, .int 0, .null, .null, .int 0])), (q1, .inl (cs 0, 64, .inl (fun _ => 0))), (q2, .inl (cs 0, 64, .inl (fun _ => 0))), (q3, .inl (cs 0, 64, .inl (fun _ => 0))), (q4, .inl (cs 0, 1536, .inl (fun _ => 0))), (q5, .inl (cs 0, 24, .inl (fun _ => 0))), (q6, .inl (cs 0, 24, .inl (fun _ => 0))), (q7, .inl (cs 0, 144, .inl (fun _ => 0))), (q9, .inl (cs 0, 8, .inl (fun _ => 0))), (q10, .inl (cs 0, 8, .inl (fun _ => 0))), (q11, .inl (cs 0, 8, .inl (fun _ => 0)))] := hD
  refine lv_aload_n hx hb dX0_init_86 rfl (lv_at hl 0 rfl) ?_
  refine lv_bipush (v := nI 8) hx hb dX0_init_87 kb_8 ?_
  refine cx_newi (N := 8) hx hb hts hK hP hD hS hA (by decide) (by decide) (by decide) dX0_init_89 (fun q12 H hP hD hS => ?_)
  refine W.widen (k := 11) (n := 1952) (by decide) (by decide) ?_
  have hP : va_P D vwCl [(h0, .inr (0, [.int 0, .ref q1, .ref q2, .ref q3, .ref q4, .ref q5, .ref q6, .ref q7, .int 0, .ref q9, .ref q10, .ref q11, .null, .null, .int 0, .int 0, .null, .null, .int 0])), (q1, .inl (cs 0, 64, .inl (fun _ => 0))), (q2, .inl (cs 0, 64, .inl (fun _ => 0))), (q3, .inl (cs 0, 64, .inl (fun _ => 0))), (q4, .inl (cs 0, 1536, .inl (fun _ => 0))), (q5, .inl (cs 0, 24, .inl (fun _ => 0))), (q6, .inl (cs 0, 24, .inl (fun _ => 0))), (q7, .inl (cs 0, 144, .inl (fun _ => 0))), (q9, .inl (cs 0, 8, .inl (fun _ => 0))), (q10, .inl (cs 0, 8, .inl (fun _ => 0))), (q11, .inl (cs 0, 8, .inl (fun _ => 0))), (q12, .inl (cs 0, 8, .inl (fun _ => 0)))] H := hP
  have hD : va_D A [(h0, .inr (0, [.int 0, .ref q1, .ref q2, .ref q3, .ref q4, .ref q5, .ref q6, .ref q7, .int 0, .ref q9, .ref q10, .ref q11, .null, .null, .int 0, .int 0, .null, .null, .int 0])), (q1, .inl (cs 0, 64, .inl (fun _ => 0))), (q2, .inl (cs 0, 64, .inl (fun _ => 0))), (q3, .inl (cs 0, 64, .inl (fun _ => 0))), (q4, .inl (cs 0, 1536, .inl (fun _ => 0))), (q5, .inl (cs 0, 24, .inl (fun _ => 0))), (q6, .inl (cs 0, 24, .inl (fun _ => 0))), (q7, .inl (cs 0, 144, .inl (fun _ => 0))), (q9, .inl (cs 0, 8, .inl (fun _ => 0))), (q10, .inl (cs 0, 8, .inl (fun _ => 0))), (q11, .inl (cs 0, 8, .inl (fun _ => 0))), (q12, .inl (cs 0, 8, .inl (fun _ => 0)))] := hD
  refine va_putF (D := D) (ci := 0) (v := .ref q12) (ty := .array .int) (C := RX0) (T := TX0) (N := 19) hx hb hts in_X0 tyX0 tyX0_ok nmX0 hown hK hP hD hS 0 rfl rfl 12 (by decide) (hts _ q51) (fun _ h9 => h9) rfl hin rfl (by decide +kernel) rfl rfl (Nat.le_of_ble_eq_true rfl) dX0_init_91 (fun H locs hP hD hS => ?_)
  have hP : va_P D vwCl [(h0, .inr (0, [.int 0, .ref q1, .ref q2, .ref q3, .ref q4, .ref q5, .ref q6, .ref q7, .int 0, .ref q9, .ref q10, .ref q11, .ref q12, .null, .int 0, .int 0, .null, .null, .int 0])), (q1, .inl (cs 0, 64, .inl (fun _ => 0))), (q2, .inl (cs 0, 64, .inl (fun _ => 0))), (q3, .inl (cs 0, 64, .inl (fun _ => 0))), (q4, .inl (cs 0, 1536, .inl (fun _ => 0))), (q5, .inl (cs 0, 24, .inl (fun _ => 0))), (q6, .inl (cs 0, 24, .inl (fun _ => 0))), (q7, .inl (cs 0, 144, .inl (fun _ => 0))), (q9, .inl (cs 0, 8, .inl (fun _ => 0))), (q10, .inl (cs 0, 8, .inl (fun _ => 0))), (q11, .inl (cs 0, 8, .inl (fun _ => 0))), (q12, .inl (cs 0, 8, .inl (fun _ => 0)))] H := hP
  have hD : va_D A [(h0, .inr (0, [.int 0, .ref q1, .ref q2, .ref q3, .ref q4, .ref q5, .ref q6, .ref q7, .int 0, .ref q9, .ref q10, .ref q11, .ref q12, .null, .int 0, .int 0, .null, .null, .int 0])), (q1, .inl (cs 0, 64, .inl (fun _ => 0))), (q2, .inl (cs 0, 64, .inl (fun _ => 0))), (q3, .inl (cs 0, 64, .inl (fun _ => 0))), (q4, .inl (cs 0, 1536, .inl (fun _ => 0))), (q5, .inl (cs 0, 24, .inl (fun _ => 0))), (q6, .inl (cs 0, 24, .inl (fun _ => 0))), (q7, .inl (cs 0, 144, .inl (fun _ => 0))), (q9, .inl (cs 0, 8, .inl (fun _ => 0))), (q10, .inl (cs 0, 8, .inl (fun _ => 0))), (q11, .inl (cs 0, 8, .inl (fun _ => 0))), (q12, .inl (cs 0, 8, .inl (fun _ => 0)))] := hD
  refine lv_aload_n hx hb dX0_init_94 rfl (lv_at hl 0 rfl) ?_
  refine lv_bipush (v := nI 8) hx hb dX0_init_95 kb_8 ?_
  refine cx_newi (N := 8) hx hb hts hK hP hD hS hA (by decide) (by decide) (by decide) dX0_init_97 (fun q13 H hP hD hS => ?_)
  refine W.widen (k := 12) (n := 1960) (by decide) (by decide) ?_
  have hP : va_P D vwCl [(h0, .inr (0, [.int 0, .ref q1, .ref q2, .ref q3, .ref q4, .ref q5, .ref q6, .ref q7, .int 0, .ref q9, .ref q10, .ref q11, .ref q12, .null, .int 0, .int 0, .null, .null, .int 0])), (q1, .inl (cs 0, 64, .inl (fun _ => 0))), (q2, .inl (cs 0, 64, .inl (fun _ => 0))), (q3, .inl (cs 0, 64, .inl (fun _ => 0))), (q4, .inl (cs 0, 1536, .inl (fun _ => 0))), (q5, .inl (cs 0, 24, .inl (fun _ => 0))), (q6, .inl (cs 0, 24, .inl (fun _ => 0))), (q7, .inl (cs 0, 144, .inl (fun _ => 0))), (q9, .inl (cs 0, 8, .inl (fun _ => 0))), (q10, .inl (cs 0, 8, .inl (fun _ => 0))), (q11, .inl (cs 0, 8, .inl (fun _ => 0))), (q12, .inl (cs 0, 8, .inl (fun _ => 0))), (q13, .inl (cs 0, 8, .inl (fun _ => 0)))] H := hP
  have hD : va_D A [(h0, .inr (0, [.int 0, .ref q1, .ref q2, .ref q3, .ref q4, .ref q5, .ref q6, .ref q7, .int 0, .ref q9, .ref q10, .ref q11, .ref q12, .null, .int 0, .int 0, .null, .null, .int 0])), (q1, .inl (cs 0, 64, .inl (fun _ => 0))), (q2, .inl (cs 0, 64, .inl (fun _ => 0))), (q3, .inl (cs 0, 64, .inl (fun _ => 0))), (q4, .inl (cs 0, 1536, .inl (fun _ => 0))), (q5, .inl (cs 0, 24, .inl (fun _ => 0))), (q6, .inl (cs 0, 24, .inl (fun _ => 0))), (q7, .inl (cs 0, 144, .inl (fun _ => 0))), (q9, .inl (cs 0, 8, .inl (fun _ => 0))), (q10, .inl (cs 0, 8, .inl (fun _ => 0))), (q11, .inl (cs 0, 8, .inl (fun _ => 0))), (q12, .inl (cs 0, 8, .inl (fun _ => 0))), (q13, .inl (cs 0, 8, .inl (fun _ => 0)))] := hD
  refine va_putF (D := D) (ci := 0) (v := .ref q13) (ty := .array .int) (C := RX0) (T := TX0) (N := 19) hx hb hts in_X0 tyX0 tyX0_ok nmX0 hown hK hP hD hS 0 rfl rfl 13 (by decide) (hts _ q52) (fun _ h9 => h9) rfl hin rfl (by decide +kernel) rfl rfl (Nat.le_of_ble_eq_true rfl) dX0_init_99 (fun H locs hP hD hS => ?_)
  have hP : va_P D vwCl [(h0, .inr (0, [.int 0, .ref q1, .ref q2, .ref q3, .ref q4, .ref q5, .ref q6, .ref q7, .int 0, .ref q9, .ref q10, .ref q11, .ref q12, .ref q13, .int 0, .int 0, .null, .null, .int 0])), (q1, .inl (cs 0, 64, .inl (fun _ => 0))), (q2, .inl (cs 0, 64, .inl (fun _ => 0))), (q3, .inl (cs 0, 64, .inl (fun _ => 0))), (q4, .inl (cs 0, 1536, .inl (fun _ => 0))), (q5, .inl (cs 0, 24, .inl (fun _ => 0))), (q6, .inl (cs 0, 24, .inl (fun _ => 0))), (q7, .inl (cs 0, 144, .inl (fun _ => 0))), (q9, .inl (cs 0, 8, .inl (fun _ => 0))), (q10, .inl (cs 0, 8, .inl (fun _ => 0))), (q11, .inl (cs 0, 8, .inl (fun _ => 0))), (q12, .inl (cs 0, 8, .inl (fun _ => 0))), (q13, .inl (cs 0, 8, .inl (fun _ => 0)))] H := hP
  have hD : va_D A [(h0, .inr (0, [.int 0, .ref q1, .ref q2, .ref q3, .ref q4, .ref q5, .ref q6, .ref q7, .int 0, .ref q9, .ref q10, .ref q11, .ref q12, .ref q13, .int 0, .int 0, .null, .null, .int 0])), (q1, .inl (cs 0, 64, .inl (fun _ => 0))), (q2, .inl (cs 0, 64, .inl (fun _ => 0))), (q3, .inl (cs 0, 64, .inl (fun _ => 0))), (q4, .inl (cs 0, 1536, .inl (fun _ => 0))), (q5, .inl (cs 0, 24, .inl (fun _ => 0))), (q6, .inl (cs 0, 24, .inl (fun _ => 0))), (q7, .inl (cs 0, 144, .inl (fun _ => 0))), (q9, .inl (cs 0, 8, .inl (fun _ => 0))), (q10, .inl (cs 0, 8, .inl (fun _ => 0))), (q11, .inl (cs 0, 8, .inl (fun _ => 0))), (q12, .inl (cs 0, 8, .inl (fun _ => 0))), (q13, .inl (cs 0, 8, .inl (fun _ => 0)))] := hD
  refine lv_aload_n hx hb dX0_init_102 rfl (lv_at hl 0 rfl) ?_
  refine lv_bipush (v := nI 8) hx hb dX0_init_103 kb_8 ?_
  refine cx_newi (N := 8) hx hb hts hK hP hD hS hA (by decide) (by decide) (by decide) dX0_init_105 (fun q16 H hP hD hS => ?_)
  refine W.widen (k := 13) (n := 1968) (by decide) (by decide) ?_
  have hP : va_P D vwCl [(h0, .inr (0, [.int 0, .ref q1, .ref q2, .ref q3, .ref q4, .ref q5, .ref q6, .ref q7, .int 0, .ref q9, .ref q10, .ref q11, .ref q12, .ref q13, .int 0, .int 0, .null, .null, .int 0])), (q1, .inl (cs 0, 64, .inl (fun _ => 0))), (q2, .inl (cs 0, 64, .inl (fun _ => 0))), (q3, .inl (cs 0, 64, .inl (fun _ => 0))), (q4, .inl (cs 0, 1536, .inl (fun _ => 0))), (q5, .inl (cs 0, 24, .inl (fun _ => 0))), (q6, .inl (cs 0, 24, .inl (fun _ => 0))), (q7, .inl (cs 0, 144, .inl (fun _ => 0))), (q9, .inl (cs 0, 8, .inl (fun _ => 0))), (q10, .inl (cs 0, 8, .inl (fun _ => 0))), (q11, .inl (cs 0, 8, .inl (fun _ => 0))), (q12, .inl (cs 0, 8, .inl (fun _ => 0))), (q13, .inl (cs 0, 8, .inl (fun _ => 0))), (q16, .inl (cs 0, 8, .inl (fun _ => 0)))] H := hP
  have hD : va_D A [(h0, .inr (0, [.int 0, .ref q1, .ref q2, .ref q3, .ref q4, .ref q5, .ref q6, .ref q7, .int 0, .ref q9, .ref q10, .ref q11, .ref q12, .ref q13, .int 0, .int 0, .null, .null, .int 0])), (q1, .inl (cs 0, 64, .inl (fun _ => 0))), (q2, .inl (cs 0, 64, .inl (fun _ => 0))), (q3, .inl (cs 0, 64, .inl (fun _ => 0))), (q4, .inl (cs 0, 1536, .inl (fun _ => 0))), (q5, .inl (cs 0, 24, .inl (fun _ => 0))), (q6, .inl (cs 0, 24, .inl (fun _ => 0))), (q7, .inl (cs 0, 144, .inl (fun _ => 0))), (q9, .inl (cs 0, 8, .inl (fun _ => 0))), (q10, .inl (cs 0, 8, .inl (fun _ => 0))), (q11, .inl (cs 0, 8, .inl (fun _ => 0))), (q12, .inl (cs 0, 8, .inl (fun _ => 0))), (q13, .inl (cs 0, 8, .inl (fun _ => 0))), (q16, .inl (cs 0, 8, .inl (fun _ => 0)))] := hD
  refine va_putF (D := D) (ci := 0) (v := .ref q16) (ty := .array .int) (C := RX0) (T := TX0) (N := 19) hx hb hts in_X0 tyX0 tyX0_ok nmX0 hown hK hP hD hS 0 rfl rfl 16 (by decide) (hts _ q55) (fun _ h9 => h9) rfl hin rfl (by decide +kernel) rfl rfl (Nat.le_of_ble_eq_true rfl) dX0_init_107 (fun H locs hP hD hS => ?_)
  have hP : va_P D vwCl [(h0, .inr (0, [.int 0, .ref q1, .ref q2, .ref q3, .ref q4, .ref q5, .ref q6, .ref q7, .int 0, .ref q9, .ref q10, .ref q11, .ref q12, .ref q13, .int 0, .int 0, .ref q16, .null, .int 0])), (q1, .inl (cs 0, 64, .inl (fun _ => 0))), (q2, .inl (cs 0, 64, .inl (fun _ => 0))), (q3, .inl (cs 0, 64, .inl (fun _ => 0))), (q4, .inl (cs 0, 1536, .inl (fun _ => 0))), (q5, .inl (cs 0, 24, .inl (fun _ => 0))), (q6, .inl (cs 0, 24, .inl (fun _ => 0))), (q7, .inl (cs 0, 144, .inl (fun _ => 0))), (q9, .inl (cs 0, 8, .inl (fun _ => 0))), (q10, .inl (cs 0, 8, .inl (fun _ => 0))), (q11, .inl (cs 0, 8, .inl (fun _ => 0))), (q12, .inl (cs 0, 8, .inl (fun _ => 0))), (q13, .inl (cs 0, 8, .inl (fun _ => 0))), (q16, .inl (cs 0, 8, .inl (fun _ => 0)))] H := hP
  have hD : va_D A [(h0, .inr (0, [.int 0, .ref q1, .ref q2, .ref q3, .ref q4, .ref q5, .ref q6, .ref q7, .int 0, .ref q9, .ref q10, .ref q11, .ref q12, .ref q13, .int 0, .int 0, .ref q16, .null, .int 0])), (q1, .inl (cs 0, 64, .inl (fun _ => 0))), (q2, .inl (cs 0, 64, .inl (fun _ => 0))), (q3, .inl (cs 0, 64, .inl (fun _ => 0))), (q4, .inl (cs 0, 1536, .inl (fun _ => 0))), (q5, .inl (cs 0, 24, .inl (fun _ => 0))), (q6, .inl (cs 0, 24, .inl (fun _ => 0))), (q7, .inl (cs 0, 144, .inl (fun _ => 0))), (q9, .inl (cs 0, 8, .inl (fun _ => 0))), (q10, .inl (cs 0, 8, .inl (fun _ => 0))), (q11, .inl (cs 0, 8, .inl (fun _ => 0))), (q12, .inl (cs 0, 8, .inl (fun _ => 0))), (q13, .inl (cs 0, 8, .inl (fun _ => 0))), (q16, .inl (cs 0, 8, .inl (fun _ => 0)))] := hD
  refine lv_aload_n hx hb dX0_init_110 rfl (lv_at hl 0 rfl) ?_
  refine lv_bipush (v := nI 8) hx hb dX0_init_111 kb_8 ?_
  refine cx_newl (N := 8) hx hb hts hK hP hD hS hA (by decide) (by decide) (by decide) dX0_init_113 (fun q17 H hP hD hS => ?_)
  refine W.widen (k := 14) (n := 1976) (by decide) (by decide) ?_
  have hP : va_P D vwCl [(h0, .inr (0, [.int 0, .ref q1, .ref q2, .ref q3, .ref q4, .ref q5, .ref q6, .ref q7, .int 0, .ref q9, .ref q10, .ref q11, .ref q12, .ref q13, .int 0, .int 0, .ref q16, .null, .int 0])), (q1, .inl (cs 0, 64, .inl (fun _ => 0))), (q2, .inl (cs 0, 64, .inl (fun _ => 0))), (q3, .inl (cs 0, 64, .inl (fun _ => 0))), (q4, .inl (cs 0, 1536, .inl (fun _ => 0))), (q5, .inl (cs 0, 24, .inl (fun _ => 0))), (q6, .inl (cs 0, 24, .inl (fun _ => 0))), (q7, .inl (cs 0, 144, .inl (fun _ => 0))), (q9, .inl (cs 0, 8, .inl (fun _ => 0))), (q10, .inl (cs 0, 8, .inl (fun _ => 0))), (q11, .inl (cs 0, 8, .inl (fun _ => 0))), (q12, .inl (cs 0, 8, .inl (fun _ => 0))), (q13, .inl (cs 0, 8, .inl (fun _ => 0))), (q16, .inl (cs 0, 8, .inl (fun _ => 0))), (q17, .inl (cs 1, 8, .inr (.inl (fun _ => 0))))] H := hP
  have hD : va_D A [(h0, .inr (0, [.int 0, .ref q1, .ref q2, .ref q3, .ref q4, .ref q5, .ref q6, .ref q7, .int 0, .ref q9, .ref q10, .ref q11, .ref q12, .ref q13, .int 0, .int 0, .ref q16, .null, .int 0])), (q1, .inl (cs 0, 64, .inl (fun _ => 0))), (q2, .inl (cs 0, 64, .inl (fun _ => 0))), (q3, .inl (cs 0, 64, .inl (fun _ => 0))), (q4, .inl (cs 0, 1536, .inl (fun _ => 0))), (q5, .inl (cs 0, 24, .inl (fun _ => 0))), (q6, .inl (cs 0, 24, .inl (fun _ => 0))), (q7, .inl (cs 0, 144, .inl (fun _ => 0))), (q9, .inl (cs 0, 8, .inl (fun _ => 0))), (q10, .inl (cs 0, 8, .inl (fun _ => 0))), (q11, .inl (cs 0, 8, .inl (fun _ => 0))), (q12, .inl (cs 0, 8, .inl (fun _ => 0))), (q13, .inl (cs 0, 8, .inl (fun _ => 0))), (q16, .inl (cs 0, 8, .inl (fun _ => 0))), (q17, .inl (cs 1, 8, .inr (.inl (fun _ => 0))))] := hD
  refine va_putF (D := D) (ci := 0) (v := .ref q17) (ty := .array .long) (C := RX0) (T := TX0) (N := 19) hx hb hts in_X0 tyX0 tyX0_ok nmX0 hown hK hP hD hS 0 rfl rfl 17 (by decide) (hts _ q56) (fun _ h9 => h9) rfl hin rfl (by decide +kernel) rfl rfl (Nat.le_of_ble_eq_true rfl) dX0_init_115 (fun H locs hP hD hS => ?_)
  have hP : va_P D vwCl [(h0, .inr (0, [.int 0, .ref q1, .ref q2, .ref q3, .ref q4, .ref q5, .ref q6, .ref q7, .int 0, .ref q9, .ref q10, .ref q11, .ref q12, .ref q13, .int 0, .int 0, .ref q16, .ref q17, .int 0])), (q1, .inl (cs 0, 64, .inl (fun _ => 0))), (q2, .inl (cs 0, 64, .inl (fun _ => 0))), (q3, .inl (cs 0, 64, .inl (fun _ => 0))), (q4, .inl (cs 0, 1536, .inl (fun _ => 0))), (q5, .inl (cs 0, 24, .inl (fun _ => 0))), (q6, .inl (cs 0, 24, .inl (fun _ => 0))), (q7, .inl (cs 0, 144, .inl (fun _ => 0))), (q9, .inl (cs 0, 8, .inl (fun _ => 0))), (q10, .inl (cs 0, 8, .inl (fun _ => 0))), (q11, .inl (cs 0, 8, .inl (fun _ => 0))), (q12, .inl (cs 0, 8, .inl (fun _ => 0))), (q13, .inl (cs 0, 8, .inl (fun _ => 0))), (q16, .inl (cs 0, 8, .inl (fun _ => 0))), (q17, .inl (cs 1, 8, .inr (.inl (fun _ => 0))))] H := hP
  have hD : va_D A [(h0, .inr (0, [.int 0, .ref q1, .ref q2, .ref q3, .ref q4, .ref q5, .ref q6, .ref q7, .int 0, .ref q9, .ref q10, .ref q11, .ref q12, .ref q13, .int 0, .int 0, .ref q16, .ref q17, .int 0])), (q1, .inl (cs 0, 64, .inl (fun _ => 0))), (q2, .inl (cs 0, 64, .inl (fun _ => 0))), (q3, .inl (cs 0, 64, .inl (fun _ => 0))), (q4, .inl (cs 0, 1536, .inl (fun _ => 0))), (q5, .inl (cs 0, 24, .inl (fun _ => 0))), (q6, .inl (cs 0, 24, .inl (fun _ => 0))), (q7, .inl (cs 0, 144, .inl (fun _ => 0))), (q9, .inl (cs 0, 8, .inl (fun _ => 0))), (q10, .inl (cs 0, 8, .inl (fun _ => 0))), (q11, .inl (cs 0, 8, .inl (fun _ => 0))), (q12, .inl (cs 0, 8, .inl (fun _ => 0))), (q13, .inl (cs 0, 8, .inl (fun _ => 0))), (q16, .inl (cs 0, 8, .inl (fun _ => 0))), (q17, .inl (cs 1, 8, .inr (.inl (fun _ => 0))))] := hD
  obtain ⟨L, hLf⟩ : ∃ L : aw_L, L = (D, cs, cx_ad0 h0 q1 q2 q3 q4 q5 q6 q7 q9 q10 q11 q12 q13 q16 q17) := ⟨_, rfl⟩
  have hP : va_P D vwCl (aw_pic0 L aw_z) H := by rw [hLf]; exact hP
  have hD : va_D A (aw_pic0 L aw_z) := by rw [hLf]; exact hD
  have hl : lv_has ls 2 [(0, .ref (L.2.2 20))] := by rw [hLf]; exact hl
  have hLe : (D, cs, L.2.2) = L := by rw [hLf]
  have h20 : L.2.2 20 = h0 := by rw [hLf]; rfl
  have hcov : ∀ w k, ∃ (j : Nat) (e : va_E), (aw_pic0 L w)[j]? = some (L.2.2 k, e) := by
    rw [hLf]
    exact fun w k => cx_cov0 D cs h0 q1 q2 q3 q4 q5 q6 q7 q9 q10 q11 q12 q13 q16 q17 w k
  have hK : va_K D vwCl (aw_tys L) s := by rw [hLf]; exact hK
  have hDw : ∀ w, va_D A (aw_pic0 L w) := aw_pic0_D hD
  generalize hQ : MQ below _ _ s 14 1976 A = Q
  obtain ⟨X, hX⟩ : ∃ X : aw_X, X = (p, l, e, (headSpec (ws_ yX0_init cX0_init 2 none) ({ frames := 1, cells := 14, slots := 1976, locals := 12 })).room, s, m, ([.ref h0] : List Value).toArray, below, meth, c, Q, 2, 14, 1976, D, A) := ⟨_, rfl⟩
  have O : aw_ok l L RX0 cX0_init 0 0 X := by
    rw [hX]
    exact ⟨hx, hb, hml, hown, hts, hK, hlocks, Nat.zero_le _, Nat.zero_le _, Nat.le_refl _, Nat.le_refl _, rfl, by rw [hLf]⟩
  have hDx : ∀ w, va_D (aw_ax X) (aw_pic0 L w) := by rw [hX]; exact hDw
  have hnl : ∀ k, k < 2 → k < aw_nl X := by rw [hX]; exact fun k h => h
  have fin : ∀ (w : aw_S) (lv : List (Nat × Value)), aw_i0 w → aw_J (aw_pic0 L) X 162 lv [] w := by
    intro w lv hi
    rw [hX, ← hQ]
    intro H locs ls h1 h2 h3
    exact W.vret hx hb hr (fun t ht hW => ⟨⟨(L.2.2, w), rfl, ⟨h20, hi, by rw [hLe]; exact hcov w⟩, by rw [hLe, ht]; exact h1, by rw [hLe]; exact hDw w⟩, h2.F ht⟩) h2.2.2 dX0_init_162
  suffices key : aw_J (aw_pic0 L) X 118 [(0, .ref (L.2.2 20))] [] aw_z by
    rw [hX] at key
    exact key H locs ls hP hS hl
  have lp2 : ∀ (n : Nat) (s : Nat) (w : aw_S), s ≤ 64 → 64 - s < n → (∀ e, e < 24 → w.1 5 e = -4) → (∀ i, i < s → w.1 2 i = -4) → (∀ j, w.1 7 j = 0) → (∀ k, w.2.1 k = 0) → aw_J (aw_pic0 L) X 142 [(0, .ref (L.2.2 20)), (1, .int (nI s))] [] w := by
    intro n
    induction n with
    | zero =>
      intro s w hs hm a5 a2 a7 af
      exact absurd hm (Nat.not_lt_zero _)
    | succ n ih =>
      intro s w hs hm a5 a2 a7 af
      refine aw_iload_n (pc' := 143) O dX0_init_142 rfl rfl ?_
      refine aw_bipush (pc' := 145) O dX0_init_143 kb_64 rfl ?_
      refine aw_icmpN_ge (pc' := 148) (tgt := 162) O (by omega) (by omega) dX0_init_145 (by decide) rfl (fun h2 => ?_) (fun h2 => ?_)
      · exact fin w _ ⟨a5, fun i hi => a2 i (by omega), a7, af⟩
      · refine aw_aload_n (pc' := 149) O dX0_init_148 rfl rfl ?_
        refine g0_2 (pc' := 152) O dX0_init_149 rfl ?_
        refine aw_iload_n (pc' := 153) O dX0_init_152 rfl rfl ?_
        refine aw_bipush (pc' := 155) O dX0_init_153 kb_m4 rfl ?_
        refine aw_iast (pc' := 156) (j := s) O (q0 := 2) (n := 64) (hDx _) rfl rfl (by omega) (by decide) dX0_init_155 rfl (w' := aw_sA w 2 s (-4)) rfl ?_
        refine aw_iinc (pc' := 159) (v := nI (s + 1)) (lv' := [(0, .ref (L.2.2 20)), (1, .int (nI (s + 1)))]) O dX0_init_156 (hnl _ (by decide)) rfl (nI_1 _) rfl rfl rfl ?_
        refine aw_goto (tgt := 142) O dX0_init_159 (by decide) ?_
        exact ih (s + 1) _ (by omega) (by omega) a5 (fun i hi => by
          show upd (w.1 2) s (-4) i = -4
          unfold upd
          by_cases q : i = s
          · rw [if_pos q]
          · rw [if_neg q]
            exact a2 i (by omega)) a7 af
  have lp : ∀ (n : Nat) (s : Nat) (w : aw_S), s ≤ 24 → 24 - s < n → (∀ i, i < s → w.1 5 i = -4) → (∀ j, w.1 7 j = 0) → (∀ k, w.2.1 k = 0) → aw_J (aw_pic0 L) X 120 [(0, .ref (L.2.2 20)), (1, .int (nI s))] [] w := by
    intro n
    induction n with
    | zero =>
      intro s w hs hm a5 a7 af
      exact absurd hm (Nat.not_lt_zero _)
    | succ n ih =>
      intro s w hs hm a5 a7 af
      refine aw_iload_n (pc' := 121) O dX0_init_120 rfl rfl ?_
      refine aw_bipush (pc' := 123) O dX0_init_121 kb_24 rfl ?_
      refine aw_icmpN_ge (pc' := 126) (tgt := 140) O (by omega) (by omega) dX0_init_123 (by decide) rfl (fun h2 => ?_) (fun h2 => ?_)
      · refine aw_iconst (pc' := 141) O dX0_init_140 ki_0 rfl ?_
        refine aw_istore_n (pc' := 142) (lv' := [(0, .ref (L.2.2 20)), (1, .int (nI 0))]) O dX0_init_141 (hnl _ (by decide)) rfl rfl rfl ?_
        exact lp2 65 0 _ (by decide) (by decide) (fun i hi => a5 i (by omega)) (fun i hi => absurd hi (Nat.not_lt_zero _)) a7 af
      · refine aw_aload_n (pc' := 127) O dX0_init_126 rfl rfl ?_
        refine g0_5 (pc' := 130) O dX0_init_127 rfl ?_
        refine aw_iload_n (pc' := 131) O dX0_init_130 rfl rfl ?_
        refine aw_bipush (pc' := 133) O dX0_init_131 kb_m4 rfl ?_
        refine aw_iast (pc' := 134) (j := s) O (q0 := 5) (n := 24) (hDx _) rfl rfl (by omega) (by decide) dX0_init_133 rfl (w' := aw_sA w 5 s (-4)) rfl ?_
        refine aw_iinc (pc' := 137) (v := nI (s + 1)) (lv' := [(0, .ref (L.2.2 20)), (1, .int (nI (s + 1)))]) O dX0_init_134 (hnl _ (by decide)) rfl (nI_1 _) rfl rfl rfl ?_
        refine aw_goto (tgt := 120) O dX0_init_137 (by decide) ?_
        exact ih (s + 1) _ (by omega) (by omega) (fun i hi => by
          show upd (w.1 5) s (-4) i = -4
          unfold upd
          by_cases q : i = s
          · rw [if_pos q]
          · rw [if_neg q]
            exact a5 i (by omega)) a7 af
  refine aw_iconst (pc' := 119) O dX0_init_118 ki_0 rfl ?_
  refine aw_istore_n (pc' := 120) (lv' := [(0, .ref (L.2.2 20)), (1, .int (nI 0))]) O dX0_init_119 (hnl _ (by decide)) rfl rfl rfl ?_
  exact lp 25 0 _ (by decide) (by decide) (fun i hi => absurd hi (Nat.not_lt_zero _)) (fun _ => rfl) (fun _ => rfl)
set_option maxHeartbeats 4000000 in
set_option maxRecDepth 100000 in
theorem met1_init (l : Launch) (D : va_G) (cs : Nat → ClassId) (h0 sz : Nat) : Met l yX1_init (ws_ yX1_init cX1_init 1 none) ({ frames := 1, cells := 9, slots := 240, locals := 12 }) (va_Pc [.ref h0] (fun U => U.heap.size = sz ∧ va_P D vwCl [(h0, .inr (1, cx_f1))] U.heap ∧ va_K D vwCl (cx_tys cs) U ∧ va_D (fun _ => True) [(h0, .inr (1, cx_f1))])) (va_Qv (fun u : (Nat → Nat) × aw_S => u.1 20 = h0 ∧ u.2 = aw_z ∧ ∀ k, ∃ (j : Nat) (e : va_E), (aw_pic1 (D, cs, u.1) u.2)[j]? = some (u.1 k, e)) (fun u t => va_P D vwCl (aw_pic1 (D, cs, u.1) u.2) t.heap ∧ va_D (va_A [(h0, .inr (1, cx_f1))] sz) (aw_pic1 (D, cs, u.1) u.2)) (va_A [(h0, .inr (1, cx_f1))] sz)) 9 240 (va_A [(h0, .inr (1, cx_f1))] sz) := by
  refine Met.ofW (cc := cX1_init) (maxL := 1) (ret := none) (by decide) rfl ?_
  intro p e s m args below meth c s₁ B hml hv
  obtain ⟨rfl, hsz, hP, hK, hD0⟩ := hv
  have hx := B.exec
  have hb := B.bytes
  have hr := B.returns
  have hts := atoms_spec (ws := ws_ yX1_init cX1_init 1 none) B.pre
  have hts : ∀ w ∈ lw_all, w.before _ s = true := fun w h => hts w (List.mem_cons_of_mem _ h)
  have hown : s.vm.findClass RX1 = some m.cls := findClass_of_methodNamed B.named
  have hlocks := B.notSynchronized
  have hin : meth.name = "<init>" := (name_of_methodNamed B.named B.method).1
  subst hsz
  have hD := hD0.self (sz := s.heap.size)
  generalize hAe : va_A [(h0, .inr (1, cx_f1))] s.heap.size = A at hD ⊢
  have hA : ∀ q : Nat, s.heap.size ≤ q → A q := fun q h => by rw [← hAe]; exact Or.inr h
  have hS : va_S A s.heap s.heap [] := va_S.rf
  have hl := lv_entry ([.ref h0]) (n := 1) (Nat.le_of_ble_eq_true rfl)
  rw [lg_entry_eq]
  generalize (lg_sl ([.ref h0]) ++ List.replicate (1 - (lg_sl ([.ref h0])).length) Slot.unset).toArray = ls at hl ⊢
  have hl : lv_has ls 1 [(0, .ref h0)] := hl
  refine lv_aload_n hx hb dX1_init_0 rfl (lv_at hl 0 rfl) ?_
  refine W.objInit hx hb hown (hts _ q244) (hts _ q37) (hts _ q38) rfl (by rw [hml]; exact hl.1) rfl dX1_init_1 (Nat.le_of_ble_eq_true rfl) (Nat.le_of_ble_eq_true rfl) ?_
  refine W.eq (g2 := F0 m 4 ls []) rfl ?_
  have hP : va_P D vwCl [(h0, .inr (1, [.null, .null, .null, .null, .null, .null, .null, .null, .null, .int 0]))] s.heap := hP
  have hD : va_D A [(h0, .inr (1, [.null, .null, .null, .null, .null, .null, .null, .null, .null, .int 0]))] := hD
  refine lv_aload_n hx hb dX1_init_4 rfl (lv_at hl 0 rfl) ?_
  refine lv_bipush (v := nI 24) hx hb dX1_init_5 kb_24 ?_
  refine cx_newz (N := 24) hx hb hts hK hP hD hS hA (by decide) (by decide) (by decide) dX1_init_7 (fun q0 H hP hD hS => ?_)
  refine W.widen (k := 1) (n := 24) (by decide) (by decide) ?_
  have hP : va_P D vwCl [(h0, .inr (1, [.null, .null, .null, .null, .null, .null, .null, .null, .null, .int 0])), (q0, .inl (cs 2, 24, .inl (fun _ => 0)))] H := hP
  have hD : va_D A [(h0, .inr (1, [.null, .null, .null, .null, .null, .null, .null, .null, .null, .int 0])), (q0, .inl (cs 2, 24, .inl (fun _ => 0)))] := hD
  refine va_putF (D := D) (ci := 1) (v := .ref q0) (ty := .array .boolean) (C := RX1) (T := TX1) (N := 10) hx hb hts in_X1 tyX1 tyX1_ok nmX1 hown hK hP hD hS 0 rfl rfl 0 (by decide) (hts _ q245) (fun _ h9 => h9) rfl hin rfl (by decide +kernel) rfl rfl (Nat.le_of_ble_eq_true rfl) dX1_init_9 (fun H locs hP hD hS => ?_)
  have hP : va_P D vwCl [(h0, .inr (1, [.ref q0, .null, .null, .null, .null, .null, .null, .null, .null, .int 0])), (q0, .inl (cs 2, 24, .inl (fun _ => 0)))] H := hP
  have hD : va_D A [(h0, .inr (1, [.ref q0, .null, .null, .null, .null, .null, .null, .null, .null, .int 0])), (q0, .inl (cs 2, 24, .inl (fun _ => 0)))] := hD
  refine lv_aload_n hx hb dX1_init_12 rfl (lv_at hl 0 rfl) ?_
  refine lv_bipush (v := nI 24) hx hb dX1_init_13 kb_24 ?_
  refine cx_newi (N := 24) hx hb hts hK hP hD hS hA (by decide) (by decide) (by decide) dX1_init_15 (fun q1 H hP hD hS => ?_)
  refine W.widen (k := 2) (n := 48) (by decide) (by decide) ?_
  have hP : va_P D vwCl [(h0, .inr (1, [.ref q0, .null, .null, .null, .null, .null, .null, .null, .null, .int 0])), (q0, .inl (cs 2, 24, .inl (fun _ => 0))), (q1, .inl (cs 0, 24, .inl (fun _ => 0)))] H := hP
  have hD : va_D A [(h0, .inr (1, [.ref q0, .null, .null, .null, .null, .null, .null, .null, .null, .int 0])), (q0, .inl (cs 2, 24, .inl (fun _ => 0))), (q1, .inl (cs 0, 24, .inl (fun _ => 0)))] := hD
  refine va_putF (D := D) (ci := 1) (v := .ref q1) (ty := .array .int) (C := RX1) (T := TX1) (N := 10) hx hb hts in_X1 tyX1 tyX1_ok nmX1 hown hK hP hD hS 0 rfl rfl 1 (by decide) (hts _ q246) (fun _ h9 => h9) rfl hin rfl (by decide +kernel) rfl rfl (Nat.le_of_ble_eq_true rfl) dX1_init_17 (fun H locs hP hD hS => ?_)
  have hP : va_P D vwCl [(h0, .inr (1, [.ref q0, .ref q1, .null, .null, .null, .null, .null, .null, .null, .int 0])), (q0, .inl (cs 2, 24, .inl (fun _ => 0))), (q1, .inl (cs 0, 24, .inl (fun _ => 0)))] H := hP
  have hD : va_D A [(h0, .inr (1, [.ref q0, .ref q1, .null, .null, .null, .null, .null, .null, .null, .int 0])), (q0, .inl (cs 2, 24, .inl (fun _ => 0))), (q1, .inl (cs 0, 24, .inl (fun _ => 0)))] := hD
  refine lv_aload_n hx hb dX1_init_20 rfl (lv_at hl 0 rfl) ?_
  refine lv_sipush (v := nI 144) hx hb dX1_init_21 ks_144 ?_
  refine cx_newi (N := 144) hx hb hts hK hP hD hS hA (by decide) (by decide) (by decide) dX1_init_24 (fun q2 H hP hD hS => ?_)
  refine W.widen (k := 3) (n := 192) (by decide) (by decide) ?_
  have hP : va_P D vwCl [(h0, .inr (1, [.ref q0, .ref q1, .null, .null, .null, .null, .null, .null, .null, .int 0])), (q0, .inl (cs 2, 24, .inl (fun _ => 0))), (q1, .inl (cs 0, 24, .inl (fun _ => 0))), (q2, .inl (cs 0, 144, .inl (fun _ => 0)))] H := hP
  have hD : va_D A [(h0, .inr (1, [.ref q0, .ref q1, .null, .null, .null, .null, .null, .null, .null, .int 0])), (q0, .inl (cs 2, 24, .inl (fun _ => 0))), (q1, .inl (cs 0, 24, .inl (fun _ => 0))), (q2, .inl (cs 0, 144, .inl (fun _ => 0)))] := hD
  refine va_putF (D := D) (ci := 1) (v := .ref q2) (ty := .array .int) (C := RX1) (T := TX1) (N := 10) hx hb hts in_X1 tyX1 tyX1_ok nmX1 hown hK hP hD hS 0 rfl rfl 2 (by decide) (hts _ q247) (fun _ h9 => h9) rfl hin rfl (by decide +kernel) rfl rfl (Nat.le_of_ble_eq_true rfl) dX1_init_26 (fun H locs hP hD hS => ?_)
  have hP : va_P D vwCl [(h0, .inr (1, [.ref q0, .ref q1, .ref q2, .null, .null, .null, .null, .null, .null, .int 0])), (q0, .inl (cs 2, 24, .inl (fun _ => 0))), (q1, .inl (cs 0, 24, .inl (fun _ => 0))), (q2, .inl (cs 0, 144, .inl (fun _ => 0)))] H := hP
  have hD : va_D A [(h0, .inr (1, [.ref q0, .ref q1, .ref q2, .null, .null, .null, .null, .null, .null, .int 0])), (q0, .inl (cs 2, 24, .inl (fun _ => 0))), (q1, .inl (cs 0, 24, .inl (fun _ => 0))), (q2, .inl (cs 0, 144, .inl (fun _ => 0)))] := hD
  refine lv_aload_n hx hb dX1_init_29 rfl (lv_at hl 0 rfl) ?_
  refine lv_bipush (v := nI 8) hx hb dX1_init_30 kb_8 ?_
  refine cx_newi (N := 8) hx hb hts hK hP hD hS hA (by decide) (by decide) (by decide) dX1_init_32 (fun q3 H hP hD hS => ?_)
  refine W.widen (k := 4) (n := 200) (by decide) (by decide) ?_
  have hP : va_P D vwCl [(h0, .inr (1, [.ref q0, .ref q1, .ref q2, .null, .null, .null, .null, .null, .null, .int 0])), (q0, .inl (cs 2, 24, .inl (fun _ => 0))), (q1, .inl (cs 0, 24, .inl (fun _ => 0))), (q2, .inl (cs 0, 144, .inl (fun _ => 0))), (q3, .inl (cs 0, 8, .inl (fun _ => 0)))] H := hP
  have hD : va_D A [(h0, .inr (1, [.ref q0, .ref q1, .ref q2, .null, .null, .null, .null, .null, .null, .int 0])), (q0, .inl (cs 2, 24, .inl (fun _ => 0))), (q1, .inl (cs 0, 24, .inl (fun _ => 0))), (q2, .inl (cs 0, 144, .inl (fun _ => 0))), (q3, .inl (cs 0, 8, .inl (fun _ => 0)))] := hD
  refine va_putF (D := D) (ci := 1) (v := .ref q3) (ty := .array .int) (C := RX1) (T := TX1) (N := 10) hx hb hts in_X1 tyX1 tyX1_ok nmX1 hown hK hP hD hS 0 rfl rfl 3 (by decide) (hts _ q248) (fun _ h9 => h9) rfl hin rfl (by decide +kernel) rfl rfl (Nat.le_of_ble_eq_true rfl) dX1_init_34 (fun H locs hP hD hS => ?_)
  have hP : va_P D vwCl [(h0, .inr (1, [.ref q0, .ref q1, .ref q2, .ref q3, .null, .null, .null, .null, .null, .int 0])), (q0, .inl (cs 2, 24, .inl (fun _ => 0))), (q1, .inl (cs 0, 24, .inl (fun _ => 0))), (q2, .inl (cs 0, 144, .inl (fun _ => 0))), (q3, .inl (cs 0, 8, .inl (fun _ => 0)))] H := hP
  have hD : va_D A [(h0, .inr (1, [.ref q0, .ref q1, .ref q2, .ref q3, .null, .null, .null, .null, .null, .int 0])), (q0, .inl (cs 2, 24, .inl (fun _ => 0))), (q1, .inl (cs 0, 24, .inl (fun _ => 0))), (q2, .inl (cs 0, 144, .inl (fun _ => 0))), (q3, .inl (cs 0, 8, .inl (fun _ => 0)))] := hD
  refine lv_aload_n hx hb dX1_init_37 rfl (lv_at hl 0 rfl) ?_
  refine lv_bipush (v := nI 8) hx hb dX1_init_38 kb_8 ?_
  refine cx_newi (N := 8) hx hb hts hK hP hD hS hA (by decide) (by decide) (by decide) dX1_init_40 (fun q4 H hP hD hS => ?_)
  refine W.widen (k := 5) (n := 208) (by decide) (by decide) ?_
  have hP : va_P D vwCl [(h0, .inr (1, [.ref q0, .ref q1, .ref q2, .ref q3, .null, .null, .null, .null, .null, .int 0])), (q0, .inl (cs 2, 24, .inl (fun _ => 0))), (q1, .inl (cs 0, 24, .inl (fun _ => 0))), (q2, .inl (cs 0, 144, .inl (fun _ => 0))), (q3, .inl (cs 0, 8, .inl (fun _ => 0))), (q4, .inl (cs 0, 8, .inl (fun _ => 0)))] H := hP
  have hD : va_D A [(h0, .inr (1, [.ref q0, .ref q1, .ref q2, .ref q3, .null, .null, .null, .null, .null, .int 0])), (q0, .inl (cs 2, 24, .inl (fun _ => 0))), (q1, .inl (cs 0, 24, .inl (fun _ => 0))), (q2, .inl (cs 0, 144, .inl (fun _ => 0))), (q3, .inl (cs 0, 8, .inl (fun _ => 0))), (q4, .inl (cs 0, 8, .inl (fun _ => 0)))] := hD
  refine va_putF (D := D) (ci := 1) (v := .ref q4) (ty := .array .int) (C := RX1) (T := TX1) (N := 10) hx hb hts in_X1 tyX1 tyX1_ok nmX1 hown hK hP hD hS 0 rfl rfl 4 (by decide) (hts _ q249) (fun _ h9 => h9) rfl hin rfl (by decide +kernel) rfl rfl (Nat.le_of_ble_eq_true rfl) dX1_init_42 (fun H locs hP hD hS => ?_)
  have hP : va_P D vwCl [(h0, .inr (1, [.ref q0, .ref q1, .ref q2, .ref q3, .ref q4, .null, .null, .null, .null, .int 0])), (q0, .inl (cs 2, 24, .inl (fun _ => 0))), (q1, .inl (cs 0, 24, .inl (fun _ => 0))), (q2, .inl (cs 0, 144, .inl (fun _ => 0))), (q3, .inl (cs 0, 8, .inl (fun _ => 0))), (q4, .inl (cs 0, 8, .inl (fun _ => 0)))] H := hP
  have hD : va_D A [(h0, .inr (1, [.ref q0, .ref q1, .ref q2, .ref q3, .ref q4, .null, .null, .null, .null, .int 0])), (q0, .inl (cs 2, 24, .inl (fun _ => 0))), (q1, .inl (cs 0, 24, .inl (fun _ => 0))), (q2, .inl (cs 0, 144, .inl (fun _ => 0))), (q3, .inl (cs 0, 8, .inl (fun _ => 0))), (q4, .inl (cs 0, 8, .inl (fun _ => 0)))] := hD
  refine lv_aload_n hx hb dX1_init_45 rfl (lv_at hl 0 rfl) ?_
  refine lv_bipush (v := nI 8) hx hb dX1_init_46 kb_8 ?_
  refine cx_newi (N := 8) hx hb hts hK hP hD hS hA (by decide) (by decide) (by decide) dX1_init_48 (fun q5 H hP hD hS => ?_)
  refine W.widen (k := 6) (n := 216) (by decide) (by decide) ?_
  have hP : va_P D vwCl [(h0, .inr (1, [.ref q0, .ref q1, .ref q2, .ref q3, .ref q4, .null, .null, .null, .null, .int 0])), (q0, .inl (cs 2, 24, .inl (fun _ => 0))), (q1, .inl (cs 0, 24, .inl (fun _ => 0))), (q2, .inl (cs 0, 144, .inl (fun _ => 0))), (q3, .inl (cs 0, 8, .inl (fun _ => 0))), (q4, .inl (cs 0, 8, .inl (fun _ => 0))), (q5, .inl (cs 0, 8, .inl (fun _ => 0)))] H := hP
  have hD : va_D A [(h0, .inr (1, [.ref q0, .ref q1, .ref q2, .ref q3, .ref q4, .null, .null, .null, .null, .int 0])), (q0, .inl (cs 2, 24, .inl (fun _ => 0))), (q1, .inl (cs 0, 24, .inl (fun _ => 0))), (q2, .inl (cs 0, 144, .inl (fun _ => 0))), (q3, .inl (cs 0, 8, .inl (fun _ => 0))), (q4, .inl (cs 0, 8, .inl (fun _ => 0))), (q5, .inl (cs 0, 8, .inl (fun _ => 0)))] := hD
  refine va_putF (D := D) (ci := 1) (v := .ref q5) (ty := .array .int) (C := RX1) (T := TX1) (N := 10) hx hb hts in_X1 tyX1 tyX1_ok nmX1 hown hK hP hD hS 0 rfl rfl 5 (by decide) (hts _ q250) (fun _ h9 => h9) rfl hin rfl (by decide +kernel) rfl rfl (Nat.le_of_ble_eq_true rfl) dX1_init_50 (fun H locs hP hD hS => ?_)
  have hP : va_P D vwCl [(h0, .inr (1, [.ref q0, .ref q1, .ref q2, .ref q3, .ref q4, .ref q5, .null, .null, .null, .int 0])), (q0, .inl (cs 2, 24, .inl (fun _ => 0))), (q1, .inl (cs 0, 24, .inl (fun _ => 0))), (q2, .inl (cs 0, 144, .inl (fun _ => 0))), (q3, .inl (cs 0, 8, .inl (fun _ => 0))), (q4, .inl (cs 0, 8, .inl (fun _ => 0))), (q5, .inl (cs 0, 8, .inl (fun _ => 0)))] H := hP
  have hD : va_D A [(h0, .inr (1, [.ref q0, .ref q1, .ref q2, .ref q3, .ref q4, .ref q5, .null, .null, .null, .int 0])), (q0, .inl (cs 2, 24, .inl (fun _ => 0))), (q1, .inl (cs 0, 24, .inl (fun _ => 0))), (q2, .inl (cs 0, 144, .inl (fun _ => 0))), (q3, .inl (cs 0, 8, .inl (fun _ => 0))), (q4, .inl (cs 0, 8, .inl (fun _ => 0))), (q5, .inl (cs 0, 8, .inl (fun _ => 0)))] := hD
  refine lv_aload_n hx hb dX1_init_53 rfl (lv_at hl 0 rfl) ?_
  refine lv_bipush (v := nI 8) hx hb dX1_init_54 kb_8 ?_
  refine cx_newi (N := 8) hx hb hts hK hP hD hS hA (by decide) (by decide) (by decide) dX1_init_56 (fun q6 H hP hD hS => ?_)
  refine W.widen (k := 7) (n := 224) (by decide) (by decide) ?_
  have hP : va_P D vwCl [(h0, .inr (1, [.ref q0, .ref q1, .ref q2, .ref q3, .ref q4, .ref q5, .null, .null, .null, .int 0])), (q0, .inl (cs 2, 24, .inl (fun _ => 0))), (q1, .inl (cs 0, 24, .inl (fun _ => 0))), (q2, .inl (cs 0, 144, .inl (fun _ => 0))), (q3, .inl (cs 0, 8, .inl (fun _ => 0))), (q4, .inl (cs 0, 8, .inl (fun _ => 0))), (q5, .inl (cs 0, 8, .inl (fun _ => 0))), (q6, .inl (cs 0, 8, .inl (fun _ => 0)))] H := hP
  have hD : va_D A [(h0, .inr (1, [.ref q0, .ref q1, .ref q2, .ref q3, .ref q4, .ref q5, .null, .null, .null, .int 0])), (q0, .inl (cs 2, 24, .inl (fun _ => 0))), (q1, .inl (cs 0, 24, .inl (fun _ => 0))), (q2, .inl (cs 0, 144, .inl (fun _ => 0))), (q3, .inl (cs 0, 8, .inl (fun _ => 0))), (q4, .inl (cs 0, 8, .inl (fun _ => 0))), (q5, .inl (cs 0, 8, .inl (fun _ => 0))), (q6, .inl (cs 0, 8, .inl (fun _ => 0)))] := hD
  refine va_putF (D := D) (ci := 1) (v := .ref q6) (ty := .array .int) (C := RX1) (T := TX1) (N := 10) hx hb hts in_X1 tyX1 tyX1_ok nmX1 hown hK hP hD hS 0 rfl rfl 6 (by decide) (hts _ q251) (fun _ h9 => h9) rfl hin rfl (by decide +kernel) rfl rfl (Nat.le_of_ble_eq_true rfl) dX1_init_58 (fun H locs hP hD hS => ?_)
  have hP : va_P D vwCl [(h0, .inr (1, [.ref q0, .ref q1, .ref q2, .ref q3, .ref q4, .ref q5, .ref q6, .null, .null, .int 0])), (q0, .inl (cs 2, 24, .inl (fun _ => 0))), (q1, .inl (cs 0, 24, .inl (fun _ => 0))), (q2, .inl (cs 0, 144, .inl (fun _ => 0))), (q3, .inl (cs 0, 8, .inl (fun _ => 0))), (q4, .inl (cs 0, 8, .inl (fun _ => 0))), (q5, .inl (cs 0, 8, .inl (fun _ => 0))), (q6, .inl (cs 0, 8, .inl (fun _ => 0)))] H := hP
  have hD : va_D A [(h0, .inr (1, [.ref q0, .ref q1, .ref q2, .ref q3, .ref q4, .ref q5, .ref q6, .null, .null, .int 0])), (q0, .inl (cs 2, 24, .inl (fun _ => 0))), (q1, .inl (cs 0, 24, .inl (fun _ => 0))), (q2, .inl (cs 0, 144, .inl (fun _ => 0))), (q3, .inl (cs 0, 8, .inl (fun _ => 0))), (q4, .inl (cs 0, 8, .inl (fun _ => 0))), (q5, .inl (cs 0, 8, .inl (fun _ => 0))), (q6, .inl (cs 0, 8, .inl (fun _ => 0)))] := hD
  refine lv_aload_n hx hb dX1_init_61 rfl (lv_at hl 0 rfl) ?_
  refine lv_bipush (v := nI 8) hx hb dX1_init_62 kb_8 ?_
  refine cx_newi (N := 8) hx hb hts hK hP hD hS hA (by decide) (by decide) (by decide) dX1_init_64 (fun q7 H hP hD hS => ?_)
  refine W.widen (k := 8) (n := 232) (by decide) (by decide) ?_
  have hP : va_P D vwCl [(h0, .inr (1, [.ref q0, .ref q1, .ref q2, .ref q3, .ref q4, .ref q5, .ref q6, .null, .null, .int 0])), (q0, .inl (cs 2, 24, .inl (fun _ => 0))), (q1, .inl (cs 0, 24, .inl (fun _ => 0))), (q2, .inl (cs 0, 144, .inl (fun _ => 0))), (q3, .inl (cs 0, 8, .inl (fun _ => 0))), (q4, .inl (cs 0, 8, .inl (fun _ => 0))), (q5, .inl (cs 0, 8, .inl (fun _ => 0))), (q6, .inl (cs 0, 8, .inl (fun _ => 0))), (q7, .inl (cs 0, 8, .inl (fun _ => 0)))] H := hP
  have hD : va_D A [(h0, .inr (1, [.ref q0, .ref q1, .ref q2, .ref q3, .ref q4, .ref q5, .ref q6, .null, .null, .int 0])), (q0, .inl (cs 2, 24, .inl (fun _ => 0))), (q1, .inl (cs 0, 24, .inl (fun _ => 0))), (q2, .inl (cs 0, 144, .inl (fun _ => 0))), (q3, .inl (cs 0, 8, .inl (fun _ => 0))), (q4, .inl (cs 0, 8, .inl (fun _ => 0))), (q5, .inl (cs 0, 8, .inl (fun _ => 0))), (q6, .inl (cs 0, 8, .inl (fun _ => 0))), (q7, .inl (cs 0, 8, .inl (fun _ => 0)))] := hD
  refine va_putF (D := D) (ci := 1) (v := .ref q7) (ty := .array .int) (C := RX1) (T := TX1) (N := 10) hx hb hts in_X1 tyX1 tyX1_ok nmX1 hown hK hP hD hS 0 rfl rfl 7 (by decide) (hts _ q252) (fun _ h9 => h9) rfl hin rfl (by decide +kernel) rfl rfl (Nat.le_of_ble_eq_true rfl) dX1_init_66 (fun H locs hP hD hS => ?_)
  have hP : va_P D vwCl [(h0, .inr (1, [.ref q0, .ref q1, .ref q2, .ref q3, .ref q4, .ref q5, .ref q6, .ref q7, .null, .int 0])), (q0, .inl (cs 2, 24, .inl (fun _ => 0))), (q1, .inl (cs 0, 24, .inl (fun _ => 0))), (q2, .inl (cs 0, 144, .inl (fun _ => 0))), (q3, .inl (cs 0, 8, .inl (fun _ => 0))), (q4, .inl (cs 0, 8, .inl (fun _ => 0))), (q5, .inl (cs 0, 8, .inl (fun _ => 0))), (q6, .inl (cs 0, 8, .inl (fun _ => 0))), (q7, .inl (cs 0, 8, .inl (fun _ => 0)))] H := hP
  have hD : va_D A [(h0, .inr (1, [.ref q0, .ref q1, .ref q2, .ref q3, .ref q4, .ref q5, .ref q6, .ref q7, .null, .int 0])), (q0, .inl (cs 2, 24, .inl (fun _ => 0))), (q1, .inl (cs 0, 24, .inl (fun _ => 0))), (q2, .inl (cs 0, 144, .inl (fun _ => 0))), (q3, .inl (cs 0, 8, .inl (fun _ => 0))), (q4, .inl (cs 0, 8, .inl (fun _ => 0))), (q5, .inl (cs 0, 8, .inl (fun _ => 0))), (q6, .inl (cs 0, 8, .inl (fun _ => 0))), (q7, .inl (cs 0, 8, .inl (fun _ => 0)))] := hD
  refine lv_aload_n hx hb dX1_init_69 rfl (lv_at hl 0 rfl) ?_
  refine lv_bipush (v := nI 8) hx hb dX1_init_70 kb_8 ?_
  refine cx_newi (N := 8) hx hb hts hK hP hD hS hA (by decide) (by decide) (by decide) dX1_init_72 (fun q8 H hP hD hS => ?_)
  refine W.widen (k := 9) (n := 240) (by decide) (by decide) ?_
  have hP : va_P D vwCl [(h0, .inr (1, [.ref q0, .ref q1, .ref q2, .ref q3, .ref q4, .ref q5, .ref q6, .ref q7, .null, .int 0])), (q0, .inl (cs 2, 24, .inl (fun _ => 0))), (q1, .inl (cs 0, 24, .inl (fun _ => 0))), (q2, .inl (cs 0, 144, .inl (fun _ => 0))), (q3, .inl (cs 0, 8, .inl (fun _ => 0))), (q4, .inl (cs 0, 8, .inl (fun _ => 0))), (q5, .inl (cs 0, 8, .inl (fun _ => 0))), (q6, .inl (cs 0, 8, .inl (fun _ => 0))), (q7, .inl (cs 0, 8, .inl (fun _ => 0))), (q8, .inl (cs 0, 8, .inl (fun _ => 0)))] H := hP
  have hD : va_D A [(h0, .inr (1, [.ref q0, .ref q1, .ref q2, .ref q3, .ref q4, .ref q5, .ref q6, .ref q7, .null, .int 0])), (q0, .inl (cs 2, 24, .inl (fun _ => 0))), (q1, .inl (cs 0, 24, .inl (fun _ => 0))), (q2, .inl (cs 0, 144, .inl (fun _ => 0))), (q3, .inl (cs 0, 8, .inl (fun _ => 0))), (q4, .inl (cs 0, 8, .inl (fun _ => 0))), (q5, .inl (cs 0, 8, .inl (fun _ => 0))), (q6, .inl (cs 0, 8, .inl (fun _ => 0))), (q7, .inl (cs 0, 8, .inl (fun _ => 0))), (q8, .inl (cs 0, 8, .inl (fun _ => 0)))] := hD
  refine va_putF (D := D) (ci := 1) (v := .ref q8) (ty := .array .int) (C := RX1) (T := TX1) (N := 10) hx hb hts in_X1 tyX1 tyX1_ok nmX1 hown hK hP hD hS 0 rfl rfl 8 (by decide) (hts _ q253) (fun _ h9 => h9) rfl hin rfl (by decide +kernel) rfl rfl (Nat.le_of_ble_eq_true rfl) dX1_init_74 (fun H locs hP hD hS => ?_)
  have hP : va_P D vwCl [(h0, .inr (1, [.ref q0, .ref q1, .ref q2, .ref q3, .ref q4, .ref q5, .ref q6, .ref q7, .ref q8, .int 0])), (q0, .inl (cs 2, 24, .inl (fun _ => 0))), (q1, .inl (cs 0, 24, .inl (fun _ => 0))), (q2, .inl (cs 0, 144, .inl (fun _ => 0))), (q3, .inl (cs 0, 8, .inl (fun _ => 0))), (q4, .inl (cs 0, 8, .inl (fun _ => 0))), (q5, .inl (cs 0, 8, .inl (fun _ => 0))), (q6, .inl (cs 0, 8, .inl (fun _ => 0))), (q7, .inl (cs 0, 8, .inl (fun _ => 0))), (q8, .inl (cs 0, 8, .inl (fun _ => 0)))] H := hP
  have hD : va_D A [(h0, .inr (1, [.ref q0, .ref q1, .ref q2, .ref q3, .ref q4, .ref q5, .ref q6, .ref q7, .ref q8, .int 0])), (q0, .inl (cs 2, 24, .inl (fun _ => 0))), (q1, .inl (cs 0, 24, .inl (fun _ => 0))), (q2, .inl (cs 0, 144, .inl (fun _ => 0))), (q3, .inl (cs 0, 8, .inl (fun _ => 0))), (q4, .inl (cs 0, 8, .inl (fun _ => 0))), (q5, .inl (cs 0, 8, .inl (fun _ => 0))), (q6, .inl (cs 0, 8, .inl (fun _ => 0))), (q7, .inl (cs 0, 8, .inl (fun _ => 0))), (q8, .inl (cs 0, 8, .inl (fun _ => 0)))] := hD
  obtain ⟨L, hLf⟩ : ∃ L : aw_L, L = (D, cs, cx_ad1 h0 q0 q1 q2 q3 q4 q5 q6 q7 q8) := ⟨_, rfl⟩
  have hP : va_P D vwCl (aw_pic1 L aw_z) H := by rw [hLf]; exact hP
  have hD : va_D A (aw_pic1 L aw_z) := by rw [hLf]; exact hD
  have hl : lv_has ls 1 [(0, .ref (L.2.2 20))] := by rw [hLf]; exact hl
  have hLe : (D, cs, L.2.2) = L := by rw [hLf]
  have h20 : L.2.2 20 = h0 := by rw [hLf]; rfl
  have hcov : ∀ w k, ∃ (j : Nat) (e : va_E), (aw_pic1 L w)[j]? = some (L.2.2 k, e) := by
    rw [hLf]
    exact fun w k => cx_cov1 D cs h0 q0 q1 q2 q3 q4 q5 q6 q7 q8 w k
  exact W.vret hx hb hr (fun t ht hW => ⟨⟨(L.2.2, aw_z), rfl, ⟨h20, rfl, by rw [hLe]; exact hcov aw_z⟩, by rw [hLe, ht]; exact hP, by rw [hLe]; exact hD⟩, hS.F ht⟩) hS.2.2 dX1_init_77
end
section
set_option maxRecDepth 100000
/-! THE CLAIM OUT OF ONE WALK OF THE LAW'S BODY. Your part is whole_start (and what it stands on); all else here is the same for every law, but numbers. -/
def R_law : String := "ArchetypeWorldLaw"
def lw_P (b : Addr) (xs : List Int32) (args : Array Value) (s : State) : Prop := args = #[.ref b] ∧ s.IntsAt b xs ∧ xs.length ≤ 256 ∧ (Jvm.Cond.and given_1 narrow_1).before args s = true
def lw_Q (_ : Array Value) (s : State) (o : Outcome) (t : State) : Prop := o = .returned (some (.int 1)) ∧ Framed s o t [] 600000 7290000
def lw_Z (below : List Frame) (a : Array Value) (s : State) : State → Prop := fun t => ∃ o, t.status = .running ∧ Ended t below o ∧ lw_Q a s o t
/-- the law's own end, with 1 on the stack, nothing written that was there before, its room as the claim has it -/
theorem lw_ret {p : Program} {l : Launch} {e : Env} {s : State} {m : MethodId} {below : List Frame} {meth : Method} {c : Code} {b : Nat} (hx : p.tables.exec = Jvm.exec) (hb : c.code = code) (hr : meth.sig.returnType = ret) (hlocks : meth.locks = false) {pc : Nat} {H : Heap} {ls : Array Slot} (hdg : decode code pc = .ok (.ireturn, 1)) : W p l e room_1 s m #[Value.ref b] below meth c H [] 600000 7290000 (lw_Z below #[Value.ref b] s) (F0 m pc ls [.int 1]) := by
  intro T hT X
  obtain ⟨fs, hret, hrun, hended, hW, hframe⟩ := X.leave (v := some (.int 1)) (hlocks := hlocks) (fun h => by rw [hr] at h; cases h)
  have hmeth' : T.vm.method? m = some meth := X.method'
  refine ⟨T.setFrames fs, ?_, .returned (some (.int 1)), hrun, hended, rfl, ⟨_, rfl⟩, hW, hframe⟩
  jvm_step X.here [X.here.top, hx, hb, hdg, hmeth', hr, ret, narrow_b1]
  (try refine ⟨rfl, ?_⟩); (try refine ⟨rfl, ?_⟩)
  first | (intro acts; rw [hret _ acts rfl rfl rfl]) | rw [hret _ _ rfl rfl rfl]
  exact Steps.refl _
/-- what holds at the law's entry: the machine, the code, the tables' words (any of lw_tbl by 'hts w (by decide +kernel)'), the script of L ints xs at the cell b, what the Statement gives of the start (any of its parts by flat_of_before) -/
def lw_At (p : Program) (s : State) (m : MethodId) (meth : Method) (c : Code) (b L : Nat) (xs : Nat → Int32) : Prop :=
  p.tables.exec = Jvm.exec ∧ c.code = code ∧ meth.sig.returnType = ret ∧ c.maxLocals = 4 ∧ s.vm.findClass R_law = some m.cls ∧ (∀ w ∈ lw_tbl, w.before #[Value.ref b] s = true) ∧ va_X b L xs s s.heap ∧ b < s.heap.size ∧ meth.locks = false ∧ (Jvm.Cond.and given_1 narrow_1).before #[Value.ref b] s = true
/-! THE LAW'S ROWS: two objects and the script -/
def aw_p2 (L0 L1 : aw_L) (q : aw_S × aw_S) : va_W := aw_pic0 L0 q.1 ++ aw_pic1 L1 q.2
def aw_scr (X : aw_X) (b n : Nat) (xs : Nat → Int32) : Prop := match X with
  | (_, _, _, _, s, _, _, _, _, _, _, _, _, _, _, A) => va_X b n xs s s.heap ∧ b < s.heap.size ∧ ¬ A b
def aw_two (a0 a1 : Nat → Nat) (X : aw_X) : Prop := (∀ k, aw_ax X (a0 k)) ∧ (∀ k, aw_ax X (a1 k)) ∧ ∀ k j, a0 k ≠ a1 j
theorem pic0_ad {L : aw_L} {w : aw_S} {k : Nat} {q : Nat × va_E} (h : (aw_pic0 L w)[k]? = some q) : ∃ j, q.1 = L.2.2 j := by
  have h1 : q.1 ∈ (aw_pic0 L w).map (fun q => q.1) := List.mem_map.mpr ⟨q, List.mem_of_getElem? h, rfl⟩
  have h2 : (aw_pic0 L w).map (fun q => q.1) = [20, 1, 2, 3, 4, 5, 6, 7, 9, 10, 11, 12, 13, 16, 17].map L.2.2 := rfl
  rw [h2] at h1
  obtain ⟨j, -, hj⟩ := List.mem_map.mp h1
  exact ⟨j, hj.symm⟩
theorem pic1_ad {L : aw_L} {w : aw_S} {k : Nat} {q : Nat × va_E} (h : (aw_pic1 L w)[k]? = some q) : ∃ j, q.1 = L.2.2 j := by
  have h1 : q.1 ∈ (aw_pic1 L w).map (fun q => q.1) := List.mem_map.mpr ⟨q, List.mem_of_getElem? h, rfl⟩
  have h2 : (aw_pic1 L w).map (fun q => q.1) = [20, 0, 1, 2, 3, 4, 5, 6, 7, 8].map L.2.2 := rfl
  rw [h2] at h1
  obtain ⟨j, -, hj⟩ := List.mem_map.mp h1
  exact ⟨j, hj.symm⟩
theorem aw_P_l {D : va_G} {cl : List vw_C} {w1 w2 : va_W} {H : Heap} (h : va_P D cl (w1 ++ w2) H) : va_P D cl w1 H := fun k q hk => h k q (by rw [List.getElem?_append_left (List.getElem?_eq_some_iff.mp hk).1]; exact hk)
theorem aw_P_r {D : va_G} {cl : List vw_C} {w1 w2 : va_W} {H : Heap} (h : va_P D cl (w1 ++ w2) H) : va_P D cl w2 H := fun k q hk => h (w1.length + k) q (by rw [List.getElem?_append_right (Nat.le_add_right _ _), Nat.add_sub_cancel_left]; exact hk)
section AWL
variable {σ : Type} {pic : σ → va_W} {X : aw_X} {l : Launch} {L : aw_L} {own : String} {cc : ByteArray} {fr lo : Nat} {pc pc' : Nat} {lv lv' : List (Nat × Value)} {st : List Value} {w : σ} {b n : Nat} {xs : Nat → Int32}
theorem aw_slen (O : aw_ok l L own cc fr lo X) (S : aw_scr X b n xs) (hd : decode cc pc = .ok (.arraylength, 1)) (hp : pc + 1 = pc') (K : aw_J pic X pc' lv (.int (nI n) :: st) w) : aw_J pic X pc lv (.ref b :: st) w := by
  obtain ⟨p, l0, e, R, s, m, args, below, meth, c, Q, nL, cz, sz, D, A⟩ := X
  subst hp
  intro H locs ls h1 h2 h3
  exact va_slen O.1 O.2.1 S.1 S.2.1 S.2.2 h2 hd (K H locs ls h1 h2 h3)
theorem aw_sld (O : aw_ok l L own cc fr lo X) (S : aw_scr X b n xs) {i : Int32} {j : Nat} (hi : i = nI j) (hj : j < n) (hn : n < 2 ^ 31) (hd : decode cc pc = .ok (.iaload, 1)) (hp : pc + 1 = pc') (K : aw_J pic X pc' lv (.int (xs j) :: st) w) : aw_J pic X pc lv (.int i :: .ref b :: st) w := by
  obtain ⟨p, l0, e, R, s, m, args, below, meth, c, Q, nL, cz, sz, D, A⟩ := X
  subst hp; subst hi
  intro H locs ls h1 h2 h3
  have hk := K H locs ls h1 h2 h3
  refine va_sld O.1 O.2.1 S.1 S.2.1 S.2.2 h2 (vp_in_nI hj hn) hd ?_
  rw [nI_clamp (by omega)]
  exact hk
theorem aw_tin (O : aw_ok l L own cc fr lo X) {dflt lo' hi' : Int} {offs : Array Int} {len : Nat} {x : Int32} {off : Int} {tgt : Nat} (hd : decode cc pc = .ok (.tableswitch dflt lo' hi' offs, len)) (h1 : ¬ x.toInt < lo') (h2 : ¬ hi' < x.toInt) (ho : offs[(x.toInt - lo').toNat]? = some off) (ht : (pc : Int) + off = (tgt : Int)) (K : aw_J pic X tgt lv st w) : aw_J pic X pc lv (.int x :: st) w := by
  obtain ⟨p, l0, e, R, s, m, args, below, meth, c, Q, nL, cz, sz, D, A⟩ := X
  intro H locs ls k1 k2 k3
  exact lv_tableIn O.1 O.2.1 hd h1 h2 ho ht (K H locs ls k1 k2 k3)
theorem aw_tout (O : aw_ok l L own cc fr lo X) {dflt lo' hi' : Int} {offs : Array Int} {len : Nat} {x : Int32} {tgt : Nat} (hd : decode cc pc = .ok (.tableswitch dflt lo' hi' offs, len)) (h : x.toInt < lo' ∨ hi' < x.toInt) (ht : (pc : Int) + dflt = (tgt : Int)) (K : aw_J pic X tgt lv st w) : aw_J pic X pc lv (.int x :: st) w := by
  obtain ⟨p, l0, e, R, s, m, args, below, meth, c, Q, nL, cz, sz, D, A⟩ := X
  intro H locs ls k1 k2 k3
  exact lv_tableOut O.1 O.2.1 hd h ht (K H locs ls k1 k2 k3)
end AWL
section AWM
variable {X : aw_X} {l : Launch} {D : va_G} {cs : Nat → ClassId} {a0 a1 : Nat → Nat} {fr lo : Nat} {pc pc' : Nat} {lv : List (Nat × Value)} {st : List Value} {w v : aw_S}
/-- a call of a method of the World -/
theorem aw_lc0 (O : aw_ok l (D, cs, a0) R_law cL_law fr lo X) (nl : aw_nl X = 4) (T : aw_two a0 a1 X) {y : MethodName} {bytes : ByteArray} {maxL n idx fr1 lo1 : Nat} {ty : FieldType} {av rest : List Value} {post : Int32 → aw_S → Prop} (hM : aw_Mi (aw_pic0 (D, cs, a0)) l (D, cs, a0) y bytes maxL ty fr1 lo1 av w post) (hv : GoodIn lw_all (wsV R_law idx RX0 y (ws_ y bytes maxL (some ty)))) (hd0 : y.cls = RX0 ∧ y.cls ≠ "java/lang/invoke/MethodHandle" ∧ y.cls ≠ "java/lang/invoke/VarHandle" ∧ (parseMethodDescriptor y.desc).map (fun d => d.parameters.length) = some n) (hf : fr1 + 1 ≤ fr) (hlo : 8 + (maxL + 11) + lo1 ≤ lo) (hst : st = av.reverse ++ .ref (a0 20) :: rest) (hn : av.length = n) (hW : (rest.map fun v => v.category).sum ≤ 8) (hd : decode cL_law pc = .ok (.invokevirtual idx, 3)) (hp : pc + 3 = pc') (K : ∀ r w', post r w' → aw_J (aw_p2 (D, cs, a0) (D, cs, a1)) X pc' lv (.int r :: rest) (w', v)) : aw_J (aw_p2 (D, cs, a0) (D, cs, a1)) X pc lv st (w, v) := by
  obtain ⟨p, l0, e, R, s, m, args, below, meth, c, Q, nL, cz, sz, D0, A⟩ := X
  subst hp
  have nl : nL = 4 := nl
  subst nl
  intro H locs ls h1 h2 h3
  obtain ⟨o1, o2, o3, o4, o5, o6, o7, o8, o9, o10, o11, rfl, o13⟩ := O
  have o13 : D0 = D := o13
  subst o13
  have hP : va_P D0 vwCl (aw_pic0 (D0, cs, a0) w) H := aw_P_l h1
  have hO : va_P D0 vwCl (aw_pic1 (D0, cs, a1) v) H := aw_P_r h1
  have hF : ∀ q, aw_A (D0, cs, a0) q → A q := by
    rintro q ⟨k, rfl⟩
    exact T.1 k
  refine va_calli (va_runV (As := av) (rest := rest) (C := RX0) ⟨o1, o2, o3, o4, o5⟩ hM (cwV n o5 hv rfl rfl rfl hd0 ⟨Nat.le_trans hf o8, Nat.le_trans hlo o9⟩) ⟨aw_Pc_blind, va_recv o6 hP (ci := 0) (q0 := 0) rfl rfl, fun U hU hW => ⟨rfl, by rw [hU]; exact hP, va_K.moved hW.alike o6⟩⟩ rfl hn h3.1 hst (lv_room hW) hd ⟨o10, o11⟩) h2 (fun q _ h => hF q h) hF (fun r u t H1 locs1 ht hvm hw hB hz hk hS => ?_)
  rw [ht] at hB
  have hkp : ∀ (k : Nat) (q : Nat × va_E), (aw_pic1 (D0, cs, a1) v)[k]? = some q → H1[q.1]? = H[q.1]? := by
    intro k q hq
    refine hk q.1 (hO k q hq).lt ?_
    rintro ⟨k, z⟩
    obtain ⟨j, hj⟩ := pic1_ad hq
    exact (T.2.2 k j) (z.symm.trans hj)
  exact K r u hw H1 locs1 ls (hB.app (hO.kept hkp)) hS h3
/-- a call of a method of the Model -/
theorem aw_lc1 (O : aw_ok l (D, cs, a0) R_law cL_law fr lo X) (nl : aw_nl X = 4) (T : aw_two a0 a1 X) {y : MethodName} {bytes : ByteArray} {maxL n idx fr1 lo1 : Nat} {ty : FieldType} {av rest : List Value} {post : Int32 → aw_S → Prop} (hM : aw_Mi (aw_pic1 (D, cs, a1)) l (D, cs, a1) y bytes maxL ty fr1 lo1 av v post) (hv : GoodIn lw_all (wsV R_law idx RX1 y (ws_ y bytes maxL (some ty)))) (hd0 : y.cls = RX1 ∧ y.cls ≠ "java/lang/invoke/MethodHandle" ∧ y.cls ≠ "java/lang/invoke/VarHandle" ∧ (parseMethodDescriptor y.desc).map (fun d => d.parameters.length) = some n) (hf : fr1 + 1 ≤ fr) (hlo : 8 + (maxL + 11) + lo1 ≤ lo) (hst : st = av.reverse ++ .ref (a1 20) :: rest) (hn : av.length = n) (hW : (rest.map fun v => v.category).sum ≤ 8) (hd : decode cL_law pc = .ok (.invokevirtual idx, 3)) (hp : pc + 3 = pc') (K : ∀ r w', post r w' → aw_J (aw_p2 (D, cs, a0) (D, cs, a1)) X pc' lv (.int r :: rest) (w, w')) : aw_J (aw_p2 (D, cs, a0) (D, cs, a1)) X pc lv st (w, v) := by
  obtain ⟨p, l0, e, R, s, m, args, below, meth, c, Q, nL, cz, sz, D0, A⟩ := X
  subst hp
  have nl : nL = 4 := nl
  subst nl
  intro H locs ls h1 h2 h3
  obtain ⟨o1, o2, o3, o4, o5, o6, o7, o8, o9, o10, o11, rfl, o13⟩ := O
  have o13 : D0 = D := o13
  subst o13
  have hP : va_P D0 vwCl (aw_pic1 (D0, cs, a1) v) H := aw_P_r h1
  have hO : va_P D0 vwCl (aw_pic0 (D0, cs, a0) w) H := aw_P_l h1
  have hF : ∀ q, aw_A (D0, cs, a1) q → A q := by
    rintro q ⟨k, rfl⟩
    exact T.2.1 k
  refine va_calli (va_runV (As := av) (rest := rest) (C := RX1) ⟨o1, o2, o3, o4, o5⟩ hM (cwV n o5 hv rfl rfl rfl hd0 ⟨Nat.le_trans hf o8, Nat.le_trans hlo o9⟩) ⟨aw_Pc_blind, va_recv o6 hP (ci := 1) (q0 := 0) rfl rfl, fun U hU hW => ⟨rfl, by rw [hU]; exact hP, va_K.moved hW.alike o6⟩⟩ rfl hn h3.1 hst (lv_room hW) hd ⟨o10, o11⟩) h2 (fun q _ h => hF q h) hF (fun r u t H1 locs1 ht hvm hw hB hz hk hS => ?_)
  rw [ht] at hB
  have hkp : ∀ (k : Nat) (q : Nat × va_E), (aw_pic0 (D0, cs, a0) w)[k]? = some q → H1[q.1]? = H[q.1]? := by
    intro k q hq
    refine hk q.1 (hO k q hq).lt ?_
    rintro ⟨k, z⟩
    obtain ⟨j, hj⟩ := pic0_ad hq
    exact (fun z => T.2.2 j k z.symm) (z.symm.trans hj)
  exact K r u hw H1 locs1 ls ((hO.kept hkp).app hB) hS h3
end AWM
theorem law_in {i n : Nat} (hi : i < 2 ^ 30) (hn : n < 2 ^ 30) (h : ¬ nI n - nI 4 < nI i) : i + 4 ≤ n := by
  rw [Int32.lt_iff_toInt_lt, pk_sub_toInt hn (by decide), nI_toInt (by omega)] at h
  omega
theorem law_i4 (i : Nat) : nI i + Int32.ofInt 4 = nI (i + 4) := by
  rw [show Int32.ofInt 4 = nI 4 by decide]
  exact nI_add i 4
end
section
set_option maxRecDepth 100000
/-! THE LAW'S CASES -/
theorem vL0_spawn : GoodIn lw_all (wsV R_law 13 RX0 yX0_spawn (ws_ yX0_spawn cX0_spawn 6 (some .int))) := lw_V q99 q100 q101 q29 q102
theorem nL0_spawn : yX0_spawn.cls = RX0 ∧ yX0_spawn.cls ≠ "java/lang/invoke/MethodHandle" ∧ yX0_spawn.cls ≠ "java/lang/invoke/VarHandle" ∧ (parseMethodDescriptor yX0_spawn.desc).map (fun d => d.parameters.length) = some 2 := by decide +kernel
theorem vL0_kill : GoodIn lw_all (wsV R_law 18 RX0 yX0_kill (ws_ yX0_kill cX0_kill 3 (some .int))) := lw_V q115 q116 q117 q29 q118
theorem nL0_kill : yX0_kill.cls = RX0 ∧ yX0_kill.cls ≠ "java/lang/invoke/MethodHandle" ∧ yX0_kill.cls ≠ "java/lang/invoke/VarHandle" ∧ (parseMethodDescriptor yX0_kill.desc).map (fun d => d.parameters.length) = some 1 := by decide +kernel
theorem vL0_put : GoodIn lw_all (wsV R_law 23 RX0 yX0_put (ws_ yX0_put cX0_put 5 (some .int))) := lw_V q131 q132 q133 q29 q134
theorem nL0_put : yX0_put.cls = RX0 ∧ yX0_put.cls ≠ "java/lang/invoke/MethodHandle" ∧ yX0_put.cls ≠ "java/lang/invoke/VarHandle" ∧ (parseMethodDescriptor yX0_put.desc).map (fun d => d.parameters.length) = some 3 := by decide +kernel
theorem vL0_drop : GoodIn lw_all (wsV R_law 28 RX0 yX0_drop (ws_ yX0_drop cX0_drop 4 (some .int))) := lw_V q143 q144 q145 q29 q146
theorem nL0_drop : yX0_drop.cls = RX0 ∧ yX0_drop.cls ≠ "java/lang/invoke/MethodHandle" ∧ yX0_drop.cls ≠ "java/lang/invoke/VarHandle" ∧ (parseMethodDescriptor yX0_drop.desc).map (fun d => d.parameters.length) = some 2 := by decide +kernel
theorem vL0_get : GoodIn lw_all (wsV R_law 32 RX0 yX0_get (ws_ yX0_get cX0_get 3 (some .int))) := lw_V q147 q148 q149 q29 q150
theorem nL0_get : yX0_get.cls = RX0 ∧ yX0_get.cls ≠ "java/lang/invoke/MethodHandle" ∧ yX0_get.cls ≠ "java/lang/invoke/VarHandle" ∧ (parseMethodDescriptor yX0_get.desc).map (fun d => d.parameters.length) = some 2 := by decide +kernel
theorem vL0_parts : GoodIn lw_all (wsV R_law 36 RX0 yX0_parts (ws_ yX0_parts cX0_parts 2 (some .int))) := lw_V q151 q152 q153 q29 q154
theorem nL0_parts : yX0_parts.cls = RX0 ∧ yX0_parts.cls ≠ "java/lang/invoke/MethodHandle" ∧ yX0_parts.cls ≠ "java/lang/invoke/VarHandle" ∧ (parseMethodDescriptor yX0_parts.desc).map (fun d => d.parameters.length) = some 1 := by decide +kernel
theorem vL0_living : GoodIn lw_all (wsV R_law 40 RX0 yX0_living (ws_ yX0_living cX0_living 3 (some .int))) := lw_V q155 q156 q157 q29 q158
theorem nL0_living : yX0_living.cls = RX0 ∧ yX0_living.cls ≠ "java/lang/invoke/MethodHandle" ∧ yX0_living.cls ≠ "java/lang/invoke/VarHandle" ∧ (parseMethodDescriptor yX0_living.desc).map (fun d => d.parameters.length) = some 0 := by decide +kernel
theorem vL0_count : GoodIn lw_all (wsV R_law 45 RX0 yX0_count (ws_ yX0_count cX0_count 5 (some .int))) := lw_V q159 q160 q161 q29 q162
theorem nL0_count : yX0_count.cls = RX0 ∧ yX0_count.cls ≠ "java/lang/invoke/MethodHandle" ∧ yX0_count.cls ≠ "java/lang/invoke/VarHandle" ∧ (parseMethodDescriptor yX0_count.desc).map (fun d => d.parameters.length) = some 2 := by decide +kernel
theorem vL0_next : GoodIn lw_all (wsV R_law 49 RX0 yX0_next (ws_ yX0_next cX0_next 7 (some .int))) := lw_V q167 q168 q169 q29 q170
theorem nL0_next : yX0_next.cls = RX0 ∧ yX0_next.cls ≠ "java/lang/invoke/MethodHandle" ∧ yX0_next.cls ≠ "java/lang/invoke/VarHandle" ∧ (parseMethodDescriptor yX0_next.desc).map (fun d => d.parameters.length) = some 3 := by decide +kernel
theorem vL0_sum : GoodIn lw_all (wsV R_law 53 RX0 yX0_sum (ws_ yX0_sum cX0_sum 8 (some .int))) := lw_V q175 q176 q177 q29 q178
theorem nL0_sum : yX0_sum.cls = RX0 ∧ yX0_sum.cls ≠ "java/lang/invoke/MethodHandle" ∧ yX0_sum.cls ≠ "java/lang/invoke/VarHandle" ∧ (parseMethodDescriptor yX0_sum.desc).map (fun d => d.parameters.length) = some 3 := by decide +kernel
theorem vL0_kinds : GoodIn lw_all (wsV R_law 57 RX0 yX0_kinds (ws_ yX0_kinds cX0_kinds 3 (some .int))) := lw_V q179 q180 q181 q29 q182
theorem nL0_kinds : yX0_kinds.cls = RX0 ∧ yX0_kinds.cls ≠ "java/lang/invoke/MethodHandle" ∧ yX0_kinds.cls ≠ "java/lang/invoke/VarHandle" ∧ (parseMethodDescriptor yX0_kinds.desc).map (fun d => d.parameters.length) = some 0 := by decide +kernel
theorem vL0_system : GoodIn lw_all (wsV R_law 61 RX0 yX0_system (ws_ yX0_system cX0_system 7 (some .int))) := lw_V q183 q184 q185 q29 q186
theorem nL0_system : yX0_system.cls = RX0 ∧ yX0_system.cls ≠ "java/lang/invoke/MethodHandle" ∧ yX0_system.cls ≠ "java/lang/invoke/VarHandle" ∧ (parseMethodDescriptor yX0_system.desc).map (fun d => d.parameters.length) = some 2 := by decide +kernel
theorem vL0_unsystem : GoodIn lw_all (wsV R_law 65 RX0 yX0_unsystem (ws_ yX0_unsystem cX0_unsystem 1 (some .int))) := lw_V q187 q188 q189 q29 q190
theorem nL0_unsystem : yX0_unsystem.cls = RX0 ∧ yX0_unsystem.cls ≠ "java/lang/invoke/MethodHandle" ∧ yX0_unsystem.cls ≠ "java/lang/invoke/VarHandle" ∧ (parseMethodDescriptor yX0_unsystem.desc).map (fun d => d.parameters.length) = some 0 := by decide +kernel
theorem vL0_stage : GoodIn lw_all (wsV R_law 69 RX0 yX0_stage (ws_ yX0_stage cX0_stage 2 (some .int))) := lw_V q191 q192 q193 q29 q194
theorem nL0_stage : yX0_stage.cls = RX0 ∧ yX0_stage.cls ≠ "java/lang/invoke/MethodHandle" ∧ yX0_stage.cls ≠ "java/lang/invoke/VarHandle" ∧ (parseMethodDescriptor yX0_stage.desc).map (fun d => d.parameters.length) = some 1 := by decide +kernel
theorem vL0_stages : GoodIn lw_all (wsV R_law 73 RX0 yX0_stages (ws_ yX0_stages cX0_stages 1 (some .int))) := lw_V q207 q208 q209 q29 q210
theorem nL0_stages : yX0_stages.cls = RX0 ∧ yX0_stages.cls ≠ "java/lang/invoke/MethodHandle" ∧ yX0_stages.cls ≠ "java/lang/invoke/VarHandle" ∧ (parseMethodDescriptor yX0_stages.desc).map (fun d => d.parameters.length) = some 0 := by decide +kernel
theorem vL0_frame : GoodIn lw_all (wsV R_law 77 RX0 yX0_frame (ws_ yX0_frame cX0_frame 6 (some .int))) := lw_V q211 q212 q213 q29 q214
theorem nL0_frame : yX0_frame.cls = RX0 ∧ yX0_frame.cls ≠ "java/lang/invoke/MethodHandle" ∧ yX0_frame.cls ≠ "java/lang/invoke/VarHandle" ∧ (parseMethodDescriptor yX0_frame.desc).map (fun d => d.parameters.length) = some 1 := by decide +kernel
theorem vL0_digest : GoodIn lw_all (wsV R_law 81 RX0 yX0_digest (ws_ yX0_digest cX0_digest 5 (some .int))) := lw_V q235 q236 q237 q29 q238
theorem nL0_digest : yX0_digest.cls = RX0 ∧ yX0_digest.cls ≠ "java/lang/invoke/MethodHandle" ∧ yX0_digest.cls ≠ "java/lang/invoke/VarHandle" ∧ (parseMethodDescriptor yX0_digest.desc).map (fun d => d.parameters.length) = some 0 := by decide +kernel
theorem vL1_spawn : GoodIn lw_all (wsV R_law 17 RX1 yX1_spawn (ws_ yX1_spawn cX1_spawn 5 (some .int))) := lw_V q277 q278 q279 q30 q280
theorem nL1_spawn : yX1_spawn.cls = RX1 ∧ yX1_spawn.cls ≠ "java/lang/invoke/MethodHandle" ∧ yX1_spawn.cls ≠ "java/lang/invoke/VarHandle" ∧ (parseMethodDescriptor yX1_spawn.desc).map (fun d => d.parameters.length) = some 2 := by decide +kernel
theorem vL1_kill : GoodIn lw_all (wsV R_law 22 RX1 yX1_kill (ws_ yX1_kill cX1_kill 2 (some .int))) := lw_V q285 q286 q287 q30 q288
theorem nL1_kill : yX1_kill.cls = RX1 ∧ yX1_kill.cls ≠ "java/lang/invoke/MethodHandle" ∧ yX1_kill.cls ≠ "java/lang/invoke/VarHandle" ∧ (parseMethodDescriptor yX1_kill.desc).map (fun d => d.parameters.length) = some 1 := by decide +kernel
theorem vL1_put : GoodIn lw_all (wsV R_law 27 RX1 yX1_put (ws_ yX1_put cX1_put 5 (some .int))) := lw_V q293 q294 q295 q30 q296
theorem nL1_put : yX1_put.cls = RX1 ∧ yX1_put.cls ≠ "java/lang/invoke/MethodHandle" ∧ yX1_put.cls ≠ "java/lang/invoke/VarHandle" ∧ (parseMethodDescriptor yX1_put.desc).map (fun d => d.parameters.length) = some 3 := by decide +kernel
theorem vL1_drop : GoodIn lw_all (wsV R_law 31 RX1 yX1_drop (ws_ yX1_drop cX1_drop 4 (some .int))) := lw_V q301 q302 q303 q30 q304
theorem nL1_drop : yX1_drop.cls = RX1 ∧ yX1_drop.cls ≠ "java/lang/invoke/MethodHandle" ∧ yX1_drop.cls ≠ "java/lang/invoke/VarHandle" ∧ (parseMethodDescriptor yX1_drop.desc).map (fun d => d.parameters.length) = some 2 := by decide +kernel
theorem vL1_get : GoodIn lw_all (wsV R_law 35 RX1 yX1_get (ws_ yX1_get cX1_get 3 (some .int))) := lw_V q305 q306 q307 q30 q308
theorem nL1_get : yX1_get.cls = RX1 ∧ yX1_get.cls ≠ "java/lang/invoke/MethodHandle" ∧ yX1_get.cls ≠ "java/lang/invoke/VarHandle" ∧ (parseMethodDescriptor yX1_get.desc).map (fun d => d.parameters.length) = some 2 := by decide +kernel
theorem vL1_parts : GoodIn lw_all (wsV R_law 39 RX1 yX1_parts (ws_ yX1_parts cX1_parts 2 (some .int))) := lw_V q313 q314 q315 q30 q316
theorem nL1_parts : yX1_parts.cls = RX1 ∧ yX1_parts.cls ≠ "java/lang/invoke/MethodHandle" ∧ yX1_parts.cls ≠ "java/lang/invoke/VarHandle" ∧ (parseMethodDescriptor yX1_parts.desc).map (fun d => d.parameters.length) = some 1 := by decide +kernel
theorem vL1_living : GoodIn lw_all (wsV R_law 44 RX1 yX1_living (ws_ yX1_living cX1_living 1 (some .int))) := lw_V q317 q318 q319 q30 q320
theorem nL1_living : yX1_living.cls = RX1 ∧ yX1_living.cls ≠ "java/lang/invoke/MethodHandle" ∧ yX1_living.cls ≠ "java/lang/invoke/VarHandle" ∧ (parseMethodDescriptor yX1_living.desc).map (fun d => d.parameters.length) = some 0 := by decide +kernel
theorem vL1_count : GoodIn lw_all (wsV R_law 48 RX1 yX1_count (ws_ yX1_count cX1_count 5 (some .int))) := lw_V q329 q322 q323 q30 q324
theorem nL1_count : yX1_count.cls = RX1 ∧ yX1_count.cls ≠ "java/lang/invoke/MethodHandle" ∧ yX1_count.cls ≠ "java/lang/invoke/VarHandle" ∧ (parseMethodDescriptor yX1_count.desc).map (fun d => d.parameters.length) = some 2 := by decide +kernel
theorem vL1_next : GoodIn lw_all (wsV R_law 52 RX1 yX1_next (ws_ yX1_next cX1_next 5 (some .int))) := lw_V q330 q331 q332 q30 q333
theorem nL1_next : yX1_next.cls = RX1 ∧ yX1_next.cls ≠ "java/lang/invoke/MethodHandle" ∧ yX1_next.cls ≠ "java/lang/invoke/VarHandle" ∧ (parseMethodDescriptor yX1_next.desc).map (fun d => d.parameters.length) = some 3 := by decide +kernel
theorem vL1_sum : GoodIn lw_all (wsV R_law 56 RX1 yX1_sum (ws_ yX1_sum cX1_sum 6 (some .int))) := lw_V q334 q335 q336 q30 q337
theorem nL1_sum : yX1_sum.cls = RX1 ∧ yX1_sum.cls ≠ "java/lang/invoke/MethodHandle" ∧ yX1_sum.cls ≠ "java/lang/invoke/VarHandle" ∧ (parseMethodDescriptor yX1_sum.desc).map (fun d => d.parameters.length) = some 3 := by decide +kernel
theorem vL1_kinds : GoodIn lw_all (wsV R_law 60 RX1 yX1_kinds (ws_ yX1_kinds cX1_kinds 5 (some .int))) := lw_V q338 q339 q340 q30 q341
theorem nL1_kinds : yX1_kinds.cls = RX1 ∧ yX1_kinds.cls ≠ "java/lang/invoke/MethodHandle" ∧ yX1_kinds.cls ≠ "java/lang/invoke/VarHandle" ∧ (parseMethodDescriptor yX1_kinds.desc).map (fun d => d.parameters.length) = some 0 := by decide +kernel
theorem vL1_system : GoodIn lw_all (wsV R_law 64 RX1 yX1_system (ws_ yX1_system cX1_system 6 (some .int))) := lw_V q342 q343 q344 q30 q345
theorem nL1_system : yX1_system.cls = RX1 ∧ yX1_system.cls ≠ "java/lang/invoke/MethodHandle" ∧ yX1_system.cls ≠ "java/lang/invoke/VarHandle" ∧ (parseMethodDescriptor yX1_system.desc).map (fun d => d.parameters.length) = some 2 := by decide +kernel
theorem vL1_unsystem : GoodIn lw_all (wsV R_law 68 RX1 yX1_unsystem (ws_ yX1_unsystem cX1_unsystem 1 (some .int))) := lw_V q346 q347 q348 q30 q349
theorem nL1_unsystem : yX1_unsystem.cls = RX1 ∧ yX1_unsystem.cls ≠ "java/lang/invoke/MethodHandle" ∧ yX1_unsystem.cls ≠ "java/lang/invoke/VarHandle" ∧ (parseMethodDescriptor yX1_unsystem.desc).map (fun d => d.parameters.length) = some 0 := by decide +kernel
theorem vL1_stage : GoodIn lw_all (wsV R_law 72 RX1 yX1_stage (ws_ yX1_stage cX1_stage 2 (some .int))) := lw_V q350 q351 q352 q30 q353
theorem nL1_stage : yX1_stage.cls = RX1 ∧ yX1_stage.cls ≠ "java/lang/invoke/MethodHandle" ∧ yX1_stage.cls ≠ "java/lang/invoke/VarHandle" ∧ (parseMethodDescriptor yX1_stage.desc).map (fun d => d.parameters.length) = some 1 := by decide +kernel
theorem vL1_stages : GoodIn lw_all (wsV R_law 76 RX1 yX1_stages (ws_ yX1_stages cX1_stages 3 (some .int))) := lw_V q362 q363 q364 q30 q365
theorem nL1_stages : yX1_stages.cls = RX1 ∧ yX1_stages.cls ≠ "java/lang/invoke/MethodHandle" ∧ yX1_stages.cls ≠ "java/lang/invoke/VarHandle" ∧ (parseMethodDescriptor yX1_stages.desc).map (fun d => d.parameters.length) = some 0 := by decide +kernel
theorem vL1_frame : GoodIn lw_all (wsV R_law 80 RX1 yX1_frame (ws_ yX1_frame cX1_frame 4 (some .int))) := lw_V q366 q367 q368 q30 q369
theorem nL1_frame : yX1_frame.cls = RX1 ∧ yX1_frame.cls ≠ "java/lang/invoke/MethodHandle" ∧ yX1_frame.cls ≠ "java/lang/invoke/VarHandle" ∧ (parseMethodDescriptor yX1_frame.desc).map (fun d => d.parameters.length) = some 1 := by decide +kernel
theorem vL1_digest : GoodIn lw_all (wsV R_law 84 RX1 yX1_digest (ws_ yX1_digest cX1_digest 3 (some .int))) := lw_V q382 q383 q384 q30 q385
theorem nL1_digest : yX1_digest.cls = RX1 ∧ yX1_digest.cls ≠ "java/lang/invoke/MethodHandle" ∧ yX1_digest.cls ≠ "java/lang/invoke/VarHandle" ∧ (parseMethodDescriptor yX1_digest.desc).map (fun d => d.parameters.length) = some 0 := by decide +kernel
section LC
variable {X : aw_X} {l : Launch} {D : va_G} {cs : Nat → ClassId} {a0 a1 : Nat → Nat} {b n i : Nat} {xs : Nat → Int32} {w v : aw_S} {a : aw_AS}
set_option maxHeartbeats 4000000 in
set_option maxRecDepth 100000 in
theorem law_spawn (O : aw_ok l (D, cs, a0) R_law cL_law 7 244 X) (nl : aw_nl X = 4) (T : aw_two a0 a1 X) (S : aw_scr X b n xs) (hD0 : ∀ w, va_D (aw_A (D, cs, a0)) (aw_pic0 (D, cs, a0) w)) (hD1 : ∀ w, va_D (aw_A (D, cs, a1)) (aw_pic1 (D, cs, a1) w)) (hn : n ≤ 256) (hi : i + 4 ≤ n) (h0 : R0 w a) (h1 : R1 v a) (cont : ∀ w v a, R0 w a → R1 v a → aw_J (aw_p2 (D, cs, a0) (D, cs, a1)) X 567 [(0, .ref b), (1, .ref (a0 20)), (2, .ref (a1 20)), (3, .int (nI i))] [] (w, v)) : aw_J (aw_p2 (D, cs, a0) (D, cs, a1)) X 116 [(0, .ref b), (1, .ref (a0 20)), (2, .ref (a1 20)), (3, .int (nI i))] [] (w, v) := by
  refine aw_aload_n (pc' := 117) O dL_law_116 rfl rfl ?_
  refine aw_aload_n (pc' := 118) O dL_law_117 rfl rfl ?_
  refine aw_iload_n (pc' := 119) O dL_law_118 rfl rfl ?_
  refine aw_iconst (pc' := 120) O dL_law_119 ki_1 rfl ?_
  refine aw_iaddN (pc' := 121) O dL_law_120 rfl ?_
  refine aw_sld (pc' := 122) (j := i + 1) O S rfl (by omega) (by omega) dL_law_121 rfl ?_
  refine aw_aload_n (pc' := 123) O dL_law_122 rfl rfl ?_
  refine aw_iload_n (pc' := 124) O dL_law_123 rfl rfl ?_
  refine aw_iconst (pc' := 125) O dL_law_124 ki_2 rfl ?_
  refine aw_iaddN (pc' := 126) O dL_law_125 rfl ?_
  refine aw_sld (pc' := 127) (j := i + 2) O S rfl (by omega) (by omega) dL_law_126 rfl ?_
  refine aw_lc0 (pc' := 130) (rest := []) O nl T (met0_spawn l (D, cs, a0) hD0 w a h0 (xs (i + 1)) (xs (i + 2))) vL0_spawn nL0_spawn (by decide) (by decide) rfl rfl (Nat.le_of_ble_eq_true rfl) dL_law_127 rfl (fun r0 w1 k0 => ?_)
  refine aw_aload_n (pc' := 131) O dL_law_130 rfl rfl ?_
  refine aw_aload_n (pc' := 132) O dL_law_131 rfl rfl ?_
  refine aw_iload_n (pc' := 133) O dL_law_132 rfl rfl ?_
  refine aw_iconst (pc' := 134) O dL_law_133 ki_1 rfl ?_
  refine aw_iaddN (pc' := 135) O dL_law_134 rfl ?_
  refine aw_sld (pc' := 136) (j := i + 1) O S rfl (by omega) (by omega) dL_law_135 rfl ?_
  refine aw_aload_n (pc' := 137) O dL_law_136 rfl rfl ?_
  refine aw_iload_n (pc' := 138) O dL_law_137 rfl rfl ?_
  refine aw_iconst (pc' := 139) O dL_law_138 ki_2 rfl ?_
  refine aw_iaddN (pc' := 140) O dL_law_139 rfl ?_
  refine aw_sld (pc' := 141) (j := i + 2) O S rfl (by omega) (by omega) dL_law_140 rfl ?_
  refine aw_lc1 (pc' := 144) (rest := [.int r0]) O nl T (met1_spawn l (D, cs, a1) hD1 v a h1 (xs (i + 1)) (xs (i + 2))) vL1_spawn nL1_spawn (by decide) (by decide) rfl rfl (Nat.le_of_ble_eq_true rfl) dL_law_141 rfl (fun r1 v1 k1 => ?_)
  exact aw_icmp_eq (pc' := 147) (tgt := 567) O dL_law_144 (by decide) rfl (fun _ => cont w1 v1 _ k0.2 k1.2) (fun h => absurd (k0.1.trans k1.1.symm) h)
set_option maxHeartbeats 4000000 in
set_option maxRecDepth 100000 in
theorem law_kill (O : aw_ok l (D, cs, a0) R_law cL_law 7 244 X) (nl : aw_nl X = 4) (T : aw_two a0 a1 X) (S : aw_scr X b n xs) (hD0 : ∀ w, va_D (aw_A (D, cs, a0)) (aw_pic0 (D, cs, a0) w)) (hD1 : ∀ w, va_D (aw_A (D, cs, a1)) (aw_pic1 (D, cs, a1) w)) (hn : n ≤ 256) (hi : i + 4 ≤ n) (h0 : R0 w a) (h1 : R1 v a) (cont : ∀ w v a, R0 w a → R1 v a → aw_J (aw_p2 (D, cs, a0) (D, cs, a1)) X 567 [(0, .ref b), (1, .ref (a0 20)), (2, .ref (a1 20)), (3, .int (nI i))] [] (w, v)) : aw_J (aw_p2 (D, cs, a0) (D, cs, a1)) X 149 [(0, .ref b), (1, .ref (a0 20)), (2, .ref (a1 20)), (3, .int (nI i))] [] (w, v) := by
  refine aw_aload_n (pc' := 150) O dL_law_149 rfl rfl ?_
  refine aw_aload_n (pc' := 151) O dL_law_150 rfl rfl ?_
  refine aw_iload_n (pc' := 152) O dL_law_151 rfl rfl ?_
  refine aw_iconst (pc' := 153) O dL_law_152 ki_1 rfl ?_
  refine aw_iaddN (pc' := 154) O dL_law_153 rfl ?_
  refine aw_sld (pc' := 155) (j := i + 1) O S rfl (by omega) (by omega) dL_law_154 rfl ?_
  refine aw_lc0 (pc' := 158) (rest := []) O nl T (met0_kill l (D, cs, a0) hD0 w a h0 (xs (i + 1))) vL0_kill nL0_kill (by decide) (by decide) rfl rfl (Nat.le_of_ble_eq_true rfl) dL_law_155 rfl (fun r0 w1 k0 => ?_)
  refine aw_aload_n (pc' := 159) O dL_law_158 rfl rfl ?_
  refine aw_aload_n (pc' := 160) O dL_law_159 rfl rfl ?_
  refine aw_iload_n (pc' := 161) O dL_law_160 rfl rfl ?_
  refine aw_iconst (pc' := 162) O dL_law_161 ki_1 rfl ?_
  refine aw_iaddN (pc' := 163) O dL_law_162 rfl ?_
  refine aw_sld (pc' := 164) (j := i + 1) O S rfl (by omega) (by omega) dL_law_163 rfl ?_
  refine aw_lc1 (pc' := 167) (rest := [.int r0]) O nl T (met1_kill l (D, cs, a1) hD1 v a h1 (xs (i + 1))) vL1_kill nL1_kill (by decide) (by decide) rfl rfl (Nat.le_of_ble_eq_true rfl) dL_law_164 rfl (fun r1 v1 k1 => ?_)
  exact aw_icmp_eq (pc' := 170) (tgt := 567) O dL_law_167 (by decide) rfl (fun _ => cont w1 v1 _ k0.2 k1.2) (fun h => absurd (k0.1.trans k1.1.symm) h)
set_option maxHeartbeats 4000000 in
set_option maxRecDepth 100000 in
theorem law_put (O : aw_ok l (D, cs, a0) R_law cL_law 7 244 X) (nl : aw_nl X = 4) (T : aw_two a0 a1 X) (S : aw_scr X b n xs) (hD0 : ∀ w, va_D (aw_A (D, cs, a0)) (aw_pic0 (D, cs, a0) w)) (hD1 : ∀ w, va_D (aw_A (D, cs, a1)) (aw_pic1 (D, cs, a1) w)) (hn : n ≤ 256) (hi : i + 4 ≤ n) (h0 : R0 w a) (h1 : R1 v a) (cont : ∀ w v a, R0 w a → R1 v a → aw_J (aw_p2 (D, cs, a0) (D, cs, a1)) X 567 [(0, .ref b), (1, .ref (a0 20)), (2, .ref (a1 20)), (3, .int (nI i))] [] (w, v)) : aw_J (aw_p2 (D, cs, a0) (D, cs, a1)) X 172 [(0, .ref b), (1, .ref (a0 20)), (2, .ref (a1 20)), (3, .int (nI i))] [] (w, v) := by
  refine aw_aload_n (pc' := 173) O dL_law_172 rfl rfl ?_
  refine aw_aload_n (pc' := 174) O dL_law_173 rfl rfl ?_
  refine aw_iload_n (pc' := 175) O dL_law_174 rfl rfl ?_
  refine aw_iconst (pc' := 176) O dL_law_175 ki_1 rfl ?_
  refine aw_iaddN (pc' := 177) O dL_law_176 rfl ?_
  refine aw_sld (pc' := 178) (j := i + 1) O S rfl (by omega) (by omega) dL_law_177 rfl ?_
  refine aw_aload_n (pc' := 179) O dL_law_178 rfl rfl ?_
  refine aw_iload_n (pc' := 180) O dL_law_179 rfl rfl ?_
  refine aw_iconst (pc' := 181) O dL_law_180 ki_2 rfl ?_
  refine aw_iaddN (pc' := 182) O dL_law_181 rfl ?_
  refine aw_sld (pc' := 183) (j := i + 2) O S rfl (by omega) (by omega) dL_law_182 rfl ?_
  refine aw_aload_n (pc' := 184) O dL_law_183 rfl rfl ?_
  refine aw_iload_n (pc' := 185) O dL_law_184 rfl rfl ?_
  refine aw_iconst (pc' := 186) O dL_law_185 ki_3 rfl ?_
  refine aw_iaddN (pc' := 187) O dL_law_186 rfl ?_
  refine aw_sld (pc' := 188) (j := i + 3) O S rfl (by omega) (by omega) dL_law_187 rfl ?_
  refine aw_lc0 (pc' := 191) (rest := []) O nl T (met0_put l (D, cs, a0) hD0 w a h0 (xs (i + 1)) (xs (i + 2)) (xs (i + 3))) vL0_put nL0_put (by decide) (by decide) rfl rfl (Nat.le_of_ble_eq_true rfl) dL_law_188 rfl (fun r0 w1 k0 => ?_)
  refine aw_aload_n (pc' := 192) O dL_law_191 rfl rfl ?_
  refine aw_aload_n (pc' := 193) O dL_law_192 rfl rfl ?_
  refine aw_iload_n (pc' := 194) O dL_law_193 rfl rfl ?_
  refine aw_iconst (pc' := 195) O dL_law_194 ki_1 rfl ?_
  refine aw_iaddN (pc' := 196) O dL_law_195 rfl ?_
  refine aw_sld (pc' := 197) (j := i + 1) O S rfl (by omega) (by omega) dL_law_196 rfl ?_
  refine aw_aload_n (pc' := 198) O dL_law_197 rfl rfl ?_
  refine aw_iload_n (pc' := 199) O dL_law_198 rfl rfl ?_
  refine aw_iconst (pc' := 200) O dL_law_199 ki_2 rfl ?_
  refine aw_iaddN (pc' := 201) O dL_law_200 rfl ?_
  refine aw_sld (pc' := 202) (j := i + 2) O S rfl (by omega) (by omega) dL_law_201 rfl ?_
  refine aw_aload_n (pc' := 203) O dL_law_202 rfl rfl ?_
  refine aw_iload_n (pc' := 204) O dL_law_203 rfl rfl ?_
  refine aw_iconst (pc' := 205) O dL_law_204 ki_3 rfl ?_
  refine aw_iaddN (pc' := 206) O dL_law_205 rfl ?_
  refine aw_sld (pc' := 207) (j := i + 3) O S rfl (by omega) (by omega) dL_law_206 rfl ?_
  refine aw_lc1 (pc' := 210) (rest := [.int r0]) O nl T (met1_put l (D, cs, a1) hD1 v a h1 (xs (i + 1)) (xs (i + 2)) (xs (i + 3))) vL1_put nL1_put (by decide) (by decide) rfl rfl (Nat.le_of_ble_eq_true rfl) dL_law_207 rfl (fun r1 v1 k1 => ?_)
  exact aw_icmp_eq (pc' := 213) (tgt := 567) O dL_law_210 (by decide) rfl (fun _ => cont w1 v1 _ k0.2 k1.2) (fun h => absurd (k0.1.trans k1.1.symm) h)
set_option maxHeartbeats 4000000 in
set_option maxRecDepth 100000 in
theorem law_drop (O : aw_ok l (D, cs, a0) R_law cL_law 7 244 X) (nl : aw_nl X = 4) (T : aw_two a0 a1 X) (S : aw_scr X b n xs) (hD0 : ∀ w, va_D (aw_A (D, cs, a0)) (aw_pic0 (D, cs, a0) w)) (hD1 : ∀ w, va_D (aw_A (D, cs, a1)) (aw_pic1 (D, cs, a1) w)) (hn : n ≤ 256) (hi : i + 4 ≤ n) (h0 : R0 w a) (h1 : R1 v a) (cont : ∀ w v a, R0 w a → R1 v a → aw_J (aw_p2 (D, cs, a0) (D, cs, a1)) X 567 [(0, .ref b), (1, .ref (a0 20)), (2, .ref (a1 20)), (3, .int (nI i))] [] (w, v)) : aw_J (aw_p2 (D, cs, a0) (D, cs, a1)) X 215 [(0, .ref b), (1, .ref (a0 20)), (2, .ref (a1 20)), (3, .int (nI i))] [] (w, v) := by
  refine aw_aload_n (pc' := 216) O dL_law_215 rfl rfl ?_
  refine aw_aload_n (pc' := 217) O dL_law_216 rfl rfl ?_
  refine aw_iload_n (pc' := 218) O dL_law_217 rfl rfl ?_
  refine aw_iconst (pc' := 219) O dL_law_218 ki_1 rfl ?_
  refine aw_iaddN (pc' := 220) O dL_law_219 rfl ?_
  refine aw_sld (pc' := 221) (j := i + 1) O S rfl (by omega) (by omega) dL_law_220 rfl ?_
  refine aw_aload_n (pc' := 222) O dL_law_221 rfl rfl ?_
  refine aw_iload_n (pc' := 223) O dL_law_222 rfl rfl ?_
  refine aw_iconst (pc' := 224) O dL_law_223 ki_2 rfl ?_
  refine aw_iaddN (pc' := 225) O dL_law_224 rfl ?_
  refine aw_sld (pc' := 226) (j := i + 2) O S rfl (by omega) (by omega) dL_law_225 rfl ?_
  refine aw_lc0 (pc' := 229) (rest := []) O nl T (met0_drop l (D, cs, a0) hD0 w a h0 (xs (i + 1)) (xs (i + 2))) vL0_drop nL0_drop (by decide) (by decide) rfl rfl (Nat.le_of_ble_eq_true rfl) dL_law_226 rfl (fun r0 w1 k0 => ?_)
  refine aw_aload_n (pc' := 230) O dL_law_229 rfl rfl ?_
  refine aw_aload_n (pc' := 231) O dL_law_230 rfl rfl ?_
  refine aw_iload_n (pc' := 232) O dL_law_231 rfl rfl ?_
  refine aw_iconst (pc' := 233) O dL_law_232 ki_1 rfl ?_
  refine aw_iaddN (pc' := 234) O dL_law_233 rfl ?_
  refine aw_sld (pc' := 235) (j := i + 1) O S rfl (by omega) (by omega) dL_law_234 rfl ?_
  refine aw_aload_n (pc' := 236) O dL_law_235 rfl rfl ?_
  refine aw_iload_n (pc' := 237) O dL_law_236 rfl rfl ?_
  refine aw_iconst (pc' := 238) O dL_law_237 ki_2 rfl ?_
  refine aw_iaddN (pc' := 239) O dL_law_238 rfl ?_
  refine aw_sld (pc' := 240) (j := i + 2) O S rfl (by omega) (by omega) dL_law_239 rfl ?_
  refine aw_lc1 (pc' := 243) (rest := [.int r0]) O nl T (met1_drop l (D, cs, a1) hD1 v a h1 (xs (i + 1)) (xs (i + 2))) vL1_drop nL1_drop (by decide) (by decide) rfl rfl (Nat.le_of_ble_eq_true rfl) dL_law_240 rfl (fun r1 v1 k1 => ?_)
  exact aw_icmp_eq (pc' := 246) (tgt := 567) O dL_law_243 (by decide) rfl (fun _ => cont w1 v1 _ k0.2 k1.2) (fun h => absurd (k0.1.trans k1.1.symm) h)
set_option maxHeartbeats 4000000 in
set_option maxRecDepth 100000 in
theorem law_get (O : aw_ok l (D, cs, a0) R_law cL_law 7 244 X) (nl : aw_nl X = 4) (T : aw_two a0 a1 X) (S : aw_scr X b n xs) (hD0 : ∀ w, va_D (aw_A (D, cs, a0)) (aw_pic0 (D, cs, a0) w)) (hD1 : ∀ w, va_D (aw_A (D, cs, a1)) (aw_pic1 (D, cs, a1) w)) (hn : n ≤ 256) (hi : i + 4 ≤ n) (h0 : R0 w a) (h1 : R1 v a) (cont : ∀ w v a, R0 w a → R1 v a → aw_J (aw_p2 (D, cs, a0) (D, cs, a1)) X 567 [(0, .ref b), (1, .ref (a0 20)), (2, .ref (a1 20)), (3, .int (nI i))] [] (w, v)) : aw_J (aw_p2 (D, cs, a0) (D, cs, a1)) X 248 [(0, .ref b), (1, .ref (a0 20)), (2, .ref (a1 20)), (3, .int (nI i))] [] (w, v) := by
  refine aw_aload_n (pc' := 249) O dL_law_248 rfl rfl ?_
  refine aw_aload_n (pc' := 250) O dL_law_249 rfl rfl ?_
  refine aw_iload_n (pc' := 251) O dL_law_250 rfl rfl ?_
  refine aw_iconst (pc' := 252) O dL_law_251 ki_1 rfl ?_
  refine aw_iaddN (pc' := 253) O dL_law_252 rfl ?_
  refine aw_sld (pc' := 254) (j := i + 1) O S rfl (by omega) (by omega) dL_law_253 rfl ?_
  refine aw_aload_n (pc' := 255) O dL_law_254 rfl rfl ?_
  refine aw_iload_n (pc' := 256) O dL_law_255 rfl rfl ?_
  refine aw_iconst (pc' := 257) O dL_law_256 ki_2 rfl ?_
  refine aw_iaddN (pc' := 258) O dL_law_257 rfl ?_
  refine aw_sld (pc' := 259) (j := i + 2) O S rfl (by omega) (by omega) dL_law_258 rfl ?_
  refine aw_lc0 (pc' := 262) (rest := []) O nl T (met0_get l (D, cs, a0) hD0 w a h0 (xs (i + 1)) (xs (i + 2))) vL0_get nL0_get (by decide) (by decide) rfl rfl (Nat.le_of_ble_eq_true rfl) dL_law_259 rfl (fun r0 w1 k0 => ?_)
  refine aw_aload_n (pc' := 263) O dL_law_262 rfl rfl ?_
  refine aw_aload_n (pc' := 264) O dL_law_263 rfl rfl ?_
  refine aw_iload_n (pc' := 265) O dL_law_264 rfl rfl ?_
  refine aw_iconst (pc' := 266) O dL_law_265 ki_1 rfl ?_
  refine aw_iaddN (pc' := 267) O dL_law_266 rfl ?_
  refine aw_sld (pc' := 268) (j := i + 1) O S rfl (by omega) (by omega) dL_law_267 rfl ?_
  refine aw_aload_n (pc' := 269) O dL_law_268 rfl rfl ?_
  refine aw_iload_n (pc' := 270) O dL_law_269 rfl rfl ?_
  refine aw_iconst (pc' := 271) O dL_law_270 ki_2 rfl ?_
  refine aw_iaddN (pc' := 272) O dL_law_271 rfl ?_
  refine aw_sld (pc' := 273) (j := i + 2) O S rfl (by omega) (by omega) dL_law_272 rfl ?_
  refine aw_lc1 (pc' := 276) (rest := [.int r0]) O nl T (met1_get l (D, cs, a1) hD1 v a h1 (xs (i + 1)) (xs (i + 2))) vL1_get nL1_get (by decide) (by decide) rfl rfl (Nat.le_of_ble_eq_true rfl) dL_law_273 rfl (fun r1 v1 k1 => ?_)
  exact aw_icmp_eq (pc' := 279) (tgt := 567) O dL_law_276 (by decide) rfl (fun _ => cont w1 v1 a (by rw [k0.2]; exact h0) (by rw [k1.2]; exact h1)) (fun h => absurd (k0.1.trans k1.1.symm) h)
set_option maxHeartbeats 4000000 in
set_option maxRecDepth 100000 in
theorem law_parts (O : aw_ok l (D, cs, a0) R_law cL_law 7 244 X) (nl : aw_nl X = 4) (T : aw_two a0 a1 X) (S : aw_scr X b n xs) (hD0 : ∀ w, va_D (aw_A (D, cs, a0)) (aw_pic0 (D, cs, a0) w)) (hD1 : ∀ w, va_D (aw_A (D, cs, a1)) (aw_pic1 (D, cs, a1) w)) (hn : n ≤ 256) (hi : i + 4 ≤ n) (h0 : R0 w a) (h1 : R1 v a) (cont : ∀ w v a, R0 w a → R1 v a → aw_J (aw_p2 (D, cs, a0) (D, cs, a1)) X 567 [(0, .ref b), (1, .ref (a0 20)), (2, .ref (a1 20)), (3, .int (nI i))] [] (w, v)) : aw_J (aw_p2 (D, cs, a0) (D, cs, a1)) X 281 [(0, .ref b), (1, .ref (a0 20)), (2, .ref (a1 20)), (3, .int (nI i))] [] (w, v) := by
  refine aw_aload_n (pc' := 282) O dL_law_281 rfl rfl ?_
  refine aw_aload_n (pc' := 283) O dL_law_282 rfl rfl ?_
  refine aw_iload_n (pc' := 284) O dL_law_283 rfl rfl ?_
  refine aw_iconst (pc' := 285) O dL_law_284 ki_1 rfl ?_
  refine aw_iaddN (pc' := 286) O dL_law_285 rfl ?_
  refine aw_sld (pc' := 287) (j := i + 1) O S rfl (by omega) (by omega) dL_law_286 rfl ?_
  refine aw_lc0 (pc' := 290) (rest := []) O nl T (met0_parts l (D, cs, a0) hD0 w a h0 (xs (i + 1))) vL0_parts nL0_parts (by decide) (by decide) rfl rfl (Nat.le_of_ble_eq_true rfl) dL_law_287 rfl (fun r0 w1 k0 => ?_)
  refine aw_aload_n (pc' := 291) O dL_law_290 rfl rfl ?_
  refine aw_aload_n (pc' := 292) O dL_law_291 rfl rfl ?_
  refine aw_iload_n (pc' := 293) O dL_law_292 rfl rfl ?_
  refine aw_iconst (pc' := 294) O dL_law_293 ki_1 rfl ?_
  refine aw_iaddN (pc' := 295) O dL_law_294 rfl ?_
  refine aw_sld (pc' := 296) (j := i + 1) O S rfl (by omega) (by omega) dL_law_295 rfl ?_
  refine aw_lc1 (pc' := 299) (rest := [.int r0]) O nl T (met1_parts l (D, cs, a1) hD1 v a h1 (xs (i + 1))) vL1_parts nL1_parts (by decide) (by decide) rfl rfl (Nat.le_of_ble_eq_true rfl) dL_law_296 rfl (fun r1 v1 k1 => ?_)
  exact aw_icmp_eq (pc' := 302) (tgt := 567) O dL_law_299 (by decide) rfl (fun _ => cont w1 v1 a (by rw [k0.2]; exact h0) (by rw [k1.2]; exact h1)) (fun h => absurd (k0.1.trans k1.1.symm) h)
set_option maxHeartbeats 4000000 in
set_option maxRecDepth 100000 in
theorem law_living (O : aw_ok l (D, cs, a0) R_law cL_law 7 244 X) (nl : aw_nl X = 4) (T : aw_two a0 a1 X) (S : aw_scr X b n xs) (hD0 : ∀ w, va_D (aw_A (D, cs, a0)) (aw_pic0 (D, cs, a0) w)) (hD1 : ∀ w, va_D (aw_A (D, cs, a1)) (aw_pic1 (D, cs, a1) w)) (hn : n ≤ 256) (hi : i + 4 ≤ n) (h0 : R0 w a) (h1 : R1 v a) (cont : ∀ w v a, R0 w a → R1 v a → aw_J (aw_p2 (D, cs, a0) (D, cs, a1)) X 567 [(0, .ref b), (1, .ref (a0 20)), (2, .ref (a1 20)), (3, .int (nI i))] [] (w, v)) : aw_J (aw_p2 (D, cs, a0) (D, cs, a1)) X 304 [(0, .ref b), (1, .ref (a0 20)), (2, .ref (a1 20)), (3, .int (nI i))] [] (w, v) := by
  refine aw_aload_n (pc' := 305) O dL_law_304 rfl rfl ?_
  refine aw_lc0 (pc' := 308) (rest := []) O nl T (met0_living l (D, cs, a0) hD0 w a h0 ) vL0_living nL0_living (by decide) (by decide) rfl rfl (Nat.le_of_ble_eq_true rfl) dL_law_305 rfl (fun r0 w1 k0 => ?_)
  refine aw_aload_n (pc' := 309) O dL_law_308 rfl rfl ?_
  refine aw_lc1 (pc' := 312) (rest := [.int r0]) O nl T (met1_living l (D, cs, a1) hD1 v a h1 ) vL1_living nL1_living (by decide) (by decide) rfl rfl (Nat.le_of_ble_eq_true rfl) dL_law_309 rfl (fun r1 v1 k1 => ?_)
  exact aw_icmp_eq (pc' := 315) (tgt := 567) O dL_law_312 (by decide) rfl (fun _ => cont w1 v1 a (by rw [k0.2]; exact h0) (by rw [k1.2]; exact h1)) (fun h => absurd (k0.1.trans k1.1.symm) h)
set_option maxHeartbeats 4000000 in
set_option maxRecDepth 100000 in
theorem law_count (O : aw_ok l (D, cs, a0) R_law cL_law 7 244 X) (nl : aw_nl X = 4) (T : aw_two a0 a1 X) (S : aw_scr X b n xs) (hD0 : ∀ w, va_D (aw_A (D, cs, a0)) (aw_pic0 (D, cs, a0) w)) (hD1 : ∀ w, va_D (aw_A (D, cs, a1)) (aw_pic1 (D, cs, a1) w)) (hn : n ≤ 256) (hi : i + 4 ≤ n) (h0 : R0 w a) (h1 : R1 v a) (cont : ∀ w v a, R0 w a → R1 v a → aw_J (aw_p2 (D, cs, a0) (D, cs, a1)) X 567 [(0, .ref b), (1, .ref (a0 20)), (2, .ref (a1 20)), (3, .int (nI i))] [] (w, v)) : aw_J (aw_p2 (D, cs, a0) (D, cs, a1)) X 317 [(0, .ref b), (1, .ref (a0 20)), (2, .ref (a1 20)), (3, .int (nI i))] [] (w, v) := by
  refine aw_aload_n (pc' := 318) O dL_law_317 rfl rfl ?_
  refine aw_aload_n (pc' := 319) O dL_law_318 rfl rfl ?_
  refine aw_iload_n (pc' := 320) O dL_law_319 rfl rfl ?_
  refine aw_iconst (pc' := 321) O dL_law_320 ki_1 rfl ?_
  refine aw_iaddN (pc' := 322) O dL_law_321 rfl ?_
  refine aw_sld (pc' := 323) (j := i + 1) O S rfl (by omega) (by omega) dL_law_322 rfl ?_
  refine aw_aload_n (pc' := 324) O dL_law_323 rfl rfl ?_
  refine aw_iload_n (pc' := 325) O dL_law_324 rfl rfl ?_
  refine aw_iconst (pc' := 326) O dL_law_325 ki_2 rfl ?_
  refine aw_iaddN (pc' := 327) O dL_law_326 rfl ?_
  refine aw_sld (pc' := 328) (j := i + 2) O S rfl (by omega) (by omega) dL_law_327 rfl ?_
  refine aw_lc0 (pc' := 331) (rest := []) O nl T (met0_count l (D, cs, a0) hD0 w a h0 (xs (i + 1)) (xs (i + 2))) vL0_count nL0_count (by decide) (by decide) rfl rfl (Nat.le_of_ble_eq_true rfl) dL_law_328 rfl (fun r0 w1 k0 => ?_)
  refine aw_aload_n (pc' := 332) O dL_law_331 rfl rfl ?_
  refine aw_aload_n (pc' := 333) O dL_law_332 rfl rfl ?_
  refine aw_iload_n (pc' := 334) O dL_law_333 rfl rfl ?_
  refine aw_iconst (pc' := 335) O dL_law_334 ki_1 rfl ?_
  refine aw_iaddN (pc' := 336) O dL_law_335 rfl ?_
  refine aw_sld (pc' := 337) (j := i + 1) O S rfl (by omega) (by omega) dL_law_336 rfl ?_
  refine aw_aload_n (pc' := 338) O dL_law_337 rfl rfl ?_
  refine aw_iload_n (pc' := 339) O dL_law_338 rfl rfl ?_
  refine aw_iconst (pc' := 340) O dL_law_339 ki_2 rfl ?_
  refine aw_iaddN (pc' := 341) O dL_law_340 rfl ?_
  refine aw_sld (pc' := 342) (j := i + 2) O S rfl (by omega) (by omega) dL_law_341 rfl ?_
  refine aw_lc1 (pc' := 345) (rest := [.int r0]) O nl T (met1_count l (D, cs, a1) hD1 v a h1 (xs (i + 1)) (xs (i + 2))) vL1_count nL1_count (by decide) (by decide) rfl rfl (Nat.le_of_ble_eq_true rfl) dL_law_342 rfl (fun r1 v1 k1 => ?_)
  exact aw_icmp_eq (pc' := 348) (tgt := 567) O dL_law_345 (by decide) rfl (fun _ => cont w1 v1 a (by rw [k0.2]; exact h0) (by rw [k1.2]; exact h1)) (fun h => absurd (k0.1.trans k1.1.symm) h)
set_option maxHeartbeats 4000000 in
set_option maxRecDepth 100000 in
theorem law_next (O : aw_ok l (D, cs, a0) R_law cL_law 7 244 X) (nl : aw_nl X = 4) (T : aw_two a0 a1 X) (S : aw_scr X b n xs) (hD0 : ∀ w, va_D (aw_A (D, cs, a0)) (aw_pic0 (D, cs, a0) w)) (hD1 : ∀ w, va_D (aw_A (D, cs, a1)) (aw_pic1 (D, cs, a1) w)) (hn : n ≤ 256) (hi : i + 4 ≤ n) (h0 : R0 w a) (h1 : R1 v a) (cont : ∀ w v a, R0 w a → R1 v a → aw_J (aw_p2 (D, cs, a0) (D, cs, a1)) X 567 [(0, .ref b), (1, .ref (a0 20)), (2, .ref (a1 20)), (3, .int (nI i))] [] (w, v)) : aw_J (aw_p2 (D, cs, a0) (D, cs, a1)) X 350 [(0, .ref b), (1, .ref (a0 20)), (2, .ref (a1 20)), (3, .int (nI i))] [] (w, v) := by
  refine aw_aload_n (pc' := 351) O dL_law_350 rfl rfl ?_
  refine aw_aload_n (pc' := 352) O dL_law_351 rfl rfl ?_
  refine aw_iload_n (pc' := 353) O dL_law_352 rfl rfl ?_
  refine aw_iconst (pc' := 354) O dL_law_353 ki_1 rfl ?_
  refine aw_iaddN (pc' := 355) O dL_law_354 rfl ?_
  refine aw_sld (pc' := 356) (j := i + 1) O S rfl (by omega) (by omega) dL_law_355 rfl ?_
  refine aw_aload_n (pc' := 357) O dL_law_356 rfl rfl ?_
  refine aw_iload_n (pc' := 358) O dL_law_357 rfl rfl ?_
  refine aw_iconst (pc' := 359) O dL_law_358 ki_2 rfl ?_
  refine aw_iaddN (pc' := 360) O dL_law_359 rfl ?_
  refine aw_sld (pc' := 361) (j := i + 2) O S rfl (by omega) (by omega) dL_law_360 rfl ?_
  refine aw_aload_n (pc' := 362) O dL_law_361 rfl rfl ?_
  refine aw_iload_n (pc' := 363) O dL_law_362 rfl rfl ?_
  refine aw_iconst (pc' := 364) O dL_law_363 ki_3 rfl ?_
  refine aw_iaddN (pc' := 365) O dL_law_364 rfl ?_
  refine aw_sld (pc' := 366) (j := i + 3) O S rfl (by omega) (by omega) dL_law_365 rfl ?_
  refine aw_lc0 (pc' := 369) (rest := []) O nl T (met0_next l (D, cs, a0) hD0 w a h0 (xs (i + 1)) (xs (i + 2)) (xs (i + 3))) vL0_next nL0_next (by decide) (by decide) rfl rfl (Nat.le_of_ble_eq_true rfl) dL_law_366 rfl (fun r0 w1 k0 => ?_)
  refine aw_aload_n (pc' := 370) O dL_law_369 rfl rfl ?_
  refine aw_aload_n (pc' := 371) O dL_law_370 rfl rfl ?_
  refine aw_iload_n (pc' := 372) O dL_law_371 rfl rfl ?_
  refine aw_iconst (pc' := 373) O dL_law_372 ki_1 rfl ?_
  refine aw_iaddN (pc' := 374) O dL_law_373 rfl ?_
  refine aw_sld (pc' := 375) (j := i + 1) O S rfl (by omega) (by omega) dL_law_374 rfl ?_
  refine aw_aload_n (pc' := 376) O dL_law_375 rfl rfl ?_
  refine aw_iload_n (pc' := 377) O dL_law_376 rfl rfl ?_
  refine aw_iconst (pc' := 378) O dL_law_377 ki_2 rfl ?_
  refine aw_iaddN (pc' := 379) O dL_law_378 rfl ?_
  refine aw_sld (pc' := 380) (j := i + 2) O S rfl (by omega) (by omega) dL_law_379 rfl ?_
  refine aw_aload_n (pc' := 381) O dL_law_380 rfl rfl ?_
  refine aw_iload_n (pc' := 382) O dL_law_381 rfl rfl ?_
  refine aw_iconst (pc' := 383) O dL_law_382 ki_3 rfl ?_
  refine aw_iaddN (pc' := 384) O dL_law_383 rfl ?_
  refine aw_sld (pc' := 385) (j := i + 3) O S rfl (by omega) (by omega) dL_law_384 rfl ?_
  refine aw_lc1 (pc' := 388) (rest := [.int r0]) O nl T (met1_next l (D, cs, a1) hD1 v a h1 (xs (i + 1)) (xs (i + 2)) (xs (i + 3))) vL1_next nL1_next (by decide) (by decide) rfl rfl (Nat.le_of_ble_eq_true rfl) dL_law_385 rfl (fun r1 v1 k1 => ?_)
  exact aw_icmp_eq (pc' := 391) (tgt := 567) O dL_law_388 (by decide) rfl (fun _ => cont w1 v1 a (by rw [k0.2]; exact h0) (by rw [k1.2]; exact h1)) (fun h => absurd (k0.1.trans k1.1.symm) h)
set_option maxHeartbeats 4000000 in
set_option maxRecDepth 100000 in
theorem law_sum (O : aw_ok l (D, cs, a0) R_law cL_law 7 244 X) (nl : aw_nl X = 4) (T : aw_two a0 a1 X) (S : aw_scr X b n xs) (hD0 : ∀ w, va_D (aw_A (D, cs, a0)) (aw_pic0 (D, cs, a0) w)) (hD1 : ∀ w, va_D (aw_A (D, cs, a1)) (aw_pic1 (D, cs, a1) w)) (hn : n ≤ 256) (hi : i + 4 ≤ n) (h0 : R0 w a) (h1 : R1 v a) (cont : ∀ w v a, R0 w a → R1 v a → aw_J (aw_p2 (D, cs, a0) (D, cs, a1)) X 567 [(0, .ref b), (1, .ref (a0 20)), (2, .ref (a1 20)), (3, .int (nI i))] [] (w, v)) : aw_J (aw_p2 (D, cs, a0) (D, cs, a1)) X 393 [(0, .ref b), (1, .ref (a0 20)), (2, .ref (a1 20)), (3, .int (nI i))] [] (w, v) := by
  refine aw_aload_n (pc' := 394) O dL_law_393 rfl rfl ?_
  refine aw_aload_n (pc' := 395) O dL_law_394 rfl rfl ?_
  refine aw_iload_n (pc' := 396) O dL_law_395 rfl rfl ?_
  refine aw_iconst (pc' := 397) O dL_law_396 ki_1 rfl ?_
  refine aw_iaddN (pc' := 398) O dL_law_397 rfl ?_
  refine aw_sld (pc' := 399) (j := i + 1) O S rfl (by omega) (by omega) dL_law_398 rfl ?_
  refine aw_aload_n (pc' := 400) O dL_law_399 rfl rfl ?_
  refine aw_iload_n (pc' := 401) O dL_law_400 rfl rfl ?_
  refine aw_iconst (pc' := 402) O dL_law_401 ki_2 rfl ?_
  refine aw_iaddN (pc' := 403) O dL_law_402 rfl ?_
  refine aw_sld (pc' := 404) (j := i + 2) O S rfl (by omega) (by omega) dL_law_403 rfl ?_
  refine aw_aload_n (pc' := 405) O dL_law_404 rfl rfl ?_
  refine aw_iload_n (pc' := 406) O dL_law_405 rfl rfl ?_
  refine aw_iconst (pc' := 407) O dL_law_406 ki_3 rfl ?_
  refine aw_iaddN (pc' := 408) O dL_law_407 rfl ?_
  refine aw_sld (pc' := 409) (j := i + 3) O S rfl (by omega) (by omega) dL_law_408 rfl ?_
  refine aw_lc0 (pc' := 412) (rest := []) O nl T (met0_sum l (D, cs, a0) hD0 w a h0 (xs (i + 1)) (xs (i + 2)) (xs (i + 3))) vL0_sum nL0_sum (by decide) (by decide) rfl rfl (Nat.le_of_ble_eq_true rfl) dL_law_409 rfl (fun r0 w1 k0 => ?_)
  refine aw_aload_n (pc' := 413) O dL_law_412 rfl rfl ?_
  refine aw_aload_n (pc' := 414) O dL_law_413 rfl rfl ?_
  refine aw_iload_n (pc' := 415) O dL_law_414 rfl rfl ?_
  refine aw_iconst (pc' := 416) O dL_law_415 ki_1 rfl ?_
  refine aw_iaddN (pc' := 417) O dL_law_416 rfl ?_
  refine aw_sld (pc' := 418) (j := i + 1) O S rfl (by omega) (by omega) dL_law_417 rfl ?_
  refine aw_aload_n (pc' := 419) O dL_law_418 rfl rfl ?_
  refine aw_iload_n (pc' := 420) O dL_law_419 rfl rfl ?_
  refine aw_iconst (pc' := 421) O dL_law_420 ki_2 rfl ?_
  refine aw_iaddN (pc' := 422) O dL_law_421 rfl ?_
  refine aw_sld (pc' := 423) (j := i + 2) O S rfl (by omega) (by omega) dL_law_422 rfl ?_
  refine aw_aload_n (pc' := 424) O dL_law_423 rfl rfl ?_
  refine aw_iload_n (pc' := 425) O dL_law_424 rfl rfl ?_
  refine aw_iconst (pc' := 426) O dL_law_425 ki_3 rfl ?_
  refine aw_iaddN (pc' := 427) O dL_law_426 rfl ?_
  refine aw_sld (pc' := 428) (j := i + 3) O S rfl (by omega) (by omega) dL_law_427 rfl ?_
  refine aw_lc1 (pc' := 431) (rest := [.int r0]) O nl T (met1_sum l (D, cs, a1) hD1 v a h1 (xs (i + 1)) (xs (i + 2)) (xs (i + 3))) vL1_sum nL1_sum (by decide) (by decide) rfl rfl (Nat.le_of_ble_eq_true rfl) dL_law_428 rfl (fun r1 v1 k1 => ?_)
  exact aw_icmp_eq (pc' := 434) (tgt := 567) O dL_law_431 (by decide) rfl (fun _ => cont w1 v1 a (by rw [k0.2]; exact h0) (by rw [k1.2]; exact h1)) (fun h => absurd (k0.1.trans k1.1.symm) h)
set_option maxHeartbeats 4000000 in
set_option maxRecDepth 100000 in
theorem law_kinds (O : aw_ok l (D, cs, a0) R_law cL_law 7 244 X) (nl : aw_nl X = 4) (T : aw_two a0 a1 X) (S : aw_scr X b n xs) (hD0 : ∀ w, va_D (aw_A (D, cs, a0)) (aw_pic0 (D, cs, a0) w)) (hD1 : ∀ w, va_D (aw_A (D, cs, a1)) (aw_pic1 (D, cs, a1) w)) (hn : n ≤ 256) (hi : i + 4 ≤ n) (h0 : R0 w a) (h1 : R1 v a) (cont : ∀ w v a, R0 w a → R1 v a → aw_J (aw_p2 (D, cs, a0) (D, cs, a1)) X 567 [(0, .ref b), (1, .ref (a0 20)), (2, .ref (a1 20)), (3, .int (nI i))] [] (w, v)) : aw_J (aw_p2 (D, cs, a0) (D, cs, a1)) X 436 [(0, .ref b), (1, .ref (a0 20)), (2, .ref (a1 20)), (3, .int (nI i))] [] (w, v) := by
  refine aw_aload_n (pc' := 437) O dL_law_436 rfl rfl ?_
  refine aw_lc0 (pc' := 440) (rest := []) O nl T (met0_kinds l (D, cs, a0) hD0 w a h0 ) vL0_kinds nL0_kinds (by decide) (by decide) rfl rfl (Nat.le_of_ble_eq_true rfl) dL_law_437 rfl (fun r0 w1 k0 => ?_)
  refine aw_aload_n (pc' := 441) O dL_law_440 rfl rfl ?_
  refine aw_lc1 (pc' := 444) (rest := [.int r0]) O nl T (met1_kinds l (D, cs, a1) hD1 v a h1 ) vL1_kinds nL1_kinds (by decide) (by decide) rfl rfl (Nat.le_of_ble_eq_true rfl) dL_law_441 rfl (fun r1 v1 k1 => ?_)
  exact aw_icmp_eq (pc' := 447) (tgt := 567) O dL_law_444 (by decide) rfl (fun _ => cont w1 v1 a (by rw [k0.2]; exact h0) (by rw [k1.2]; exact h1)) (fun h => absurd (k0.1.trans k1.1.symm) h)
set_option maxHeartbeats 4000000 in
set_option maxRecDepth 100000 in
theorem law_system (O : aw_ok l (D, cs, a0) R_law cL_law 7 244 X) (nl : aw_nl X = 4) (T : aw_two a0 a1 X) (S : aw_scr X b n xs) (hD0 : ∀ w, va_D (aw_A (D, cs, a0)) (aw_pic0 (D, cs, a0) w)) (hD1 : ∀ w, va_D (aw_A (D, cs, a1)) (aw_pic1 (D, cs, a1) w)) (hn : n ≤ 256) (hi : i + 4 ≤ n) (h0 : R0 w a) (h1 : R1 v a) (cont : ∀ w v a, R0 w a → R1 v a → aw_J (aw_p2 (D, cs, a0) (D, cs, a1)) X 567 [(0, .ref b), (1, .ref (a0 20)), (2, .ref (a1 20)), (3, .int (nI i))] [] (w, v)) : aw_J (aw_p2 (D, cs, a0) (D, cs, a1)) X 449 [(0, .ref b), (1, .ref (a0 20)), (2, .ref (a1 20)), (3, .int (nI i))] [] (w, v) := by
  refine aw_aload_n (pc' := 450) O dL_law_449 rfl rfl ?_
  refine aw_aload_n (pc' := 451) O dL_law_450 rfl rfl ?_
  refine aw_iload_n (pc' := 452) O dL_law_451 rfl rfl ?_
  refine aw_iconst (pc' := 453) O dL_law_452 ki_1 rfl ?_
  refine aw_iaddN (pc' := 454) O dL_law_453 rfl ?_
  refine aw_sld (pc' := 455) (j := i + 1) O S rfl (by omega) (by omega) dL_law_454 rfl ?_
  refine aw_aload_n (pc' := 456) O dL_law_455 rfl rfl ?_
  refine aw_iload_n (pc' := 457) O dL_law_456 rfl rfl ?_
  refine aw_iconst (pc' := 458) O dL_law_457 ki_2 rfl ?_
  refine aw_iaddN (pc' := 459) O dL_law_458 rfl ?_
  refine aw_sld (pc' := 460) (j := i + 2) O S rfl (by omega) (by omega) dL_law_459 rfl ?_
  refine aw_lc0 (pc' := 463) (rest := []) O nl T (met0_system l (D, cs, a0) hD0 w a h0 (xs (i + 1)) (xs (i + 2))) vL0_system nL0_system (by decide) (by decide) rfl rfl (Nat.le_of_ble_eq_true rfl) dL_law_460 rfl (fun r0 w1 k0 => ?_)
  refine aw_aload_n (pc' := 464) O dL_law_463 rfl rfl ?_
  refine aw_aload_n (pc' := 465) O dL_law_464 rfl rfl ?_
  refine aw_iload_n (pc' := 466) O dL_law_465 rfl rfl ?_
  refine aw_iconst (pc' := 467) O dL_law_466 ki_1 rfl ?_
  refine aw_iaddN (pc' := 468) O dL_law_467 rfl ?_
  refine aw_sld (pc' := 469) (j := i + 1) O S rfl (by omega) (by omega) dL_law_468 rfl ?_
  refine aw_aload_n (pc' := 470) O dL_law_469 rfl rfl ?_
  refine aw_iload_n (pc' := 471) O dL_law_470 rfl rfl ?_
  refine aw_iconst (pc' := 472) O dL_law_471 ki_2 rfl ?_
  refine aw_iaddN (pc' := 473) O dL_law_472 rfl ?_
  refine aw_sld (pc' := 474) (j := i + 2) O S rfl (by omega) (by omega) dL_law_473 rfl ?_
  refine aw_lc1 (pc' := 477) (rest := [.int r0]) O nl T (met1_system l (D, cs, a1) hD1 v a h1 (xs (i + 1)) (xs (i + 2))) vL1_system nL1_system (by decide) (by decide) rfl rfl (Nat.le_of_ble_eq_true rfl) dL_law_474 rfl (fun r1 v1 k1 => ?_)
  exact aw_icmp_eq (pc' := 480) (tgt := 567) O dL_law_477 (by decide) rfl (fun _ => cont w1 v1 _ k0.2 k1.2) (fun h => absurd (k0.1.trans k1.1.symm) h)
set_option maxHeartbeats 4000000 in
set_option maxRecDepth 100000 in
theorem law_unsystem (O : aw_ok l (D, cs, a0) R_law cL_law 7 244 X) (nl : aw_nl X = 4) (T : aw_two a0 a1 X) (S : aw_scr X b n xs) (hD0 : ∀ w, va_D (aw_A (D, cs, a0)) (aw_pic0 (D, cs, a0) w)) (hD1 : ∀ w, va_D (aw_A (D, cs, a1)) (aw_pic1 (D, cs, a1) w)) (hn : n ≤ 256) (hi : i + 4 ≤ n) (h0 : R0 w a) (h1 : R1 v a) (cont : ∀ w v a, R0 w a → R1 v a → aw_J (aw_p2 (D, cs, a0) (D, cs, a1)) X 567 [(0, .ref b), (1, .ref (a0 20)), (2, .ref (a1 20)), (3, .int (nI i))] [] (w, v)) : aw_J (aw_p2 (D, cs, a0) (D, cs, a1)) X 482 [(0, .ref b), (1, .ref (a0 20)), (2, .ref (a1 20)), (3, .int (nI i))] [] (w, v) := by
  refine aw_aload_n (pc' := 483) O dL_law_482 rfl rfl ?_
  refine aw_lc0 (pc' := 486) (rest := []) O nl T (met0_unsystem l (D, cs, a0) hD0 w a h0 ) vL0_unsystem nL0_unsystem (by decide) (by decide) rfl rfl (Nat.le_of_ble_eq_true rfl) dL_law_483 rfl (fun r0 w1 k0 => ?_)
  refine aw_aload_n (pc' := 487) O dL_law_486 rfl rfl ?_
  refine aw_lc1 (pc' := 490) (rest := [.int r0]) O nl T (met1_unsystem l (D, cs, a1) hD1 v a h1 ) vL1_unsystem nL1_unsystem (by decide) (by decide) rfl rfl (Nat.le_of_ble_eq_true rfl) dL_law_487 rfl (fun r1 v1 k1 => ?_)
  exact aw_icmp_eq (pc' := 493) (tgt := 567) O dL_law_490 (by decide) rfl (fun _ => cont w1 v1 _ k0.2 k1.2) (fun h => absurd (k0.1.trans k1.1.symm) h)
set_option maxHeartbeats 4000000 in
set_option maxRecDepth 100000 in
theorem law_stage (O : aw_ok l (D, cs, a0) R_law cL_law 7 244 X) (nl : aw_nl X = 4) (T : aw_two a0 a1 X) (S : aw_scr X b n xs) (hD0 : ∀ w, va_D (aw_A (D, cs, a0)) (aw_pic0 (D, cs, a0) w)) (hD1 : ∀ w, va_D (aw_A (D, cs, a1)) (aw_pic1 (D, cs, a1) w)) (hn : n ≤ 256) (hi : i + 4 ≤ n) (h0 : R0 w a) (h1 : R1 v a) (cont : ∀ w v a, R0 w a → R1 v a → aw_J (aw_p2 (D, cs, a0) (D, cs, a1)) X 567 [(0, .ref b), (1, .ref (a0 20)), (2, .ref (a1 20)), (3, .int (nI i))] [] (w, v)) : aw_J (aw_p2 (D, cs, a0) (D, cs, a1)) X 495 [(0, .ref b), (1, .ref (a0 20)), (2, .ref (a1 20)), (3, .int (nI i))] [] (w, v) := by
  refine aw_aload_n (pc' := 496) O dL_law_495 rfl rfl ?_
  refine aw_aload_n (pc' := 497) O dL_law_496 rfl rfl ?_
  refine aw_iload_n (pc' := 498) O dL_law_497 rfl rfl ?_
  refine aw_iconst (pc' := 499) O dL_law_498 ki_1 rfl ?_
  refine aw_iaddN (pc' := 500) O dL_law_499 rfl ?_
  refine aw_sld (pc' := 501) (j := i + 1) O S rfl (by omega) (by omega) dL_law_500 rfl ?_
  refine aw_lc0 (pc' := 504) (rest := []) O nl T (met0_stage l (D, cs, a0) hD0 w a h0 (xs (i + 1))) vL0_stage nL0_stage (by decide) (by decide) rfl rfl (Nat.le_of_ble_eq_true rfl) dL_law_501 rfl (fun r0 w1 k0 => ?_)
  refine aw_aload_n (pc' := 505) O dL_law_504 rfl rfl ?_
  refine aw_aload_n (pc' := 506) O dL_law_505 rfl rfl ?_
  refine aw_iload_n (pc' := 507) O dL_law_506 rfl rfl ?_
  refine aw_iconst (pc' := 508) O dL_law_507 ki_1 rfl ?_
  refine aw_iaddN (pc' := 509) O dL_law_508 rfl ?_
  refine aw_sld (pc' := 510) (j := i + 1) O S rfl (by omega) (by omega) dL_law_509 rfl ?_
  refine aw_lc1 (pc' := 513) (rest := [.int r0]) O nl T (met1_stage l (D, cs, a1) hD1 v a h1 (xs (i + 1))) vL1_stage nL1_stage (by decide) (by decide) rfl rfl (Nat.le_of_ble_eq_true rfl) dL_law_510 rfl (fun r1 v1 k1 => ?_)
  exact aw_icmp_eq (pc' := 516) (tgt := 567) O dL_law_513 (by decide) rfl (fun _ => cont w1 v1 a k0.2 k1.2) (fun h => absurd (k0.1.trans k1.1.symm) h)
set_option maxHeartbeats 4000000 in
set_option maxRecDepth 100000 in
theorem law_stages (O : aw_ok l (D, cs, a0) R_law cL_law 7 244 X) (nl : aw_nl X = 4) (T : aw_two a0 a1 X) (S : aw_scr X b n xs) (hD0 : ∀ w, va_D (aw_A (D, cs, a0)) (aw_pic0 (D, cs, a0) w)) (hD1 : ∀ w, va_D (aw_A (D, cs, a1)) (aw_pic1 (D, cs, a1) w)) (hn : n ≤ 256) (hi : i + 4 ≤ n) (h0 : R0 w a) (h1 : R1 v a) (cont : ∀ w v a, R0 w a → R1 v a → aw_J (aw_p2 (D, cs, a0) (D, cs, a1)) X 567 [(0, .ref b), (1, .ref (a0 20)), (2, .ref (a1 20)), (3, .int (nI i))] [] (w, v)) : aw_J (aw_p2 (D, cs, a0) (D, cs, a1)) X 518 [(0, .ref b), (1, .ref (a0 20)), (2, .ref (a1 20)), (3, .int (nI i))] [] (w, v) := by
  refine aw_aload_n (pc' := 519) O dL_law_518 rfl rfl ?_
  refine aw_lc0 (pc' := 522) (rest := []) O nl T (met0_stages l (D, cs, a0) hD0 w a h0 ) vL0_stages nL0_stages (by decide) (by decide) rfl rfl (Nat.le_of_ble_eq_true rfl) dL_law_519 rfl (fun r0 w1 k0 => ?_)
  refine aw_aload_n (pc' := 523) O dL_law_522 rfl rfl ?_
  refine aw_lc1 (pc' := 526) (rest := [.int r0]) O nl T (met1_stages l (D, cs, a1) hD1 v a h1 ) vL1_stages nL1_stages (by decide) (by decide) rfl rfl (Nat.le_of_ble_eq_true rfl) dL_law_523 rfl (fun r1 v1 k1 => ?_)
  exact aw_icmp_eq (pc' := 529) (tgt := 567) O dL_law_526 (by decide) rfl (fun _ => cont w1 v1 a k0.2 k1.2) (fun h => absurd (k0.1.trans k1.1.symm) h)
set_option maxHeartbeats 4000000 in
set_option maxRecDepth 100000 in
theorem law_frame (O : aw_ok l (D, cs, a0) R_law cL_law 7 244 X) (nl : aw_nl X = 4) (T : aw_two a0 a1 X) (S : aw_scr X b n xs) (hD0 : ∀ w, va_D (aw_A (D, cs, a0)) (aw_pic0 (D, cs, a0) w)) (hD1 : ∀ w, va_D (aw_A (D, cs, a1)) (aw_pic1 (D, cs, a1) w)) (hn : n ≤ 256) (hi : i + 4 ≤ n) (h0 : R0 w a) (h1 : R1 v a) (cont : ∀ w v a, R0 w a → R1 v a → aw_J (aw_p2 (D, cs, a0) (D, cs, a1)) X 567 [(0, .ref b), (1, .ref (a0 20)), (2, .ref (a1 20)), (3, .int (nI i))] [] (w, v)) : aw_J (aw_p2 (D, cs, a0) (D, cs, a1)) X 531 [(0, .ref b), (1, .ref (a0 20)), (2, .ref (a1 20)), (3, .int (nI i))] [] (w, v) := by
  refine aw_aload_n (pc' := 532) O dL_law_531 rfl rfl ?_
  refine aw_aload_n (pc' := 533) O dL_law_532 rfl rfl ?_
  refine aw_iload_n (pc' := 534) O dL_law_533 rfl rfl ?_
  refine aw_iconst (pc' := 535) O dL_law_534 ki_1 rfl ?_
  refine aw_iaddN (pc' := 536) O dL_law_535 rfl ?_
  refine aw_sld (pc' := 537) (j := i + 1) O S rfl (by omega) (by omega) dL_law_536 rfl ?_
  refine aw_lc0 (pc' := 540) (rest := []) O nl T (met0_frame l (D, cs, a0) hD0 w a h0 (xs (i + 1))) vL0_frame nL0_frame (by decide) (by decide) rfl rfl (Nat.le_of_ble_eq_true rfl) dL_law_537 rfl (fun r0 w1 k0 => ?_)
  refine aw_aload_n (pc' := 541) O dL_law_540 rfl rfl ?_
  refine aw_aload_n (pc' := 542) O dL_law_541 rfl rfl ?_
  refine aw_iload_n (pc' := 543) O dL_law_542 rfl rfl ?_
  refine aw_iconst (pc' := 544) O dL_law_543 ki_1 rfl ?_
  refine aw_iaddN (pc' := 545) O dL_law_544 rfl ?_
  refine aw_sld (pc' := 546) (j := i + 1) O S rfl (by omega) (by omega) dL_law_545 rfl ?_
  refine aw_lc1 (pc' := 549) (rest := [.int r0]) O nl T (met1_frame l (D, cs, a1) hD1 v a h1 (xs (i + 1))) vL1_frame nL1_frame (by decide) (by decide) rfl rfl (Nat.le_of_ble_eq_true rfl) dL_law_546 rfl (fun r1 v1 k1 => ?_)
  exact aw_icmp_eq (pc' := 552) (tgt := 567) O dL_law_549 (by decide) rfl (fun _ => cont w1 v1 _ k0.2 k1.2) (fun h => absurd (k0.1.trans k1.1.symm) h)
set_option maxHeartbeats 4000000 in
set_option maxRecDepth 100000 in
theorem law_digest (O : aw_ok l (D, cs, a0) R_law cL_law 7 244 X) (nl : aw_nl X = 4) (T : aw_two a0 a1 X) (S : aw_scr X b n xs) (hD0 : ∀ w, va_D (aw_A (D, cs, a0)) (aw_pic0 (D, cs, a0) w)) (hD1 : ∀ w, va_D (aw_A (D, cs, a1)) (aw_pic1 (D, cs, a1) w)) (hn : n ≤ 256) (hi : i + 4 ≤ n) (h0 : R0 w a) (h1 : R1 v a) (cont : ∀ w v a, R0 w a → R1 v a → aw_J (aw_p2 (D, cs, a0) (D, cs, a1)) X 567 [(0, .ref b), (1, .ref (a0 20)), (2, .ref (a1 20)), (3, .int (nI i))] [] (w, v)) : aw_J (aw_p2 (D, cs, a0) (D, cs, a1)) X 554 [(0, .ref b), (1, .ref (a0 20)), (2, .ref (a1 20)), (3, .int (nI i))] [] (w, v) := by
  refine aw_aload_n (pc' := 555) O dL_law_554 rfl rfl ?_
  refine aw_lc0 (pc' := 558) (rest := []) O nl T (met0_digest l (D, cs, a0) hD0 w a h0 ) vL0_digest nL0_digest (by decide) (by decide) rfl rfl (Nat.le_of_ble_eq_true rfl) dL_law_555 rfl (fun r0 w1 k0 => ?_)
  refine aw_aload_n (pc' := 559) O dL_law_558 rfl rfl ?_
  refine aw_lc1 (pc' := 562) (rest := [.int r0]) O nl T (met1_digest l (D, cs, a1) hD1 v a h1 ) vL1_digest nL1_digest (by decide) (by decide) rfl rfl (Nat.le_of_ble_eq_true rfl) dL_law_559 rfl (fun r1 v1 k1 => ?_)
  exact aw_icmp_eq (pc' := 565) (tgt := 567) O dL_law_562 (by decide) rfl (fun _ => cont w1 v1 a (by rw [k0.2]; exact h0) (by rw [k1.2]; exact h1)) (fun h => absurd (k0.1.trans k1.1.symm) h)
end LC
set_option maxHeartbeats 4000000 in
set_option maxRecDepth 100000 in
theorem law_loop {X : aw_X} {l : Launch} {D : va_G} {cs : Nat → ClassId} {a0 a1 : Nat → Nat} {b n : Nat} {xs : Nat → Int32} (O : aw_ok l (D, cs, a0) R_law cL_law 7 244 X) (nl : aw_nl X = 4) (T : aw_two a0 a1 X) (S : aw_scr X b n xs) (hD0 : ∀ w, va_D (aw_A (D, cs, a0)) (aw_pic0 (D, cs, a0) w)) (hD1 : ∀ w, va_D (aw_A (D, cs, a1)) (aw_pic1 (D, cs, a1) w)) (hn : n ≤ 256) (fin : ∀ lv q, aw_J (aw_p2 (D, cs, a0) (D, cs, a1)) X 574 lv [.int (nI 1)] q) : ∀ (f i : Nat) (w v : aw_S) (a : aw_AS), i ≤ n → n - i < f → R0 w a → R1 v a → aw_J (aw_p2 (D, cs, a0) (D, cs, a1)) X 18 [(0, .ref b), (1, .ref (a0 20)), (2, .ref (a1 20)), (3, .int (nI i))] [] (w, v) := by
  intro f
  induction f with
  | zero =>
    intro i w v a hin hm
    exact absurd hm (Nat.not_lt_zero _)
  | succ f ih =>
    intro i w v a hin hm h0 h1
    refine aw_iload_n (pc' := 19) O dL_law_18 rfl rfl ?_
    refine aw_aload_n (pc' := 20) O dL_law_19 rfl rfl ?_
    refine aw_slen (pc' := 21) O S dL_law_20 rfl ?_
    refine aw_iconst (pc' := 22) O dL_law_21 ki_4 rfl ?_
    refine aw_isub (pc' := 23) O dL_law_22 rfl ?_
    refine aw_icmp_gt (pc' := 26) (tgt := 573) O dL_law_23 (by decide) rfl (fun h => ?_) (fun h => ?_)
    · refine aw_iconst (pc' := 574) O dL_law_573 ki_1 rfl ?_
      exact fin _ _
    · have hi : i + 4 ≤ n := law_in (by omega) (by omega) h
      have cont : ∀ w v a, R0 w a → R1 v a → aw_J (aw_p2 (D, cs, a0) (D, cs, a1)) X 567 [(0, .ref b), (1, .ref (a0 20)), (2, .ref (a1 20)), (3, .int (nI i))] [] (w, v) := by
        intro w v a h0 h1
        refine aw_iinc (pc' := 570) (v := nI (i + 4)) (lv' := [(0, .ref b), (1, .ref (a0 20)), (2, .ref (a1 20)), (3, .int (nI (i + 4)))]) O dL_law_567 (by rw [nl]; decide) rfl (law_i4 _) rfl rfl rfl ?_
        refine aw_goto (tgt := 18) O dL_law_570 (by decide) ?_
        exact ih (i + 4) w v a hi (by omega) h0 h1
      refine aw_aload_n (pc' := 27) O dL_law_26 rfl rfl ?_
      refine aw_iload_n (pc' := 28) O dL_law_27 rfl rfl ?_
      refine aw_sld (pc' := 29) (j := i) O S rfl (by omega) (by omega) dL_law_28 rfl ?_
      refine aw_bipush (pc' := 31) O dL_law_29 kb_31 rfl ?_
      refine aw_iand (pc' := 32) O dL_law_31 rfl ?_
      obtain ⟨j, hj, hx⟩ := pk_andE (xs i) (m := nI 31) 5 (by decide)
      refine aw_top hx ?_
      rcases (show j = 0 ∨ j = 1 ∨ j = 2 ∨ j = 3 ∨ j = 4 ∨ j = 5 ∨ j = 6 ∨ j = 7 ∨ j = 8 ∨ j = 9 ∨ j = 10 ∨ j = 11 ∨ j = 12 ∨ j = 13 ∨ j = 14 ∨ j = 15 ∨ j = 16 ∨ 17 ≤ j by omega) with q | q | q | q | q | q | q | q | q | q | q | q | q | q | q | q | q | q
      · subst q
        refine aw_tin (off := 84) (tgt := 116) O dL_law_32 (by decide) (by decide) (by decide) (by decide) ?_
        exact law_spawn O nl T S hD0 hD1 hn hi h0 h1 cont
      · subst q
        refine aw_tin (off := 117) (tgt := 149) O dL_law_32 (by decide) (by decide) (by decide) (by decide) ?_
        exact law_kill O nl T S hD0 hD1 hn hi h0 h1 cont
      · subst q
        refine aw_tin (off := 140) (tgt := 172) O dL_law_32 (by decide) (by decide) (by decide) (by decide) ?_
        exact law_put O nl T S hD0 hD1 hn hi h0 h1 cont
      · subst q
        refine aw_tin (off := 183) (tgt := 215) O dL_law_32 (by decide) (by decide) (by decide) (by decide) ?_
        exact law_drop O nl T S hD0 hD1 hn hi h0 h1 cont
      · subst q
        refine aw_tin (off := 216) (tgt := 248) O dL_law_32 (by decide) (by decide) (by decide) (by decide) ?_
        exact law_get O nl T S hD0 hD1 hn hi h0 h1 cont
      · subst q
        refine aw_tin (off := 249) (tgt := 281) O dL_law_32 (by decide) (by decide) (by decide) (by decide) ?_
        exact law_parts O nl T S hD0 hD1 hn hi h0 h1 cont
      · subst q
        refine aw_tin (off := 272) (tgt := 304) O dL_law_32 (by decide) (by decide) (by decide) (by decide) ?_
        exact law_living O nl T S hD0 hD1 hn hi h0 h1 cont
      · subst q
        refine aw_tin (off := 285) (tgt := 317) O dL_law_32 (by decide) (by decide) (by decide) (by decide) ?_
        exact law_count O nl T S hD0 hD1 hn hi h0 h1 cont
      · subst q
        refine aw_tin (off := 318) (tgt := 350) O dL_law_32 (by decide) (by decide) (by decide) (by decide) ?_
        exact law_next O nl T S hD0 hD1 hn hi h0 h1 cont
      · subst q
        refine aw_tin (off := 361) (tgt := 393) O dL_law_32 (by decide) (by decide) (by decide) (by decide) ?_
        exact law_sum O nl T S hD0 hD1 hn hi h0 h1 cont
      · subst q
        refine aw_tin (off := 404) (tgt := 436) O dL_law_32 (by decide) (by decide) (by decide) (by decide) ?_
        exact law_kinds O nl T S hD0 hD1 hn hi h0 h1 cont
      · subst q
        refine aw_tin (off := 417) (tgt := 449) O dL_law_32 (by decide) (by decide) (by decide) (by decide) ?_
        exact law_system O nl T S hD0 hD1 hn hi h0 h1 cont
      · subst q
        refine aw_tin (off := 450) (tgt := 482) O dL_law_32 (by decide) (by decide) (by decide) (by decide) ?_
        exact law_unsystem O nl T S hD0 hD1 hn hi h0 h1 cont
      · subst q
        refine aw_tin (off := 463) (tgt := 495) O dL_law_32 (by decide) (by decide) (by decide) (by decide) ?_
        exact law_stage O nl T S hD0 hD1 hn hi h0 h1 cont
      · subst q
        refine aw_tin (off := 486) (tgt := 518) O dL_law_32 (by decide) (by decide) (by decide) (by decide) ?_
        exact law_stages O nl T S hD0 hD1 hn hi h0 h1 cont
      · subst q
        refine aw_tin (off := 499) (tgt := 531) O dL_law_32 (by decide) (by decide) (by decide) (by decide) ?_
        exact law_frame O nl T S hD0 hD1 hn hi h0 h1 cont
      · subst q
        refine aw_tin (off := 522) (tgt := 554) O dL_law_32 (by decide) (by decide) (by decide) (by decide) ?_
        exact law_digest O nl T S hD0 hD1 hn hi h0 h1 cont
      · refine aw_tout (tgt := 567) O dL_law_32 (Or.inr (by rw [nI_toInt (by omega)]; omega)) (by decide) ?_
        exact cont w v a h0 h1
end
section
set_option maxRecDepth 100000
theorem cx_arr {s : State} {args : Array Value} {ty : FieldType} (h : (Cond.arrayClass ty).before args s = true) : ∃ cA, ArrOfT s cA ty ∧ s.vm.findClass ("[" ++ ty.toString) = some cA := by
  obtain ⟨cA, kA, comp, h1, h2, h3⟩ := Cond.arrayClass_spec h
  exact ⟨cA, fun n z => ⟨fun k h => (by cases h), kA, h2, comp, h3⟩, h1⟩
/-- the two classes and the three array classes, known at the start -/
theorem cx_known {s : State} {b : Addr} (ht : ∀ w ∈ lw_tbl, w.before #[Value.ref b] s = true) : ∃ (D : va_G) (cs : Nat → ClassId), va_K D vwCl (cx_tys cs) s := by
  obtain ⟨c0, i0, k0⟩ := u_known (C := RX0) (T := TX0) (N := 19) (n := 19) ht (fun w h => lw_all_tbl (in_X0 w h)) (ht _ (lw_all_tbl q32))
  obtain ⟨c1, i1, k1⟩ := u_known (C := RX1) (T := TX1) (N := 10) (n := 10) ht (fun w h => lw_all_tbl (in_X1 w h)) (ht _ (lw_all_tbl q240))
  obtain ⟨ci, e1, e2⟩ := cx_arr (ht _ (lw_all_tbl q97))
  obtain ⟨cl, e3, e4⟩ := cx_arr (ht _ (lw_all_tbl q98))
  obtain ⟨cz, e5, e6⟩ := cx_arr (ht _ (lw_all_tbl q276))
  refine ⟨(fun k => if k = 0 then c0 else c1, fun k => if k = 0 then i0 else i1), fun k => if k = 0 then ci else if k = 1 then cl else cz, fun k q hq => ?_, fun k q hq => ?_⟩
  · match k, hq with
    | 0, hq => cases hq; exact k0
    | 1, hq => cases hq; exact k1
    | k + 2, hq => simp [vwCl] at hq
  · match k, hq with
    | 0, hq => cases hq; exact ⟨e1, e2⟩
    | 1, hq => cases hq; exact ⟨e3, e4⟩
    | 2, hq => cases hq; exact ⟨e5, e6⟩
    | k + 3, hq => simp at hq
set_option maxHeartbeats 4000000 in
set_option maxRecDepth 100000 in
/-- YOUR PART: from the entry, for every script of at most 256 ints, the law comes to its end with true -/
theorem whole_start {p : Program} {e : Env} {s : State} {m : MethodId} {below : List Frame} {meth : Method} {c : Code} (l : Launch) {b L : Nat} {xs : Nat → Int32} (hL : L ≤ 256) (C0 : lw_At p s m meth c b L xs) : W p l e room_1 s m #[Value.ref b] below meth c s.heap [] 0 0 (lw_Z below #[Value.ref b] s) (entryFrame m ([Value.ref b] : List Value).toArray 4) := by
  obtain ⟨hx, hb, hr, hml, hown, hts0, hX, hbl, hlocks, hgv⟩ := C0
  have hts : ∀ w ∈ lw_all, w.before #[Value.ref b] s = true := fun w h => hts0 w (lw_all_tbl h)
  obtain ⟨D, cs, hK⟩ := cx_known hts0
  obtain ⟨A, hAe⟩ : ∃ A : Nat → Prop, A = fun q : Nat => s.heap.size ≤ q := ⟨_, rfl⟩
  have hA : ∀ q : Nat, s.heap.size ≤ q → A q := fun q h => by rw [hAe]; exact h
  have hbA : ¬ A b := by rw [hAe]; exact Nat.not_le.mpr hbl
  have hP : va_P D vwCl [] s.heap := fun k q h => by simp at h
  have hD : va_D A [] := ⟨fun i j p q h => by simp at h, fun k q h => by simp at h⟩
  have hS : va_S A s.heap s.heap [] := va_S.rf
  have hl := lv_entry ([.ref b]) (n := 4) (Nat.le_of_ble_eq_true rfl)
  rw [lg_entry_eq]
  generalize (lg_sl ([.ref b]) ++ List.replicate (4 - (lg_sl ([.ref b])).length) Slot.unset).toArray = ls at hl ⊢
  have hl : lv_has ls 4 [(0, .ref b)] := hl
  refine va_new (ci := 0) (fs := cx_f0) (C := RX0) (T := TX0) (N := 19) hx hb hts in_X0 tyX0 tyX0_ok hown (hts _ q31) (hts _ q32) (hts _ q29) hK hP hD hS hA rfl (by decide +kernel) (by decide) (by decide) dL_law_0 (fun h0 H hP hD hS => ?_)
  have hP : va_P D vwCl [(h0, .inr (0, cx_f0))] H := hP
  have hD : va_D A [(h0, .inr (0, cx_f0))] := hD
  refine W.widen (k := 1) (n := 19) (by decide) (by decide) ?_
  refine lv_dup hx hb dL_law_3 rfl ?_
  have hFc := va_free (wc := [(h0, .inr (0, cx_f0))]) hD hS hA [0] rfl
  refine va_callv (va_runI (As := []) (rest := [.ref h0]) ⟨hx, hb, hml, hown, hts⟩ (met0_init l D cs h0 H.size) (cwI 0 hts (lw_meth q35) rfl rfl rfl (hts _ q29) (hts _ q33) (hts _ q34) rfl (by decide +kernel) ⟨Nat.le_of_ble_eq_true rfl, Nat.le_of_ble_eq_true rfl⟩) ⟨fun a U g mk q => by obtain ⟨q0, q1, qP, qK, qD⟩ := q; exact ⟨q0, q1, qP, va_K.moved (u := U) (U := U.calling g mk a) (Vm.Alike.refl U.vm) qK, qD⟩, fun U hU hW => ⟨rfl, by rw [hU], by rw [hU]; exact hP, va_K.moved hW.alike hK, hD.weaken (fun _ _ _ _ => trivial)⟩⟩ rfl rfl hl.1 rfl (lv_room (Nat.le_of_ble_eq_true rfl)) dL_law_4 ⟨by decide, by decide⟩) hS (fun q _ h => hFc q h) hFc (fun u t H1 locs1 ht hvm hw hB hz1 hk1 hS => ?_)
  obtain ⟨ad0, w0⟩ := u
  obtain ⟨g1, g2, g3⟩ := hw
  obtain ⟨hP0, hD0⟩ := hB
  rw [ht] at hP0
  refine W.widen (k := 15) (n := 1995) (by decide) (by decide) ?_
  have g1 : ad0 20 = h0 := g1
  have hD0A : va_D A (aw_pic0 (D, cs, ad0) w0) := hD0.weaken (fun k q _ h => hFc q.1 h)
  have hc0 : ∀ k, A (ad0 k) := fun k => by
    obtain ⟨j, e, hj⟩ := g3 k
    exact hD0A.2 j _ hj
  refine lv_astore_n (lv' := [(1, .ref h0), (0, .ref b)]) hx hb dL_law_7 rfl hl (by decide) rfl (fun ls hl => ?_)
  clear hP hD hFc hk1 hz1
  refine va_new (ci := 1) (fs := cx_f1) (C := RX1) (T := TX1) (N := 10) hx hb hts in_X1 tyX1 tyX1_ok hown (hts _ q239) (hts _ q240) (hts _ q30) hK hP0 hD0A hS hA rfl (by decide +kernel) (by decide) (by decide) dL_law_8 (fun h1 H2 hP hD hS => ?_)
  refine W.widen (k := 16) (n := 2005) (by decide) (by decide) ?_
  refine lv_dup hx hb dL_law_11 rfl ?_
  have hPm : va_P D vwCl [(h1, .inr (1, cx_f1))] H2 := aw_P_r hP
  have hPw : va_P D vwCl (aw_pic0 (D, cs, ad0) w0) H2 := aw_P_l hP
  have h1w : ∀ (k : Nat) (q : Nat × va_E), (aw_pic0 (D, cs, ad0) w0)[k]? = some q → q.1 ≠ h1 := fun k q hk z => by
    have e1 : k < (aw_pic0 (D, cs, ad0) w0).length := (List.getElem?_eq_some_iff.mp hk).1
    have := hD.1 k (aw_pic0 (D, cs, ad0) w0).length q (h1, .inr (1, cx_f1)) (by rw [List.getElem?_append_left e1]; exact hk) (by rw [List.getElem?_append_right (Nat.le_refl _), Nat.sub_self]; rfl) z
    omega
  have hDm : va_D A [(h1, .inr (1, cx_f1))] := ⟨fun i j p q h h' _ => by
    have := (List.getElem?_eq_some_iff.mp h).1
    have := (List.getElem?_eq_some_iff.mp h').1
    simp at *
    omega, fun k q h => by
    have := hD.2 ((aw_pic0 (D, cs, ad0) w0).length + k) q (by rw [List.getElem?_append_right (Nat.le_add_right _ _), Nat.add_sub_cancel_left]; exact h)
    exact this⟩
  have hFc := va_free (wc := [(h1, .inr (1, cx_f1))]) hDm hS hA [0] rfl
  refine va_callv (va_runI (As := []) (rest := [.ref h1]) ⟨hx, hb, hml, hown, hts⟩ (met1_init l D cs h1 H2.size) (cwI 0 hts (lw_meth q243) rfl rfl rfl (hts _ q30) (hts _ q241) (hts _ q242) rfl (by decide +kernel) ⟨Nat.le_of_ble_eq_true rfl, Nat.le_of_ble_eq_true rfl⟩) ⟨fun a U g mk q => by obtain ⟨q0, q1, qP, qK, qD⟩ := q; exact ⟨q0, q1, qP, va_K.moved (u := U) (U := U.calling g mk a) (Vm.Alike.refl U.vm) qK, qD⟩, fun U hU hW => ⟨rfl, by rw [hU], by rw [hU]; exact hPm, va_K.moved hW.alike hK, hDm.weaken (fun _ _ _ _ => trivial)⟩⟩ rfl rfl hl.1 rfl (lv_room (Nat.le_of_ble_eq_true rfl)) dL_law_12 ⟨by decide, by decide⟩) hS (fun q _ h => hFc q h) hFc (fun u t H3 locs3 ht3 hvm3 hw3 hB3 hz3 hk3 hS => ?_)
  obtain ⟨ad1, v0⟩ := u
  obtain ⟨f1, f2, f3⟩ := hw3
  obtain ⟨hP1, hD1⟩ := hB3
  rw [ht3] at hP1
  refine W.widen (k := 25) (n := 2245) (by decide) (by decide) ?_
  have f1 : ad1 20 = h1 := f1
  have f2 : v0 = aw_z := f2
  have hD1A : va_D A (aw_pic1 (D, cs, ad1) v0) := hD1.weaken (fun k q _ h => hFc q.1 h)
  have hc1 : ∀ k, A (ad1 k) := fun k => by
    obtain ⟨j, e, hj⟩ := f3 k
    exact hD1A.2 j _ hj
  have hnw : ∀ (k : Nat) (q : Nat × va_E), (aw_pic0 (D, cs, ad0) w0)[k]? = some q → q.1 < H2.size ∧ ¬ va_A [(h1, .inr (1, cx_f1))] H2.size q.1 := fun k q hk => by
    have hlt := (hPw k q hk).lt
    refine ⟨hlt, fun z => ?_⟩
    rcases z with ⟨j, e, hj⟩ | z
    · have : j < 1 := (List.getElem?_eq_some_iff.mp hj).1
      rw [show j = 0 by omega] at hj
      cases hj
      exact h1w k q hk rfl
    · omega
  have hP0' : va_P D vwCl (aw_pic0 (D, cs, ad0) w0) H3 := hPw.kept (fun k q hk => hk3 q.1 (hnw k q hk).1 (hnw k q hk).2)
  have hdis : ∀ k j, ad0 k ≠ ad1 j := fun k j z => by
    obtain ⟨k', e, hk'⟩ := g3 k
    obtain ⟨j', e', hj'⟩ := f3 j
    have hz : va_A [(h1, .inr (1, cx_f1))] H2.size (ad0 k) := by
      rw [z]
      exact hD1.2 j' _ hj'
    exact (hnw k' _ hk').2 hz
  have hPP : va_P D vwCl (aw_p2 (D, cs, ad0) (D, cs, ad1) (w0, v0)) H3 := hP0'.app hP1
  refine lv_astore_n (lv' := [(2, .ref h1), (1, .ref h0), (0, .ref b)]) hx hb dL_law_15 rfl hl (by decide) rfl (fun ls hl => ?_)
  have hl : lv_has ls 4 [(0, .ref b), (1, .ref (ad0 20)), (2, .ref (ad1 20))] := by
    rw [g1, f1]
    exact lv_sub hl [2, 1, 0] rfl
  obtain ⟨X, hXe⟩ : ∃ X : aw_X, X = (p, l, e, room_1, s, m, #[Value.ref b], below, meth, c, lw_Z below #[Value.ref b] s, 4, 25, 2245, D, A) := ⟨_, rfl⟩
  have O : aw_ok l (D, cs, ad0) R_law cL_law 7 244 X := by
    rw [hXe]
    exact ⟨hx, hb, hml, hown, hts, hK, hlocks, Nat.le_refl _, Nat.le_refl _, by decide, by decide, rfl, rfl⟩
  have nl : aw_nl X = 4 := by rw [hXe]; rfl
  have TT : aw_two ad0 ad1 X := by
    rw [hXe]
    exact ⟨hc0, hc1, hdis⟩
  have SS : aw_scr X b L xs := by
    rw [hXe]
    exact ⟨hX, hbl, hbA⟩
  have hDD0 : ∀ w, va_D (aw_A (D, cs, ad0)) (aw_pic0 (D, cs, ad0) w) := aw_pic0_D (w0 := w0) ⟨hD0A.1, fun k q hk => pic0_ad hk⟩
  have hDD1 : ∀ w, va_D (aw_A (D, cs, ad1)) (aw_pic1 (D, cs, ad1) w) := aw_pic1_D (w0 := v0) ⟨hD1A.1, fun k q hk => pic1_ad hk⟩
  have fin : ∀ lv q, aw_J (aw_p2 (D, cs, ad0) (D, cs, ad1)) X 574 lv [.int (nI 1)] q := by
    intro lv q
    rw [hXe]
    intro H locs ls k1 k2 k3
    refine va_forget (fun z hz => by have := k2.2.2 z hz; rw [hAe] at this; exact this) ?_
    refine W.widen (k := 600000) (n := 7290000) (by decide) (by decide) ?_
    exact lw_ret hx hb hr hlocks dL_law_574
  suffices key : aw_J (aw_p2 (D, cs, ad0) (D, cs, ad1)) X 16 [(0, .ref b), (1, .ref (ad0 20)), (2, .ref (ad1 20))] [] (w0, v0) by
    rw [hXe] at key
    exact key H3 _ ls hPP hS hl
  refine aw_iconst (pc' := 17) O dL_law_16 ki_0 rfl ?_
  refine aw_istore_n (pc' := 18) (lv' := [(0, .ref b), (1, .ref (ad0 20)), (2, .ref (ad1 20)), (3, .int (nI 0))]) O dL_law_17 (by rw [nl]; decide) rfl rfl rfl ?_
  exact law_loop O nl TT SS hDD0 hDD1 hL fin (L + 1) 0 w0 v0 aw_0 (Nat.zero_le _) (by omega) (aw_i0_R0 g2) (by rw [f2]; exact aw_z_R1)
set_option maxHeartbeats 4000000 in
theorem lw_walk (l : Launch) (b : Addr) (xs : List Int32) : MetFree l x (headSpec (Jvm.Cond.code x code maxLocals ret :: tables_1) room_1) (lw_P b xs) (fun _ _ _ _ _ => True) lw_Q := by
  refine MetFree.of_bodyS (code := code) (maxLocals := maxLocals) (ret := ret) (by decide) ?_ ?_
  · intro args s m h hn
    obtain ⟨meth, c, h1, h2, h3, h4, h5, h6, -, -⟩ := Cond.code_spec hn (atoms_spec (ws := Jvm.Cond.code x code maxLocals ret :: tables_1) h _ List.mem_cons_self)
    exact ⟨meth, c, h1, h2, h3, h4, h5, h6⟩
  · intro p e s m args below meth c s₁ B hml0 hP _
    obtain ⟨rfl, hx, hbd, hgv⟩ := hP
    obtain ⟨scr, harrAt, hlist, hof, hsmall⟩ := hx
    obtain ⟨hcb, hkn, -, -⟩ := State.arrayAt?_spec harrAt
    have hown : s.vm.findClass R_law = some m.cls := findClass_of_methodNamed B.named
    have hts0 : ∀ c ∈ (Jvm.Cond.code x code maxLocals ret :: tables_1), c.before #[Value.ref b] s = true := atoms_spec (ws := Jvm.Cond.code x code maxLocals ret :: tables_1) B.pre
    have hts : ∀ w ∈ lw_tbl, w.before #[Value.ref b] s = true := k2_hts_sels lw_privs (fun w hw => hts0 w (List.mem_cons_of_mem _ hw)) lw_privs_ok
    have hml : c.maxLocals = 4 := B.maxLocals_eq (hts0 _ List.mem_cons_self)
    have X₀ : Stand p l e room_1 s m #[Value.ref b] below meth c s₁ [] 0 0 := Stand.of_body B
    have hh0 : s₁.heap = s.heap := by rw [B.state]; rfl
    have hsz : scr.slots.size = xs.length := by rw [← Array.length_toList, hlist, List.length_map]
    have hval : ∀ j : Nat, j < xs.length → scr.slots[j]? = some (.int (xs.getD j 0)) := fun j hj => by
      rw [← Array.getElem?_toList, hlist]
      simp [hj]
    have hbl : b < s.heap.size := (Array.getElem?_eq_some_iff.mp hcb).1
    have hX : va_X b xs.length (fun j => xs.getD j 0) s s.heap := ⟨scr, hcb, hof, hkn, hsz, hval⟩
    have K : W p l e room_1 s m #[Value.ref b] below meth c s₁.heap [] 0 0 (lw_Z below #[Value.ref b] s) (entryFrame m ([Value.ref b] : List Value).toArray 4) := by
      rw [hh0]
      exact whole_start l hbd ⟨B.exec, B.bytes, B.returns, hml, hown, hts, hX, hbl, B.notSynchronized, hgv⟩
    obtain ⟨t, a1, o, b1, b2, b3⟩ := K s₁ rfl X₀
    exact ⟨t, o, a1, b1, b2, b3⟩
theorem lw_pre_spec {args : Array Value} {s : State} (h : (Jvm.Cond.and given_1 narrow_1).before args s = true) (hr : rest_1_c.before args s = true) : ∃ (b : Addr) (xs : List Int32), lw_P b xs args s := by
  have hs := flat_of_before _ h
  have hq := flat_of_before _ hr
  have hc : (Cond.count 1).before args s = true := hs _ (by decide +kernel)
  have harr : (Cond.arrayOf (.arg 0) .int).before args s = true := hs _ (by decide +kernel)
  have hle : (Cond.le (.length (.arg 0)) (.int 256)).before args s = true := hs _ (by decide +kernel)
  have hlen : (Cond.isInt (.length (.arg 0))).before args s = true := hq _ (by decide +kernel)
  have hall : (Cond.all (.arg 0) (.isInt (.elem (.arg 0) (.index 0)))).before args s = true := hq _ (by decide +kernel)
  obtain ⟨b, xs, hb, hx⟩ := State.ints_of_pre rfl harr hlen hall
  have hsm : xs.length < 2 ^ 31 := hx.choose_spec.2.2.2
  have hev : (Term.length (.arg 0)).eval args s none [] s = some (.int xs.length.toInt32) := hx.length_eval hb
  have hv := Cond.le_ints hev (show (Term.int 256).eval args s none [] s = some (.int 256) from rfl)
  have hd : xs.length.toInt32 ≤ 256 := by
    simpa [Cond.before, Cond.holds, hv] using hle
  have hN : xs.length ≤ 256 := (Int32.ofNat_le_ofNat hsm (by decide)).mp (show Int32.ofNat xs.length ≤ Int32.ofNat 256 from hd)
  exact ⟨b, xs, Cond.one_arg hc (show args[0]? = some (.ref b) from hb), hx, hN, h⟩
theorem lw_comes (l : Launch) : Comes l x (Jvm.Cond.code x code maxLocals ret :: tables_1) room_1 (fun tb e args s => Calls_1 tb e args s ∧ rest_1 tb e args s ∧ Pre_1 tb e args s)
    (fun _ _ args s o t => lw_Q args s o t) := by
  intro p e ha hc hk s m args below hf hfit hheap happ hpre
  obtain ⟨b, xs, hP⟩ := lw_pre_spec hpre.2.2 hpre.2.1
  obtain ⟨k, o, h1, h2, h3, hQ⟩ := lw_walk l b xs p e ha hc hk s m args below hf ((Spec.applies_iff_loose hf).mp happ).1 hP trivial
  exact ⟨k, o, h1, h2, h3, hQ⟩
theorem lw_frame {s t : State} {o : Outcome} {args : Array Value} (h : Framed s o t [] 600000 7290000) :
    Framed s o t (fieldLocs frame_1_writes args s ++ arrayLocs frame_1_arrays args s ++ staticLocs frame_1_statics s) 600000 7290000 := h
theorem lw_limb (L : Cond) (hL : ∀ (args : Array Value) (s t : State), L.after args s (.returned (some (.int 1))) t = true) :
    ArmFor flags0 classFile x code maxLocals ret World_1 tables_1 room_1 Calls_1 rest_1 Pre_1
      (fun tb e a s o t => postC L tb e a s o t ∧ Framed s o t (fieldLocs frame_1_writes a s ++ arrayLocs frame_1_arrays a s ++ staticLocs frame_1_statics s) 600000 7290000) := by
  intro l _ _ _ p e ha hc hk s m args below hf hfit hheap happ hpre
  obtain ⟨k, o, h1, h2, h3, rfl, hF⟩ := lw_comes l p e ha hc hk s m args below hf hfit hheap happ hpre
  exact ⟨k, _, h1, h2, h3, hL args s _, lw_frame hF⟩
theorem i_vc : Claimed_1_1 ∧ Claimed_1_2 := ⟨lw_limb limb_1_1 (fun args s t => by simp [limb_1_1, Cond.after, Cond.holds, Cond.value]), lw_limb limb_1_2 (fun args s t => Cond.after_iff.mpr (by
  first | (rw [show limb_1_2 = Cond.eq .result (.int 1) from rfl, Cond.eq_ints (x := 1) (y := 1) rfl rfl]; simp; done) | (simp [limb_1_2, Cond.value, Term.eval]; done)))⟩
end
